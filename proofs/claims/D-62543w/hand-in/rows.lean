section
-- ===== PART A: goes FIRST, ahead of the names: the tables' words, and 'selects' of the private methods out of them =====
/-- a private method of a class that the tables say can be made, by its rows of tables_1 -/
def lw_okq (q : MethodName × Nat) : Prop := (q.1.cls ≠ "java/lang/invoke/MethodHandle" ∧ q.1.cls ≠ "java/lang/invoke/VarHandle") ∧ Cond.instantiable q.1.cls q.2 ∈ tables_1 ∧ Cond.privateMethod q.1 ∈ tables_1 ∧ Cond.instanceMethod q.1 ∈ tables_1
set_option maxRecDepth 100000
theorem lw_t1 {w : Cond} (h : w ∈ tables_1_1) : w ∈ tables_1 := List.mem_append_left _ h
theorem lw_t2 {w : Cond} (h : w ∈ tables_1_2) : w ∈ tables_1 := List.mem_append_right _ h
theorem lw_p0 : lw_okq (⟨"InputExplorer", "numberOk", "(II)Z"⟩, 15) := ⟨⟨by decide +kernel, by decide +kernel⟩, lw_t1 (List.mem_of_getElem? (i := 4) rfl), lw_t1 (List.mem_of_getElem? (i := 66) rfl), lw_t1 (List.mem_of_getElem? (i := 67) rfl)⟩
theorem lw_p1 : lw_okq (⟨"InputExplorer", "change", "()V"⟩, 15) := ⟨⟨by decide +kernel, by decide +kernel⟩, lw_t1 (List.mem_of_getElem? (i := 4) rfl), lw_t1 (List.mem_of_getElem? (i := 70) rfl), lw_t1 (List.mem_of_getElem? (i := 71) rfl)⟩
theorem lw_p2 : lw_okq (⟨"InputExplorer", "isStep", "(I)Z"⟩, 15) := ⟨⟨by decide +kernel, by decide +kernel⟩, lw_t1 (List.mem_of_getElem? (i := 4) rfl), lw_t1 (List.mem_of_getElem? (i := 86) rfl), lw_t1 (List.mem_of_getElem? (i := 87) rfl)⟩
theorem lw_p3 : lw_okq (⟨"InputExplorer", "learn", "()V"⟩, 15) := ⟨⟨by decide +kernel, by decide +kernel⟩, lw_t1 (List.mem_of_getElem? (i := 4) rfl), lw_t1 (List.mem_of_getElem? (i := 90) rfl), lw_t1 (List.mem_of_getElem? (i := 91) rfl)⟩
theorem lw_p4 : lw_okq (⟨"InputExplorer", "finish", "(IZ)V"⟩, 15) := ⟨⟨by decide +kernel, by decide +kernel⟩, lw_t1 (List.mem_of_getElem? (i := 4) rfl), lw_t1 (List.mem_of_getElem? (i := 95) rfl), lw_t1 (List.mem_of_getElem? (i := 96) rfl)⟩
theorem lw_p5 : lw_okq (⟨"InputExplorer", "follow", "(I)V"⟩, 15) := ⟨⟨by decide +kernel, by decide +kernel⟩, lw_t1 (List.mem_of_getElem? (i := 4) rfl), lw_t1 (List.mem_of_getElem? (i := 99) rfl), lw_t1 (List.mem_of_getElem? (i := 100) rfl)⟩
theorem lw_p6 : lw_okq (⟨"InputExplorer", "calculate", "(IIIII)V"⟩, 15) := ⟨⟨by decide +kernel, by decide +kernel⟩, lw_t1 (List.mem_of_getElem? (i := 4) rfl), lw_t1 (List.mem_of_getElem? (i := 103) rfl), lw_t1 (List.mem_of_getElem? (i := 104) rfl)⟩
theorem lw_p7 : lw_okq (⟨"InputExplorer", "check", "(III)V"⟩, 15) := ⟨⟨by decide +kernel, by decide +kernel⟩, lw_t1 (List.mem_of_getElem? (i := 4) rfl), lw_t1 (List.mem_of_getElem? (i := 107) rfl), lw_t1 (List.mem_of_getElem? (i := 108) rfl)⟩
theorem lw_p8 : lw_okq (⟨"InputExplorer", "solve", "(IIIZ)V"⟩, 15) := ⟨⟨by decide +kernel, by decide +kernel⟩, lw_t1 (List.mem_of_getElem? (i := 4) rfl), lw_t1 (List.mem_of_getElem? (i := 111) rfl), lw_t1 (List.mem_of_getElem? (i := 112) rfl)⟩
theorem lw_p9 : lw_okq (⟨"InputExplorer", "copyWay", "(II)V"⟩, 15) := ⟨⟨by decide +kernel, by decide +kernel⟩, lw_t1 (List.mem_of_getElem? (i := 4) rfl), lw_t1 (List.mem_of_getElem? (i := 127) rfl), lw_t1 (List.mem_of_getElem? (i := 128) rfl)⟩
theorem lw_p10 : lw_okq (⟨"InputExplorer", "keep", "(IZ)Z"⟩, 15) := ⟨⟨by decide +kernel, by decide +kernel⟩, lw_t1 (List.mem_of_getElem? (i := 4) rfl), lw_t1 (List.mem_of_getElem? (i := 131) rfl), lw_t1 (List.mem_of_getElem? (i := 132) rfl)⟩
theorem lw_p11 : lw_okq (⟨"InputExplorer", "part", "(IIIIZ)V"⟩, 15) := ⟨⟨by decide +kernel, by decide +kernel⟩, lw_t1 (List.mem_of_getElem? (i := 4) rfl), lw_t1 (List.mem_of_getElem? (i := 135) rfl), lw_t1 (List.mem_of_getElem? (i := 136) rfl)⟩
theorem lw_p12 : lw_okq (⟨"InputExplorer", "firstLike", "(I)I"⟩, 15) := ⟨⟨by decide +kernel, by decide +kernel⟩, lw_t1 (List.mem_of_getElem? (i := 4) rfl), lw_t1 (List.mem_of_getElem? (i := 155) rfl), lw_t1 (List.mem_of_getElem? (i := 156) rfl)⟩
theorem lw_p13 : lw_okq (⟨"InputExplorerModel", "fits", "(II)Z"⟩, 9) := ⟨⟨by decide +kernel, by decide +kernel⟩, lw_t1 (List.mem_of_getElem? (i := 191) rfl), lw_t1 (List.mem_of_getElem? (i := 229) rfl), lw_t1 (List.mem_of_getElem? (i := 230) rfl)⟩
theorem lw_p14 : lw_okq (⟨"InputExplorerModel", "forget", "()V"⟩, 9) := ⟨⟨by decide +kernel, by decide +kernel⟩, lw_t1 (List.mem_of_getElem? (i := 191) rfl), lw_t1 (List.mem_of_getElem? (i := 233) rfl), lw_t1 (List.mem_of_getElem? (i := 234) rfl)⟩
theorem lw_p15 : lw_okq (⟨"InputExplorerModel", "work", "()V"⟩, 9) := ⟨⟨by decide +kernel, by decide +kernel⟩, lw_t1 (List.mem_of_getElem? (i := 191) rfl), lw_t2 (List.mem_of_getElem? (i := 9) rfl), lw_t2 (List.mem_of_getElem? (i := 10) rfl)⟩
def lw_privs_1 : List (MethodName × Nat) := [(⟨"InputExplorer", "numberOk", "(II)Z"⟩, 15), (⟨"InputExplorer", "change", "()V"⟩, 15), (⟨"InputExplorer", "isStep", "(I)Z"⟩, 15), (⟨"InputExplorer", "learn", "()V"⟩, 15), (⟨"InputExplorer", "finish", "(IZ)V"⟩, 15), (⟨"InputExplorer", "follow", "(I)V"⟩, 15), (⟨"InputExplorer", "calculate", "(IIIII)V"⟩, 15), (⟨"InputExplorer", "check", "(III)V"⟩, 15), (⟨"InputExplorer", "solve", "(IIIZ)V"⟩, 15), (⟨"InputExplorer", "copyWay", "(II)V"⟩, 15), (⟨"InputExplorer", "keep", "(IZ)Z"⟩, 15), (⟨"InputExplorer", "part", "(IIIIZ)V"⟩, 15), (⟨"InputExplorer", "firstLike", "(I)I"⟩, 15), (⟨"InputExplorerModel", "fits", "(II)Z"⟩, 9), (⟨"InputExplorerModel", "forget", "()V"⟩, 9), (⟨"InputExplorerModel", "work", "()V"⟩, 9)]
theorem lw_r1 : ∀ q ∈ lw_privs_1, lw_okq q := List.forall_mem_cons.mpr ⟨lw_p0, List.forall_mem_cons.mpr ⟨lw_p1, List.forall_mem_cons.mpr ⟨lw_p2, List.forall_mem_cons.mpr ⟨lw_p3, List.forall_mem_cons.mpr ⟨lw_p4, List.forall_mem_cons.mpr ⟨lw_p5, List.forall_mem_cons.mpr ⟨lw_p6, List.forall_mem_cons.mpr ⟨lw_p7, List.forall_mem_cons.mpr ⟨lw_p8, List.forall_mem_cons.mpr ⟨lw_p9, List.forall_mem_cons.mpr ⟨lw_p10, List.forall_mem_cons.mpr ⟨lw_p11, List.forall_mem_cons.mpr ⟨lw_p12, List.forall_mem_cons.mpr ⟨lw_p13, List.forall_mem_cons.mpr ⟨lw_p14, List.forall_mem_cons.mpr ⟨lw_p15, fun _ h => absurd h List.not_mem_nil⟩⟩⟩⟩⟩⟩⟩⟩⟩⟩⟩⟩⟩⟩⟩⟩
theorem lw_p16 : lw_okq (⟨"InputExplorerModel", "run", "(I)V"⟩, 9) := ⟨⟨by decide +kernel, by decide +kernel⟩, lw_t1 (List.mem_of_getElem? (i := 191) rfl), lw_t2 (List.mem_of_getElem? (i := 13) rfl), lw_t2 (List.mem_of_getElem? (i := 14) rfl)⟩
theorem lw_p17 : lw_okq (⟨"InputExplorerModel", "is", "(I)Z"⟩, 9) := ⟨⟨by decide +kernel, by decide +kernel⟩, lw_t1 (List.mem_of_getElem? (i := 191) rfl), lw_t2 (List.mem_of_getElem? (i := 17) rfl), lw_t2 (List.mem_of_getElem? (i := 18) rfl)⟩
theorem lw_p18 : lw_okq (⟨"InputExplorerModel", "least", "(I)I"⟩, 9) := ⟨⟨by decide +kernel, by decide +kernel⟩, lw_t1 (List.mem_of_getElem? (i := 191) rfl), lw_t2 (List.mem_of_getElem? (i := 37) rfl), lw_t2 (List.mem_of_getElem? (i := 38) rfl)⟩
theorem lw_p19 : lw_okq (⟨"InputExplorerModel", "isInput", "(I)Z"⟩, 9) := ⟨⟨by decide +kernel, by decide +kernel⟩, lw_t1 (List.mem_of_getElem? (i := 191) rfl), lw_t2 (List.mem_of_getElem? (i := 45) rfl), lw_t2 (List.mem_of_getElem? (i := 46) rfl)⟩
def lw_privs_2 : List (MethodName × Nat) := [(⟨"InputExplorerModel", "run", "(I)V"⟩, 9), (⟨"InputExplorerModel", "is", "(I)Z"⟩, 9), (⟨"InputExplorerModel", "least", "(I)I"⟩, 9), (⟨"InputExplorerModel", "isInput", "(I)Z"⟩, 9)]
theorem lw_r2 : ∀ q ∈ lw_privs_2, lw_okq q := List.forall_mem_cons.mpr ⟨lw_p16, List.forall_mem_cons.mpr ⟨lw_p17, List.forall_mem_cons.mpr ⟨lw_p18, List.forall_mem_cons.mpr ⟨lw_p19, fun _ h => absurd h List.not_mem_nil⟩⟩⟩⟩
def lw_privs : List (MethodName × Nat) := lw_privs_1 ++ (lw_privs_2)
def lw_tbl : List Cond := k2_sels lw_privs ++ tables_1
theorem lw_privs_ok : ∀ q ∈ lw_privs, lw_okq q := by
  show ∀ q ∈ lw_privs_1 ++ (lw_privs_2), lw_okq q
  exact List.forall_mem_append.mpr ⟨lw_r1, lw_r2⟩
-- ===== ONE list of words for every method: the tables' words that hold all through a run =====
def lw_all : List Cond := lw_tbl.filter goodWord
/-- a word of the tables by its place: claim/WORDS.tsv -/
theorem lw_w {w : Cond} (i : Nat) (h : lw_tbl[i]? = some w) (g : goodWord w = true) : w ∈ lw_all := List.mem_filter.mpr ⟨List.mem_of_getElem? h, g⟩
theorem lw_all_tbl {w : Cond} (h : w ∈ lw_all) : w ∈ lw_tbl := (List.mem_filter.mp h).1
theorem lw_self : GoodIn lw_all lw_all := fun w h => ⟨h, good_of_word (List.mem_filter.mp h).2⟩
/-- a class's field words, by their places -/
theorem lw_in (ws : List Cond) (ps : List Nat) (hp : ws = ps.filterMap (fun i => lw_tbl[i]?)) (hg : ws.all goodWord = true) : ∀ w ∈ ws, w ∈ lw_all := by
  intro w h
  have h1 := List.all_eq_true.mp hg w h
  rw [hp] at h
  obtain ⟨i, -, hi⟩ := List.mem_filterMap.mp h
  exact lw_w i hi h1
/-- the words of a contract for the method y with code b, L locals, answer r -/
abbrev ws_ (y : MethodName) (b : ByteArray) (L : Nat) (r : Option FieldType) : List Cond := Cond.code y b L r :: lw_all
theorem lw_meth {y : MethodName} {b : ByteArray} {L : Nat} {r : Option FieldType} (h : Cond.code y b L r ∈ lw_all) : GoodIn lw_all (ws_ y b L r) := by
  intro w hw
  rcases List.mem_cons.mp hw with e | e
  · rw [e]
    exact lw_self _ h
  · exact lw_self _ e
theorem lw_app {a c : List Cond} (ha : ∀ w ∈ a, w ∈ lw_all) (hc : GoodIn lw_all c) : GoodIn lw_all (a ++ c) := by
  intro w hw
  rcases List.mem_append.mp hw with e | e
  · exact lw_self w (ha w e)
  · exact hc w e
/-- what a call through an object asks: cwV n hts (lw_V ..) -/
theorem lw_V {own : String} {idx : Nat} {C : String} {y : MethodName} {b : ByteArray} {L : Nat} {r : Option FieldType} (h1 : Cond.methodLink own idx y ∈ lw_all) (h2 : Cond.instanceMethod y ∈ lw_all) (h3 : Cond.selects C y y ∈ lw_all) (h4 : Cond.initialized C ∈ lw_all) (h5 : Cond.code y b L r ∈ lw_all) : GoodIn lw_all (wsV own idx C y (ws_ y b L r)) := by
  refine lw_app ?_ (lw_meth h5)
  intro w hw
  simp only [List.mem_cons, List.not_mem_nil, or_false] at hw
  rcases hw with e | e | e | e
  · rw [e]; exact h1
  · rw [e]; exact h2
  · rw [e]; exact h3
  · rw [e]; exact h4
/-- what a static call asks: va_cwS n hts (lw_S ..) -/
theorem lw_S {own : String} {idx : Nat} {y : MethodName} {b : ByteArray} {L : Nat} {r : Option FieldType} (h1 : Cond.methodLink own idx y ∈ lw_all) (h2 : Cond.static y ∈ lw_all) (h3 : Cond.initialized y.cls ∈ lw_all) (h4 : Cond.code y b L r ∈ lw_all) : GoodIn lw_all (va_wsS own idx y (ws_ y b L r)) := by
  refine lw_app ?_ (lw_meth h4)
  intro w hw
  simp only [List.mem_cons, List.not_mem_nil, or_false] at hw
  rcases hw with e | e | e
  · rw [e]; exact h1
  · rw [e]; exact h2
  · rw [e]; exact h3
/-- the words of a contract for a method WITH HANDLERS (hh: its table) -/
abbrev wsW_ (y : MethodName) (b : ByteArray) (L : Nat) (r : Option FieldType) (hh : List (Nat × Nat × Nat × Nat)) : List Cond := Cond.codeWith y b L r hh :: lw_all
theorem lw_methW {y : MethodName} {b : ByteArray} {L : Nat} {r : Option FieldType} {hh : List (Nat × Nat × Nat × Nat)} (h : Cond.codeWith y b L r hh ∈ lw_all) : GoodIn lw_all (wsW_ y b L r hh) := by
  intro w hw
  rcases List.mem_cons.mp hw with e | e
  · rw [e]
    exact lw_self _ h
  · exact lw_self _ e
/-- any list of words by their places (lw_in), good -/
theorem lw_good {ws : List Cond} (h : ∀ w ∈ ws, w ∈ lw_all) : GoodIn lw_all ws := fun w hw => lw_self w (h w hw)
/-- what a call of a method with handlers asks: vx_cwVW n hts (lw_VW ..), vx_cwSW n hts (lw_SW ..) -/
theorem lw_VW {own : String} {idx : Nat} {C : String} {y : MethodName} {b : ByteArray} {L : Nat} {r : Option FieldType} {hh : List (Nat × Nat × Nat × Nat)} (h1 : Cond.methodLink own idx y ∈ lw_all) (h2 : Cond.instanceMethod y ∈ lw_all) (h3 : Cond.selects C y y ∈ lw_all) (h4 : Cond.initialized C ∈ lw_all) (h5 : Cond.codeWith y b L r hh ∈ lw_all) : GoodIn lw_all (wsV own idx C y (wsW_ y b L r hh)) := by
  refine lw_app ?_ (lw_methW h5)
  intro w hw
  simp only [List.mem_cons, List.not_mem_nil, or_false] at hw
  rcases hw with e | e | e | e
  · rw [e]; exact h1
  · rw [e]; exact h2
  · rw [e]; exact h3
  · rw [e]; exact h4
theorem lw_SW {own : String} {idx : Nat} {y : MethodName} {b : ByteArray} {L : Nat} {r : Option FieldType} {hh : List (Nat × Nat × Nat × Nat)} (h1 : Cond.methodLink own idx y ∈ lw_all) (h2 : Cond.static y ∈ lw_all) (h3 : Cond.initialized y.cls ∈ lw_all) (h4 : Cond.codeWith y b L r hh ∈ lw_all) : GoodIn lw_all (va_wsS own idx y (wsW_ y b L r hh)) := by
  refine lw_app ?_ (lw_methW h4)
  intro w hw
  simp only [List.mem_cons, List.not_mem_nil, or_false] at hw
  rcases hw with e | e | e
  · rw [e]; exact h1
  · rw [e]; exact h2
  · rw [e]; exact h3
/-- a word by its place in its run of the tables -/
theorem lw_at {r : List Cond} (hr : ∀ w ∈ r, w ∈ lw_tbl) {w : Cond} (i : Nat) (h : r[i]? = some w) : w ∈ lw_tbl := hr w (List.mem_of_getElem? h)
theorem lw_g {w : Cond} (h : w ∈ lw_tbl) (g : goodWord w = true) : w ∈ lw_all := List.mem_filter.mpr ⟨h, g⟩
theorem lw_ms : ∀ w ∈ k2_sels lw_privs, w ∈ lw_tbl := fun w h => show w ∈ k2_sels lw_privs ++ tables_1 from List.mem_append_left _ h
theorem lw_m1 : ∀ w ∈ tables_1_1, w ∈ lw_tbl := fun w h => show w ∈ k2_sels lw_privs ++ tables_1 from List.mem_append_right (k2_sels lw_privs) (show w ∈ tables_1 from List.mem_append_left _ h)
theorem lw_m2 : ∀ w ∈ tables_1_2, w ∈ lw_tbl := fun w h => show w ∈ k2_sels lw_privs ++ tables_1 from List.mem_append_right (k2_sels lw_privs) (show w ∈ tables_1 from List.mem_append_right _ h)
theorem qs0 : (Cond.selects "InputExplorer" ⟨"InputExplorer", "numberOk", "(II)Z"⟩ ⟨"InputExplorer", "numberOk", "(II)Z"⟩) ∈ lw_all := lw_g (lw_at lw_ms 0 rfl) rfl
theorem qs1 : (Cond.selects "InputExplorer" ⟨"InputExplorer", "change", "()V"⟩ ⟨"InputExplorer", "change", "()V"⟩) ∈ lw_all := lw_g (lw_at lw_ms 1 rfl) rfl
theorem qs2 : (Cond.selects "InputExplorer" ⟨"InputExplorer", "isStep", "(I)Z"⟩ ⟨"InputExplorer", "isStep", "(I)Z"⟩) ∈ lw_all := lw_g (lw_at lw_ms 2 rfl) rfl
theorem qs3 : (Cond.selects "InputExplorer" ⟨"InputExplorer", "learn", "()V"⟩ ⟨"InputExplorer", "learn", "()V"⟩) ∈ lw_all := lw_g (lw_at lw_ms 3 rfl) rfl
theorem qs4 : (Cond.selects "InputExplorer" ⟨"InputExplorer", "finish", "(IZ)V"⟩ ⟨"InputExplorer", "finish", "(IZ)V"⟩) ∈ lw_all := lw_g (lw_at lw_ms 4 rfl) rfl
theorem qs5 : (Cond.selects "InputExplorer" ⟨"InputExplorer", "follow", "(I)V"⟩ ⟨"InputExplorer", "follow", "(I)V"⟩) ∈ lw_all := lw_g (lw_at lw_ms 5 rfl) rfl
theorem qs6 : (Cond.selects "InputExplorer" ⟨"InputExplorer", "calculate", "(IIIII)V"⟩ ⟨"InputExplorer", "calculate", "(IIIII)V"⟩) ∈ lw_all := lw_g (lw_at lw_ms 6 rfl) rfl
theorem qs7 : (Cond.selects "InputExplorer" ⟨"InputExplorer", "check", "(III)V"⟩ ⟨"InputExplorer", "check", "(III)V"⟩) ∈ lw_all := lw_g (lw_at lw_ms 7 rfl) rfl
theorem qs8 : (Cond.selects "InputExplorer" ⟨"InputExplorer", "solve", "(IIIZ)V"⟩ ⟨"InputExplorer", "solve", "(IIIZ)V"⟩) ∈ lw_all := lw_g (lw_at lw_ms 8 rfl) rfl
theorem qs9 : (Cond.selects "InputExplorer" ⟨"InputExplorer", "copyWay", "(II)V"⟩ ⟨"InputExplorer", "copyWay", "(II)V"⟩) ∈ lw_all := lw_g (lw_at lw_ms 9 rfl) rfl
theorem qs10 : (Cond.selects "InputExplorer" ⟨"InputExplorer", "keep", "(IZ)Z"⟩ ⟨"InputExplorer", "keep", "(IZ)Z"⟩) ∈ lw_all := lw_g (lw_at lw_ms 10 rfl) rfl
theorem qs11 : (Cond.selects "InputExplorer" ⟨"InputExplorer", "part", "(IIIIZ)V"⟩ ⟨"InputExplorer", "part", "(IIIIZ)V"⟩) ∈ lw_all := lw_g (lw_at lw_ms 11 rfl) rfl
theorem qs12 : (Cond.selects "InputExplorer" ⟨"InputExplorer", "firstLike", "(I)I"⟩ ⟨"InputExplorer", "firstLike", "(I)I"⟩) ∈ lw_all := lw_g (lw_at lw_ms 12 rfl) rfl
theorem qs13 : (Cond.selects "InputExplorerModel" ⟨"InputExplorerModel", "fits", "(II)Z"⟩ ⟨"InputExplorerModel", "fits", "(II)Z"⟩) ∈ lw_all := lw_g (lw_at lw_ms 13 rfl) rfl
theorem qs14 : (Cond.selects "InputExplorerModel" ⟨"InputExplorerModel", "forget", "()V"⟩ ⟨"InputExplorerModel", "forget", "()V"⟩) ∈ lw_all := lw_g (lw_at lw_ms 14 rfl) rfl
theorem qs15 : (Cond.selects "InputExplorerModel" ⟨"InputExplorerModel", "work", "()V"⟩ ⟨"InputExplorerModel", "work", "()V"⟩) ∈ lw_all := lw_g (lw_at lw_ms 15 rfl) rfl
theorem qs16 : (Cond.selects "InputExplorerModel" ⟨"InputExplorerModel", "run", "(I)V"⟩ ⟨"InputExplorerModel", "run", "(I)V"⟩) ∈ lw_all := lw_g (lw_at lw_ms 16 rfl) rfl
theorem qs17 : (Cond.selects "InputExplorerModel" ⟨"InputExplorerModel", "is", "(I)Z"⟩ ⟨"InputExplorerModel", "is", "(I)Z"⟩) ∈ lw_all := lw_g (lw_at lw_ms 17 rfl) rfl
theorem qs18 : (Cond.selects "InputExplorerModel" ⟨"InputExplorerModel", "least", "(I)I"⟩ ⟨"InputExplorerModel", "least", "(I)I"⟩) ∈ lw_all := lw_g (lw_at lw_ms 18 rfl) rfl
theorem qs19 : (Cond.selects "InputExplorerModel" ⟨"InputExplorerModel", "isInput", "(I)Z"⟩ ⟨"InputExplorerModel", "isInput", "(I)Z"⟩) ∈ lw_all := lw_g (lw_at lw_ms 19 rfl) rfl
end
section
/-! InputExplorer -/
set_option maxRecDepth 100000
def RX0 : String := "InputExplorer"
def TX0 : u_T := fun k => match k with
  | 0 => ("InputExplorer", "kinds", "[B", true)
  | 1 => ("InputExplorer", "pairs", "[B", true)
  | 2 => ("InputExplorer", "numbers", "[B", true)
  | 3 => ("InputExplorer", "size", "I", false)
  | 4 => ("InputExplorer", "ways", "I", false)
  | 5 => ("InputExplorer", "positionOf", "[B", true)
  | 6 => ("InputExplorer", "doneOf", "[S", true)
  | 7 => ("InputExplorer", "inputsOf", "[I", true)
  | 8 => ("InputExplorer", "registers", "[I", true)
  | 9 => ("InputExplorer", "holding", "[I", true)
  | 10 => ("InputExplorer", "known", "Z", false)
  | 11 => ("InputExplorer", "path", "[S", true)
  | 12 => ("InputExplorer", "fails", "[Z", true)
  | 13 => ("InputExplorer", "ends", "[I", true)
  | _ => ("InputExplorer", "marked", "[Z", true)
def tyX0 : Nat → FieldType := fun k => match k with
  | 0 => .array .byte
  | 1 => .array .byte
  | 2 => .array .byte
  | 3 => .int
  | 4 => .int
  | 5 => .array .byte
  | 6 => .array .short
  | 7 => .array .int
  | 8 => .array .int
  | 9 => .array .int
  | 10 => .boolean
  | 11 => .array .short
  | 12 => .array .boolean
  | 13 => .array .int
  | _ => .array .boolean
abbrev wsX00 : List Cond := u_ws RX0 TX0 15
set_option maxRecDepth 100000 in
theorem nmX0 : ∀ a, a < 15 → ∀ b, b < 15 → a ≠ b → (TX0 a).2.1 ≠ (TX0 b).2.1 := by decide +kernel
set_option maxRecDepth 100000 in
theorem tyX0_ok : ∀ k, k < 15 → parseFieldDescriptor (TX0 k).2.2.1 = some (tyX0 k) := by decide +kernel
abbrev cX0_init : ByteArray := prog_1_method_1_code
def yX0_init : MethodName := ⟨RX0, "<init>", "()V"⟩
abbrev cX0_step : ByteArray := prog_1_method_4_code
def yX0_step : MethodName := ⟨RX0, "step", "(III)I"⟩
abbrev cX0_numberOk : ByteArray := prog_1_method_3_code
def yX0_numberOk : MethodName := ⟨RX0, "numberOk", "(II)Z"⟩
abbrev cX0_change : ByteArray := prog_1_method_2_code
def yX0_change : MethodName := ⟨RX0, "change", "()V"⟩
abbrev cX0_drop : ByteArray := prog_1_method_5_code
def yX0_drop : MethodName := ⟨RX0, "drop", "()I"⟩
abbrev cX0_length : ByteArray := prog_1_method_6_code
def yX0_length : MethodName := ⟨RX0, "length", "()I"⟩
abbrev cX0_reach : ByteArray := prog_1_method_22_code
def yX0_reach : MethodName := ⟨RX0, "reach", "(I)I"⟩
abbrev cX0_isStep : ByteArray := prog_1_method_20_code
def yX0_isStep : MethodName := ⟨RX0, "isStep", "(I)Z"⟩
abbrev cX0_learn : ByteArray := prog_1_method_14_code
def yX0_learn : MethodName := ⟨RX0, "learn", "()V"⟩
abbrev cX0_finish : ByteArray := prog_1_method_19_code
def yX0_finish : MethodName := ⟨RX0, "finish", "(IZ)V"⟩
abbrev cX0_follow : ByteArray := prog_1_method_15_code
def yX0_follow : MethodName := ⟨RX0, "follow", "(I)V"⟩
abbrev cX0_calculate : ByteArray := prog_1_method_16_code
def yX0_calculate : MethodName := ⟨RX0, "calculate", "(IIIII)V"⟩
abbrev cX0_check : ByteArray := prog_1_method_18_code
def yX0_check : MethodName := ⟨RX0, "check", "(III)V"⟩
abbrev cX0_solve : ByteArray := prog_1_method_11_code
def yX0_solve : MethodName := ⟨RX0, "solve", "(IIIZ)V"⟩
abbrev cX0_zero : ByteArray := prog_1_method_10_code
def yX0_zero : MethodName := ⟨RX0, "zero", "(II)I"⟩
abbrev cX0_below : ByteArray := prog_1_method_9_code
def yX0_below : MethodName := ⟨RX0, "below", "(II)I"⟩
abbrev cX0_floor : ByteArray := prog_1_method_7_code
def yX0_floor : MethodName := ⟨RX0, "floor", "(II)I"⟩
abbrev cX0_upTo : ByteArray := prog_1_method_8_code
def yX0_upTo : MethodName := ⟨RX0, "upTo", "(I)I"⟩
abbrev cX0_copyWay : ByteArray := prog_1_method_12_code
def yX0_copyWay : MethodName := ⟨RX0, "copyWay", "(II)V"⟩
abbrev cX0_keep : ByteArray := prog_1_method_13_code
def yX0_keep : MethodName := ⟨RX0, "keep", "(IZ)Z"⟩
abbrev cX0_part : ByteArray := prog_1_method_17_code
def yX0_part : MethodName := ⟨RX0, "part", "(IIIIZ)V"⟩
abbrev cX0_firstAt : ByteArray := prog_1_method_23_code
def yX0_firstAt : MethodName := ⟨RX0, "firstAt", "(II)I"⟩
abbrev cX0_failing : ByteArray := prog_1_method_24_code
def yX0_failing : MethodName := ⟨RX0, "failing", "()I"⟩
abbrev cX0_firstFailing : ByteArray := prog_1_method_25_code
def yX0_firstFailing : MethodName := ⟨RX0, "firstFailing", "(I)I"⟩
abbrev cX0_paths : ByteArray := prog_1_method_27_code
def yX0_paths : MethodName := ⟨RX0, "paths", "()I"⟩
abbrev cX0_firstLike : ByteArray := prog_1_method_26_code
def yX0_firstLike : MethodName := ⟨RX0, "firstLike", "(I)I"⟩
abbrev cX0_alike : ByteArray := prog_1_method_28_code
def yX0_alike : MethodName := ⟨RX0, "alike", "(I)I"⟩
abbrev cX0_isInput : ByteArray := prog_1_method_21_code
def yX0_isInput : MethodName := ⟨RX0, "isInput", "(I)Z"⟩
abbrev cX0_first : ByteArray := prog_1_method_29_code
def yX0_first : MethodName := ⟨RX0, "first", "(I)I"⟩
abbrev cX0_mark : ByteArray := prog_1_method_30_code
def yX0_mark : MethodName := ⟨RX0, "mark", "(I)I"⟩
abbrev cX0_unmarked : ByteArray := prog_1_method_31_code
def yX0_unmarked : MethodName := ⟨RX0, "unmarked", "()I"⟩
abbrev cX0_extreme : ByteArray := prog_1_method_32_code
def yX0_extreme : MethodName := ⟨RX0, "extreme", "(II)I"⟩
abbrev cX0_ending : ByteArray := prog_1_method_33_code
def yX0_ending : MethodName := ⟨RX0, "ending", "(II)I"⟩
abbrev cX0_steps : ByteArray := prog_1_method_34_code
def yX0_steps : MethodName := ⟨RX0, "steps", "(I)I"⟩
theorem q21 : (Jvm.Cond.initialized "InputExplorer") ∈ lw_all := lw_g (lw_at lw_m1 1 rfl) rfl
theorem q24 : (Jvm.Cond.instantiable "InputExplorer" (15 : Nat)) ∈ lw_all := lw_g (lw_at lw_m1 4 rfl) rfl
theorem q26 : (Jvm.Cond.instanceMethod ({ cls := "InputExplorer", name := "<init>", desc := "()V" } : Jvm.MethodName)) ∈ lw_all := lw_g (lw_at lw_m1 6 rfl) rfl
theorem q27 : (Jvm.Cond.code ({ cls := "InputExplorer", name := "<init>", desc := "()V" } : Jvm.MethodName) prog_1_method_1_code (1 : Nat) (Option.none : Option Jvm.ClassFile.FieldType)) ∈ lw_all := lw_g (lw_at lw_m1 7 rfl) rfl
theorem q28 : (Jvm.Cond.methodLink "InputExplorer" (1 : Nat) ({ cls := "java/lang/Object", name := "<init>", desc := "()V" } : Jvm.MethodName)) ∈ lw_all := lw_g (lw_at lw_m1 8 rfl) rfl
theorem q31 : (Jvm.Cond.fieldLink "InputExplorer" (7 : Nat) "InputExplorer" "kinds" "[B") ∈ lw_all := lw_g (lw_at lw_m1 11 rfl) rfl
theorem q32 : (Jvm.Cond.fieldLink "InputExplorer" (13 : Nat) "InputExplorer" "pairs" "[B") ∈ lw_all := lw_g (lw_at lw_m1 12 rfl) rfl
theorem q33 : (Jvm.Cond.fieldLink "InputExplorer" (16 : Nat) "InputExplorer" "numbers" "[B") ∈ lw_all := lw_g (lw_at lw_m1 13 rfl) rfl
theorem q34 : (Jvm.Cond.fieldLink "InputExplorer" (53 : Nat) "InputExplorer" "size" "I") ∈ lw_all := lw_g (lw_at lw_m1 14 rfl) rfl
theorem q35 : (Jvm.Cond.fieldLink "InputExplorer" (79 : Nat) "InputExplorer" "ways" "I") ∈ lw_all := lw_g (lw_at lw_m1 15 rfl) rfl
theorem q36 : (Jvm.Cond.fieldLink "InputExplorer" (19 : Nat) "InputExplorer" "positionOf" "[B") ∈ lw_all := lw_g (lw_at lw_m1 16 rfl) rfl
theorem q37 : (Jvm.Cond.fieldLink "InputExplorer" (22 : Nat) "InputExplorer" "doneOf" "[S") ∈ lw_all := lw_g (lw_at lw_m1 17 rfl) rfl
theorem q38 : (Jvm.Cond.fieldLink "InputExplorer" (26 : Nat) "InputExplorer" "inputsOf" "[I") ∈ lw_all := lw_g (lw_at lw_m1 18 rfl) rfl
theorem q39 : (Jvm.Cond.fieldLink "InputExplorer" (30 : Nat) "InputExplorer" "registers" "[I") ∈ lw_all := lw_g (lw_at lw_m1 19 rfl) rfl
theorem q40 : (Jvm.Cond.fieldLink "InputExplorer" (33 : Nat) "InputExplorer" "holding" "[I") ∈ lw_all := lw_g (lw_at lw_m1 20 rfl) rfl
theorem q41 : (Jvm.Cond.fieldLink "InputExplorer" (49 : Nat) "InputExplorer" "known" "Z") ∈ lw_all := lw_g (lw_at lw_m1 21 rfl) rfl
theorem q42 : (Jvm.Cond.fieldLink "InputExplorer" (36 : Nat) "InputExplorer" "path" "[S") ∈ lw_all := lw_g (lw_at lw_m1 22 rfl) rfl
theorem q43 : (Jvm.Cond.fieldLink "InputExplorer" (39 : Nat) "InputExplorer" "fails" "[Z") ∈ lw_all := lw_g (lw_at lw_m1 23 rfl) rfl
theorem q44 : (Jvm.Cond.fieldLink "InputExplorer" (43 : Nat) "InputExplorer" "ends" "[I") ∈ lw_all := lw_g (lw_at lw_m1 24 rfl) rfl
theorem q45 : (Jvm.Cond.fieldLink "InputExplorer" (46 : Nat) "InputExplorer" "marked" "[Z") ∈ lw_all := lw_g (lw_at lw_m1 25 rfl) rfl
theorem q46 : (Jvm.Cond.laysFinal "InputExplorer" "InputExplorer" "kinds" "[B") ∈ lw_all := lw_g (lw_at lw_m1 26 rfl) rfl
theorem q47 : (Jvm.Cond.soleField "InputExplorer" "kinds") ∈ lw_all := lw_g (lw_at lw_m1 27 rfl) rfl
theorem q48 : (Jvm.Cond.laysFinal "InputExplorer" "InputExplorer" "pairs" "[B") ∈ lw_all := lw_g (lw_at lw_m1 28 rfl) rfl
theorem q49 : (Jvm.Cond.soleField "InputExplorer" "pairs") ∈ lw_all := lw_g (lw_at lw_m1 29 rfl) rfl
theorem q50 : (Jvm.Cond.laysFinal "InputExplorer" "InputExplorer" "numbers" "[B") ∈ lw_all := lw_g (lw_at lw_m1 30 rfl) rfl
theorem q51 : (Jvm.Cond.soleField "InputExplorer" "numbers") ∈ lw_all := lw_g (lw_at lw_m1 31 rfl) rfl
theorem q52 : (Jvm.Cond.lays "InputExplorer" "InputExplorer" "size" "I") ∈ lw_all := lw_g (lw_at lw_m1 32 rfl) rfl
theorem q53 : (Jvm.Cond.soleField "InputExplorer" "size") ∈ lw_all := lw_g (lw_at lw_m1 33 rfl) rfl
theorem q54 : (Jvm.Cond.lays "InputExplorer" "InputExplorer" "ways" "I") ∈ lw_all := lw_g (lw_at lw_m1 34 rfl) rfl
theorem q55 : (Jvm.Cond.soleField "InputExplorer" "ways") ∈ lw_all := lw_g (lw_at lw_m1 35 rfl) rfl
theorem q56 : (Jvm.Cond.laysFinal "InputExplorer" "InputExplorer" "positionOf" "[B") ∈ lw_all := lw_g (lw_at lw_m1 36 rfl) rfl
theorem q57 : (Jvm.Cond.soleField "InputExplorer" "positionOf") ∈ lw_all := lw_g (lw_at lw_m1 37 rfl) rfl
theorem q58 : (Jvm.Cond.laysFinal "InputExplorer" "InputExplorer" "doneOf" "[S") ∈ lw_all := lw_g (lw_at lw_m1 38 rfl) rfl
theorem q59 : (Jvm.Cond.soleField "InputExplorer" "doneOf") ∈ lw_all := lw_g (lw_at lw_m1 39 rfl) rfl
theorem q60 : (Jvm.Cond.laysFinal "InputExplorer" "InputExplorer" "inputsOf" "[I") ∈ lw_all := lw_g (lw_at lw_m1 40 rfl) rfl
theorem q61 : (Jvm.Cond.soleField "InputExplorer" "inputsOf") ∈ lw_all := lw_g (lw_at lw_m1 41 rfl) rfl
theorem q62 : (Jvm.Cond.laysFinal "InputExplorer" "InputExplorer" "registers" "[I") ∈ lw_all := lw_g (lw_at lw_m1 42 rfl) rfl
theorem q63 : (Jvm.Cond.soleField "InputExplorer" "registers") ∈ lw_all := lw_g (lw_at lw_m1 43 rfl) rfl
theorem q64 : (Jvm.Cond.laysFinal "InputExplorer" "InputExplorer" "holding" "[I") ∈ lw_all := lw_g (lw_at lw_m1 44 rfl) rfl
theorem q65 : (Jvm.Cond.soleField "InputExplorer" "holding") ∈ lw_all := lw_g (lw_at lw_m1 45 rfl) rfl
theorem q66 : (Jvm.Cond.lays "InputExplorer" "InputExplorer" "known" "Z") ∈ lw_all := lw_g (lw_at lw_m1 46 rfl) rfl
theorem q67 : (Jvm.Cond.soleField "InputExplorer" "known") ∈ lw_all := lw_g (lw_at lw_m1 47 rfl) rfl
theorem q68 : (Jvm.Cond.laysFinal "InputExplorer" "InputExplorer" "path" "[S") ∈ lw_all := lw_g (lw_at lw_m1 48 rfl) rfl
theorem q69 : (Jvm.Cond.soleField "InputExplorer" "path") ∈ lw_all := lw_g (lw_at lw_m1 49 rfl) rfl
theorem q70 : (Jvm.Cond.laysFinal "InputExplorer" "InputExplorer" "fails" "[Z") ∈ lw_all := lw_g (lw_at lw_m1 50 rfl) rfl
theorem q71 : (Jvm.Cond.soleField "InputExplorer" "fails") ∈ lw_all := lw_g (lw_at lw_m1 51 rfl) rfl
theorem q72 : (Jvm.Cond.laysFinal "InputExplorer" "InputExplorer" "ends" "[I") ∈ lw_all := lw_g (lw_at lw_m1 52 rfl) rfl
theorem q73 : (Jvm.Cond.soleField "InputExplorer" "ends") ∈ lw_all := lw_g (lw_at lw_m1 53 rfl) rfl
theorem q74 : (Jvm.Cond.laysFinal "InputExplorer" "InputExplorer" "marked" "[Z") ∈ lw_all := lw_g (lw_at lw_m1 54 rfl) rfl
theorem q75 : (Jvm.Cond.soleField "InputExplorer" "marked") ∈ lw_all := lw_g (lw_at lw_m1 55 rfl) rfl
theorem q76 : (Jvm.Cond.superclass "InputExplorer" "java/lang/Object") ∈ lw_all := lw_g (lw_at lw_m1 56 rfl) rfl
theorem q82 : (Jvm.Cond.instanceMethod ({ cls := "InputExplorer", name := "step", desc := "(III)I" } : Jvm.MethodName)) ∈ lw_all := lw_g (lw_at lw_m1 62 rfl) rfl
theorem q83 : (Jvm.Cond.selects "InputExplorer" ({ cls := "InputExplorer", name := "step", desc := "(III)I" } : Jvm.MethodName) ({ cls := "InputExplorer", name := "step", desc := "(III)I" } : Jvm.MethodName)) ∈ lw_all := lw_g (lw_at lw_m1 63 rfl) rfl
theorem q84 : (Jvm.Cond.code ({ cls := "InputExplorer", name := "step", desc := "(III)I" } : Jvm.MethodName) prog_1_method_4_code (4 : Nat) (Option.some Jvm.ClassFile.FieldType.int)) ∈ lw_all := lw_g (lw_at lw_m1 64 rfl) rfl
theorem q85 : (Jvm.Cond.methodLink "InputExplorer" (57 : Nat) ({ cls := "InputExplorer", name := "numberOk", desc := "(II)Z" } : Jvm.MethodName)) ∈ lw_all := lw_g (lw_at lw_m1 65 rfl) rfl
theorem q86 : (Jvm.Cond.privateMethod ({ cls := "InputExplorer", name := "numberOk", desc := "(II)Z" } : Jvm.MethodName)) ∈ lw_tbl := lw_at lw_m1 66 rfl
theorem q87 : (Jvm.Cond.instanceMethod ({ cls := "InputExplorer", name := "numberOk", desc := "(II)Z" } : Jvm.MethodName)) ∈ lw_all := lw_g (lw_at lw_m1 67 rfl) rfl
theorem q88 : (Jvm.Cond.code ({ cls := "InputExplorer", name := "numberOk", desc := "(II)Z" } : Jvm.MethodName) prog_1_method_3_code (3 : Nat) (Option.some Jvm.ClassFile.FieldType.boolean)) ∈ lw_all := lw_g (lw_at lw_m1 68 rfl) rfl
theorem q89 : (Jvm.Cond.methodLink "InputExplorer" (61 : Nat) ({ cls := "InputExplorer", name := "change", desc := "()V" } : Jvm.MethodName)) ∈ lw_all := lw_g (lw_at lw_m1 69 rfl) rfl
theorem q90 : (Jvm.Cond.privateMethod ({ cls := "InputExplorer", name := "change", desc := "()V" } : Jvm.MethodName)) ∈ lw_tbl := lw_at lw_m1 70 rfl
theorem q91 : (Jvm.Cond.instanceMethod ({ cls := "InputExplorer", name := "change", desc := "()V" } : Jvm.MethodName)) ∈ lw_all := lw_g (lw_at lw_m1 71 rfl) rfl
theorem q92 : (Jvm.Cond.code ({ cls := "InputExplorer", name := "change", desc := "()V" } : Jvm.MethodName) prog_1_method_2_code (2 : Nat) (Option.none : Option Jvm.ClassFile.FieldType)) ∈ lw_all := lw_g (lw_at lw_m1 72 rfl) rfl
theorem q94 : (Jvm.Cond.instanceMethod ({ cls := "InputExplorer", name := "drop", desc := "()I" } : Jvm.MethodName)) ∈ lw_all := lw_g (lw_at lw_m1 74 rfl) rfl
theorem q95 : (Jvm.Cond.selects "InputExplorer" ({ cls := "InputExplorer", name := "drop", desc := "()I" } : Jvm.MethodName) ({ cls := "InputExplorer", name := "drop", desc := "()I" } : Jvm.MethodName)) ∈ lw_all := lw_g (lw_at lw_m1 75 rfl) rfl
theorem q96 : (Jvm.Cond.code ({ cls := "InputExplorer", name := "drop", desc := "()I" } : Jvm.MethodName) prog_1_method_5_code (1 : Nat) (Option.some Jvm.ClassFile.FieldType.int)) ∈ lw_all := lw_g (lw_at lw_m1 76 rfl) rfl
theorem q98 : (Jvm.Cond.instanceMethod ({ cls := "InputExplorer", name := "length", desc := "()I" } : Jvm.MethodName)) ∈ lw_all := lw_g (lw_at lw_m1 78 rfl) rfl
theorem q99 : (Jvm.Cond.selects "InputExplorer" ({ cls := "InputExplorer", name := "length", desc := "()I" } : Jvm.MethodName) ({ cls := "InputExplorer", name := "length", desc := "()I" } : Jvm.MethodName)) ∈ lw_all := lw_g (lw_at lw_m1 79 rfl) rfl
theorem q100 : (Jvm.Cond.code ({ cls := "InputExplorer", name := "length", desc := "()I" } : Jvm.MethodName) prog_1_method_6_code (1 : Nat) (Option.some Jvm.ClassFile.FieldType.int)) ∈ lw_all := lw_g (lw_at lw_m1 80 rfl) rfl
theorem q102 : (Jvm.Cond.instanceMethod ({ cls := "InputExplorer", name := "reach", desc := "(I)I" } : Jvm.MethodName)) ∈ lw_all := lw_g (lw_at lw_m1 82 rfl) rfl
theorem q103 : (Jvm.Cond.selects "InputExplorer" ({ cls := "InputExplorer", name := "reach", desc := "(I)I" } : Jvm.MethodName) ({ cls := "InputExplorer", name := "reach", desc := "(I)I" } : Jvm.MethodName)) ∈ lw_all := lw_g (lw_at lw_m1 83 rfl) rfl
theorem q104 : (Jvm.Cond.code ({ cls := "InputExplorer", name := "reach", desc := "(I)I" } : Jvm.MethodName) prog_1_method_22_code (4 : Nat) (Option.some Jvm.ClassFile.FieldType.int)) ∈ lw_all := lw_g (lw_at lw_m1 84 rfl) rfl
theorem q105 : (Jvm.Cond.methodLink "InputExplorer" (114 : Nat) ({ cls := "InputExplorer", name := "isStep", desc := "(I)Z" } : Jvm.MethodName)) ∈ lw_all := lw_g (lw_at lw_m1 85 rfl) rfl
theorem q106 : (Jvm.Cond.privateMethod ({ cls := "InputExplorer", name := "isStep", desc := "(I)Z" } : Jvm.MethodName)) ∈ lw_tbl := lw_at lw_m1 86 rfl
theorem q107 : (Jvm.Cond.instanceMethod ({ cls := "InputExplorer", name := "isStep", desc := "(I)Z" } : Jvm.MethodName)) ∈ lw_all := lw_g (lw_at lw_m1 87 rfl) rfl
theorem q108 : (Jvm.Cond.code ({ cls := "InputExplorer", name := "isStep", desc := "(I)Z" } : Jvm.MethodName) prog_1_method_20_code (2 : Nat) (Option.some Jvm.ClassFile.FieldType.boolean)) ∈ lw_all := lw_g (lw_at lw_m1 88 rfl) rfl
theorem q109 : (Jvm.Cond.methodLink "InputExplorer" (118 : Nat) ({ cls := "InputExplorer", name := "learn", desc := "()V" } : Jvm.MethodName)) ∈ lw_all := lw_g (lw_at lw_m1 89 rfl) rfl
theorem q110 : (Jvm.Cond.privateMethod ({ cls := "InputExplorer", name := "learn", desc := "()V" } : Jvm.MethodName)) ∈ lw_tbl := lw_at lw_m1 90 rfl
theorem q111 : (Jvm.Cond.instanceMethod ({ cls := "InputExplorer", name := "learn", desc := "()V" } : Jvm.MethodName)) ∈ lw_all := lw_g (lw_at lw_m1 91 rfl) rfl
theorem q112 : (Jvm.Cond.code ({ cls := "InputExplorer", name := "learn", desc := "()V" } : Jvm.MethodName) prog_1_method_14_code (3 : Nat) (Option.none : Option Jvm.ClassFile.FieldType)) ∈ lw_all := lw_g (lw_at lw_m1 92 rfl) rfl
theorem q113 : (Jvm.Cond.constant "InputExplorer" (64 : Nat) (65535 : Int32)) ∈ lw_all := lw_g (lw_at lw_m1 93 rfl) rfl
theorem q114 : (Jvm.Cond.methodLink "InputExplorer" (82 : Nat) ({ cls := "InputExplorer", name := "finish", desc := "(IZ)V" } : Jvm.MethodName)) ∈ lw_all := lw_g (lw_at lw_m1 94 rfl) rfl
theorem q115 : (Jvm.Cond.privateMethod ({ cls := "InputExplorer", name := "finish", desc := "(IZ)V" } : Jvm.MethodName)) ∈ lw_tbl := lw_at lw_m1 95 rfl
theorem q116 : (Jvm.Cond.instanceMethod ({ cls := "InputExplorer", name := "finish", desc := "(IZ)V" } : Jvm.MethodName)) ∈ lw_all := lw_g (lw_at lw_m1 96 rfl) rfl
theorem q117 : (Jvm.Cond.code ({ cls := "InputExplorer", name := "finish", desc := "(IZ)V" } : Jvm.MethodName) prog_1_method_19_code (8 : Nat) (Option.none : Option Jvm.ClassFile.FieldType)) ∈ lw_all := lw_g (lw_at lw_m1 97 rfl) rfl
theorem q118 : (Jvm.Cond.methodLink "InputExplorer" (86 : Nat) ({ cls := "InputExplorer", name := "follow", desc := "(I)V" } : Jvm.MethodName)) ∈ lw_all := lw_g (lw_at lw_m1 98 rfl) rfl
theorem q119 : (Jvm.Cond.privateMethod ({ cls := "InputExplorer", name := "follow", desc := "(I)V" } : Jvm.MethodName)) ∈ lw_tbl := lw_at lw_m1 99 rfl
theorem q120 : (Jvm.Cond.instanceMethod ({ cls := "InputExplorer", name := "follow", desc := "(I)V" } : Jvm.MethodName)) ∈ lw_all := lw_g (lw_at lw_m1 100 rfl) rfl
theorem q121 : (Jvm.Cond.code ({ cls := "InputExplorer", name := "follow", desc := "(I)V" } : Jvm.MethodName) prog_1_method_15_code (6 : Nat) (Option.none : Option Jvm.ClassFile.FieldType)) ∈ lw_all := lw_g (lw_at lw_m1 101 rfl) rfl
theorem q122 : (Jvm.Cond.methodLink "InputExplorer" (90 : Nat) ({ cls := "InputExplorer", name := "calculate", desc := "(IIIII)V" } : Jvm.MethodName)) ∈ lw_all := lw_g (lw_at lw_m1 102 rfl) rfl
theorem q123 : (Jvm.Cond.privateMethod ({ cls := "InputExplorer", name := "calculate", desc := "(IIIII)V" } : Jvm.MethodName)) ∈ lw_tbl := lw_at lw_m1 103 rfl
theorem q124 : (Jvm.Cond.instanceMethod ({ cls := "InputExplorer", name := "calculate", desc := "(IIIII)V" } : Jvm.MethodName)) ∈ lw_all := lw_g (lw_at lw_m1 104 rfl) rfl
theorem q125 : (Jvm.Cond.code ({ cls := "InputExplorer", name := "calculate", desc := "(IIIII)V" } : Jvm.MethodName) prog_1_method_16_code (9 : Nat) (Option.none : Option Jvm.ClassFile.FieldType)) ∈ lw_all := lw_g (lw_at lw_m1 105 rfl) rfl
theorem q126 : (Jvm.Cond.methodLink "InputExplorer" (94 : Nat) ({ cls := "InputExplorer", name := "check", desc := "(III)V" } : Jvm.MethodName)) ∈ lw_all := lw_g (lw_at lw_m1 106 rfl) rfl
theorem q127 : (Jvm.Cond.privateMethod ({ cls := "InputExplorer", name := "check", desc := "(III)V" } : Jvm.MethodName)) ∈ lw_tbl := lw_at lw_m1 107 rfl
theorem q128 : (Jvm.Cond.instanceMethod ({ cls := "InputExplorer", name := "check", desc := "(III)V" } : Jvm.MethodName)) ∈ lw_all := lw_g (lw_at lw_m1 108 rfl) rfl
theorem q129 : (Jvm.Cond.code ({ cls := "InputExplorer", name := "check", desc := "(III)V" } : Jvm.MethodName) prog_1_method_18_code (4 : Nat) (Option.none : Option Jvm.ClassFile.FieldType)) ∈ lw_all := lw_g (lw_at lw_m1 109 rfl) rfl
theorem q130 : (Jvm.Cond.methodLink "InputExplorer" (102 : Nat) ({ cls := "InputExplorer", name := "solve", desc := "(IIIZ)V" } : Jvm.MethodName)) ∈ lw_all := lw_g (lw_at lw_m1 110 rfl) rfl
theorem q131 : (Jvm.Cond.privateMethod ({ cls := "InputExplorer", name := "solve", desc := "(IIIZ)V" } : Jvm.MethodName)) ∈ lw_tbl := lw_at lw_m1 111 rfl
theorem q132 : (Jvm.Cond.instanceMethod ({ cls := "InputExplorer", name := "solve", desc := "(IIIZ)V" } : Jvm.MethodName)) ∈ lw_all := lw_g (lw_at lw_m1 112 rfl) rfl
theorem q133 : (Jvm.Cond.code ({ cls := "InputExplorer", name := "solve", desc := "(IIIZ)V" } : Jvm.MethodName) prog_1_method_11_code (12 : Nat) (Option.none : Option Jvm.ClassFile.FieldType)) ∈ lw_all := lw_g (lw_at lw_m1 113 rfl) rfl
theorem q134 : (Jvm.Cond.methodLink "InputExplorer" (73 : Nat) ({ cls := "InputExplorer", name := "zero", desc := "(II)I" } : Jvm.MethodName)) ∈ lw_all := lw_g (lw_at lw_m1 114 rfl) rfl
theorem q135 : (Jvm.Cond.static ({ cls := "InputExplorer", name := "zero", desc := "(II)I" } : Jvm.MethodName)) ∈ lw_all := lw_g (lw_at lw_m1 115 rfl) rfl
theorem q136 : (Jvm.Cond.code ({ cls := "InputExplorer", name := "zero", desc := "(II)I" } : Jvm.MethodName) prog_1_method_10_code (4 : Nat) (Option.some Jvm.ClassFile.FieldType.int)) ∈ lw_all := lw_g (lw_at lw_m1 116 rfl) rfl
theorem q137 : (Jvm.Cond.methodLink "InputExplorer" (76 : Nat) ({ cls := "InputExplorer", name := "below", desc := "(II)I" } : Jvm.MethodName)) ∈ lw_all := lw_g (lw_at lw_m1 117 rfl) rfl
theorem q138 : (Jvm.Cond.static ({ cls := "InputExplorer", name := "below", desc := "(II)I" } : Jvm.MethodName)) ∈ lw_all := lw_g (lw_at lw_m1 118 rfl) rfl
theorem q139 : (Jvm.Cond.code ({ cls := "InputExplorer", name := "below", desc := "(II)I" } : Jvm.MethodName) prog_1_method_9_code (3 : Nat) (Option.some Jvm.ClassFile.FieldType.int)) ∈ lw_all := lw_g (lw_at lw_m1 119 rfl) rfl
theorem q140 : (Jvm.Cond.methodLink "InputExplorer" (65 : Nat) ({ cls := "InputExplorer", name := "floor", desc := "(II)I" } : Jvm.MethodName)) ∈ lw_all := lw_g (lw_at lw_m1 120 rfl) rfl
theorem q141 : (Jvm.Cond.static ({ cls := "InputExplorer", name := "floor", desc := "(II)I" } : Jvm.MethodName)) ∈ lw_all := lw_g (lw_at lw_m1 121 rfl) rfl
theorem q142 : (Jvm.Cond.code ({ cls := "InputExplorer", name := "floor", desc := "(II)I" } : Jvm.MethodName) prog_1_method_7_code (3 : Nat) (Option.some Jvm.ClassFile.FieldType.int)) ∈ lw_all := lw_g (lw_at lw_m1 122 rfl) rfl
theorem q143 : (Jvm.Cond.methodLink "InputExplorer" (69 : Nat) ({ cls := "InputExplorer", name := "upTo", desc := "(I)I" } : Jvm.MethodName)) ∈ lw_all := lw_g (lw_at lw_m1 123 rfl) rfl
theorem q144 : (Jvm.Cond.static ({ cls := "InputExplorer", name := "upTo", desc := "(I)I" } : Jvm.MethodName)) ∈ lw_all := lw_g (lw_at lw_m1 124 rfl) rfl
theorem q145 : (Jvm.Cond.code ({ cls := "InputExplorer", name := "upTo", desc := "(I)I" } : Jvm.MethodName) prog_1_method_8_code (1 : Nat) (Option.some Jvm.ClassFile.FieldType.int)) ∈ lw_all := lw_g (lw_at lw_m1 125 rfl) rfl
theorem q146 : (Jvm.Cond.methodLink "InputExplorer" (106 : Nat) ({ cls := "InputExplorer", name := "copyWay", desc := "(II)V" } : Jvm.MethodName)) ∈ lw_all := lw_g (lw_at lw_m1 126 rfl) rfl
theorem q147 : (Jvm.Cond.privateMethod ({ cls := "InputExplorer", name := "copyWay", desc := "(II)V" } : Jvm.MethodName)) ∈ lw_tbl := lw_at lw_m1 127 rfl
theorem q148 : (Jvm.Cond.instanceMethod ({ cls := "InputExplorer", name := "copyWay", desc := "(II)V" } : Jvm.MethodName)) ∈ lw_all := lw_g (lw_at lw_m1 128 rfl) rfl
theorem q149 : (Jvm.Cond.code ({ cls := "InputExplorer", name := "copyWay", desc := "(II)V" } : Jvm.MethodName) prog_1_method_12_code (4 : Nat) (Option.none : Option Jvm.ClassFile.FieldType)) ∈ lw_all := lw_g (lw_at lw_m1 129 rfl) rfl
theorem q150 : (Jvm.Cond.methodLink "InputExplorer" (110 : Nat) ({ cls := "InputExplorer", name := "keep", desc := "(IZ)Z" } : Jvm.MethodName)) ∈ lw_all := lw_g (lw_at lw_m1 130 rfl) rfl
theorem q151 : (Jvm.Cond.privateMethod ({ cls := "InputExplorer", name := "keep", desc := "(IZ)Z" } : Jvm.MethodName)) ∈ lw_tbl := lw_at lw_m1 131 rfl
theorem q152 : (Jvm.Cond.instanceMethod ({ cls := "InputExplorer", name := "keep", desc := "(IZ)Z" } : Jvm.MethodName)) ∈ lw_all := lw_g (lw_at lw_m1 132 rfl) rfl
theorem q153 : (Jvm.Cond.code ({ cls := "InputExplorer", name := "keep", desc := "(IZ)Z" } : Jvm.MethodName) prog_1_method_13_code (5 : Nat) (Option.some Jvm.ClassFile.FieldType.boolean)) ∈ lw_all := lw_g (lw_at lw_m1 133 rfl) rfl
theorem q154 : (Jvm.Cond.methodLink "InputExplorer" (98 : Nat) ({ cls := "InputExplorer", name := "part", desc := "(IIIIZ)V" } : Jvm.MethodName)) ∈ lw_all := lw_g (lw_at lw_m1 134 rfl) rfl
theorem q155 : (Jvm.Cond.privateMethod ({ cls := "InputExplorer", name := "part", desc := "(IIIIZ)V" } : Jvm.MethodName)) ∈ lw_tbl := lw_at lw_m1 135 rfl
theorem q156 : (Jvm.Cond.instanceMethod ({ cls := "InputExplorer", name := "part", desc := "(IIIIZ)V" } : Jvm.MethodName)) ∈ lw_all := lw_g (lw_at lw_m1 136 rfl) rfl
theorem q157 : (Jvm.Cond.code ({ cls := "InputExplorer", name := "part", desc := "(IIIIZ)V" } : Jvm.MethodName) prog_1_method_17_code (8 : Nat) (Option.none : Option Jvm.ClassFile.FieldType)) ∈ lw_all := lw_g (lw_at lw_m1 137 rfl) rfl
theorem q159 : (Jvm.Cond.instanceMethod ({ cls := "InputExplorer", name := "firstAt", desc := "(II)I" } : Jvm.MethodName)) ∈ lw_all := lw_g (lw_at lw_m1 139 rfl) rfl
theorem q160 : (Jvm.Cond.selects "InputExplorer" ({ cls := "InputExplorer", name := "firstAt", desc := "(II)I" } : Jvm.MethodName) ({ cls := "InputExplorer", name := "firstAt", desc := "(II)I" } : Jvm.MethodName)) ∈ lw_all := lw_g (lw_at lw_m1 140 rfl) rfl
theorem q161 : (Jvm.Cond.code ({ cls := "InputExplorer", name := "firstAt", desc := "(II)I" } : Jvm.MethodName) prog_1_method_23_code (4 : Nat) (Option.some Jvm.ClassFile.FieldType.int)) ∈ lw_all := lw_g (lw_at lw_m1 141 rfl) rfl
theorem q163 : (Jvm.Cond.instanceMethod ({ cls := "InputExplorer", name := "failing", desc := "()I" } : Jvm.MethodName)) ∈ lw_all := lw_g (lw_at lw_m1 143 rfl) rfl
theorem q164 : (Jvm.Cond.selects "InputExplorer" ({ cls := "InputExplorer", name := "failing", desc := "()I" } : Jvm.MethodName) ({ cls := "InputExplorer", name := "failing", desc := "()I" } : Jvm.MethodName)) ∈ lw_all := lw_g (lw_at lw_m1 144 rfl) rfl
theorem q165 : (Jvm.Cond.code ({ cls := "InputExplorer", name := "failing", desc := "()I" } : Jvm.MethodName) prog_1_method_24_code (3 : Nat) (Option.some Jvm.ClassFile.FieldType.int)) ∈ lw_all := lw_g (lw_at lw_m1 145 rfl) rfl
theorem q167 : (Jvm.Cond.instanceMethod ({ cls := "InputExplorer", name := "firstFailing", desc := "(I)I" } : Jvm.MethodName)) ∈ lw_all := lw_g (lw_at lw_m1 147 rfl) rfl
theorem q168 : (Jvm.Cond.selects "InputExplorer" ({ cls := "InputExplorer", name := "firstFailing", desc := "(I)I" } : Jvm.MethodName) ({ cls := "InputExplorer", name := "firstFailing", desc := "(I)I" } : Jvm.MethodName)) ∈ lw_all := lw_g (lw_at lw_m1 148 rfl) rfl
theorem q169 : (Jvm.Cond.code ({ cls := "InputExplorer", name := "firstFailing", desc := "(I)I" } : Jvm.MethodName) prog_1_method_25_code (3 : Nat) (Option.some Jvm.ClassFile.FieldType.int)) ∈ lw_all := lw_g (lw_at lw_m1 149 rfl) rfl
theorem q171 : (Jvm.Cond.instanceMethod ({ cls := "InputExplorer", name := "paths", desc := "()I" } : Jvm.MethodName)) ∈ lw_all := lw_g (lw_at lw_m1 151 rfl) rfl
theorem q172 : (Jvm.Cond.selects "InputExplorer" ({ cls := "InputExplorer", name := "paths", desc := "()I" } : Jvm.MethodName) ({ cls := "InputExplorer", name := "paths", desc := "()I" } : Jvm.MethodName)) ∈ lw_all := lw_g (lw_at lw_m1 152 rfl) rfl
theorem q173 : (Jvm.Cond.code ({ cls := "InputExplorer", name := "paths", desc := "()I" } : Jvm.MethodName) prog_1_method_27_code (3 : Nat) (Option.some Jvm.ClassFile.FieldType.int)) ∈ lw_all := lw_g (lw_at lw_m1 153 rfl) rfl
theorem q174 : (Jvm.Cond.methodLink "InputExplorer" (121 : Nat) ({ cls := "InputExplorer", name := "firstLike", desc := "(I)I" } : Jvm.MethodName)) ∈ lw_all := lw_g (lw_at lw_m1 154 rfl) rfl
theorem q175 : (Jvm.Cond.privateMethod ({ cls := "InputExplorer", name := "firstLike", desc := "(I)I" } : Jvm.MethodName)) ∈ lw_tbl := lw_at lw_m1 155 rfl
theorem q176 : (Jvm.Cond.instanceMethod ({ cls := "InputExplorer", name := "firstLike", desc := "(I)I" } : Jvm.MethodName)) ∈ lw_all := lw_g (lw_at lw_m1 156 rfl) rfl
theorem q177 : (Jvm.Cond.code ({ cls := "InputExplorer", name := "firstLike", desc := "(I)I" } : Jvm.MethodName) prog_1_method_26_code (3 : Nat) (Option.some Jvm.ClassFile.FieldType.int)) ∈ lw_all := lw_g (lw_at lw_m1 157 rfl) rfl
theorem q179 : (Jvm.Cond.instanceMethod ({ cls := "InputExplorer", name := "alike", desc := "(I)I" } : Jvm.MethodName)) ∈ lw_all := lw_g (lw_at lw_m1 159 rfl) rfl
theorem q180 : (Jvm.Cond.selects "InputExplorer" ({ cls := "InputExplorer", name := "alike", desc := "(I)I" } : Jvm.MethodName) ({ cls := "InputExplorer", name := "alike", desc := "(I)I" } : Jvm.MethodName)) ∈ lw_all := lw_g (lw_at lw_m1 160 rfl) rfl
theorem q181 : (Jvm.Cond.code ({ cls := "InputExplorer", name := "alike", desc := "(I)I" } : Jvm.MethodName) prog_1_method_28_code (4 : Nat) (Option.some Jvm.ClassFile.FieldType.int)) ∈ lw_all := lw_g (lw_at lw_m1 161 rfl) rfl
theorem q182 : (Jvm.Cond.methodLink "InputExplorer" (124 : Nat) ({ cls := "InputExplorer", name := "isInput", desc := "(I)Z" } : Jvm.MethodName)) ∈ lw_all := lw_g (lw_at lw_m1 162 rfl) rfl
theorem q183 : (Jvm.Cond.static ({ cls := "InputExplorer", name := "isInput", desc := "(I)Z" } : Jvm.MethodName)) ∈ lw_all := lw_g (lw_at lw_m1 163 rfl) rfl
theorem q184 : (Jvm.Cond.code ({ cls := "InputExplorer", name := "isInput", desc := "(I)Z" } : Jvm.MethodName) prog_1_method_21_code (1 : Nat) (Option.some Jvm.ClassFile.FieldType.boolean)) ∈ lw_all := lw_g (lw_at lw_m1 164 rfl) rfl
theorem q186 : (Jvm.Cond.instanceMethod ({ cls := "InputExplorer", name := "first", desc := "(I)I" } : Jvm.MethodName)) ∈ lw_all := lw_g (lw_at lw_m1 166 rfl) rfl
theorem q187 : (Jvm.Cond.selects "InputExplorer" ({ cls := "InputExplorer", name := "first", desc := "(I)I" } : Jvm.MethodName) ({ cls := "InputExplorer", name := "first", desc := "(I)I" } : Jvm.MethodName)) ∈ lw_all := lw_g (lw_at lw_m1 167 rfl) rfl
theorem q188 : (Jvm.Cond.code ({ cls := "InputExplorer", name := "first", desc := "(I)I" } : Jvm.MethodName) prog_1_method_29_code (2 : Nat) (Option.some Jvm.ClassFile.FieldType.int)) ∈ lw_all := lw_g (lw_at lw_m1 168 rfl) rfl
theorem q190 : (Jvm.Cond.instanceMethod ({ cls := "InputExplorer", name := "mark", desc := "(I)I" } : Jvm.MethodName)) ∈ lw_all := lw_g (lw_at lw_m1 170 rfl) rfl
theorem q191 : (Jvm.Cond.selects "InputExplorer" ({ cls := "InputExplorer", name := "mark", desc := "(I)I" } : Jvm.MethodName) ({ cls := "InputExplorer", name := "mark", desc := "(I)I" } : Jvm.MethodName)) ∈ lw_all := lw_g (lw_at lw_m1 171 rfl) rfl
theorem q192 : (Jvm.Cond.code ({ cls := "InputExplorer", name := "mark", desc := "(I)I" } : Jvm.MethodName) prog_1_method_30_code (4 : Nat) (Option.some Jvm.ClassFile.FieldType.int)) ∈ lw_all := lw_g (lw_at lw_m1 172 rfl) rfl
theorem q194 : (Jvm.Cond.instanceMethod ({ cls := "InputExplorer", name := "unmarked", desc := "()I" } : Jvm.MethodName)) ∈ lw_all := lw_g (lw_at lw_m1 174 rfl) rfl
theorem q195 : (Jvm.Cond.selects "InputExplorer" ({ cls := "InputExplorer", name := "unmarked", desc := "()I" } : Jvm.MethodName) ({ cls := "InputExplorer", name := "unmarked", desc := "()I" } : Jvm.MethodName)) ∈ lw_all := lw_g (lw_at lw_m1 175 rfl) rfl
theorem q196 : (Jvm.Cond.code ({ cls := "InputExplorer", name := "unmarked", desc := "()I" } : Jvm.MethodName) prog_1_method_31_code (2 : Nat) (Option.some Jvm.ClassFile.FieldType.int)) ∈ lw_all := lw_g (lw_at lw_m1 176 rfl) rfl
theorem q198 : (Jvm.Cond.instanceMethod ({ cls := "InputExplorer", name := "extreme", desc := "(II)I" } : Jvm.MethodName)) ∈ lw_all := lw_g (lw_at lw_m1 178 rfl) rfl
theorem q199 : (Jvm.Cond.selects "InputExplorer" ({ cls := "InputExplorer", name := "extreme", desc := "(II)I" } : Jvm.MethodName) ({ cls := "InputExplorer", name := "extreme", desc := "(II)I" } : Jvm.MethodName)) ∈ lw_all := lw_g (lw_at lw_m1 179 rfl) rfl
theorem q200 : (Jvm.Cond.code ({ cls := "InputExplorer", name := "extreme", desc := "(II)I" } : Jvm.MethodName) prog_1_method_32_code (7 : Nat) (Option.some Jvm.ClassFile.FieldType.int)) ∈ lw_all := lw_g (lw_at lw_m1 180 rfl) rfl
theorem q201 : (Jvm.Cond.constant "InputExplorer" (127 : Nat) (-1000000000 : Int32)) ∈ lw_all := lw_g (lw_at lw_m1 181 rfl) rfl
theorem q203 : (Jvm.Cond.instanceMethod ({ cls := "InputExplorer", name := "ending", desc := "(II)I" } : Jvm.MethodName)) ∈ lw_all := lw_g (lw_at lw_m1 183 rfl) rfl
theorem q204 : (Jvm.Cond.selects "InputExplorer" ({ cls := "InputExplorer", name := "ending", desc := "(II)I" } : Jvm.MethodName) ({ cls := "InputExplorer", name := "ending", desc := "(II)I" } : Jvm.MethodName)) ∈ lw_all := lw_g (lw_at lw_m1 184 rfl) rfl
theorem q205 : (Jvm.Cond.code ({ cls := "InputExplorer", name := "ending", desc := "(II)I" } : Jvm.MethodName) prog_1_method_33_code (5 : Nat) (Option.some Jvm.ClassFile.FieldType.int)) ∈ lw_all := lw_g (lw_at lw_m1 185 rfl) rfl
theorem q207 : (Jvm.Cond.instanceMethod ({ cls := "InputExplorer", name := "steps", desc := "(I)I" } : Jvm.MethodName)) ∈ lw_all := lw_g (lw_at lw_m1 187 rfl) rfl
theorem q208 : (Jvm.Cond.selects "InputExplorer" ({ cls := "InputExplorer", name := "steps", desc := "(I)I" } : Jvm.MethodName) ({ cls := "InputExplorer", name := "steps", desc := "(I)I" } : Jvm.MethodName)) ∈ lw_all := lw_g (lw_at lw_m1 188 rfl) rfl
theorem q209 : (Jvm.Cond.code ({ cls := "InputExplorer", name := "steps", desc := "(I)I" } : Jvm.MethodName) prog_1_method_34_code (4 : Nat) (Option.some Jvm.ClassFile.FieldType.int)) ∈ lw_all := lw_g (lw_at lw_m1 189 rfl) rfl
theorem in_X0 : ∀ w ∈ wsX00, w ∈ lw_all := lw_in wsX00 [46, 48, 50, 52, 54, 56, 58, 60, 62, 64, 66, 68, 70, 72, 74] (by decide +kernel) (by decide +kernel)

/-! InputExplorerModel -/
set_option maxRecDepth 100000
def RX1 : String := "InputExplorerModel"
def TX1 : u_T := fun k => match k with
  | 0 => ("InputExplorerModel", "size", "I", false)
  | 1 => ("InputExplorerModel", "kinds", "[I", false)
  | 2 => ("InputExplorerModel", "as", "[I", false)
  | 3 => ("InputExplorerModel", "bs", "[I", false)
  | 4 => ("InputExplorerModel", "ns", "[I", false)
  | 5 => ("InputExplorerModel", "marked", "[Z", false)
  | 6 => ("InputExplorerModel", "paths", "[I", false)
  | 7 => ("InputExplorerModel", "fails", "[Z", false)
  | _ => ("InputExplorerModel", "ends", "[I", false)
def tyX1 : Nat → FieldType := fun k => match k with
  | 0 => .int
  | 1 => .array .int
  | 2 => .array .int
  | 3 => .array .int
  | 4 => .array .int
  | 5 => .array .boolean
  | 6 => .array .int
  | 7 => .array .boolean
  | _ => .array .int
abbrev wsX10 : List Cond := u_ws RX1 TX1 9
theorem nmX1 : ∀ a, a < 9 → ∀ b, b < 9 → a ≠ b → (TX1 a).2.1 ≠ (TX1 b).2.1 := by decide +kernel
theorem tyX1_ok : ∀ k, k < 9 → parseFieldDescriptor (TX1 k).2.2.1 = some (tyX1 k) := by decide +kernel
abbrev cX1_init : ByteArray := prog_3_method_1_code
def yX1_init : MethodName := ⟨RX1, "<init>", "()V"⟩
abbrev cX1_step : ByteArray := prog_3_method_4_code
def yX1_step : MethodName := ⟨RX1, "step", "(III)I"⟩
abbrev cX1_fits : ByteArray := prog_3_method_3_code
def yX1_fits : MethodName := ⟨RX1, "fits", "(II)Z"⟩
abbrev cX1_forget : ByteArray := prog_3_method_2_code
def yX1_forget : MethodName := ⟨RX1, "forget", "()V"⟩
abbrev cX1_drop : ByteArray := prog_3_method_5_code
def yX1_drop : MethodName := ⟨RX1, "drop", "()I"⟩
abbrev cX1_length : ByteArray := prog_3_method_6_code
def yX1_length : MethodName := ⟨RX1, "length", "()I"⟩
abbrev cX1_reach : ByteArray := prog_3_method_11_code
def yX1_reach : MethodName := ⟨RX1, "reach", "(I)I"⟩
abbrev cX1_work : ByteArray := prog_3_method_8_code
def yX1_work : MethodName := ⟨RX1, "work", "()V"⟩
abbrev cX1_run : ByteArray := prog_3_method_7_code
def yX1_run : MethodName := ⟨RX1, "run", "(I)V"⟩
abbrev cX1_is : ByteArray := prog_3_method_9_code
def yX1_is : MethodName := ⟨RX1, "is", "(I)Z"⟩
abbrev cX1_firstAt : ByteArray := prog_3_method_12_code
def yX1_firstAt : MethodName := ⟨RX1, "firstAt", "(II)I"⟩
abbrev cX1_failing : ByteArray := prog_3_method_13_code
def yX1_failing : MethodName := ⟨RX1, "failing", "()I"⟩
abbrev cX1_firstFailing : ByteArray := prog_3_method_14_code
def yX1_firstFailing : MethodName := ⟨RX1, "firstFailing", "(I)I"⟩
abbrev cX1_paths : ByteArray := prog_3_method_16_code
def yX1_paths : MethodName := ⟨RX1, "paths", "()I"⟩
abbrev cX1_least : ByteArray := prog_3_method_15_code
def yX1_least : MethodName := ⟨RX1, "least", "(I)I"⟩
abbrev cX1_alike : ByteArray := prog_3_method_17_code
def yX1_alike : MethodName := ⟨RX1, "alike", "(I)I"⟩
abbrev cX1_isInput : ByteArray := prog_3_method_10_code
def yX1_isInput : MethodName := ⟨RX1, "isInput", "(I)Z"⟩
abbrev cX1_first : ByteArray := prog_3_method_18_code
def yX1_first : MethodName := ⟨RX1, "first", "(I)I"⟩
abbrev cX1_mark : ByteArray := prog_3_method_19_code
def yX1_mark : MethodName := ⟨RX1, "mark", "(I)I"⟩
abbrev cX1_unmarked : ByteArray := prog_3_method_20_code
def yX1_unmarked : MethodName := ⟨RX1, "unmarked", "()I"⟩
abbrev cX1_extreme : ByteArray := prog_3_method_21_code
def yX1_extreme : MethodName := ⟨RX1, "extreme", "(II)I"⟩
abbrev cX1_ending : ByteArray := prog_3_method_22_code
def yX1_ending : MethodName := ⟨RX1, "ending", "(II)I"⟩
abbrev cX1_steps : ByteArray := prog_3_method_23_code
def yX1_steps : MethodName := ⟨RX1, "steps", "(I)I"⟩
theorem q22 : (Jvm.Cond.initialized "InputExplorerModel") ∈ lw_all := lw_g (lw_at lw_m1 2 rfl) rfl
theorem q211 : (Jvm.Cond.instantiable "InputExplorerModel" (9 : Nat)) ∈ lw_all := lw_g (lw_at lw_m1 191 rfl) rfl
theorem q213 : (Jvm.Cond.instanceMethod ({ cls := "InputExplorerModel", name := "<init>", desc := "()V" } : Jvm.MethodName)) ∈ lw_all := lw_g (lw_at lw_m1 193 rfl) rfl
theorem q214 : (Jvm.Cond.code ({ cls := "InputExplorerModel", name := "<init>", desc := "()V" } : Jvm.MethodName) prog_3_method_1_code (1 : Nat) (Option.none : Option Jvm.ClassFile.FieldType)) ∈ lw_all := lw_g (lw_at lw_m1 194 rfl) rfl
theorem q215 : (Jvm.Cond.methodLink "InputExplorerModel" (1 : Nat) ({ cls := "java/lang/Object", name := "<init>", desc := "()V" } : Jvm.MethodName)) ∈ lw_all := lw_g (lw_at lw_m1 195 rfl) rfl
theorem q216 : (Jvm.Cond.fieldLink "InputExplorerModel" (35 : Nat) "InputExplorerModel" "size" "I") ∈ lw_all := lw_g (lw_at lw_m1 196 rfl) rfl
theorem q217 : (Jvm.Cond.fieldLink "InputExplorerModel" (7 : Nat) "InputExplorerModel" "kinds" "[I") ∈ lw_all := lw_g (lw_at lw_m1 197 rfl) rfl
theorem q218 : (Jvm.Cond.fieldLink "InputExplorerModel" (13 : Nat) "InputExplorerModel" "as" "[I") ∈ lw_all := lw_g (lw_at lw_m1 198 rfl) rfl
theorem q219 : (Jvm.Cond.fieldLink "InputExplorerModel" (16 : Nat) "InputExplorerModel" "bs" "[I") ∈ lw_all := lw_g (lw_at lw_m1 199 rfl) rfl
theorem q220 : (Jvm.Cond.fieldLink "InputExplorerModel" (19 : Nat) "InputExplorerModel" "ns" "[I") ∈ lw_all := lw_g (lw_at lw_m1 200 rfl) rfl
theorem q221 : (Jvm.Cond.fieldLink "InputExplorerModel" (22 : Nat) "InputExplorerModel" "marked" "[Z") ∈ lw_all := lw_g (lw_at lw_m1 201 rfl) rfl
theorem q222 : (Jvm.Cond.fieldLink "InputExplorerModel" (26 : Nat) "InputExplorerModel" "paths" "[I") ∈ lw_all := lw_g (lw_at lw_m1 202 rfl) rfl
theorem q223 : (Jvm.Cond.fieldLink "InputExplorerModel" (29 : Nat) "InputExplorerModel" "fails" "[Z") ∈ lw_all := lw_g (lw_at lw_m1 203 rfl) rfl
theorem q224 : (Jvm.Cond.fieldLink "InputExplorerModel" (32 : Nat) "InputExplorerModel" "ends" "[I") ∈ lw_all := lw_g (lw_at lw_m1 204 rfl) rfl
theorem q225 : (Jvm.Cond.lays "InputExplorerModel" "InputExplorerModel" "size" "I") ∈ lw_all := lw_g (lw_at lw_m1 205 rfl) rfl
theorem q226 : (Jvm.Cond.soleField "InputExplorerModel" "size") ∈ lw_all := lw_g (lw_at lw_m1 206 rfl) rfl
theorem q227 : (Jvm.Cond.lays "InputExplorerModel" "InputExplorerModel" "kinds" "[I") ∈ lw_all := lw_g (lw_at lw_m1 207 rfl) rfl
theorem q228 : (Jvm.Cond.soleField "InputExplorerModel" "kinds") ∈ lw_all := lw_g (lw_at lw_m1 208 rfl) rfl
theorem q229 : (Jvm.Cond.lays "InputExplorerModel" "InputExplorerModel" "as" "[I") ∈ lw_all := lw_g (lw_at lw_m1 209 rfl) rfl
theorem q230 : (Jvm.Cond.soleField "InputExplorerModel" "as") ∈ lw_all := lw_g (lw_at lw_m1 210 rfl) rfl
theorem q231 : (Jvm.Cond.lays "InputExplorerModel" "InputExplorerModel" "bs" "[I") ∈ lw_all := lw_g (lw_at lw_m1 211 rfl) rfl
theorem q232 : (Jvm.Cond.soleField "InputExplorerModel" "bs") ∈ lw_all := lw_g (lw_at lw_m1 212 rfl) rfl
theorem q233 : (Jvm.Cond.lays "InputExplorerModel" "InputExplorerModel" "ns" "[I") ∈ lw_all := lw_g (lw_at lw_m1 213 rfl) rfl
theorem q234 : (Jvm.Cond.soleField "InputExplorerModel" "ns") ∈ lw_all := lw_g (lw_at lw_m1 214 rfl) rfl
theorem q235 : (Jvm.Cond.lays "InputExplorerModel" "InputExplorerModel" "marked" "[Z") ∈ lw_all := lw_g (lw_at lw_m1 215 rfl) rfl
theorem q236 : (Jvm.Cond.soleField "InputExplorerModel" "marked") ∈ lw_all := lw_g (lw_at lw_m1 216 rfl) rfl
theorem q237 : (Jvm.Cond.lays "InputExplorerModel" "InputExplorerModel" "paths" "[I") ∈ lw_all := lw_g (lw_at lw_m1 217 rfl) rfl
theorem q238 : (Jvm.Cond.soleField "InputExplorerModel" "paths") ∈ lw_all := lw_g (lw_at lw_m1 218 rfl) rfl
theorem q239 : (Jvm.Cond.lays "InputExplorerModel" "InputExplorerModel" "fails" "[Z") ∈ lw_all := lw_g (lw_at lw_m1 219 rfl) rfl
theorem q240 : (Jvm.Cond.soleField "InputExplorerModel" "fails") ∈ lw_all := lw_g (lw_at lw_m1 220 rfl) rfl
theorem q241 : (Jvm.Cond.lays "InputExplorerModel" "InputExplorerModel" "ends" "[I") ∈ lw_all := lw_g (lw_at lw_m1 221 rfl) rfl
theorem q242 : (Jvm.Cond.soleField "InputExplorerModel" "ends") ∈ lw_all := lw_g (lw_at lw_m1 222 rfl) rfl
theorem q243 : (Jvm.Cond.superclass "InputExplorerModel" "java/lang/Object") ∈ lw_all := lw_g (lw_at lw_m1 223 rfl) rfl
theorem q245 : (Jvm.Cond.instanceMethod ({ cls := "InputExplorerModel", name := "step", desc := "(III)I" } : Jvm.MethodName)) ∈ lw_all := lw_g (lw_at lw_m1 225 rfl) rfl
theorem q246 : (Jvm.Cond.selects "InputExplorerModel" ({ cls := "InputExplorerModel", name := "step", desc := "(III)I" } : Jvm.MethodName) ({ cls := "InputExplorerModel", name := "step", desc := "(III)I" } : Jvm.MethodName)) ∈ lw_all := lw_g (lw_at lw_m1 226 rfl) rfl
theorem q247 : (Jvm.Cond.code ({ cls := "InputExplorerModel", name := "step", desc := "(III)I" } : Jvm.MethodName) prog_3_method_4_code (4 : Nat) (Option.some Jvm.ClassFile.FieldType.int)) ∈ lw_all := lw_g (lw_at lw_m1 227 rfl) rfl
theorem q248 : (Jvm.Cond.methodLink "InputExplorerModel" (39 : Nat) ({ cls := "InputExplorerModel", name := "fits", desc := "(II)Z" } : Jvm.MethodName)) ∈ lw_all := lw_g (lw_at lw_m1 228 rfl) rfl
theorem q249 : (Jvm.Cond.privateMethod ({ cls := "InputExplorerModel", name := "fits", desc := "(II)Z" } : Jvm.MethodName)) ∈ lw_tbl := lw_at lw_m1 229 rfl
theorem q250 : (Jvm.Cond.instanceMethod ({ cls := "InputExplorerModel", name := "fits", desc := "(II)Z" } : Jvm.MethodName)) ∈ lw_all := lw_g (lw_at lw_m1 230 rfl) rfl
theorem q251 : (Jvm.Cond.code ({ cls := "InputExplorerModel", name := "fits", desc := "(II)Z" } : Jvm.MethodName) prog_3_method_3_code (3 : Nat) (Option.some Jvm.ClassFile.FieldType.boolean)) ∈ lw_all := lw_g (lw_at lw_m1 231 rfl) rfl
theorem q252 : (Jvm.Cond.methodLink "InputExplorerModel" (43 : Nat) ({ cls := "InputExplorerModel", name := "forget", desc := "()V" } : Jvm.MethodName)) ∈ lw_all := lw_g (lw_at lw_m1 232 rfl) rfl
theorem q253 : (Jvm.Cond.privateMethod ({ cls := "InputExplorerModel", name := "forget", desc := "()V" } : Jvm.MethodName)) ∈ lw_tbl := lw_at lw_m1 233 rfl
theorem q254 : (Jvm.Cond.instanceMethod ({ cls := "InputExplorerModel", name := "forget", desc := "()V" } : Jvm.MethodName)) ∈ lw_all := lw_g (lw_at lw_m1 234 rfl) rfl
theorem q255 : (Jvm.Cond.code ({ cls := "InputExplorerModel", name := "forget", desc := "()V" } : Jvm.MethodName) prog_3_method_2_code (2 : Nat) (Option.none : Option Jvm.ClassFile.FieldType)) ∈ lw_all := lw_g (lw_at lw_m1 235 rfl) rfl
theorem q257 : (Jvm.Cond.instanceMethod ({ cls := "InputExplorerModel", name := "drop", desc := "()I" } : Jvm.MethodName)) ∈ lw_all := lw_g (lw_at lw_m1 237 rfl) rfl
theorem q258 : (Jvm.Cond.selects "InputExplorerModel" ({ cls := "InputExplorerModel", name := "drop", desc := "()I" } : Jvm.MethodName) ({ cls := "InputExplorerModel", name := "drop", desc := "()I" } : Jvm.MethodName)) ∈ lw_all := lw_g (lw_at lw_m1 238 rfl) rfl
theorem q259 : (Jvm.Cond.code ({ cls := "InputExplorerModel", name := "drop", desc := "()I" } : Jvm.MethodName) prog_3_method_5_code (1 : Nat) (Option.some Jvm.ClassFile.FieldType.int)) ∈ lw_all := lw_g (lw_at lw_m1 239 rfl) rfl
theorem q261 : (Jvm.Cond.instanceMethod ({ cls := "InputExplorerModel", name := "length", desc := "()I" } : Jvm.MethodName)) ∈ lw_all := lw_g (lw_at lw_m2 1 rfl) rfl
theorem q262 : (Jvm.Cond.selects "InputExplorerModel" ({ cls := "InputExplorerModel", name := "length", desc := "()I" } : Jvm.MethodName) ({ cls := "InputExplorerModel", name := "length", desc := "()I" } : Jvm.MethodName)) ∈ lw_all := lw_g (lw_at lw_m2 2 rfl) rfl
theorem q263 : (Jvm.Cond.code ({ cls := "InputExplorerModel", name := "length", desc := "()I" } : Jvm.MethodName) prog_3_method_6_code (1 : Nat) (Option.some Jvm.ClassFile.FieldType.int)) ∈ lw_all := lw_g (lw_at lw_m2 3 rfl) rfl
theorem q265 : (Jvm.Cond.instanceMethod ({ cls := "InputExplorerModel", name := "reach", desc := "(I)I" } : Jvm.MethodName)) ∈ lw_all := lw_g (lw_at lw_m2 5 rfl) rfl
theorem q266 : (Jvm.Cond.selects "InputExplorerModel" ({ cls := "InputExplorerModel", name := "reach", desc := "(I)I" } : Jvm.MethodName) ({ cls := "InputExplorerModel", name := "reach", desc := "(I)I" } : Jvm.MethodName)) ∈ lw_all := lw_g (lw_at lw_m2 6 rfl) rfl
theorem q267 : (Jvm.Cond.code ({ cls := "InputExplorerModel", name := "reach", desc := "(I)I" } : Jvm.MethodName) prog_3_method_11_code (4 : Nat) (Option.some Jvm.ClassFile.FieldType.int)) ∈ lw_all := lw_g (lw_at lw_m2 7 rfl) rfl
theorem q268 : (Jvm.Cond.methodLink "InputExplorerModel" (50 : Nat) ({ cls := "InputExplorerModel", name := "work", desc := "()V" } : Jvm.MethodName)) ∈ lw_all := lw_g (lw_at lw_m2 8 rfl) rfl
theorem q269 : (Jvm.Cond.privateMethod ({ cls := "InputExplorerModel", name := "work", desc := "()V" } : Jvm.MethodName)) ∈ lw_tbl := lw_at lw_m2 9 rfl
theorem q270 : (Jvm.Cond.instanceMethod ({ cls := "InputExplorerModel", name := "work", desc := "()V" } : Jvm.MethodName)) ∈ lw_all := lw_g (lw_at lw_m2 10 rfl) rfl
theorem q271 : (Jvm.Cond.code ({ cls := "InputExplorerModel", name := "work", desc := "()V" } : Jvm.MethodName) prog_3_method_8_code (2 : Nat) (Option.none : Option Jvm.ClassFile.FieldType)) ∈ lw_all := lw_g (lw_at lw_m2 11 rfl) rfl
theorem q272 : (Jvm.Cond.methodLink "InputExplorerModel" (46 : Nat) ({ cls := "InputExplorerModel", name := "run", desc := "(I)V" } : Jvm.MethodName)) ∈ lw_all := lw_g (lw_at lw_m2 12 rfl) rfl
theorem q273 : (Jvm.Cond.privateMethod ({ cls := "InputExplorerModel", name := "run", desc := "(I)V" } : Jvm.MethodName)) ∈ lw_tbl := lw_at lw_m2 13 rfl
theorem q274 : (Jvm.Cond.instanceMethod ({ cls := "InputExplorerModel", name := "run", desc := "(I)V" } : Jvm.MethodName)) ∈ lw_all := lw_g (lw_at lw_m2 14 rfl) rfl
theorem q275 : (Jvm.Cond.code ({ cls := "InputExplorerModel", name := "run", desc := "(I)V" } : Jvm.MethodName) prog_3_method_7_code (10 : Nat) (Option.none : Option Jvm.ClassFile.FieldType)) ∈ lw_all := lw_g (lw_at lw_m2 15 rfl) rfl
theorem q276 : (Jvm.Cond.methodLink "InputExplorerModel" (53 : Nat) ({ cls := "InputExplorerModel", name := "is", desc := "(I)Z" } : Jvm.MethodName)) ∈ lw_all := lw_g (lw_at lw_m2 16 rfl) rfl
theorem q277 : (Jvm.Cond.privateMethod ({ cls := "InputExplorerModel", name := "is", desc := "(I)Z" } : Jvm.MethodName)) ∈ lw_tbl := lw_at lw_m2 17 rfl
theorem q278 : (Jvm.Cond.instanceMethod ({ cls := "InputExplorerModel", name := "is", desc := "(I)Z" } : Jvm.MethodName)) ∈ lw_all := lw_g (lw_at lw_m2 18 rfl) rfl
theorem q279 : (Jvm.Cond.code ({ cls := "InputExplorerModel", name := "is", desc := "(I)Z" } : Jvm.MethodName) prog_3_method_9_code (2 : Nat) (Option.some Jvm.ClassFile.FieldType.boolean)) ∈ lw_all := lw_g (lw_at lw_m2 19 rfl) rfl
theorem q281 : (Jvm.Cond.instanceMethod ({ cls := "InputExplorerModel", name := "firstAt", desc := "(II)I" } : Jvm.MethodName)) ∈ lw_all := lw_g (lw_at lw_m2 21 rfl) rfl
theorem q282 : (Jvm.Cond.selects "InputExplorerModel" ({ cls := "InputExplorerModel", name := "firstAt", desc := "(II)I" } : Jvm.MethodName) ({ cls := "InputExplorerModel", name := "firstAt", desc := "(II)I" } : Jvm.MethodName)) ∈ lw_all := lw_g (lw_at lw_m2 22 rfl) rfl
theorem q283 : (Jvm.Cond.code ({ cls := "InputExplorerModel", name := "firstAt", desc := "(II)I" } : Jvm.MethodName) prog_3_method_12_code (4 : Nat) (Option.some Jvm.ClassFile.FieldType.int)) ∈ lw_all := lw_g (lw_at lw_m2 23 rfl) rfl
theorem q285 : (Jvm.Cond.instanceMethod ({ cls := "InputExplorerModel", name := "failing", desc := "()I" } : Jvm.MethodName)) ∈ lw_all := lw_g (lw_at lw_m2 25 rfl) rfl
theorem q286 : (Jvm.Cond.selects "InputExplorerModel" ({ cls := "InputExplorerModel", name := "failing", desc := "()I" } : Jvm.MethodName) ({ cls := "InputExplorerModel", name := "failing", desc := "()I" } : Jvm.MethodName)) ∈ lw_all := lw_g (lw_at lw_m2 26 rfl) rfl
theorem q287 : (Jvm.Cond.code ({ cls := "InputExplorerModel", name := "failing", desc := "()I" } : Jvm.MethodName) prog_3_method_13_code (3 : Nat) (Option.some Jvm.ClassFile.FieldType.int)) ∈ lw_all := lw_g (lw_at lw_m2 27 rfl) rfl
theorem q289 : (Jvm.Cond.instanceMethod ({ cls := "InputExplorerModel", name := "firstFailing", desc := "(I)I" } : Jvm.MethodName)) ∈ lw_all := lw_g (lw_at lw_m2 29 rfl) rfl
theorem q290 : (Jvm.Cond.selects "InputExplorerModel" ({ cls := "InputExplorerModel", name := "firstFailing", desc := "(I)I" } : Jvm.MethodName) ({ cls := "InputExplorerModel", name := "firstFailing", desc := "(I)I" } : Jvm.MethodName)) ∈ lw_all := lw_g (lw_at lw_m2 30 rfl) rfl
theorem q291 : (Jvm.Cond.code ({ cls := "InputExplorerModel", name := "firstFailing", desc := "(I)I" } : Jvm.MethodName) prog_3_method_14_code (3 : Nat) (Option.some Jvm.ClassFile.FieldType.int)) ∈ lw_all := lw_g (lw_at lw_m2 31 rfl) rfl
theorem q293 : (Jvm.Cond.instanceMethod ({ cls := "InputExplorerModel", name := "paths", desc := "()I" } : Jvm.MethodName)) ∈ lw_all := lw_g (lw_at lw_m2 33 rfl) rfl
theorem q294 : (Jvm.Cond.selects "InputExplorerModel" ({ cls := "InputExplorerModel", name := "paths", desc := "()I" } : Jvm.MethodName) ({ cls := "InputExplorerModel", name := "paths", desc := "()I" } : Jvm.MethodName)) ∈ lw_all := lw_g (lw_at lw_m2 34 rfl) rfl
theorem q295 : (Jvm.Cond.code ({ cls := "InputExplorerModel", name := "paths", desc := "()I" } : Jvm.MethodName) prog_3_method_16_code (3 : Nat) (Option.some Jvm.ClassFile.FieldType.int)) ∈ lw_all := lw_g (lw_at lw_m2 35 rfl) rfl
theorem q296 : (Jvm.Cond.methodLink "InputExplorerModel" (57 : Nat) ({ cls := "InputExplorerModel", name := "least", desc := "(I)I" } : Jvm.MethodName)) ∈ lw_all := lw_g (lw_at lw_m2 36 rfl) rfl
theorem q297 : (Jvm.Cond.privateMethod ({ cls := "InputExplorerModel", name := "least", desc := "(I)I" } : Jvm.MethodName)) ∈ lw_tbl := lw_at lw_m2 37 rfl
theorem q298 : (Jvm.Cond.instanceMethod ({ cls := "InputExplorerModel", name := "least", desc := "(I)I" } : Jvm.MethodName)) ∈ lw_all := lw_g (lw_at lw_m2 38 rfl) rfl
theorem q299 : (Jvm.Cond.code ({ cls := "InputExplorerModel", name := "least", desc := "(I)I" } : Jvm.MethodName) prog_3_method_15_code (3 : Nat) (Option.some Jvm.ClassFile.FieldType.int)) ∈ lw_all := lw_g (lw_at lw_m2 39 rfl) rfl
theorem q301 : (Jvm.Cond.instanceMethod ({ cls := "InputExplorerModel", name := "alike", desc := "(I)I" } : Jvm.MethodName)) ∈ lw_all := lw_g (lw_at lw_m2 41 rfl) rfl
theorem q302 : (Jvm.Cond.selects "InputExplorerModel" ({ cls := "InputExplorerModel", name := "alike", desc := "(I)I" } : Jvm.MethodName) ({ cls := "InputExplorerModel", name := "alike", desc := "(I)I" } : Jvm.MethodName)) ∈ lw_all := lw_g (lw_at lw_m2 42 rfl) rfl
theorem q303 : (Jvm.Cond.code ({ cls := "InputExplorerModel", name := "alike", desc := "(I)I" } : Jvm.MethodName) prog_3_method_17_code (4 : Nat) (Option.some Jvm.ClassFile.FieldType.int)) ∈ lw_all := lw_g (lw_at lw_m2 43 rfl) rfl
theorem q304 : (Jvm.Cond.methodLink "InputExplorerModel" (61 : Nat) ({ cls := "InputExplorerModel", name := "isInput", desc := "(I)Z" } : Jvm.MethodName)) ∈ lw_all := lw_g (lw_at lw_m2 44 rfl) rfl
theorem q305 : (Jvm.Cond.privateMethod ({ cls := "InputExplorerModel", name := "isInput", desc := "(I)Z" } : Jvm.MethodName)) ∈ lw_tbl := lw_at lw_m2 45 rfl
theorem q306 : (Jvm.Cond.instanceMethod ({ cls := "InputExplorerModel", name := "isInput", desc := "(I)Z" } : Jvm.MethodName)) ∈ lw_all := lw_g (lw_at lw_m2 46 rfl) rfl
theorem q307 : (Jvm.Cond.code ({ cls := "InputExplorerModel", name := "isInput", desc := "(I)Z" } : Jvm.MethodName) prog_3_method_10_code (2 : Nat) (Option.some Jvm.ClassFile.FieldType.boolean)) ∈ lw_all := lw_g (lw_at lw_m2 47 rfl) rfl
theorem q309 : (Jvm.Cond.instanceMethod ({ cls := "InputExplorerModel", name := "first", desc := "(I)I" } : Jvm.MethodName)) ∈ lw_all := lw_g (lw_at lw_m2 49 rfl) rfl
theorem q310 : (Jvm.Cond.selects "InputExplorerModel" ({ cls := "InputExplorerModel", name := "first", desc := "(I)I" } : Jvm.MethodName) ({ cls := "InputExplorerModel", name := "first", desc := "(I)I" } : Jvm.MethodName)) ∈ lw_all := lw_g (lw_at lw_m2 50 rfl) rfl
theorem q311 : (Jvm.Cond.code ({ cls := "InputExplorerModel", name := "first", desc := "(I)I" } : Jvm.MethodName) prog_3_method_18_code (2 : Nat) (Option.some Jvm.ClassFile.FieldType.int)) ∈ lw_all := lw_g (lw_at lw_m2 51 rfl) rfl
theorem q313 : (Jvm.Cond.instanceMethod ({ cls := "InputExplorerModel", name := "mark", desc := "(I)I" } : Jvm.MethodName)) ∈ lw_all := lw_g (lw_at lw_m2 53 rfl) rfl
theorem q314 : (Jvm.Cond.selects "InputExplorerModel" ({ cls := "InputExplorerModel", name := "mark", desc := "(I)I" } : Jvm.MethodName) ({ cls := "InputExplorerModel", name := "mark", desc := "(I)I" } : Jvm.MethodName)) ∈ lw_all := lw_g (lw_at lw_m2 54 rfl) rfl
theorem q315 : (Jvm.Cond.code ({ cls := "InputExplorerModel", name := "mark", desc := "(I)I" } : Jvm.MethodName) prog_3_method_19_code (4 : Nat) (Option.some Jvm.ClassFile.FieldType.int)) ∈ lw_all := lw_g (lw_at lw_m2 55 rfl) rfl
theorem q317 : (Jvm.Cond.instanceMethod ({ cls := "InputExplorerModel", name := "unmarked", desc := "()I" } : Jvm.MethodName)) ∈ lw_all := lw_g (lw_at lw_m2 57 rfl) rfl
theorem q318 : (Jvm.Cond.selects "InputExplorerModel" ({ cls := "InputExplorerModel", name := "unmarked", desc := "()I" } : Jvm.MethodName) ({ cls := "InputExplorerModel", name := "unmarked", desc := "()I" } : Jvm.MethodName)) ∈ lw_all := lw_g (lw_at lw_m2 58 rfl) rfl
theorem q319 : (Jvm.Cond.code ({ cls := "InputExplorerModel", name := "unmarked", desc := "()I" } : Jvm.MethodName) prog_3_method_20_code (2 : Nat) (Option.some Jvm.ClassFile.FieldType.int)) ∈ lw_all := lw_g (lw_at lw_m2 59 rfl) rfl
theorem q321 : (Jvm.Cond.instanceMethod ({ cls := "InputExplorerModel", name := "extreme", desc := "(II)I" } : Jvm.MethodName)) ∈ lw_all := lw_g (lw_at lw_m2 61 rfl) rfl
theorem q322 : (Jvm.Cond.selects "InputExplorerModel" ({ cls := "InputExplorerModel", name := "extreme", desc := "(II)I" } : Jvm.MethodName) ({ cls := "InputExplorerModel", name := "extreme", desc := "(II)I" } : Jvm.MethodName)) ∈ lw_all := lw_g (lw_at lw_m2 62 rfl) rfl
theorem q323 : (Jvm.Cond.code ({ cls := "InputExplorerModel", name := "extreme", desc := "(II)I" } : Jvm.MethodName) prog_3_method_21_code (8 : Nat) (Option.some Jvm.ClassFile.FieldType.int)) ∈ lw_all := lw_g (lw_at lw_m2 63 rfl) rfl
theorem q324 : (Jvm.Cond.constant "InputExplorerModel" (64 : Nat) (-1000000000 : Int32)) ∈ lw_all := lw_g (lw_at lw_m2 64 rfl) rfl
theorem q326 : (Jvm.Cond.instanceMethod ({ cls := "InputExplorerModel", name := "ending", desc := "(II)I" } : Jvm.MethodName)) ∈ lw_all := lw_g (lw_at lw_m2 66 rfl) rfl
theorem q327 : (Jvm.Cond.selects "InputExplorerModel" ({ cls := "InputExplorerModel", name := "ending", desc := "(II)I" } : Jvm.MethodName) ({ cls := "InputExplorerModel", name := "ending", desc := "(II)I" } : Jvm.MethodName)) ∈ lw_all := lw_g (lw_at lw_m2 67 rfl) rfl
theorem q328 : (Jvm.Cond.code ({ cls := "InputExplorerModel", name := "ending", desc := "(II)I" } : Jvm.MethodName) prog_3_method_22_code (5 : Nat) (Option.some Jvm.ClassFile.FieldType.int)) ∈ lw_all := lw_g (lw_at lw_m2 68 rfl) rfl
theorem q330 : (Jvm.Cond.instanceMethod ({ cls := "InputExplorerModel", name := "steps", desc := "(I)I" } : Jvm.MethodName)) ∈ lw_all := lw_g (lw_at lw_m2 70 rfl) rfl
theorem q331 : (Jvm.Cond.selects "InputExplorerModel" ({ cls := "InputExplorerModel", name := "steps", desc := "(I)I" } : Jvm.MethodName) ({ cls := "InputExplorerModel", name := "steps", desc := "(I)I" } : Jvm.MethodName)) ∈ lw_all := lw_g (lw_at lw_m2 71 rfl) rfl
theorem q332 : (Jvm.Cond.code ({ cls := "InputExplorerModel", name := "steps", desc := "(I)I" } : Jvm.MethodName) prog_3_method_23_code (4 : Nat) (Option.some Jvm.ClassFile.FieldType.int)) ∈ lw_all := lw_g (lw_at lw_m2 72 rfl) rfl
theorem in_X1 : ∀ w ∈ wsX10, w ∈ lw_all := lw_in wsX10 [225, 227, 229, 231, 233, 235, 237, 239, 241] (by decide +kernel) (by decide +kernel)

/-! java/lang/Object -/
set_option maxRecDepth 100000
def RJ0 : String := "java/lang/Object"
abbrev cJ0_init : ByteArray := object_method_1_code
def yJ0_init : MethodName := ⟨RJ0, "<init>", "()V"⟩
theorem dJ0_init_0 : decode cJ0_init 0 = .ok (.return_, 1) := by decide +kernel
theorem q29 : (Jvm.Cond.instanceMethod ({ cls := "java/lang/Object", name := "<init>", desc := "()V" } : Jvm.MethodName)) ∈ lw_all := lw_g (lw_at lw_m1 9 rfl) rfl
theorem q30 : (Jvm.Cond.code ({ cls := "java/lang/Object", name := "<init>", desc := "()V" } : Jvm.MethodName) object_method_1_code (1 : Nat) (Option.none : Option Jvm.ClassFile.FieldType)) ∈ lw_all := lw_g (lw_at lw_m1 10 rfl) rfl
theorem q77 : (Jvm.Cond.arrayClass Jvm.ClassFile.FieldType.byte) ∈ lw_all := lw_g (lw_at lw_m1 57 rfl) rfl
set_option maxRecDepth 100000
theorem q78 : (Jvm.Cond.arrayClass Jvm.ClassFile.FieldType.short) ∈ lw_all := lw_g (lw_at lw_m1 58 rfl) rfl
theorem q79 : (Jvm.Cond.arrayClass Jvm.ClassFile.FieldType.int) ∈ lw_all := lw_g (lw_at lw_m1 59 rfl) rfl
theorem q80 : (Jvm.Cond.arrayClass Jvm.ClassFile.FieldType.boolean) ∈ lw_all := lw_g (lw_at lw_m1 60 rfl) rfl
theorem q20 : (Jvm.Cond.initialized "InputExplorerLaw") ∈ lw_all := lw_g (lw_at lw_m1 0 rfl) rfl
set_option maxRecDepth 100000
theorem q23 : (Jvm.Cond.classLink "InputExplorerLaw" (7 : Nat) "InputExplorer") ∈ lw_all := lw_g (lw_at lw_m1 3 rfl) rfl
theorem q25 : (Jvm.Cond.methodLink "InputExplorerLaw" (9 : Nat) ({ cls := "InputExplorer", name := "<init>", desc := "()V" } : Jvm.MethodName)) ∈ lw_all := lw_g (lw_at lw_m1 5 rfl) rfl
theorem q81 : (Jvm.Cond.methodLink "InputExplorerLaw" (13 : Nat) ({ cls := "InputExplorer", name := "step", desc := "(III)I" } : Jvm.MethodName)) ∈ lw_all := lw_g (lw_at lw_m1 61 rfl) rfl
theorem q93 : (Jvm.Cond.methodLink "InputExplorerLaw" (18 : Nat) ({ cls := "InputExplorer", name := "drop", desc := "()I" } : Jvm.MethodName)) ∈ lw_all := lw_g (lw_at lw_m1 73 rfl) rfl
theorem q97 : (Jvm.Cond.methodLink "InputExplorerLaw" (23 : Nat) ({ cls := "InputExplorer", name := "length", desc := "()I" } : Jvm.MethodName)) ∈ lw_all := lw_g (lw_at lw_m1 77 rfl) rfl
theorem q101 : (Jvm.Cond.methodLink "InputExplorerLaw" (27 : Nat) ({ cls := "InputExplorer", name := "reach", desc := "(I)I" } : Jvm.MethodName)) ∈ lw_all := lw_g (lw_at lw_m1 81 rfl) rfl
theorem q158 : (Jvm.Cond.methodLink "InputExplorerLaw" (32 : Nat) ({ cls := "InputExplorer", name := "firstAt", desc := "(II)I" } : Jvm.MethodName)) ∈ lw_all := lw_g (lw_at lw_m1 138 rfl) rfl
theorem q162 : (Jvm.Cond.methodLink "InputExplorerLaw" (37 : Nat) ({ cls := "InputExplorer", name := "failing", desc := "()I" } : Jvm.MethodName)) ∈ lw_all := lw_g (lw_at lw_m1 142 rfl) rfl
theorem q166 : (Jvm.Cond.methodLink "InputExplorerLaw" (41 : Nat) ({ cls := "InputExplorer", name := "firstFailing", desc := "(I)I" } : Jvm.MethodName)) ∈ lw_all := lw_g (lw_at lw_m1 146 rfl) rfl
theorem q170 : (Jvm.Cond.methodLink "InputExplorerLaw" (45 : Nat) ({ cls := "InputExplorer", name := "paths", desc := "()I" } : Jvm.MethodName)) ∈ lw_all := lw_g (lw_at lw_m1 150 rfl) rfl
theorem q178 : (Jvm.Cond.methodLink "InputExplorerLaw" (49 : Nat) ({ cls := "InputExplorer", name := "alike", desc := "(I)I" } : Jvm.MethodName)) ∈ lw_all := lw_g (lw_at lw_m1 158 rfl) rfl
theorem q185 : (Jvm.Cond.methodLink "InputExplorerLaw" (53 : Nat) ({ cls := "InputExplorer", name := "first", desc := "(I)I" } : Jvm.MethodName)) ∈ lw_all := lw_g (lw_at lw_m1 165 rfl) rfl
theorem q189 : (Jvm.Cond.methodLink "InputExplorerLaw" (57 : Nat) ({ cls := "InputExplorer", name := "mark", desc := "(I)I" } : Jvm.MethodName)) ∈ lw_all := lw_g (lw_at lw_m1 169 rfl) rfl
theorem q193 : (Jvm.Cond.methodLink "InputExplorerLaw" (61 : Nat) ({ cls := "InputExplorer", name := "unmarked", desc := "()I" } : Jvm.MethodName)) ∈ lw_all := lw_g (lw_at lw_m1 173 rfl) rfl
theorem q197 : (Jvm.Cond.methodLink "InputExplorerLaw" (65 : Nat) ({ cls := "InputExplorer", name := "extreme", desc := "(II)I" } : Jvm.MethodName)) ∈ lw_all := lw_g (lw_at lw_m1 177 rfl) rfl
theorem q202 : (Jvm.Cond.methodLink "InputExplorerLaw" (69 : Nat) ({ cls := "InputExplorer", name := "ending", desc := "(II)I" } : Jvm.MethodName)) ∈ lw_all := lw_g (lw_at lw_m1 182 rfl) rfl
theorem q206 : (Jvm.Cond.methodLink "InputExplorerLaw" (73 : Nat) ({ cls := "InputExplorer", name := "steps", desc := "(I)I" } : Jvm.MethodName)) ∈ lw_all := lw_g (lw_at lw_m1 186 rfl) rfl
theorem q210 : (Jvm.Cond.classLink "InputExplorerLaw" (10 : Nat) "InputExplorerModel") ∈ lw_all := lw_g (lw_at lw_m1 190 rfl) rfl
theorem q212 : (Jvm.Cond.methodLink "InputExplorerLaw" (12 : Nat) ({ cls := "InputExplorerModel", name := "<init>", desc := "()V" } : Jvm.MethodName)) ∈ lw_all := lw_g (lw_at lw_m1 192 rfl) rfl
theorem q244 : (Jvm.Cond.methodLink "InputExplorerLaw" (17 : Nat) ({ cls := "InputExplorerModel", name := "step", desc := "(III)I" } : Jvm.MethodName)) ∈ lw_all := lw_g (lw_at lw_m1 224 rfl) rfl
theorem q256 : (Jvm.Cond.methodLink "InputExplorerLaw" (22 : Nat) ({ cls := "InputExplorerModel", name := "drop", desc := "()I" } : Jvm.MethodName)) ∈ lw_all := lw_g (lw_at lw_m1 236 rfl) rfl
theorem q260 : (Jvm.Cond.methodLink "InputExplorerLaw" (26 : Nat) ({ cls := "InputExplorerModel", name := "length", desc := "()I" } : Jvm.MethodName)) ∈ lw_all := lw_g (lw_at lw_m2 0 rfl) rfl
theorem q264 : (Jvm.Cond.methodLink "InputExplorerLaw" (31 : Nat) ({ cls := "InputExplorerModel", name := "reach", desc := "(I)I" } : Jvm.MethodName)) ∈ lw_all := lw_g (lw_at lw_m2 4 rfl) rfl
theorem q280 : (Jvm.Cond.methodLink "InputExplorerLaw" (36 : Nat) ({ cls := "InputExplorerModel", name := "firstAt", desc := "(II)I" } : Jvm.MethodName)) ∈ lw_all := lw_g (lw_at lw_m2 20 rfl) rfl
theorem q284 : (Jvm.Cond.methodLink "InputExplorerLaw" (40 : Nat) ({ cls := "InputExplorerModel", name := "failing", desc := "()I" } : Jvm.MethodName)) ∈ lw_all := lw_g (lw_at lw_m2 24 rfl) rfl
theorem q288 : (Jvm.Cond.methodLink "InputExplorerLaw" (44 : Nat) ({ cls := "InputExplorerModel", name := "firstFailing", desc := "(I)I" } : Jvm.MethodName)) ∈ lw_all := lw_g (lw_at lw_m2 28 rfl) rfl
theorem q292 : (Jvm.Cond.methodLink "InputExplorerLaw" (48 : Nat) ({ cls := "InputExplorerModel", name := "paths", desc := "()I" } : Jvm.MethodName)) ∈ lw_all := lw_g (lw_at lw_m2 32 rfl) rfl
theorem q300 : (Jvm.Cond.methodLink "InputExplorerLaw" (52 : Nat) ({ cls := "InputExplorerModel", name := "alike", desc := "(I)I" } : Jvm.MethodName)) ∈ lw_all := lw_g (lw_at lw_m2 40 rfl) rfl
theorem q308 : (Jvm.Cond.methodLink "InputExplorerLaw" (56 : Nat) ({ cls := "InputExplorerModel", name := "first", desc := "(I)I" } : Jvm.MethodName)) ∈ lw_all := lw_g (lw_at lw_m2 48 rfl) rfl
theorem q312 : (Jvm.Cond.methodLink "InputExplorerLaw" (60 : Nat) ({ cls := "InputExplorerModel", name := "mark", desc := "(I)I" } : Jvm.MethodName)) ∈ lw_all := lw_g (lw_at lw_m2 52 rfl) rfl
theorem q316 : (Jvm.Cond.methodLink "InputExplorerLaw" (64 : Nat) ({ cls := "InputExplorerModel", name := "unmarked", desc := "()I" } : Jvm.MethodName)) ∈ lw_all := lw_g (lw_at lw_m2 56 rfl) rfl
theorem q320 : (Jvm.Cond.methodLink "InputExplorerLaw" (68 : Nat) ({ cls := "InputExplorerModel", name := "extreme", desc := "(II)I" } : Jvm.MethodName)) ∈ lw_all := lw_g (lw_at lw_m2 60 rfl) rfl
theorem q325 : (Jvm.Cond.methodLink "InputExplorerLaw" (72 : Nat) ({ cls := "InputExplorerModel", name := "ending", desc := "(II)I" } : Jvm.MethodName)) ∈ lw_all := lw_g (lw_at lw_m2 65 rfl) rfl
theorem q329 : (Jvm.Cond.methodLink "InputExplorerLaw" (76 : Nat) ({ cls := "InputExplorerModel", name := "steps", desc := "(I)I" } : Jvm.MethodName)) ∈ lw_all := lw_g (lw_at lw_m2 69 rfl) rfl
end
section
set_option maxRecDepth 100000
theorem dX0_init_0 : decode cX0_init 0 = .ok (.aload_n 0, 1) := by decide +kernel
theorem dX0_init_1 : decode cX0_init 1 = .ok (.invokespecial 1, 3) := by decide +kernel
theorem dX0_init_4 : decode cX0_init 4 = .ok (.aload_n 0, 1) := by decide +kernel
theorem dX0_init_5 : decode cX0_init 5 = .ok (.bipush 12, 2) := by decide +kernel
theorem dX0_init_7 : decode cX0_init 7 = .ok (.newarray .byte, 2) := by decide +kernel
theorem dX0_init_9 : decode cX0_init 9 = .ok (.putfield 7, 3) := by decide +kernel
theorem dX0_init_12 : decode cX0_init 12 = .ok (.aload_n 0, 1) := by decide +kernel
theorem dX0_init_13 : decode cX0_init 13 = .ok (.bipush 12, 2) := by decide +kernel
theorem dX0_init_15 : decode cX0_init 15 = .ok (.newarray .byte, 2) := by decide +kernel
theorem dX0_init_17 : decode cX0_init 17 = .ok (.putfield 13, 3) := by decide +kernel
theorem dX0_init_20 : decode cX0_init 20 = .ok (.aload_n 0, 1) := by decide +kernel
theorem dX0_init_21 : decode cX0_init 21 = .ok (.bipush 12, 2) := by decide +kernel
theorem dX0_init_23 : decode cX0_init 23 = .ok (.newarray .byte, 2) := by decide +kernel
theorem dX0_init_25 : decode cX0_init 25 = .ok (.putfield 16, 3) := by decide +kernel
theorem dX0_init_28 : decode cX0_init 28 = .ok (.aload_n 0, 1) := by decide +kernel
theorem dX0_init_29 : decode cX0_init 29 = .ok (.bipush 16, 2) := by decide +kernel
theorem dX0_init_31 : decode cX0_init 31 = .ok (.newarray .byte, 2) := by decide +kernel
theorem dX0_init_33 : decode cX0_init 33 = .ok (.putfield 19, 3) := by decide +kernel
theorem dX0_init_36 : decode cX0_init 36 = .ok (.aload_n 0, 1) := by decide +kernel
theorem dX0_init_37 : decode cX0_init 37 = .ok (.bipush 16, 2) := by decide +kernel
theorem dX0_init_39 : decode cX0_init 39 = .ok (.newarray .short, 2) := by decide +kernel
theorem dX0_init_41 : decode cX0_init 41 = .ok (.putfield 22, 3) := by decide +kernel
theorem dX0_init_44 : decode cX0_init 44 = .ok (.aload_n 0, 1) := by decide +kernel
theorem dX0_init_45 : decode cX0_init 45 = .ok (.sipush 256, 3) := by decide +kernel
theorem dX0_init_48 : decode cX0_init 48 = .ok (.newarray .int, 2) := by decide +kernel
theorem dX0_init_50 : decode cX0_init 50 = .ok (.putfield 26, 3) := by decide +kernel
theorem dX0_init_53 : decode cX0_init 53 = .ok (.aload_n 0, 1) := by decide +kernel
theorem dX0_init_54 : decode cX0_init 54 = .ok (.sipush 192, 3) := by decide +kernel
theorem dX0_init_57 : decode cX0_init 57 = .ok (.newarray .int, 2) := by decide +kernel
theorem dX0_init_59 : decode cX0_init 59 = .ok (.putfield 30, 3) := by decide +kernel
theorem dX0_init_62 : decode cX0_init 62 = .ok (.aload_n 0, 1) := by decide +kernel
theorem dX0_init_63 : decode cX0_init 63 = .ok (.bipush 16, 2) := by decide +kernel
theorem dX0_init_65 : decode cX0_init 65 = .ok (.newarray .int, 2) := by decide +kernel
theorem dX0_init_67 : decode cX0_init 67 = .ok (.putfield 33, 3) := by decide +kernel
theorem dX0_init_70 : decode cX0_init 70 = .ok (.aload_n 0, 1) := by decide +kernel
theorem dX0_init_71 : decode cX0_init 71 = .ok (.sipush 256, 3) := by decide +kernel
theorem dX0_init_74 : decode cX0_init 74 = .ok (.newarray .short, 2) := by decide +kernel
theorem dX0_init_76 : decode cX0_init 76 = .ok (.putfield 36, 3) := by decide +kernel
theorem dX0_init_79 : decode cX0_init 79 = .ok (.aload_n 0, 1) := by decide +kernel
theorem dX0_init_80 : decode cX0_init 80 = .ok (.sipush 256, 3) := by decide +kernel
theorem dX0_init_83 : decode cX0_init 83 = .ok (.newarray .boolean, 2) := by decide +kernel
theorem dX0_init_85 : decode cX0_init 85 = .ok (.putfield 39, 3) := by decide +kernel
theorem dX0_init_88 : decode cX0_init 88 = .ok (.aload_n 0, 1) := by decide +kernel
theorem dX0_init_89 : decode cX0_init 89 = .ok (.sipush 1024, 3) := by decide +kernel
theorem dX0_init_92 : decode cX0_init 92 = .ok (.newarray .int, 2) := by decide +kernel
theorem dX0_init_94 : decode cX0_init 94 = .ok (.putfield 43, 3) := by decide +kernel
theorem dX0_init_97 : decode cX0_init 97 = .ok (.aload_n 0, 1) := by decide +kernel
theorem dX0_init_98 : decode cX0_init 98 = .ok (.sipush 256, 3) := by decide +kernel
theorem dX0_init_101 : decode cX0_init 101 = .ok (.newarray .boolean, 2) := by decide +kernel
theorem dX0_init_103 : decode cX0_init 103 = .ok (.putfield 46, 3) := by decide +kernel
theorem dX0_init_106 : decode cX0_init 106 = .ok (.return_, 1) := by decide +kernel
theorem dX0_step_0 : decode cX0_step 0 = .ok (.iload_n 1, 1) := by decide +kernel
theorem dX0_step_1 : decode cX0_step 1 = .ok (.ifCond .lt 28, 3) := by decide +kernel
theorem dX0_step_4 : decode cX0_step 4 = .ok (.iload_n 1, 1) := by decide +kernel
theorem dX0_step_5 : decode cX0_step 5 = .ok (.bipush 7, 2) := by decide +kernel
theorem dX0_step_7 : decode cX0_step 7 = .ok (.if_icmp .gt 22, 3) := by decide +kernel
theorem dX0_step_10 : decode cX0_step 10 = .ok (.iload_n 2, 1) := by decide +kernel
theorem dX0_step_11 : decode cX0_step 11 = .ok (.ifCond .lt 18, 3) := by decide +kernel
theorem dX0_step_14 : decode cX0_step 14 = .ok (.iload_n 2, 1) := by decide +kernel
theorem dX0_step_15 : decode cX0_step 15 = .ok (.bipush 15, 2) := by decide +kernel
theorem dX0_step_17 : decode cX0_step 17 = .ok (.if_icmp .gt 12, 3) := by decide +kernel
theorem dX0_step_20 : decode cX0_step 20 = .ok (.aload_n 0, 1) := by decide +kernel
theorem dX0_step_21 : decode cX0_step 21 = .ok (.iload_n 1, 1) := by decide +kernel
theorem dX0_step_22 : decode cX0_step 22 = .ok (.iload_n 3, 1) := by decide +kernel
theorem dX0_step_23 : decode cX0_step 23 = .ok (.invokevirtual 57, 3) := by decide +kernel
theorem dX0_step_26 : decode cX0_step 26 = .ok (.ifCond .ne 5, 3) := by decide +kernel
theorem dX0_step_29 : decode cX0_step 29 = .ok (.iconst (-1), 1) := by decide +kernel
theorem dX0_step_30 : decode cX0_step 30 = .ok (.ireturn, 1) := by decide +kernel
theorem dX0_step_31 : decode cX0_step 31 = .ok (.aload_n 0, 1) := by decide +kernel
theorem dX0_step_32 : decode cX0_step 32 = .ok (.getfield 53, 3) := by decide +kernel
theorem dX0_step_35 : decode cX0_step 35 = .ok (.bipush 12, 2) := by decide +kernel
theorem dX0_step_37 : decode cX0_step 37 = .ok (.if_icmp .lt 6, 3) := by decide +kernel
theorem dX0_step_40 : decode cX0_step 40 = .ok (.bipush (-2), 2) := by decide +kernel
theorem dX0_step_42 : decode cX0_step 42 = .ok (.ireturn, 1) := by decide +kernel
theorem dX0_step_43 : decode cX0_step 43 = .ok (.aload_n 0, 1) := by decide +kernel
theorem dX0_step_44 : decode cX0_step 44 = .ok (.getfield 7, 3) := by decide +kernel
theorem dX0_step_47 : decode cX0_step 47 = .ok (.aload_n 0, 1) := by decide +kernel
theorem dX0_step_48 : decode cX0_step 48 = .ok (.getfield 53, 3) := by decide +kernel
theorem dX0_step_51 : decode cX0_step 51 = .ok (.iload_n 1, 1) := by decide +kernel
theorem dX0_step_52 : decode cX0_step 52 = .ok (.i2b, 1) := by decide +kernel
theorem dX0_step_53 : decode cX0_step 53 = .ok (.bastore, 1) := by decide +kernel
theorem dX0_step_54 : decode cX0_step 54 = .ok (.aload_n 0, 1) := by decide +kernel
theorem dX0_step_55 : decode cX0_step 55 = .ok (.getfield 13, 3) := by decide +kernel
theorem dX0_step_58 : decode cX0_step 58 = .ok (.aload_n 0, 1) := by decide +kernel
theorem dX0_step_59 : decode cX0_step 59 = .ok (.getfield 53, 3) := by decide +kernel
theorem dX0_step_62 : decode cX0_step 62 = .ok (.iload_n 2, 1) := by decide +kernel
theorem dX0_step_63 : decode cX0_step 63 = .ok (.i2b, 1) := by decide +kernel
theorem dX0_step_64 : decode cX0_step 64 = .ok (.bastore, 1) := by decide +kernel
theorem dX0_step_65 : decode cX0_step 65 = .ok (.aload_n 0, 1) := by decide +kernel
theorem dX0_step_66 : decode cX0_step 66 = .ok (.getfield 16, 3) := by decide +kernel
theorem dX0_step_69 : decode cX0_step 69 = .ok (.aload_n 0, 1) := by decide +kernel
theorem dX0_step_70 : decode cX0_step 70 = .ok (.getfield 53, 3) := by decide +kernel
theorem dX0_step_73 : decode cX0_step 73 = .ok (.iload_n 3, 1) := by decide +kernel
theorem dX0_step_74 : decode cX0_step 74 = .ok (.i2b, 1) := by decide +kernel
theorem dX0_step_75 : decode cX0_step 75 = .ok (.bastore, 1) := by decide +kernel
theorem dX0_step_76 : decode cX0_step 76 = .ok (.aload_n 0, 1) := by decide +kernel
theorem dX0_step_77 : decode cX0_step 77 = .ok (.dup, 1) := by decide +kernel
theorem dX0_step_78 : decode cX0_step 78 = .ok (.getfield 53, 3) := by decide +kernel
theorem dX0_step_81 : decode cX0_step 81 = .ok (.iconst 1, 1) := by decide +kernel
theorem dX0_step_82 : decode cX0_step 82 = .ok (.iadd, 1) := by decide +kernel
theorem dX0_step_83 : decode cX0_step 83 = .ok (.putfield 53, 3) := by decide +kernel
theorem dX0_step_86 : decode cX0_step 86 = .ok (.aload_n 0, 1) := by decide +kernel
theorem dX0_step_87 : decode cX0_step 87 = .ok (.invokevirtual 61, 3) := by decide +kernel
theorem dX0_step_90 : decode cX0_step 90 = .ok (.aload_n 0, 1) := by decide +kernel
theorem dX0_step_91 : decode cX0_step 91 = .ok (.getfield 53, 3) := by decide +kernel
theorem dX0_step_94 : decode cX0_step 94 = .ok (.iconst 1, 1) := by decide +kernel
theorem dX0_step_95 : decode cX0_step 95 = .ok (.isub, 1) := by decide +kernel
theorem dX0_step_96 : decode cX0_step 96 = .ok (.ireturn, 1) := by decide +kernel
theorem dX0_numberOk_0 : decode cX0_numberOk 0 = .ok (.iload_n 1, 1) := by decide +kernel
theorem dX0_numberOk_1 : decode cX0_numberOk 1 = .ok (.ifCond .ne 21, 3) := by decide +kernel
theorem dX0_numberOk_4 : decode cX0_numberOk 4 = .ok (.iload_n 2, 1) := by decide +kernel
theorem dX0_numberOk_5 : decode cX0_numberOk 5 = .ok (.bipush (-20), 2) := by decide +kernel
theorem dX0_numberOk_7 : decode cX0_numberOk 7 = .ok (.if_icmp .lt 13, 3) := by decide +kernel
theorem dX0_numberOk_10 : decode cX0_numberOk 10 = .ok (.iload_n 2, 1) := by decide +kernel
theorem dX0_numberOk_11 : decode cX0_numberOk 11 = .ok (.bipush 20, 2) := by decide +kernel
theorem dX0_numberOk_13 : decode cX0_numberOk 13 = .ok (.if_icmp .gt 7, 3) := by decide +kernel
theorem dX0_numberOk_16 : decode cX0_numberOk 16 = .ok (.iconst 1, 1) := by decide +kernel
theorem dX0_numberOk_17 : decode cX0_numberOk 17 = .ok (.goto 4, 3) := by decide +kernel
theorem dX0_numberOk_20 : decode cX0_numberOk 20 = .ok (.iconst 0, 1) := by decide +kernel
theorem dX0_numberOk_21 : decode cX0_numberOk 21 = .ok (.ireturn, 1) := by decide +kernel
theorem dX0_numberOk_22 : decode cX0_numberOk 22 = .ok (.iload_n 1, 1) := by decide +kernel
theorem dX0_numberOk_23 : decode cX0_numberOk 23 = .ok (.iconst 3, 1) := by decide +kernel
theorem dX0_numberOk_24 : decode cX0_numberOk 24 = .ok (.if_icmp .ne 20, 3) := by decide +kernel
theorem dX0_numberOk_27 : decode cX0_numberOk 27 = .ok (.iload_n 2, 1) := by decide +kernel
theorem dX0_numberOk_28 : decode cX0_numberOk 28 = .ok (.bipush (-3), 2) := by decide +kernel
theorem dX0_numberOk_30 : decode cX0_numberOk 30 = .ok (.if_icmp .lt 12, 3) := by decide +kernel
theorem dX0_numberOk_33 : decode cX0_numberOk 33 = .ok (.iload_n 2, 1) := by decide +kernel
theorem dX0_numberOk_34 : decode cX0_numberOk 34 = .ok (.iconst 3, 1) := by decide +kernel
theorem dX0_numberOk_35 : decode cX0_numberOk 35 = .ok (.if_icmp .gt 7, 3) := by decide +kernel
theorem dX0_numberOk_38 : decode cX0_numberOk 38 = .ok (.iconst 1, 1) := by decide +kernel
theorem dX0_numberOk_39 : decode cX0_numberOk 39 = .ok (.goto 4, 3) := by decide +kernel
theorem dX0_numberOk_42 : decode cX0_numberOk 42 = .ok (.iconst 0, 1) := by decide +kernel
theorem dX0_numberOk_43 : decode cX0_numberOk 43 = .ok (.ireturn, 1) := by decide +kernel
theorem dX0_numberOk_44 : decode cX0_numberOk 44 = .ok (.iload_n 1, 1) := by decide +kernel
theorem dX0_numberOk_45 : decode cX0_numberOk 45 = .ok (.iconst 4, 1) := by decide +kernel
theorem dX0_numberOk_46 : decode cX0_numberOk 46 = .ok (.if_icmp .lt 23, 3) := by decide +kernel
theorem dX0_numberOk_49 : decode cX0_numberOk 49 = .ok (.iload_n 1, 1) := by decide +kernel
theorem dX0_numberOk_50 : decode cX0_numberOk 50 = .ok (.bipush 7, 2) := by decide +kernel
theorem dX0_numberOk_52 : decode cX0_numberOk 52 = .ok (.if_icmp .eq 17, 3) := by decide +kernel
theorem dX0_numberOk_55 : decode cX0_numberOk 55 = .ok (.iload_n 2, 1) := by decide +kernel
theorem dX0_numberOk_56 : decode cX0_numberOk 56 = .ok (.aload_n 0, 1) := by decide +kernel
theorem dX0_numberOk_57 : decode cX0_numberOk 57 = .ok (.getfield 53, 3) := by decide +kernel
theorem dX0_numberOk_60 : decode cX0_numberOk 60 = .ok (.if_icmp .le 13, 3) := by decide +kernel
theorem dX0_numberOk_63 : decode cX0_numberOk 63 = .ok (.iload_n 2, 1) := by decide +kernel
theorem dX0_numberOk_64 : decode cX0_numberOk 64 = .ok (.bipush 12, 2) := by decide +kernel
theorem dX0_numberOk_66 : decode cX0_numberOk 66 = .ok (.if_icmp .gt 7, 3) := by decide +kernel
theorem dX0_numberOk_69 : decode cX0_numberOk 69 = .ok (.iconst 1, 1) := by decide +kernel
theorem dX0_numberOk_70 : decode cX0_numberOk 70 = .ok (.goto 4, 3) := by decide +kernel
theorem dX0_numberOk_73 : decode cX0_numberOk 73 = .ok (.iconst 0, 1) := by decide +kernel
theorem dX0_numberOk_74 : decode cX0_numberOk 74 = .ok (.ireturn, 1) := by decide +kernel
theorem dX0_change_0 : decode cX0_change 0 = .ok (.aload_n 0, 1) := by decide +kernel
theorem dX0_change_1 : decode cX0_change 1 = .ok (.iconst 0, 1) := by decide +kernel
theorem dX0_change_2 : decode cX0_change 2 = .ok (.putfield 49, 3) := by decide +kernel
theorem dX0_change_5 : decode cX0_change 5 = .ok (.iconst 0, 1) := by decide +kernel
theorem dX0_change_6 : decode cX0_change 6 = .ok (.istore_n 1, 1) := by decide +kernel
theorem dX0_change_7 : decode cX0_change 7 = .ok (.iload_n 1, 1) := by decide +kernel
theorem dX0_change_8 : decode cX0_change 8 = .ok (.sipush 256, 3) := by decide +kernel
theorem dX0_change_11 : decode cX0_change 11 = .ok (.if_icmp .ge 16, 3) := by decide +kernel
theorem dX0_change_14 : decode cX0_change 14 = .ok (.aload_n 0, 1) := by decide +kernel
theorem dX0_change_15 : decode cX0_change 15 = .ok (.getfield 46, 3) := by decide +kernel
theorem dX0_change_18 : decode cX0_change 18 = .ok (.iload_n 1, 1) := by decide +kernel
theorem dX0_change_19 : decode cX0_change 19 = .ok (.iconst 0, 1) := by decide +kernel
theorem dX0_change_20 : decode cX0_change 20 = .ok (.bastore, 1) := by decide +kernel
theorem dX0_change_21 : decode cX0_change 21 = .ok (.iinc 1 1, 3) := by decide +kernel
theorem dX0_change_24 : decode cX0_change 24 = .ok (.goto (-17), 3) := by decide +kernel
theorem dX0_change_27 : decode cX0_change 27 = .ok (.return_, 1) := by decide +kernel
theorem dX0_drop_0 : decode cX0_drop 0 = .ok (.aload_n 0, 1) := by decide +kernel
theorem dX0_drop_1 : decode cX0_drop 1 = .ok (.getfield 53, 3) := by decide +kernel
theorem dX0_drop_4 : decode cX0_drop 4 = .ok (.ifCond .ne 5, 3) := by decide +kernel
theorem dX0_drop_7 : decode cX0_drop 7 = .ok (.iconst (-1), 1) := by decide +kernel
theorem dX0_drop_8 : decode cX0_drop 8 = .ok (.ireturn, 1) := by decide +kernel
theorem dX0_drop_9 : decode cX0_drop 9 = .ok (.aload_n 0, 1) := by decide +kernel
theorem dX0_drop_10 : decode cX0_drop 10 = .ok (.dup, 1) := by decide +kernel
theorem dX0_drop_11 : decode cX0_drop 11 = .ok (.getfield 53, 3) := by decide +kernel
theorem dX0_drop_14 : decode cX0_drop 14 = .ok (.iconst 1, 1) := by decide +kernel
theorem dX0_drop_15 : decode cX0_drop 15 = .ok (.isub, 1) := by decide +kernel
theorem dX0_drop_16 : decode cX0_drop 16 = .ok (.putfield 53, 3) := by decide +kernel
theorem dX0_drop_19 : decode cX0_drop 19 = .ok (.aload_n 0, 1) := by decide +kernel
theorem dX0_drop_20 : decode cX0_drop 20 = .ok (.invokevirtual 61, 3) := by decide +kernel
theorem dX0_drop_23 : decode cX0_drop 23 = .ok (.aload_n 0, 1) := by decide +kernel
theorem dX0_drop_24 : decode cX0_drop 24 = .ok (.getfield 53, 3) := by decide +kernel
theorem dX0_drop_27 : decode cX0_drop 27 = .ok (.ireturn, 1) := by decide +kernel
theorem dX0_length_0 : decode cX0_length 0 = .ok (.aload_n 0, 1) := by decide +kernel
theorem dX0_length_1 : decode cX0_length 1 = .ok (.getfield 53, 3) := by decide +kernel
theorem dX0_length_4 : decode cX0_length 4 = .ok (.ireturn, 1) := by decide +kernel
theorem dX0_reach_0 : decode cX0_reach 0 = .ok (.aload_n 0, 1) := by decide +kernel
theorem dX0_reach_1 : decode cX0_reach 1 = .ok (.iload_n 1, 1) := by decide +kernel
theorem dX0_reach_2 : decode cX0_reach 2 = .ok (.invokevirtual 114, 3) := by decide +kernel
theorem dX0_reach_5 : decode cX0_reach 5 = .ok (.ifCond .ne 5, 3) := by decide +kernel
theorem dX0_reach_8 : decode cX0_reach 8 = .ok (.iconst (-1), 1) := by decide +kernel
theorem dX0_reach_9 : decode cX0_reach 9 = .ok (.ireturn, 1) := by decide +kernel
theorem dX0_reach_10 : decode cX0_reach 10 = .ok (.aload_n 0, 1) := by decide +kernel
theorem dX0_reach_11 : decode cX0_reach 11 = .ok (.invokevirtual 118, 3) := by decide +kernel
theorem dX0_reach_14 : decode cX0_reach 14 = .ok (.iconst 0, 1) := by decide +kernel
theorem dX0_reach_15 : decode cX0_reach 15 = .ok (.istore_n 2, 1) := by decide +kernel
theorem dX0_reach_16 : decode cX0_reach 16 = .ok (.iconst 0, 1) := by decide +kernel
theorem dX0_reach_17 : decode cX0_reach 17 = .ok (.istore_n 3, 1) := by decide +kernel
theorem dX0_reach_18 : decode cX0_reach 18 = .ok (.iload_n 3, 1) := by decide +kernel
theorem dX0_reach_19 : decode cX0_reach 19 = .ok (.sipush 256, 3) := by decide +kernel
theorem dX0_reach_22 : decode cX0_reach 22 = .ok (.if_icmp .ge 22, 3) := by decide +kernel
theorem dX0_reach_25 : decode cX0_reach 25 = .ok (.iload_n 2, 1) := by decide +kernel
theorem dX0_reach_26 : decode cX0_reach 26 = .ok (.aload_n 0, 1) := by decide +kernel
theorem dX0_reach_27 : decode cX0_reach 27 = .ok (.getfield 36, 3) := by decide +kernel
theorem dX0_reach_30 : decode cX0_reach 30 = .ok (.iload_n 3, 1) := by decide +kernel
theorem dX0_reach_31 : decode cX0_reach 31 = .ok (.saload, 1) := by decide +kernel
theorem dX0_reach_32 : decode cX0_reach 32 = .ok (.iload_n 1, 1) := by decide +kernel
theorem dX0_reach_33 : decode cX0_reach 33 = .ok (.ishr, 1) := by decide +kernel
theorem dX0_reach_34 : decode cX0_reach 34 = .ok (.iconst 1, 1) := by decide +kernel
theorem dX0_reach_35 : decode cX0_reach 35 = .ok (.iand, 1) := by decide +kernel
theorem dX0_reach_36 : decode cX0_reach 36 = .ok (.iadd, 1) := by decide +kernel
theorem dX0_reach_37 : decode cX0_reach 37 = .ok (.istore_n 2, 1) := by decide +kernel
theorem dX0_reach_38 : decode cX0_reach 38 = .ok (.iinc 3 1, 3) := by decide +kernel
theorem dX0_reach_41 : decode cX0_reach 41 = .ok (.goto (-23), 3) := by decide +kernel
theorem dX0_reach_44 : decode cX0_reach 44 = .ok (.iload_n 2, 1) := by decide +kernel
theorem dX0_reach_45 : decode cX0_reach 45 = .ok (.ireturn, 1) := by decide +kernel
theorem dX0_isStep_0 : decode cX0_isStep 0 = .ok (.iload_n 1, 1) := by decide +kernel
theorem dX0_isStep_1 : decode cX0_isStep 1 = .ok (.ifCond .lt 15, 3) := by decide +kernel
theorem dX0_isStep_4 : decode cX0_isStep 4 = .ok (.iload_n 1, 1) := by decide +kernel
theorem dX0_isStep_5 : decode cX0_isStep 5 = .ok (.aload_n 0, 1) := by decide +kernel
theorem dX0_isStep_6 : decode cX0_isStep 6 = .ok (.getfield 53, 3) := by decide +kernel
theorem dX0_isStep_9 : decode cX0_isStep 9 = .ok (.if_icmp .ge 7, 3) := by decide +kernel
theorem dX0_isStep_12 : decode cX0_isStep 12 = .ok (.iconst 1, 1) := by decide +kernel
theorem dX0_isStep_13 : decode cX0_isStep 13 = .ok (.goto 4, 3) := by decide +kernel
theorem dX0_isStep_16 : decode cX0_isStep 16 = .ok (.iconst 0, 1) := by decide +kernel
theorem dX0_isStep_17 : decode cX0_isStep 17 = .ok (.ireturn, 1) := by decide +kernel
theorem dX0_learn_0 : decode cX0_learn 0 = .ok (.aload_n 0, 1) := by decide +kernel
theorem dX0_learn_1 : decode cX0_learn 1 = .ok (.getfield 49, 3) := by decide +kernel
theorem dX0_learn_4 : decode cX0_learn 4 = .ok (.ifCond .eq 4, 3) := by decide +kernel
theorem dX0_learn_7 : decode cX0_learn 7 = .ok (.return_, 1) := by decide +kernel
theorem dX0_learn_8 : decode cX0_learn 8 = .ok (.aload_n 0, 1) := by decide +kernel
theorem dX0_learn_9 : decode cX0_learn 9 = .ok (.iconst 1, 1) := by decide +kernel
theorem dX0_learn_10 : decode cX0_learn 10 = .ok (.putfield 49, 3) := by decide +kernel
theorem dX0_learn_13 : decode cX0_learn 13 = .ok (.iconst 0, 1) := by decide +kernel
theorem dX0_learn_14 : decode cX0_learn 14 = .ok (.istore_n 1, 1) := by decide +kernel
theorem dX0_learn_15 : decode cX0_learn 15 = .ok (.iload_n 1, 1) := by decide +kernel
theorem dX0_learn_16 : decode cX0_learn 16 = .ok (.bipush 12, 2) := by decide +kernel
theorem dX0_learn_18 : decode cX0_learn 18 = .ok (.if_icmp .ge 16, 3) := by decide +kernel
theorem dX0_learn_21 : decode cX0_learn 21 = .ok (.aload_n 0, 1) := by decide +kernel
theorem dX0_learn_22 : decode cX0_learn 22 = .ok (.getfield 30, 3) := by decide +kernel
theorem dX0_learn_25 : decode cX0_learn 25 = .ok (.iload_n 1, 1) := by decide +kernel
theorem dX0_learn_26 : decode cX0_learn 26 = .ok (.iconst 0, 1) := by decide +kernel
theorem dX0_learn_27 : decode cX0_learn 27 = .ok (.iastore, 1) := by decide +kernel
theorem dX0_learn_28 : decode cX0_learn 28 = .ok (.iinc 1 1, 3) := by decide +kernel
theorem dX0_learn_31 : decode cX0_learn 31 = .ok (.goto (-16), 3) := by decide +kernel
theorem dX0_learn_34 : decode cX0_learn 34 = .ok (.aload_n 0, 1) := by decide +kernel
theorem dX0_learn_35 : decode cX0_learn 35 = .ok (.getfield 30, 3) := by decide +kernel
theorem dX0_learn_38 : decode cX0_learn 38 = .ok (.iconst 0, 1) := by decide +kernel
theorem dX0_learn_39 : decode cX0_learn 39 = .ok (.iconst 1, 1) := by decide +kernel
theorem dX0_learn_40 : decode cX0_learn 40 = .ok (.iastore, 1) := by decide +kernel
theorem dX0_learn_41 : decode cX0_learn 41 = .ok (.aload_n 0, 1) := by decide +kernel
theorem dX0_learn_42 : decode cX0_learn 42 = .ok (.getfield 30, 3) := by decide +kernel
theorem dX0_learn_45 : decode cX0_learn 45 = .ok (.iconst 4, 1) := by decide +kernel
theorem dX0_learn_46 : decode cX0_learn 46 = .ok (.iconst 1, 1) := by decide +kernel
theorem dX0_learn_47 : decode cX0_learn 47 = .ok (.iastore, 1) := by decide +kernel
theorem dX0_learn_48 : decode cX0_learn 48 = .ok (.iconst 0, 1) := by decide +kernel
theorem dX0_learn_49 : decode cX0_learn 49 = .ok (.istore_n 1, 1) := by decide +kernel
theorem dX0_learn_50 : decode cX0_learn 50 = .ok (.iload_n 1, 1) := by decide +kernel
theorem dX0_learn_51 : decode cX0_learn 51 = .ok (.bipush 16, 2) := by decide +kernel
theorem dX0_learn_53 : decode cX0_learn 53 = .ok (.if_icmp .ge 17, 3) := by decide +kernel
theorem dX0_learn_56 : decode cX0_learn 56 = .ok (.aload_n 0, 1) := by decide +kernel
theorem dX0_learn_57 : decode cX0_learn 57 = .ok (.getfield 26, 3) := by decide +kernel
theorem dX0_learn_60 : decode cX0_learn 60 = .ok (.iload_n 1, 1) := by decide +kernel
theorem dX0_learn_61 : decode cX0_learn 61 = .ok (.ldc 64, 2) := by decide +kernel
theorem dX0_learn_63 : decode cX0_learn 63 = .ok (.iastore, 1) := by decide +kernel
theorem dX0_learn_64 : decode cX0_learn 64 = .ok (.iinc 1 1, 3) := by decide +kernel
theorem dX0_learn_67 : decode cX0_learn 67 = .ok (.goto (-17), 3) := by decide +kernel
theorem dX0_learn_70 : decode cX0_learn 70 = .ok (.aload_n 0, 1) := by decide +kernel
theorem dX0_learn_71 : decode cX0_learn 71 = .ok (.getfield 19, 3) := by decide +kernel
theorem dX0_learn_74 : decode cX0_learn 74 = .ok (.iconst 0, 1) := by decide +kernel
theorem dX0_learn_75 : decode cX0_learn 75 = .ok (.iconst 0, 1) := by decide +kernel
theorem dX0_learn_76 : decode cX0_learn 76 = .ok (.bastore, 1) := by decide +kernel
theorem dX0_learn_77 : decode cX0_learn 77 = .ok (.aload_n 0, 1) := by decide +kernel
theorem dX0_learn_78 : decode cX0_learn 78 = .ok (.getfield 22, 3) := by decide +kernel
theorem dX0_learn_81 : decode cX0_learn 81 = .ok (.iconst 0, 1) := by decide +kernel
theorem dX0_learn_82 : decode cX0_learn 82 = .ok (.iconst 0, 1) := by decide +kernel
theorem dX0_learn_83 : decode cX0_learn 83 = .ok (.sastore, 1) := by decide +kernel
theorem dX0_learn_84 : decode cX0_learn 84 = .ok (.aload_n 0, 1) := by decide +kernel
theorem dX0_learn_85 : decode cX0_learn 85 = .ok (.iconst 1, 1) := by decide +kernel
theorem dX0_learn_86 : decode cX0_learn 86 = .ok (.putfield 79, 3) := by decide +kernel
theorem dX0_learn_89 : decode cX0_learn 89 = .ok (.iconst 0, 1) := by decide +kernel
theorem dX0_learn_90 : decode cX0_learn 90 = .ok (.istore_n 1, 1) := by decide +kernel
theorem dX0_learn_91 : decode cX0_learn 91 = .ok (.iload_n 1, 1) := by decide +kernel
theorem dX0_learn_92 : decode cX0_learn 92 = .ok (.sipush 3584, 3) := by decide +kernel
theorem dX0_learn_95 : decode cX0_learn 95 = .ok (.if_icmp .ge 60, 3) := by decide +kernel
theorem dX0_learn_98 : decode cX0_learn 98 = .ok (.aload_n 0, 1) := by decide +kernel
theorem dX0_learn_99 : decode cX0_learn 99 = .ok (.getfield 79, 3) := by decide +kernel
theorem dX0_learn_102 : decode cX0_learn 102 = .ok (.ifCond .le 53, 3) := by decide +kernel
theorem dX0_learn_105 : decode cX0_learn 105 = .ok (.aload_n 0, 1) := by decide +kernel
theorem dX0_learn_106 : decode cX0_learn 106 = .ok (.getfield 79, 3) := by decide +kernel
theorem dX0_learn_109 : decode cX0_learn 109 = .ok (.iconst 1, 1) := by decide +kernel
theorem dX0_learn_110 : decode cX0_learn 110 = .ok (.isub, 1) := by decide +kernel
theorem dX0_learn_111 : decode cX0_learn 111 = .ok (.istore_n 2, 1) := by decide +kernel
theorem dX0_learn_112 : decode cX0_learn 112 = .ok (.aload_n 0, 1) := by decide +kernel
theorem dX0_learn_113 : decode cX0_learn 113 = .ok (.getfield 19, 3) := by decide +kernel
theorem dX0_learn_116 : decode cX0_learn 116 = .ok (.iload_n 2, 1) := by decide +kernel
theorem dX0_learn_117 : decode cX0_learn 117 = .ok (.baload, 1) := by decide +kernel
theorem dX0_learn_118 : decode cX0_learn 118 = .ok (.aload_n 0, 1) := by decide +kernel
theorem dX0_learn_119 : decode cX0_learn 119 = .ok (.getfield 53, 3) := by decide +kernel
theorem dX0_learn_122 : decode cX0_learn 122 = .ok (.if_icmp .lt 22, 3) := by decide +kernel
theorem dX0_learn_125 : decode cX0_learn 125 = .ok (.aload_n 0, 1) := by decide +kernel
theorem dX0_learn_126 : decode cX0_learn 126 = .ok (.iload_n 2, 1) := by decide +kernel
theorem dX0_learn_127 : decode cX0_learn 127 = .ok (.iconst 0, 1) := by decide +kernel
theorem dX0_learn_128 : decode cX0_learn 128 = .ok (.invokevirtual 82, 3) := by decide +kernel
theorem dX0_learn_131 : decode cX0_learn 131 = .ok (.aload_n 0, 1) := by decide +kernel
theorem dX0_learn_132 : decode cX0_learn 132 = .ok (.dup, 1) := by decide +kernel
theorem dX0_learn_133 : decode cX0_learn 133 = .ok (.getfield 79, 3) := by decide +kernel
theorem dX0_learn_136 : decode cX0_learn 136 = .ok (.iconst 1, 1) := by decide +kernel
theorem dX0_learn_137 : decode cX0_learn 137 = .ok (.isub, 1) := by decide +kernel
theorem dX0_learn_138 : decode cX0_learn 138 = .ok (.putfield 79, 3) := by decide +kernel
theorem dX0_learn_141 : decode cX0_learn 141 = .ok (.goto 8, 3) := by decide +kernel
theorem dX0_learn_144 : decode cX0_learn 144 = .ok (.aload_n 0, 1) := by decide +kernel
theorem dX0_learn_145 : decode cX0_learn 145 = .ok (.iload_n 2, 1) := by decide +kernel
theorem dX0_learn_146 : decode cX0_learn 146 = .ok (.invokevirtual 86, 3) := by decide +kernel
theorem dX0_learn_149 : decode cX0_learn 149 = .ok (.iinc 1 1, 3) := by decide +kernel
theorem dX0_learn_152 : decode cX0_learn 152 = .ok (.goto (-61), 3) := by decide +kernel
theorem dX0_learn_155 : decode cX0_learn 155 = .ok (.return_, 1) := by decide +kernel
theorem dX0_finish_0 : decode cX0_finish 0 = .ok (.iconst 0, 1) := by decide +kernel
theorem dX0_finish_1 : decode cX0_finish 1 = .ok (.istore_n 3, 1) := by decide +kernel
theorem dX0_finish_2 : decode cX0_finish 2 = .ok (.iload_n 3, 1) := by decide +kernel
theorem dX0_finish_3 : decode cX0_finish 3 = .ok (.sipush 256, 3) := by decide +kernel
theorem dX0_finish_6 : decode cX0_finish 6 = .ok (.if_icmp .ge 129, 3) := by decide +kernel
theorem dX0_finish_9 : decode cX0_finish 9 = .ok (.iload_n 3, 1) := by decide +kernel
theorem dX0_finish_10 : decode cX0_finish 10 = .ok (.bipush 15, 2) := by decide +kernel
theorem dX0_finish_12 : decode cX0_finish 12 = .ok (.iand, 1) := by decide +kernel
theorem dX0_finish_13 : decode cX0_finish 13 = .ok (.istore 4, 2) := by decide +kernel
theorem dX0_finish_15 : decode cX0_finish 15 = .ok (.iload_n 3, 1) := by decide +kernel
theorem dX0_finish_16 : decode cX0_finish 16 = .ok (.iconst 4, 1) := by decide +kernel
theorem dX0_finish_17 : decode cX0_finish 17 = .ok (.ishr, 1) := by decide +kernel
theorem dX0_finish_18 : decode cX0_finish 18 = .ok (.istore 5, 2) := by decide +kernel
theorem dX0_finish_20 : decode cX0_finish 20 = .ok (.aload_n 0, 1) := by decide +kernel
theorem dX0_finish_21 : decode cX0_finish 21 = .ok (.getfield 26, 3) := by decide +kernel
theorem dX0_finish_24 : decode cX0_finish 24 = .ok (.iload_n 1, 1) := by decide +kernel
theorem dX0_finish_25 : decode cX0_finish 25 = .ok (.bipush 16, 2) := by decide +kernel
theorem dX0_finish_27 : decode cX0_finish 27 = .ok (.imul, 1) := by decide +kernel
theorem dX0_finish_28 : decode cX0_finish 28 = .ok (.iload 4, 2) := by decide +kernel
theorem dX0_finish_30 : decode cX0_finish 30 = .ok (.iadd, 1) := by decide +kernel
theorem dX0_finish_31 : decode cX0_finish 31 = .ok (.iaload, 1) := by decide +kernel
theorem dX0_finish_32 : decode cX0_finish 32 = .ok (.iload 5, 2) := by decide +kernel
theorem dX0_finish_34 : decode cX0_finish 34 = .ok (.ishr, 1) := by decide +kernel
theorem dX0_finish_35 : decode cX0_finish 35 = .ok (.iconst 1, 1) := by decide +kernel
theorem dX0_finish_36 : decode cX0_finish 36 = .ok (.iand, 1) := by decide +kernel
theorem dX0_finish_37 : decode cX0_finish 37 = .ok (.ifCond .eq 92, 3) := by decide +kernel
theorem dX0_finish_40 : decode cX0_finish 40 = .ok (.aload_n 0, 1) := by decide +kernel
theorem dX0_finish_41 : decode cX0_finish 41 = .ok (.getfield 36, 3) := by decide +kernel
theorem dX0_finish_44 : decode cX0_finish 44 = .ok (.iload_n 3, 1) := by decide +kernel
theorem dX0_finish_45 : decode cX0_finish 45 = .ok (.aload_n 0, 1) := by decide +kernel
theorem dX0_finish_46 : decode cX0_finish 46 = .ok (.getfield 22, 3) := by decide +kernel
theorem dX0_finish_49 : decode cX0_finish 49 = .ok (.iload_n 1, 1) := by decide +kernel
theorem dX0_finish_50 : decode cX0_finish 50 = .ok (.saload, 1) := by decide +kernel
theorem dX0_finish_51 : decode cX0_finish 51 = .ok (.sastore, 1) := by decide +kernel
theorem dX0_finish_52 : decode cX0_finish 52 = .ok (.aload_n 0, 1) := by decide +kernel
theorem dX0_finish_53 : decode cX0_finish 53 = .ok (.getfield 39, 3) := by decide +kernel
theorem dX0_finish_56 : decode cX0_finish 56 = .ok (.iload_n 3, 1) := by decide +kernel
theorem dX0_finish_57 : decode cX0_finish 57 = .ok (.iload_n 2, 1) := by decide +kernel
theorem dX0_finish_58 : decode cX0_finish 58 = .ok (.bastore, 1) := by decide +kernel
theorem dX0_finish_59 : decode cX0_finish 59 = .ok (.iconst 0, 1) := by decide +kernel
theorem dX0_finish_60 : decode cX0_finish 60 = .ok (.istore 6, 2) := by decide +kernel
theorem dX0_finish_62 : decode cX0_finish 62 = .ok (.iload 6, 2) := by decide +kernel
theorem dX0_finish_64 : decode cX0_finish 64 = .ok (.iconst 4, 1) := by decide +kernel
theorem dX0_finish_65 : decode cX0_finish 65 = .ok (.if_icmp .ge 64, 3) := by decide +kernel
theorem dX0_finish_68 : decode cX0_finish 68 = .ok (.iload_n 1, 1) := by decide +kernel
theorem dX0_finish_69 : decode cX0_finish 69 = .ok (.bipush 12, 2) := by decide +kernel
theorem dX0_finish_71 : decode cX0_finish 71 = .ok (.imul, 1) := by decide +kernel
theorem dX0_finish_72 : decode cX0_finish 72 = .ok (.iconst 3, 1) := by decide +kernel
theorem dX0_finish_73 : decode cX0_finish 73 = .ok (.iload 6, 2) := by decide +kernel
theorem dX0_finish_75 : decode cX0_finish 75 = .ok (.imul, 1) := by decide +kernel
theorem dX0_finish_76 : decode cX0_finish 76 = .ok (.iadd, 1) := by decide +kernel
theorem dX0_finish_77 : decode cX0_finish 77 = .ok (.istore 7, 2) := by decide +kernel
theorem dX0_finish_79 : decode cX0_finish 79 = .ok (.aload_n 0, 1) := by decide +kernel
theorem dX0_finish_80 : decode cX0_finish 80 = .ok (.getfield 43, 3) := by decide +kernel
theorem dX0_finish_83 : decode cX0_finish 83 = .ok (.iconst 4, 1) := by decide +kernel
theorem dX0_finish_84 : decode cX0_finish 84 = .ok (.iload_n 3, 1) := by decide +kernel
theorem dX0_finish_85 : decode cX0_finish 85 = .ok (.imul, 1) := by decide +kernel
theorem dX0_finish_86 : decode cX0_finish 86 = .ok (.iload 6, 2) := by decide +kernel
theorem dX0_finish_88 : decode cX0_finish 88 = .ok (.iadd, 1) := by decide +kernel
theorem dX0_finish_89 : decode cX0_finish 89 = .ok (.aload_n 0, 1) := by decide +kernel
theorem dX0_finish_90 : decode cX0_finish 90 = .ok (.getfield 30, 3) := by decide +kernel
theorem dX0_finish_93 : decode cX0_finish 93 = .ok (.iload 7, 2) := by decide +kernel
theorem dX0_finish_95 : decode cX0_finish 95 = .ok (.iaload, 1) := by decide +kernel
theorem dX0_finish_96 : decode cX0_finish 96 = .ok (.iload 4, 2) := by decide +kernel
theorem dX0_finish_98 : decode cX0_finish 98 = .ok (.imul, 1) := by decide +kernel
theorem dX0_finish_99 : decode cX0_finish 99 = .ok (.aload_n 0, 1) := by decide +kernel
theorem dX0_finish_100 : decode cX0_finish 100 = .ok (.getfield 30, 3) := by decide +kernel
theorem dX0_finish_103 : decode cX0_finish 103 = .ok (.iload 7, 2) := by decide +kernel
theorem dX0_finish_105 : decode cX0_finish 105 = .ok (.iconst 1, 1) := by decide +kernel
theorem dX0_finish_106 : decode cX0_finish 106 = .ok (.iadd, 1) := by decide +kernel
theorem dX0_finish_107 : decode cX0_finish 107 = .ok (.iaload, 1) := by decide +kernel
theorem dX0_finish_108 : decode cX0_finish 108 = .ok (.iload 5, 2) := by decide +kernel
theorem dX0_finish_110 : decode cX0_finish 110 = .ok (.imul, 1) := by decide +kernel
theorem dX0_finish_111 : decode cX0_finish 111 = .ok (.iadd, 1) := by decide +kernel
theorem dX0_finish_112 : decode cX0_finish 112 = .ok (.aload_n 0, 1) := by decide +kernel
theorem dX0_finish_113 : decode cX0_finish 113 = .ok (.getfield 30, 3) := by decide +kernel
theorem dX0_finish_116 : decode cX0_finish 116 = .ok (.iload 7, 2) := by decide +kernel
theorem dX0_finish_118 : decode cX0_finish 118 = .ok (.iconst 2, 1) := by decide +kernel
theorem dX0_finish_119 : decode cX0_finish 119 = .ok (.iadd, 1) := by decide +kernel
theorem dX0_finish_120 : decode cX0_finish 120 = .ok (.iaload, 1) := by decide +kernel
theorem dX0_finish_121 : decode cX0_finish 121 = .ok (.iadd, 1) := by decide +kernel
theorem dX0_finish_122 : decode cX0_finish 122 = .ok (.iastore, 1) := by decide +kernel
theorem dX0_finish_123 : decode cX0_finish 123 = .ok (.iinc 6 1, 3) := by decide +kernel
theorem dX0_finish_126 : decode cX0_finish 126 = .ok (.goto (-64), 3) := by decide +kernel
theorem dX0_finish_129 : decode cX0_finish 129 = .ok (.iinc 3 1, 3) := by decide +kernel
theorem dX0_finish_132 : decode cX0_finish 132 = .ok (.goto (-130), 3) := by decide +kernel
theorem dX0_finish_135 : decode cX0_finish 135 = .ok (.return_, 1) := by decide +kernel
theorem dX0_follow_0 : decode cX0_follow 0 = .ok (.aload_n 0, 1) := by decide +kernel
theorem dX0_follow_1 : decode cX0_follow 1 = .ok (.getfield 19, 3) := by decide +kernel
theorem dX0_follow_4 : decode cX0_follow 4 = .ok (.iload_n 1, 1) := by decide +kernel
theorem dX0_follow_5 : decode cX0_follow 5 = .ok (.baload, 1) := by decide +kernel
theorem dX0_follow_6 : decode cX0_follow 6 = .ok (.istore_n 2, 1) := by decide +kernel
theorem dX0_follow_7 : decode cX0_follow 7 = .ok (.aload_n 0, 1) := by decide +kernel
theorem dX0_follow_8 : decode cX0_follow 8 = .ok (.getfield 7, 3) := by decide +kernel
theorem dX0_follow_11 : decode cX0_follow 11 = .ok (.iload_n 2, 1) := by decide +kernel
theorem dX0_follow_12 : decode cX0_follow 12 = .ok (.baload, 1) := by decide +kernel
theorem dX0_follow_13 : decode cX0_follow 13 = .ok (.istore_n 3, 1) := by decide +kernel
theorem dX0_follow_14 : decode cX0_follow 14 = .ok (.aload_n 0, 1) := by decide +kernel
theorem dX0_follow_15 : decode cX0_follow 15 = .ok (.getfield 13, 3) := by decide +kernel
theorem dX0_follow_18 : decode cX0_follow 18 = .ok (.iload_n 2, 1) := by decide +kernel
theorem dX0_follow_19 : decode cX0_follow 19 = .ok (.baload, 1) := by decide +kernel
theorem dX0_follow_20 : decode cX0_follow 20 = .ok (.iconst 3, 1) := by decide +kernel
theorem dX0_follow_21 : decode cX0_follow 21 = .ok (.iand, 1) := by decide +kernel
theorem dX0_follow_22 : decode cX0_follow 22 = .ok (.istore 4, 2) := by decide +kernel
theorem dX0_follow_24 : decode cX0_follow 24 = .ok (.aload_n 0, 1) := by decide +kernel
theorem dX0_follow_25 : decode cX0_follow 25 = .ok (.getfield 13, 3) := by decide +kernel
theorem dX0_follow_28 : decode cX0_follow 28 = .ok (.iload_n 2, 1) := by decide +kernel
theorem dX0_follow_29 : decode cX0_follow 29 = .ok (.baload, 1) := by decide +kernel
theorem dX0_follow_30 : decode cX0_follow 30 = .ok (.iconst 2, 1) := by decide +kernel
theorem dX0_follow_31 : decode cX0_follow 31 = .ok (.ishr, 1) := by decide +kernel
theorem dX0_follow_32 : decode cX0_follow 32 = .ok (.istore 5, 2) := by decide +kernel
theorem dX0_follow_34 : decode cX0_follow 34 = .ok (.aload_n 0, 1) := by decide +kernel
theorem dX0_follow_35 : decode cX0_follow 35 = .ok (.getfield 22, 3) := by decide +kernel
theorem dX0_follow_38 : decode cX0_follow 38 = .ok (.iload_n 1, 1) := by decide +kernel
theorem dX0_follow_39 : decode cX0_follow 39 = .ok (.aload_n 0, 1) := by decide +kernel
theorem dX0_follow_40 : decode cX0_follow 40 = .ok (.getfield 22, 3) := by decide +kernel
theorem dX0_follow_43 : decode cX0_follow 43 = .ok (.iload_n 1, 1) := by decide +kernel
theorem dX0_follow_44 : decode cX0_follow 44 = .ok (.saload, 1) := by decide +kernel
theorem dX0_follow_45 : decode cX0_follow 45 = .ok (.iconst 1, 1) := by decide +kernel
theorem dX0_follow_46 : decode cX0_follow 46 = .ok (.iload_n 2, 1) := by decide +kernel
theorem dX0_follow_47 : decode cX0_follow 47 = .ok (.ishl, 1) := by decide +kernel
theorem dX0_follow_48 : decode cX0_follow 48 = .ok (.ior, 1) := by decide +kernel
theorem dX0_follow_49 : decode cX0_follow 49 = .ok (.i2s, 1) := by decide +kernel
theorem dX0_follow_50 : decode cX0_follow 50 = .ok (.sastore, 1) := by decide +kernel
theorem dX0_follow_51 : decode cX0_follow 51 = .ok (.aload_n 0, 1) := by decide +kernel
end
section
set_option maxRecDepth 100000
theorem dX0_follow_52 : decode cX0_follow 52 = .ok (.getfield 19, 3) := by decide +kernel
theorem dX0_follow_55 : decode cX0_follow 55 = .ok (.iload_n 1, 1) := by decide +kernel
theorem dX0_follow_56 : decode cX0_follow 56 = .ok (.iload_n 3, 1) := by decide +kernel
theorem dX0_follow_57 : decode cX0_follow 57 = .ok (.bipush 6, 2) := by decide +kernel
theorem dX0_follow_59 : decode cX0_follow 59 = .ok (.if_icmp .ne 12, 3) := by decide +kernel
theorem dX0_follow_62 : decode cX0_follow 62 = .ok (.aload_n 0, 1) := by decide +kernel
theorem dX0_follow_63 : decode cX0_follow 63 = .ok (.getfield 16, 3) := by decide +kernel
theorem dX0_follow_66 : decode cX0_follow 66 = .ok (.iload_n 2, 1) := by decide +kernel
theorem dX0_follow_67 : decode cX0_follow 67 = .ok (.baload, 1) := by decide +kernel
theorem dX0_follow_68 : decode cX0_follow 68 = .ok (.goto 6, 3) := by decide +kernel
theorem dX0_follow_71 : decode cX0_follow 71 = .ok (.iload_n 2, 1) := by decide +kernel
theorem dX0_follow_72 : decode cX0_follow 72 = .ok (.iconst 1, 1) := by decide +kernel
theorem dX0_follow_73 : decode cX0_follow 73 = .ok (.iadd, 1) := by decide +kernel
theorem dX0_follow_74 : decode cX0_follow 74 = .ok (.i2b, 1) := by decide +kernel
theorem dX0_follow_75 : decode cX0_follow 75 = .ok (.bastore, 1) := by decide +kernel
theorem dX0_follow_76 : decode cX0_follow 76 = .ok (.iload_n 3, 1) := by decide +kernel
theorem dX0_follow_77 : decode cX0_follow 77 = .ok (.iconst 3, 1) := by decide +kernel
theorem dX0_follow_78 : decode cX0_follow 78 = .ok (.if_icmp .gt 22, 3) := by decide +kernel
theorem dX0_follow_81 : decode cX0_follow 81 = .ok (.aload_n 0, 1) := by decide +kernel
theorem dX0_follow_82 : decode cX0_follow 82 = .ok (.iload_n 1, 1) := by decide +kernel
theorem dX0_follow_83 : decode cX0_follow 83 = .ok (.iload_n 3, 1) := by decide +kernel
theorem dX0_follow_84 : decode cX0_follow 84 = .ok (.iload 4, 2) := by decide +kernel
theorem dX0_follow_86 : decode cX0_follow 86 = .ok (.iload 5, 2) := by decide +kernel
theorem dX0_follow_88 : decode cX0_follow 88 = .ok (.aload_n 0, 1) := by decide +kernel
theorem dX0_follow_89 : decode cX0_follow 89 = .ok (.getfield 16, 3) := by decide +kernel
theorem dX0_follow_92 : decode cX0_follow 92 = .ok (.iload_n 2, 1) := by decide +kernel
theorem dX0_follow_93 : decode cX0_follow 93 = .ok (.baload, 1) := by decide +kernel
theorem dX0_follow_94 : decode cX0_follow 94 = .ok (.invokevirtual 90, 3) := by decide +kernel
theorem dX0_follow_97 : decode cX0_follow 97 = .ok (.goto 47, 3) := by decide +kernel
theorem dX0_follow_100 : decode cX0_follow 100 = .ok (.iload_n 3, 1) := by decide +kernel
theorem dX0_follow_101 : decode cX0_follow 101 = .ok (.bipush 7, 2) := by decide +kernel
theorem dX0_follow_103 : decode cX0_follow 103 = .ok (.if_icmp .ne 15, 3) := by decide +kernel
theorem dX0_follow_106 : decode cX0_follow 106 = .ok (.aload_n 0, 1) := by decide +kernel
theorem dX0_follow_107 : decode cX0_follow 107 = .ok (.iload_n 1, 1) := by decide +kernel
theorem dX0_follow_108 : decode cX0_follow 108 = .ok (.iload 4, 2) := by decide +kernel
theorem dX0_follow_110 : decode cX0_follow 110 = .ok (.iload 5, 2) := by decide +kernel
theorem dX0_follow_112 : decode cX0_follow 112 = .ok (.invokevirtual 94, 3) := by decide +kernel
theorem dX0_follow_115 : decode cX0_follow 115 = .ok (.goto 29, 3) := by decide +kernel
theorem dX0_follow_118 : decode cX0_follow 118 = .ok (.iload_n 3, 1) := by decide +kernel
theorem dX0_follow_119 : decode cX0_follow 119 = .ok (.bipush 6, 2) := by decide +kernel
theorem dX0_follow_121 : decode cX0_follow 121 = .ok (.if_icmp .eq 23, 3) := by decide +kernel
theorem dX0_follow_124 : decode cX0_follow 124 = .ok (.aload_n 0, 1) := by decide +kernel
theorem dX0_follow_125 : decode cX0_follow 125 = .ok (.iload_n 1, 1) := by decide +kernel
theorem dX0_follow_126 : decode cX0_follow 126 = .ok (.iload_n 2, 1) := by decide +kernel
theorem dX0_follow_127 : decode cX0_follow 127 = .ok (.iload 4, 2) := by decide +kernel
theorem dX0_follow_129 : decode cX0_follow 129 = .ok (.iload 5, 2) := by decide +kernel
theorem dX0_follow_131 : decode cX0_follow 131 = .ok (.iload_n 3, 1) := by decide +kernel
theorem dX0_follow_132 : decode cX0_follow 132 = .ok (.iconst 5, 1) := by decide +kernel
theorem dX0_follow_133 : decode cX0_follow 133 = .ok (.if_icmp .ne 7, 3) := by decide +kernel
theorem dX0_follow_136 : decode cX0_follow 136 = .ok (.iconst 1, 1) := by decide +kernel
theorem dX0_follow_137 : decode cX0_follow 137 = .ok (.goto 4, 3) := by decide +kernel
theorem dX0_follow_140 : decode cX0_follow 140 = .ok (.iconst 0, 1) := by decide +kernel
theorem dX0_follow_141 : decode cX0_follow 141 = .ok (.invokevirtual 98, 3) := by decide +kernel
theorem dX0_follow_144 : decode cX0_follow 144 = .ok (.return_, 1) := by decide +kernel
theorem dX0_calculate_0 : decode cX0_calculate 0 = .ok (.iconst 0, 1) := by decide +kernel
theorem dX0_calculate_1 : decode cX0_calculate 1 = .ok (.istore 6, 2) := by decide +kernel
theorem dX0_calculate_3 : decode cX0_calculate 3 = .ok (.iload 6, 2) := by decide +kernel
theorem dX0_calculate_5 : decode cX0_calculate 5 = .ok (.iconst 3, 1) := by decide +kernel
theorem dX0_calculate_6 : decode cX0_calculate 6 = .ok (.if_icmp .ge 110, 3) := by decide +kernel
theorem dX0_calculate_9 : decode cX0_calculate 9 = .ok (.iload_n 1, 1) := by decide +kernel
theorem dX0_calculate_10 : decode cX0_calculate 10 = .ok (.bipush 12, 2) := by decide +kernel
theorem dX0_calculate_12 : decode cX0_calculate 12 = .ok (.imul, 1) := by decide +kernel
theorem dX0_calculate_13 : decode cX0_calculate 13 = .ok (.iconst 3, 1) := by decide +kernel
theorem dX0_calculate_14 : decode cX0_calculate 14 = .ok (.iload_n 3, 1) := by decide +kernel
theorem dX0_calculate_15 : decode cX0_calculate 15 = .ok (.imul, 1) := by decide +kernel
theorem dX0_calculate_16 : decode cX0_calculate 16 = .ok (.iadd, 1) := by decide +kernel
theorem dX0_calculate_17 : decode cX0_calculate 17 = .ok (.iload 6, 2) := by decide +kernel
theorem dX0_calculate_19 : decode cX0_calculate 19 = .ok (.iadd, 1) := by decide +kernel
theorem dX0_calculate_20 : decode cX0_calculate 20 = .ok (.istore 7, 2) := by decide +kernel
theorem dX0_calculate_22 : decode cX0_calculate 22 = .ok (.aload_n 0, 1) := by decide +kernel
theorem dX0_calculate_23 : decode cX0_calculate 23 = .ok (.getfield 30, 3) := by decide +kernel
theorem dX0_calculate_26 : decode cX0_calculate 26 = .ok (.iload_n 1, 1) := by decide +kernel
theorem dX0_calculate_27 : decode cX0_calculate 27 = .ok (.bipush 12, 2) := by decide +kernel
theorem dX0_calculate_29 : decode cX0_calculate 29 = .ok (.imul, 1) := by decide +kernel
theorem dX0_calculate_30 : decode cX0_calculate 30 = .ok (.iconst 3, 1) := by decide +kernel
theorem dX0_calculate_31 : decode cX0_calculate 31 = .ok (.iload 4, 2) := by decide +kernel
theorem dX0_calculate_33 : decode cX0_calculate 33 = .ok (.imul, 1) := by decide +kernel
theorem dX0_calculate_34 : decode cX0_calculate 34 = .ok (.iadd, 1) := by decide +kernel
theorem dX0_calculate_35 : decode cX0_calculate 35 = .ok (.iload 6, 2) := by decide +kernel
theorem dX0_calculate_37 : decode cX0_calculate 37 = .ok (.iadd, 1) := by decide +kernel
theorem dX0_calculate_38 : decode cX0_calculate 38 = .ok (.iaload, 1) := by decide +kernel
theorem dX0_calculate_39 : decode cX0_calculate 39 = .ok (.istore 8, 2) := by decide +kernel
theorem dX0_calculate_41 : decode cX0_calculate 41 = .ok (.iload_n 2, 1) := by decide +kernel
theorem dX0_calculate_42 : decode cX0_calculate 42 = .ok (.ifCond .ne 25, 3) := by decide +kernel
theorem dX0_calculate_45 : decode cX0_calculate 45 = .ok (.aload_n 0, 1) := by decide +kernel
theorem dX0_calculate_46 : decode cX0_calculate 46 = .ok (.getfield 30, 3) := by decide +kernel
theorem dX0_calculate_49 : decode cX0_calculate 49 = .ok (.iload 7, 2) := by decide +kernel
theorem dX0_calculate_51 : decode cX0_calculate 51 = .ok (.iload 6, 2) := by decide +kernel
theorem dX0_calculate_53 : decode cX0_calculate 53 = .ok (.iconst 2, 1) := by decide +kernel
theorem dX0_calculate_54 : decode cX0_calculate 54 = .ok (.if_icmp .ne 8, 3) := by decide +kernel
theorem dX0_calculate_57 : decode cX0_calculate 57 = .ok (.iload 5, 2) := by decide +kernel
theorem dX0_calculate_59 : decode cX0_calculate 59 = .ok (.goto 4, 3) := by decide +kernel
theorem dX0_calculate_62 : decode cX0_calculate 62 = .ok (.iconst 0, 1) := by decide +kernel
theorem dX0_calculate_63 : decode cX0_calculate 63 = .ok (.iastore, 1) := by decide +kernel
theorem dX0_calculate_64 : decode cX0_calculate 64 = .ok (.goto 46, 3) := by decide +kernel
theorem dX0_calculate_67 : decode cX0_calculate 67 = .ok (.iload_n 2, 1) := by decide +kernel
theorem dX0_calculate_68 : decode cX0_calculate 68 = .ok (.iconst 3, 1) := by decide +kernel
theorem dX0_calculate_69 : decode cX0_calculate 69 = .ok (.if_icmp .ne 18, 3) := by decide +kernel
theorem dX0_calculate_72 : decode cX0_calculate 72 = .ok (.aload_n 0, 1) := by decide +kernel
theorem dX0_calculate_73 : decode cX0_calculate 73 = .ok (.getfield 30, 3) := by decide +kernel
theorem dX0_calculate_76 : decode cX0_calculate 76 = .ok (.iload 7, 2) := by decide +kernel
theorem dX0_calculate_78 : decode cX0_calculate 78 = .ok (.dup2, 1) := by decide +kernel
theorem dX0_calculate_79 : decode cX0_calculate 79 = .ok (.iaload, 1) := by decide +kernel
theorem dX0_calculate_80 : decode cX0_calculate 80 = .ok (.iload 5, 2) := by decide +kernel
theorem dX0_calculate_82 : decode cX0_calculate 82 = .ok (.imul, 1) := by decide +kernel
theorem dX0_calculate_83 : decode cX0_calculate 83 = .ok (.iastore, 1) := by decide +kernel
theorem dX0_calculate_84 : decode cX0_calculate 84 = .ok (.goto 26, 3) := by decide +kernel
theorem dX0_calculate_87 : decode cX0_calculate 87 = .ok (.aload_n 0, 1) := by decide +kernel
theorem dX0_calculate_88 : decode cX0_calculate 88 = .ok (.getfield 30, 3) := by decide +kernel
theorem dX0_calculate_91 : decode cX0_calculate 91 = .ok (.iload 7, 2) := by decide +kernel
theorem dX0_calculate_93 : decode cX0_calculate 93 = .ok (.dup2, 1) := by decide +kernel
theorem dX0_calculate_94 : decode cX0_calculate 94 = .ok (.iaload, 1) := by decide +kernel
theorem dX0_calculate_95 : decode cX0_calculate 95 = .ok (.iload_n 2, 1) := by decide +kernel
theorem dX0_calculate_96 : decode cX0_calculate 96 = .ok (.iconst 1, 1) := by decide +kernel
theorem dX0_calculate_97 : decode cX0_calculate 97 = .ok (.if_icmp .ne 8, 3) := by decide +kernel
theorem dX0_calculate_100 : decode cX0_calculate 100 = .ok (.iload 8, 2) := by decide +kernel
theorem dX0_calculate_102 : decode cX0_calculate 102 = .ok (.goto 6, 3) := by decide +kernel
theorem dX0_calculate_105 : decode cX0_calculate 105 = .ok (.iload 8, 2) := by decide +kernel
theorem dX0_calculate_107 : decode cX0_calculate 107 = .ok (.ineg, 1) := by decide +kernel
theorem dX0_calculate_108 : decode cX0_calculate 108 = .ok (.iadd, 1) := by decide +kernel
theorem dX0_calculate_109 : decode cX0_calculate 109 = .ok (.iastore, 1) := by decide +kernel
theorem dX0_calculate_110 : decode cX0_calculate 110 = .ok (.iinc 6 1, 3) := by decide +kernel
theorem dX0_calculate_113 : decode cX0_calculate 113 = .ok (.goto (-110), 3) := by decide +kernel
theorem dX0_calculate_116 : decode cX0_calculate 116 = .ok (.return_, 1) := by decide +kernel
theorem dX0_check_0 : decode cX0_check 0 = .ok (.aload_n 0, 1) := by decide +kernel
theorem dX0_check_1 : decode cX0_check 1 = .ok (.iload_n 1, 1) := by decide +kernel
theorem dX0_check_2 : decode cX0_check 2 = .ok (.iload_n 3, 1) := by decide +kernel
theorem dX0_check_3 : decode cX0_check 3 = .ok (.iload_n 2, 1) := by decide +kernel
theorem dX0_check_4 : decode cX0_check 4 = .ok (.iconst 0, 1) := by decide +kernel
theorem dX0_check_5 : decode cX0_check 5 = .ok (.invokevirtual 102, 3) := by decide +kernel
theorem dX0_check_8 : decode cX0_check 8 = .ok (.aload_n 0, 1) := by decide +kernel
theorem dX0_check_9 : decode cX0_check 9 = .ok (.iload_n 1, 1) := by decide +kernel
theorem dX0_check_10 : decode cX0_check 10 = .ok (.iload_n 1, 1) := by decide +kernel
theorem dX0_check_11 : decode cX0_check 11 = .ok (.iconst 1, 1) := by decide +kernel
theorem dX0_check_12 : decode cX0_check 12 = .ok (.iadd, 1) := by decide +kernel
theorem dX0_check_13 : decode cX0_check 13 = .ok (.invokevirtual 106, 3) := by decide +kernel
theorem dX0_check_16 : decode cX0_check 16 = .ok (.aload_n 0, 1) := by decide +kernel
theorem dX0_check_17 : decode cX0_check 17 = .ok (.iload_n 1, 1) := by decide +kernel
theorem dX0_check_18 : decode cX0_check 18 = .ok (.iconst 1, 1) := by decide +kernel
theorem dX0_check_19 : decode cX0_check 19 = .ok (.iadd, 1) := by decide +kernel
theorem dX0_check_20 : decode cX0_check 20 = .ok (.iconst 1, 1) := by decide +kernel
theorem dX0_check_21 : decode cX0_check 21 = .ok (.invokevirtual 110, 3) := by decide +kernel
theorem dX0_check_24 : decode cX0_check 24 = .ok (.ifCond .eq 11, 3) := by decide +kernel
theorem dX0_check_27 : decode cX0_check 27 = .ok (.aload_n 0, 1) := by decide +kernel
theorem dX0_check_28 : decode cX0_check 28 = .ok (.iload_n 1, 1) := by decide +kernel
theorem dX0_check_29 : decode cX0_check 29 = .ok (.iconst 1, 1) := by decide +kernel
theorem dX0_check_30 : decode cX0_check 30 = .ok (.iadd, 1) := by decide +kernel
theorem dX0_check_31 : decode cX0_check 31 = .ok (.iconst 1, 1) := by decide +kernel
theorem dX0_check_32 : decode cX0_check 32 = .ok (.invokevirtual 82, 3) := by decide +kernel
theorem dX0_check_35 : decode cX0_check 35 = .ok (.aload_n 0, 1) := by decide +kernel
theorem dX0_check_36 : decode cX0_check 36 = .ok (.iload_n 1, 1) := by decide +kernel
theorem dX0_check_37 : decode cX0_check 37 = .ok (.iconst 0, 1) := by decide +kernel
theorem dX0_check_38 : decode cX0_check 38 = .ok (.invokevirtual 110, 3) := by decide +kernel
theorem dX0_check_41 : decode cX0_check 41 = .ok (.ifCond .ne 13, 3) := by decide +kernel
theorem dX0_check_44 : decode cX0_check 44 = .ok (.aload_n 0, 1) := by decide +kernel
theorem dX0_check_45 : decode cX0_check 45 = .ok (.dup, 1) := by decide +kernel
theorem dX0_check_46 : decode cX0_check 46 = .ok (.getfield 79, 3) := by decide +kernel
theorem dX0_check_49 : decode cX0_check 49 = .ok (.iconst 1, 1) := by decide +kernel
theorem dX0_check_50 : decode cX0_check 50 = .ok (.isub, 1) := by decide +kernel
theorem dX0_check_51 : decode cX0_check 51 = .ok (.putfield 79, 3) := by decide +kernel
theorem dX0_check_54 : decode cX0_check 54 = .ok (.return_, 1) := by decide +kernel
theorem dX0_solve_0 : decode cX0_solve 0 = .ok (.iload_n 1, 1) := by decide +kernel
theorem dX0_solve_1 : decode cX0_solve 1 = .ok (.bipush 12, 2) := by decide +kernel
theorem dX0_solve_3 : decode cX0_solve 3 = .ok (.imul, 1) := by decide +kernel
theorem dX0_solve_4 : decode cX0_solve 4 = .ok (.iconst 3, 1) := by decide +kernel
theorem dX0_solve_5 : decode cX0_solve 5 = .ok (.iload_n 2, 1) := by decide +kernel
theorem dX0_solve_6 : decode cX0_solve 6 = .ok (.imul, 1) := by decide +kernel
theorem dX0_solve_7 : decode cX0_solve 7 = .ok (.iadd, 1) := by decide +kernel
theorem dX0_solve_8 : decode cX0_solve 8 = .ok (.istore 5, 2) := by decide +kernel
theorem dX0_solve_10 : decode cX0_solve 10 = .ok (.iload_n 1, 1) := by decide +kernel
theorem dX0_solve_11 : decode cX0_solve 11 = .ok (.bipush 12, 2) := by decide +kernel
theorem dX0_solve_13 : decode cX0_solve 13 = .ok (.imul, 1) := by decide +kernel
theorem dX0_solve_14 : decode cX0_solve 14 = .ok (.iconst 3, 1) := by decide +kernel
theorem dX0_solve_15 : decode cX0_solve 15 = .ok (.iload_n 3, 1) := by decide +kernel
theorem dX0_solve_16 : decode cX0_solve 16 = .ok (.imul, 1) := by decide +kernel
theorem dX0_solve_17 : decode cX0_solve 17 = .ok (.iadd, 1) := by decide +kernel
theorem dX0_solve_18 : decode cX0_solve 18 = .ok (.istore 6, 2) := by decide +kernel
theorem dX0_solve_20 : decode cX0_solve 20 = .ok (.aload_n 0, 1) := by decide +kernel
theorem dX0_solve_21 : decode cX0_solve 21 = .ok (.getfield 30, 3) := by decide +kernel
theorem dX0_solve_24 : decode cX0_solve 24 = .ok (.iload 5, 2) := by decide +kernel
theorem dX0_solve_26 : decode cX0_solve 26 = .ok (.iaload, 1) := by decide +kernel
theorem dX0_solve_27 : decode cX0_solve 27 = .ok (.aload_n 0, 1) := by decide +kernel
theorem dX0_solve_28 : decode cX0_solve 28 = .ok (.getfield 30, 3) := by decide +kernel
theorem dX0_solve_31 : decode cX0_solve 31 = .ok (.iload 6, 2) := by decide +kernel
theorem dX0_solve_33 : decode cX0_solve 33 = .ok (.iaload, 1) := by decide +kernel
theorem dX0_solve_34 : decode cX0_solve 34 = .ok (.isub, 1) := by decide +kernel
theorem dX0_solve_35 : decode cX0_solve 35 = .ok (.istore 7, 2) := by decide +kernel
theorem dX0_solve_37 : decode cX0_solve 37 = .ok (.aload_n 0, 1) := by decide +kernel
theorem dX0_solve_38 : decode cX0_solve 38 = .ok (.getfield 30, 3) := by decide +kernel
theorem dX0_solve_41 : decode cX0_solve 41 = .ok (.iload 5, 2) := by decide +kernel
theorem dX0_solve_43 : decode cX0_solve 43 = .ok (.iconst 1, 1) := by decide +kernel
theorem dX0_solve_44 : decode cX0_solve 44 = .ok (.iadd, 1) := by decide +kernel
theorem dX0_solve_45 : decode cX0_solve 45 = .ok (.iaload, 1) := by decide +kernel
theorem dX0_solve_46 : decode cX0_solve 46 = .ok (.aload_n 0, 1) := by decide +kernel
theorem dX0_solve_47 : decode cX0_solve 47 = .ok (.getfield 30, 3) := by decide +kernel
theorem dX0_solve_50 : decode cX0_solve 50 = .ok (.iload 6, 2) := by decide +kernel
theorem dX0_solve_52 : decode cX0_solve 52 = .ok (.iconst 1, 1) := by decide +kernel
theorem dX0_solve_53 : decode cX0_solve 53 = .ok (.iadd, 1) := by decide +kernel
theorem dX0_solve_54 : decode cX0_solve 54 = .ok (.iaload, 1) := by decide +kernel
theorem dX0_solve_55 : decode cX0_solve 55 = .ok (.isub, 1) := by decide +kernel
theorem dX0_solve_56 : decode cX0_solve 56 = .ok (.istore 8, 2) := by decide +kernel
theorem dX0_solve_58 : decode cX0_solve 58 = .ok (.aload_n 0, 1) := by decide +kernel
theorem dX0_solve_59 : decode cX0_solve 59 = .ok (.getfield 30, 3) := by decide +kernel
theorem dX0_solve_62 : decode cX0_solve 62 = .ok (.iload 5, 2) := by decide +kernel
theorem dX0_solve_64 : decode cX0_solve 64 = .ok (.iconst 2, 1) := by decide +kernel
theorem dX0_solve_65 : decode cX0_solve 65 = .ok (.iadd, 1) := by decide +kernel
theorem dX0_solve_66 : decode cX0_solve 66 = .ok (.iaload, 1) := by decide +kernel
theorem dX0_solve_67 : decode cX0_solve 67 = .ok (.aload_n 0, 1) := by decide +kernel
theorem dX0_solve_68 : decode cX0_solve 68 = .ok (.getfield 30, 3) := by decide +kernel
theorem dX0_solve_71 : decode cX0_solve 71 = .ok (.iload 6, 2) := by decide +kernel
theorem dX0_solve_73 : decode cX0_solve 73 = .ok (.iconst 2, 1) := by decide +kernel
theorem dX0_solve_74 : decode cX0_solve 74 = .ok (.iadd, 1) := by decide +kernel
theorem dX0_solve_75 : decode cX0_solve 75 = .ok (.iaload, 1) := by decide +kernel
theorem dX0_solve_76 : decode cX0_solve 76 = .ok (.isub, 1) := by decide +kernel
theorem dX0_solve_77 : decode cX0_solve 77 = .ok (.istore 9, 2) := by decide +kernel
theorem dX0_solve_79 : decode cX0_solve 79 = .ok (.iconst 0, 1) := by decide +kernel
theorem dX0_solve_80 : decode cX0_solve 80 = .ok (.istore 10, 2) := by decide +kernel
theorem dX0_solve_82 : decode cX0_solve 82 = .ok (.iload 10, 2) := by decide +kernel
theorem dX0_solve_84 : decode cX0_solve 84 = .ok (.bipush 16, 2) := by decide +kernel
theorem dX0_solve_86 : decode cX0_solve 86 = .ok (.if_icmp .ge 48, 3) := by decide +kernel
theorem dX0_solve_89 : decode cX0_solve 89 = .ok (.iload 7, 2) := by decide +kernel
theorem dX0_solve_91 : decode cX0_solve 91 = .ok (.iload 10, 2) := by decide +kernel
theorem dX0_solve_93 : decode cX0_solve 93 = .ok (.imul, 1) := by decide +kernel
theorem dX0_solve_94 : decode cX0_solve 94 = .ok (.iload 9, 2) := by decide +kernel
theorem dX0_solve_96 : decode cX0_solve 96 = .ok (.iadd, 1) := by decide +kernel
theorem dX0_solve_97 : decode cX0_solve 97 = .ok (.istore 11, 2) := by decide +kernel
theorem dX0_solve_99 : decode cX0_solve 99 = .ok (.aload_n 0, 1) := by decide +kernel
theorem dX0_solve_100 : decode cX0_solve 100 = .ok (.getfield 33, 3) := by decide +kernel
theorem dX0_solve_103 : decode cX0_solve 103 = .ok (.iload 10, 2) := by decide +kernel
theorem dX0_solve_105 : decode cX0_solve 105 = .ok (.iload 4, 2) := by decide +kernel
theorem dX0_solve_107 : decode cX0_solve 107 = .ok (.ifCond .eq 13, 3) := by decide +kernel
theorem dX0_solve_110 : decode cX0_solve 110 = .ok (.iload 11, 2) := by decide +kernel
theorem dX0_solve_112 : decode cX0_solve 112 = .ok (.iload 8, 2) := by decide +kernel
theorem dX0_solve_114 : decode cX0_solve 114 = .ok (.invokestatic 73, 3) := by decide +kernel
theorem dX0_solve_117 : decode cX0_solve 117 = .ok (.goto 10, 3) := by decide +kernel
theorem dX0_solve_120 : decode cX0_solve 120 = .ok (.iload 11, 2) := by decide +kernel
theorem dX0_solve_122 : decode cX0_solve 122 = .ok (.iload 8, 2) := by decide +kernel
theorem dX0_solve_124 : decode cX0_solve 124 = .ok (.invokestatic 76, 3) := by decide +kernel
theorem dX0_solve_127 : decode cX0_solve 127 = .ok (.iastore, 1) := by decide +kernel
theorem dX0_solve_128 : decode cX0_solve 128 = .ok (.iinc 10 1, 3) := by decide +kernel
theorem dX0_solve_131 : decode cX0_solve 131 = .ok (.goto (-49), 3) := by decide +kernel
theorem dX0_solve_134 : decode cX0_solve 134 = .ok (.return_, 1) := by decide +kernel
theorem dX0_zero_0 : decode cX0_zero 0 = .ok (.iload_n 1, 1) := by decide +kernel
theorem dX0_zero_1 : decode cX0_zero 1 = .ok (.ifCond .ne 14, 3) := by decide +kernel
theorem dX0_zero_4 : decode cX0_zero 4 = .ok (.iload_n 0, 1) := by decide +kernel
theorem dX0_zero_5 : decode cX0_zero 5 = .ok (.ifCond .ne 8, 3) := by decide +kernel
theorem dX0_zero_8 : decode cX0_zero 8 = .ok (.ldc 64, 2) := by decide +kernel
theorem dX0_zero_10 : decode cX0_zero 10 = .ok (.goto 4, 3) := by decide +kernel
theorem dX0_zero_13 : decode cX0_zero 13 = .ok (.iconst 0, 1) := by decide +kernel
theorem dX0_zero_14 : decode cX0_zero 14 = .ok (.ireturn, 1) := by decide +kernel
theorem dX0_zero_15 : decode cX0_zero 15 = .ok (.iload_n 0, 1) := by decide +kernel
theorem dX0_zero_16 : decode cX0_zero 16 = .ok (.ineg, 1) := by decide +kernel
theorem dX0_zero_17 : decode cX0_zero 17 = .ok (.iload_n 1, 1) := by decide +kernel
theorem dX0_zero_18 : decode cX0_zero 18 = .ok (.idiv, 1) := by decide +kernel
theorem dX0_zero_19 : decode cX0_zero 19 = .ok (.istore_n 2, 1) := by decide +kernel
theorem dX0_zero_20 : decode cX0_zero 20 = .ok (.iload_n 2, 1) := by decide +kernel
theorem dX0_zero_21 : decode cX0_zero 21 = .ok (.iload_n 1, 1) := by decide +kernel
theorem dX0_zero_22 : decode cX0_zero 22 = .ok (.imul, 1) := by decide +kernel
theorem dX0_zero_23 : decode cX0_zero 23 = .ok (.iload_n 0, 1) := by decide +kernel
theorem dX0_zero_24 : decode cX0_zero 24 = .ok (.ineg, 1) := by decide +kernel
theorem dX0_zero_25 : decode cX0_zero 25 = .ok (.if_icmp .ne 17, 3) := by decide +kernel
theorem dX0_zero_28 : decode cX0_zero 28 = .ok (.iload_n 2, 1) := by decide +kernel
theorem dX0_zero_29 : decode cX0_zero 29 = .ok (.ifCond .lt 13, 3) := by decide +kernel
theorem dX0_zero_32 : decode cX0_zero 32 = .ok (.iload_n 2, 1) := by decide +kernel
theorem dX0_zero_33 : decode cX0_zero 33 = .ok (.bipush 16, 2) := by decide +kernel
theorem dX0_zero_35 : decode cX0_zero 35 = .ok (.if_icmp .ge 7, 3) := by decide +kernel
theorem dX0_zero_38 : decode cX0_zero 38 = .ok (.iconst 1, 1) := by decide +kernel
theorem dX0_zero_39 : decode cX0_zero 39 = .ok (.goto 4, 3) := by decide +kernel
theorem dX0_zero_42 : decode cX0_zero 42 = .ok (.iconst 0, 1) := by decide +kernel
theorem dX0_zero_43 : decode cX0_zero 43 = .ok (.istore_n 3, 1) := by decide +kernel
theorem dX0_zero_44 : decode cX0_zero 44 = .ok (.iload_n 3, 1) := by decide +kernel
theorem dX0_zero_45 : decode cX0_zero 45 = .ok (.ifCond .eq 9, 3) := by decide +kernel
theorem dX0_zero_48 : decode cX0_zero 48 = .ok (.iconst 1, 1) := by decide +kernel
theorem dX0_zero_49 : decode cX0_zero 49 = .ok (.iload_n 2, 1) := by decide +kernel
theorem dX0_zero_50 : decode cX0_zero 50 = .ok (.ishl, 1) := by decide +kernel
theorem dX0_zero_51 : decode cX0_zero 51 = .ok (.goto 4, 3) := by decide +kernel
theorem dX0_zero_54 : decode cX0_zero 54 = .ok (.iconst 0, 1) := by decide +kernel
theorem dX0_zero_55 : decode cX0_zero 55 = .ok (.ireturn, 1) := by decide +kernel
theorem dX0_below_0 : decode cX0_below 0 = .ok (.iload_n 1, 1) := by decide +kernel
theorem dX0_below_1 : decode cX0_below 1 = .ok (.ifCond .ne 14, 3) := by decide +kernel
theorem dX0_below_4 : decode cX0_below 4 = .ok (.iload_n 0, 1) := by decide +kernel
theorem dX0_below_5 : decode cX0_below 5 = .ok (.ifCond .ge 8, 3) := by decide +kernel
theorem dX0_below_8 : decode cX0_below 8 = .ok (.ldc 64, 2) := by decide +kernel
theorem dX0_below_10 : decode cX0_below 10 = .ok (.goto 4, 3) := by decide +kernel
theorem dX0_below_13 : decode cX0_below 13 = .ok (.iconst 0, 1) := by decide +kernel
theorem dX0_below_14 : decode cX0_below 14 = .ok (.ireturn, 1) := by decide +kernel
theorem dX0_below_15 : decode cX0_below 15 = .ok (.iload_n 1, 1) := by decide +kernel
theorem dX0_below_16 : decode cX0_below 16 = .ok (.ifCond .le 17, 3) := by decide +kernel
theorem dX0_below_19 : decode cX0_below 19 = .ok (.iload_n 0, 1) := by decide +kernel
theorem dX0_below_20 : decode cX0_below 20 = .ok (.ineg, 1) := by decide +kernel
theorem dX0_below_21 : decode cX0_below 21 = .ok (.iconst 1, 1) := by decide +kernel
theorem dX0_below_22 : decode cX0_below 22 = .ok (.isub, 1) := by decide +kernel
theorem dX0_below_23 : decode cX0_below 23 = .ok (.iload_n 1, 1) := by decide +kernel
theorem dX0_below_24 : decode cX0_below 24 = .ok (.invokestatic 65, 3) := by decide +kernel
theorem dX0_below_27 : decode cX0_below 27 = .ok (.istore_n 2, 1) := by decide +kernel
theorem dX0_below_28 : decode cX0_below 28 = .ok (.iload_n 2, 1) := by decide +kernel
theorem dX0_below_29 : decode cX0_below 29 = .ok (.invokestatic 69, 3) := by decide +kernel
theorem dX0_below_32 : decode cX0_below 32 = .ok (.ireturn, 1) := by decide +kernel
theorem dX0_below_33 : decode cX0_below 33 = .ok (.iload_n 0, 1) := by decide +kernel
theorem dX0_below_34 : decode cX0_below 34 = .ok (.iload_n 1, 1) := by decide +kernel
theorem dX0_below_35 : decode cX0_below 35 = .ok (.ineg, 1) := by decide +kernel
theorem dX0_below_36 : decode cX0_below 36 = .ok (.invokestatic 65, 3) := by decide +kernel
theorem dX0_below_39 : decode cX0_below 39 = .ok (.istore_n 2, 1) := by decide +kernel
theorem dX0_below_40 : decode cX0_below 40 = .ok (.ldc 64, 2) := by decide +kernel
theorem dX0_below_42 : decode cX0_below 42 = .ok (.iload_n 2, 1) := by decide +kernel
theorem dX0_below_43 : decode cX0_below 43 = .ok (.invokestatic 69, 3) := by decide +kernel
theorem dX0_below_46 : decode cX0_below 46 = .ok (.iconst (-1), 1) := by decide +kernel
theorem dX0_below_47 : decode cX0_below 47 = .ok (.ixor, 1) := by decide +kernel
theorem dX0_below_48 : decode cX0_below 48 = .ok (.iand, 1) := by decide +kernel
theorem dX0_below_49 : decode cX0_below 49 = .ok (.ireturn, 1) := by decide +kernel
theorem dX0_floor_0 : decode cX0_floor 0 = .ok (.iload_n 1, 1) := by decide +kernel
theorem dX0_floor_1 : decode cX0_floor 1 = .ok (.ifCond .le 9, 3) := by decide +kernel
theorem dX0_floor_4 : decode cX0_floor 4 = .ok (.iload_n 0, 1) := by decide +kernel
theorem dX0_floor_5 : decode cX0_floor 5 = .ok (.iload_n 1, 1) := by decide +kernel
theorem dX0_floor_6 : decode cX0_floor 6 = .ok (.idiv, 1) := by decide +kernel
theorem dX0_floor_7 : decode cX0_floor 7 = .ok (.goto 4, 3) := by decide +kernel
theorem dX0_floor_10 : decode cX0_floor 10 = .ok (.iconst 0, 1) := by decide +kernel
theorem dX0_floor_11 : decode cX0_floor 11 = .ok (.istore_n 2, 1) := by decide +kernel
theorem dX0_floor_12 : decode cX0_floor 12 = .ok (.iload_n 2, 1) := by decide +kernel
theorem dX0_floor_13 : decode cX0_floor 13 = .ok (.iload_n 1, 1) := by decide +kernel
theorem dX0_floor_14 : decode cX0_floor 14 = .ok (.imul, 1) := by decide +kernel
theorem dX0_floor_15 : decode cX0_floor 15 = .ok (.iload_n 0, 1) := by decide +kernel
theorem dX0_floor_16 : decode cX0_floor 16 = .ok (.if_icmp .le 9, 3) := by decide +kernel
theorem dX0_floor_19 : decode cX0_floor 19 = .ok (.iload_n 2, 1) := by decide +kernel
theorem dX0_floor_20 : decode cX0_floor 20 = .ok (.iconst 1, 1) := by decide +kernel
theorem dX0_floor_21 : decode cX0_floor 21 = .ok (.isub, 1) := by decide +kernel
theorem dX0_floor_22 : decode cX0_floor 22 = .ok (.goto 4, 3) := by decide +kernel
theorem dX0_floor_25 : decode cX0_floor 25 = .ok (.iload_n 2, 1) := by decide +kernel
theorem dX0_floor_26 : decode cX0_floor 26 = .ok (.ireturn, 1) := by decide +kernel
theorem dX0_upTo_0 : decode cX0_upTo 0 = .ok (.iload_n 0, 1) := by decide +kernel
theorem dX0_upTo_1 : decode cX0_upTo 1 = .ok (.ifCond .ge 5, 3) := by decide +kernel
theorem dX0_upTo_4 : decode cX0_upTo 4 = .ok (.iconst 0, 1) := by decide +kernel
theorem dX0_upTo_5 : decode cX0_upTo 5 = .ok (.ireturn, 1) := by decide +kernel
theorem dX0_upTo_6 : decode cX0_upTo 6 = .ok (.iload_n 0, 1) := by decide +kernel
theorem dX0_upTo_7 : decode cX0_upTo 7 = .ok (.bipush 15, 2) := by decide +kernel
theorem dX0_upTo_9 : decode cX0_upTo 9 = .ok (.if_icmp .lt 8, 3) := by decide +kernel
theorem dX0_upTo_12 : decode cX0_upTo 12 = .ok (.ldc 64, 2) := by decide +kernel
theorem dX0_upTo_14 : decode cX0_upTo 14 = .ok (.goto 10, 3) := by decide +kernel
theorem dX0_upTo_17 : decode cX0_upTo 17 = .ok (.iconst 1, 1) := by decide +kernel
theorem dX0_upTo_18 : decode cX0_upTo 18 = .ok (.iload_n 0, 1) := by decide +kernel
theorem dX0_upTo_19 : decode cX0_upTo 19 = .ok (.iconst 1, 1) := by decide +kernel
theorem dX0_upTo_20 : decode cX0_upTo 20 = .ok (.iadd, 1) := by decide +kernel
theorem dX0_upTo_21 : decode cX0_upTo 21 = .ok (.ishl, 1) := by decide +kernel
theorem dX0_upTo_22 : decode cX0_upTo 22 = .ok (.iconst 1, 1) := by decide +kernel
theorem dX0_upTo_23 : decode cX0_upTo 23 = .ok (.isub, 1) := by decide +kernel
theorem dX0_upTo_24 : decode cX0_upTo 24 = .ok (.ireturn, 1) := by decide +kernel
theorem dX0_copyWay_0 : decode cX0_copyWay 0 = .ok (.aload_n 0, 1) := by decide +kernel
theorem dX0_copyWay_1 : decode cX0_copyWay 1 = .ok (.getfield 19, 3) := by decide +kernel
theorem dX0_copyWay_4 : decode cX0_copyWay 4 = .ok (.iload_n 2, 1) := by decide +kernel
theorem dX0_copyWay_5 : decode cX0_copyWay 5 = .ok (.aload_n 0, 1) := by decide +kernel
theorem dX0_copyWay_6 : decode cX0_copyWay 6 = .ok (.getfield 19, 3) := by decide +kernel
theorem dX0_copyWay_9 : decode cX0_copyWay 9 = .ok (.iload_n 1, 1) := by decide +kernel
theorem dX0_copyWay_10 : decode cX0_copyWay 10 = .ok (.baload, 1) := by decide +kernel
theorem dX0_copyWay_11 : decode cX0_copyWay 11 = .ok (.bastore, 1) := by decide +kernel
theorem dX0_copyWay_12 : decode cX0_copyWay 12 = .ok (.aload_n 0, 1) := by decide +kernel
theorem dX0_copyWay_13 : decode cX0_copyWay 13 = .ok (.getfield 22, 3) := by decide +kernel
theorem dX0_copyWay_16 : decode cX0_copyWay 16 = .ok (.iload_n 2, 1) := by decide +kernel
theorem dX0_copyWay_17 : decode cX0_copyWay 17 = .ok (.aload_n 0, 1) := by decide +kernel
theorem dX0_copyWay_18 : decode cX0_copyWay 18 = .ok (.getfield 22, 3) := by decide +kernel
theorem dX0_copyWay_21 : decode cX0_copyWay 21 = .ok (.iload_n 1, 1) := by decide +kernel
theorem dX0_copyWay_22 : decode cX0_copyWay 22 = .ok (.saload, 1) := by decide +kernel
theorem dX0_copyWay_23 : decode cX0_copyWay 23 = .ok (.sastore, 1) := by decide +kernel
theorem dX0_copyWay_24 : decode cX0_copyWay 24 = .ok (.iconst 0, 1) := by decide +kernel
theorem dX0_copyWay_25 : decode cX0_copyWay 25 = .ok (.istore_n 3, 1) := by decide +kernel
theorem dX0_copyWay_26 : decode cX0_copyWay 26 = .ok (.iload_n 3, 1) := by decide +kernel
theorem dX0_copyWay_27 : decode cX0_copyWay 27 = .ok (.bipush 16, 2) := by decide +kernel
theorem dX0_copyWay_29 : decode cX0_copyWay 29 = .ok (.if_icmp .ge 31, 3) := by decide +kernel
theorem dX0_copyWay_32 : decode cX0_copyWay 32 = .ok (.aload_n 0, 1) := by decide +kernel
theorem dX0_copyWay_33 : decode cX0_copyWay 33 = .ok (.getfield 26, 3) := by decide +kernel
theorem dX0_copyWay_36 : decode cX0_copyWay 36 = .ok (.iload_n 2, 1) := by decide +kernel
theorem dX0_copyWay_37 : decode cX0_copyWay 37 = .ok (.bipush 16, 2) := by decide +kernel
theorem dX0_copyWay_39 : decode cX0_copyWay 39 = .ok (.imul, 1) := by decide +kernel
theorem dX0_copyWay_40 : decode cX0_copyWay 40 = .ok (.iload_n 3, 1) := by decide +kernel
theorem dX0_copyWay_41 : decode cX0_copyWay 41 = .ok (.iadd, 1) := by decide +kernel
theorem dX0_copyWay_42 : decode cX0_copyWay 42 = .ok (.aload_n 0, 1) := by decide +kernel
theorem dX0_copyWay_43 : decode cX0_copyWay 43 = .ok (.getfield 26, 3) := by decide +kernel
theorem dX0_copyWay_46 : decode cX0_copyWay 46 = .ok (.iload_n 1, 1) := by decide +kernel
theorem dX0_copyWay_47 : decode cX0_copyWay 47 = .ok (.bipush 16, 2) := by decide +kernel
theorem dX0_copyWay_49 : decode cX0_copyWay 49 = .ok (.imul, 1) := by decide +kernel
theorem dX0_copyWay_50 : decode cX0_copyWay 50 = .ok (.iload_n 3, 1) := by decide +kernel
theorem dX0_copyWay_51 : decode cX0_copyWay 51 = .ok (.iadd, 1) := by decide +kernel
theorem dX0_copyWay_52 : decode cX0_copyWay 52 = .ok (.iaload, 1) := by decide +kernel
theorem dX0_copyWay_53 : decode cX0_copyWay 53 = .ok (.iastore, 1) := by decide +kernel
theorem dX0_copyWay_54 : decode cX0_copyWay 54 = .ok (.iinc 3 1, 3) := by decide +kernel
theorem dX0_copyWay_57 : decode cX0_copyWay 57 = .ok (.goto (-31), 3) := by decide +kernel
theorem dX0_copyWay_60 : decode cX0_copyWay 60 = .ok (.iconst 0, 1) := by decide +kernel
theorem dX0_copyWay_61 : decode cX0_copyWay 61 = .ok (.istore_n 3, 1) := by decide +kernel
theorem dX0_copyWay_62 : decode cX0_copyWay 62 = .ok (.iload_n 3, 1) := by decide +kernel
theorem dX0_copyWay_63 : decode cX0_copyWay 63 = .ok (.bipush 12, 2) := by decide +kernel
theorem dX0_copyWay_65 : decode cX0_copyWay 65 = .ok (.if_icmp .ge 31, 3) := by decide +kernel
theorem dX0_copyWay_68 : decode cX0_copyWay 68 = .ok (.aload_n 0, 1) := by decide +kernel
theorem dX0_copyWay_69 : decode cX0_copyWay 69 = .ok (.getfield 30, 3) := by decide +kernel
theorem dX0_copyWay_72 : decode cX0_copyWay 72 = .ok (.iload_n 2, 1) := by decide +kernel
theorem dX0_copyWay_73 : decode cX0_copyWay 73 = .ok (.bipush 12, 2) := by decide +kernel
theorem dX0_copyWay_75 : decode cX0_copyWay 75 = .ok (.imul, 1) := by decide +kernel
theorem dX0_copyWay_76 : decode cX0_copyWay 76 = .ok (.iload_n 3, 1) := by decide +kernel
theorem dX0_copyWay_77 : decode cX0_copyWay 77 = .ok (.iadd, 1) := by decide +kernel
theorem dX0_copyWay_78 : decode cX0_copyWay 78 = .ok (.aload_n 0, 1) := by decide +kernel
theorem dX0_copyWay_79 : decode cX0_copyWay 79 = .ok (.getfield 30, 3) := by decide +kernel
theorem dX0_copyWay_82 : decode cX0_copyWay 82 = .ok (.iload_n 1, 1) := by decide +kernel
theorem dX0_copyWay_83 : decode cX0_copyWay 83 = .ok (.bipush 12, 2) := by decide +kernel
theorem dX0_copyWay_85 : decode cX0_copyWay 85 = .ok (.imul, 1) := by decide +kernel
theorem dX0_copyWay_86 : decode cX0_copyWay 86 = .ok (.iload_n 3, 1) := by decide +kernel
theorem dX0_copyWay_87 : decode cX0_copyWay 87 = .ok (.iadd, 1) := by decide +kernel
theorem dX0_copyWay_88 : decode cX0_copyWay 88 = .ok (.iaload, 1) := by decide +kernel
theorem dX0_copyWay_89 : decode cX0_copyWay 89 = .ok (.iastore, 1) := by decide +kernel
theorem dX0_copyWay_90 : decode cX0_copyWay 90 = .ok (.iinc 3 1, 3) := by decide +kernel
theorem dX0_copyWay_93 : decode cX0_copyWay 93 = .ok (.goto (-31), 3) := by decide +kernel
theorem dX0_copyWay_96 : decode cX0_copyWay 96 = .ok (.return_, 1) := by decide +kernel
theorem dX0_keep_0 : decode cX0_keep 0 = .ok (.iconst 0, 1) := by decide +kernel
theorem dX0_keep_1 : decode cX0_keep 1 = .ok (.istore_n 3, 1) := by decide +kernel
theorem dX0_keep_2 : decode cX0_keep 2 = .ok (.iconst 0, 1) := by decide +kernel
theorem dX0_keep_3 : decode cX0_keep 3 = .ok (.istore 4, 2) := by decide +kernel
theorem dX0_keep_5 : decode cX0_keep 5 = .ok (.iload 4, 2) := by decide +kernel
theorem dX0_keep_7 : decode cX0_keep 7 = .ok (.bipush 16, 2) := by decide +kernel
theorem dX0_keep_9 : decode cX0_keep 9 = .ok (.if_icmp .ge 70, 3) := by decide +kernel
theorem dX0_keep_12 : decode cX0_keep 12 = .ok (.aload_n 0, 1) := by decide +kernel
theorem dX0_keep_13 : decode cX0_keep 13 = .ok (.getfield 26, 3) := by decide +kernel
theorem dX0_keep_16 : decode cX0_keep 16 = .ok (.iload_n 1, 1) := by decide +kernel
theorem dX0_keep_17 : decode cX0_keep 17 = .ok (.bipush 16, 2) := by decide +kernel
theorem dX0_keep_19 : decode cX0_keep 19 = .ok (.imul, 1) := by decide +kernel
theorem dX0_keep_20 : decode cX0_keep 20 = .ok (.iload 4, 2) := by decide +kernel
theorem dX0_keep_22 : decode cX0_keep 22 = .ok (.iadd, 1) := by decide +kernel
theorem dX0_keep_23 : decode cX0_keep 23 = .ok (.dup2, 1) := by decide +kernel
theorem dX0_keep_24 : decode cX0_keep 24 = .ok (.iaload, 1) := by decide +kernel
theorem dX0_keep_25 : decode cX0_keep 25 = .ok (.iload_n 2, 1) := by decide +kernel
theorem dX0_keep_26 : decode cX0_keep 26 = .ok (.ifCond .eq 13, 3) := by decide +kernel
theorem dX0_keep_29 : decode cX0_keep 29 = .ok (.aload_n 0, 1) := by decide +kernel
theorem dX0_keep_30 : decode cX0_keep 30 = .ok (.getfield 33, 3) := by decide +kernel
theorem dX0_keep_33 : decode cX0_keep 33 = .ok (.iload 4, 2) := by decide +kernel
theorem dX0_keep_35 : decode cX0_keep 35 = .ok (.iaload, 1) := by decide +kernel
theorem dX0_keep_36 : decode cX0_keep 36 = .ok (.goto 12, 3) := by decide +kernel
theorem dX0_keep_39 : decode cX0_keep 39 = .ok (.aload_n 0, 1) := by decide +kernel
theorem dX0_keep_40 : decode cX0_keep 40 = .ok (.getfield 33, 3) := by decide +kernel
theorem dX0_keep_43 : decode cX0_keep 43 = .ok (.iload 4, 2) := by decide +kernel
theorem dX0_keep_45 : decode cX0_keep 45 = .ok (.iaload, 1) := by decide +kernel
theorem dX0_keep_46 : decode cX0_keep 46 = .ok (.iconst (-1), 1) := by decide +kernel
theorem dX0_keep_47 : decode cX0_keep 47 = .ok (.ixor, 1) := by decide +kernel
theorem dX0_keep_48 : decode cX0_keep 48 = .ok (.iand, 1) := by decide +kernel
theorem dX0_keep_49 : decode cX0_keep 49 = .ok (.iastore, 1) := by decide +kernel
theorem dX0_keep_50 : decode cX0_keep 50 = .ok (.iload_n 3, 1) := by decide +kernel
end
section
set_option maxRecDepth 100000
theorem dX0_keep_51 : decode cX0_keep 51 = .ok (.aload_n 0, 1) := by decide +kernel
theorem dX0_keep_52 : decode cX0_keep 52 = .ok (.getfield 26, 3) := by decide +kernel
theorem dX0_keep_55 : decode cX0_keep 55 = .ok (.iload_n 1, 1) := by decide +kernel
theorem dX0_keep_56 : decode cX0_keep 56 = .ok (.bipush 16, 2) := by decide +kernel
theorem dX0_keep_58 : decode cX0_keep 58 = .ok (.imul, 1) := by decide +kernel
theorem dX0_keep_59 : decode cX0_keep 59 = .ok (.iload 4, 2) := by decide +kernel
theorem dX0_keep_61 : decode cX0_keep 61 = .ok (.iadd, 1) := by decide +kernel
theorem dX0_keep_62 : decode cX0_keep 62 = .ok (.iaload, 1) := by decide +kernel
theorem dX0_keep_63 : decode cX0_keep 63 = .ok (.ifCond .eq 7, 3) := by decide +kernel
theorem dX0_keep_66 : decode cX0_keep 66 = .ok (.iconst 1, 1) := by decide +kernel
theorem dX0_keep_67 : decode cX0_keep 67 = .ok (.goto 4, 3) := by decide +kernel
theorem dX0_keep_70 : decode cX0_keep 70 = .ok (.iconst 0, 1) := by decide +kernel
theorem dX0_keep_71 : decode cX0_keep 71 = .ok (.ior, 1) := by decide +kernel
theorem dX0_keep_72 : decode cX0_keep 72 = .ok (.istore_n 3, 1) := by decide +kernel
theorem dX0_keep_73 : decode cX0_keep 73 = .ok (.iinc 4 1, 3) := by decide +kernel
theorem dX0_keep_76 : decode cX0_keep 76 = .ok (.goto (-71), 3) := by decide +kernel
theorem dX0_keep_79 : decode cX0_keep 79 = .ok (.iload_n 3, 1) := by decide +kernel
theorem dX0_keep_80 : decode cX0_keep 80 = .ok (.ireturn, 1) := by decide +kernel
theorem dX0_part_0 : decode cX0_part 0 = .ok (.aload_n 0, 1) := by decide +kernel
theorem dX0_part_1 : decode cX0_part 1 = .ok (.iload_n 1, 1) := by decide +kernel
theorem dX0_part_2 : decode cX0_part 2 = .ok (.iload_n 3, 1) := by decide +kernel
theorem dX0_part_3 : decode cX0_part 3 = .ok (.iload 4, 2) := by decide +kernel
theorem dX0_part_5 : decode cX0_part 5 = .ok (.iload 5, 2) := by decide +kernel
theorem dX0_part_7 : decode cX0_part 7 = .ok (.invokevirtual 102, 3) := by decide +kernel
theorem dX0_part_10 : decode cX0_part 10 = .ok (.aload_n 0, 1) := by decide +kernel
theorem dX0_part_11 : decode cX0_part 11 = .ok (.iload_n 1, 1) := by decide +kernel
theorem dX0_part_12 : decode cX0_part 12 = .ok (.iload_n 1, 1) := by decide +kernel
theorem dX0_part_13 : decode cX0_part 13 = .ok (.iconst 1, 1) := by decide +kernel
theorem dX0_part_14 : decode cX0_part 14 = .ok (.iadd, 1) := by decide +kernel
theorem dX0_part_15 : decode cX0_part 15 = .ok (.invokevirtual 106, 3) := by decide +kernel
theorem dX0_part_18 : decode cX0_part 18 = .ok (.aload_n 0, 1) := by decide +kernel
theorem dX0_part_19 : decode cX0_part 19 = .ok (.getfield 19, 3) := by decide +kernel
theorem dX0_part_22 : decode cX0_part 22 = .ok (.iload_n 1, 1) := by decide +kernel
theorem dX0_part_23 : decode cX0_part 23 = .ok (.iconst 1, 1) := by decide +kernel
theorem dX0_part_24 : decode cX0_part 24 = .ok (.iadd, 1) := by decide +kernel
theorem dX0_part_25 : decode cX0_part 25 = .ok (.aload_n 0, 1) := by decide +kernel
theorem dX0_part_26 : decode cX0_part 26 = .ok (.getfield 16, 3) := by decide +kernel
theorem dX0_part_29 : decode cX0_part 29 = .ok (.iload_n 2, 1) := by decide +kernel
theorem dX0_part_30 : decode cX0_part 30 = .ok (.baload, 1) := by decide +kernel
theorem dX0_part_31 : decode cX0_part 31 = .ok (.bastore, 1) := by decide +kernel
theorem dX0_part_32 : decode cX0_part 32 = .ok (.aload_n 0, 1) := by decide +kernel
theorem dX0_part_33 : decode cX0_part 33 = .ok (.iload_n 1, 1) := by decide +kernel
theorem dX0_part_34 : decode cX0_part 34 = .ok (.iconst 1, 1) := by decide +kernel
theorem dX0_part_35 : decode cX0_part 35 = .ok (.iadd, 1) := by decide +kernel
theorem dX0_part_36 : decode cX0_part 36 = .ok (.iconst 1, 1) := by decide +kernel
theorem dX0_part_37 : decode cX0_part 37 = .ok (.invokevirtual 110, 3) := by decide +kernel
theorem dX0_part_40 : decode cX0_part 40 = .ok (.istore 6, 2) := by decide +kernel
theorem dX0_part_42 : decode cX0_part 42 = .ok (.aload_n 0, 1) := by decide +kernel
theorem dX0_part_43 : decode cX0_part 43 = .ok (.iload_n 1, 1) := by decide +kernel
theorem dX0_part_44 : decode cX0_part 44 = .ok (.iconst 0, 1) := by decide +kernel
theorem dX0_part_45 : decode cX0_part 45 = .ok (.invokevirtual 110, 3) := by decide +kernel
theorem dX0_part_48 : decode cX0_part 48 = .ok (.istore 7, 2) := by decide +kernel
theorem dX0_part_50 : decode cX0_part 50 = .ok (.iload 7, 2) := by decide +kernel
theorem dX0_part_52 : decode cX0_part 52 = .ok (.ifCond .ne 14, 3) := by decide +kernel
theorem dX0_part_55 : decode cX0_part 55 = .ok (.aload_n 0, 1) := by decide +kernel
theorem dX0_part_56 : decode cX0_part 56 = .ok (.iload_n 1, 1) := by decide +kernel
theorem dX0_part_57 : decode cX0_part 57 = .ok (.iconst 1, 1) := by decide +kernel
theorem dX0_part_58 : decode cX0_part 58 = .ok (.iadd, 1) := by decide +kernel
theorem dX0_part_59 : decode cX0_part 59 = .ok (.iload_n 1, 1) := by decide +kernel
theorem dX0_part_60 : decode cX0_part 60 = .ok (.invokevirtual 106, 3) := by decide +kernel
theorem dX0_part_63 : decode cX0_part 63 = .ok (.goto 18, 3) := by decide +kernel
theorem dX0_part_66 : decode cX0_part 66 = .ok (.iload 6, 2) := by decide +kernel
theorem dX0_part_68 : decode cX0_part 68 = .ok (.ifCond .eq 13, 3) := by decide +kernel
theorem dX0_part_71 : decode cX0_part 71 = .ok (.aload_n 0, 1) := by decide +kernel
theorem dX0_part_72 : decode cX0_part 72 = .ok (.dup, 1) := by decide +kernel
theorem dX0_part_73 : decode cX0_part 73 = .ok (.getfield 79, 3) := by decide +kernel
theorem dX0_part_76 : decode cX0_part 76 = .ok (.iconst 1, 1) := by decide +kernel
theorem dX0_part_77 : decode cX0_part 77 = .ok (.iadd, 1) := by decide +kernel
theorem dX0_part_78 : decode cX0_part 78 = .ok (.putfield 79, 3) := by decide +kernel
theorem dX0_part_81 : decode cX0_part 81 = .ok (.return_, 1) := by decide +kernel
theorem dX0_firstAt_0 : decode cX0_firstAt 0 = .ok (.aload_n 0, 1) := by decide +kernel
theorem dX0_firstAt_1 : decode cX0_firstAt 1 = .ok (.iload_n 1, 1) := by decide +kernel
theorem dX0_firstAt_2 : decode cX0_firstAt 2 = .ok (.invokevirtual 114, 3) := by decide +kernel
theorem dX0_firstAt_5 : decode cX0_firstAt 5 = .ok (.ifCond .ne 5, 3) := by decide +kernel
theorem dX0_firstAt_8 : decode cX0_firstAt 8 = .ok (.iconst (-1), 1) := by decide +kernel
theorem dX0_firstAt_9 : decode cX0_firstAt 9 = .ok (.ireturn, 1) := by decide +kernel
theorem dX0_firstAt_10 : decode cX0_firstAt 10 = .ok (.aload_n 0, 1) := by decide +kernel
theorem dX0_firstAt_11 : decode cX0_firstAt 11 = .ok (.invokevirtual 118, 3) := by decide +kernel
theorem dX0_firstAt_14 : decode cX0_firstAt 14 = .ok (.iload_n 2, 1) := by decide +kernel
theorem dX0_firstAt_15 : decode cX0_firstAt 15 = .ok (.ifCond .ge 7, 3) := by decide +kernel
theorem dX0_firstAt_18 : decode cX0_firstAt 18 = .ok (.iconst 0, 1) := by decide +kernel
theorem dX0_firstAt_19 : decode cX0_firstAt 19 = .ok (.goto 4, 3) := by decide +kernel
theorem dX0_firstAt_22 : decode cX0_firstAt 22 = .ok (.iload_n 2, 1) := by decide +kernel
theorem dX0_firstAt_23 : decode cX0_firstAt 23 = .ok (.istore_n 3, 1) := by decide +kernel
theorem dX0_firstAt_24 : decode cX0_firstAt 24 = .ok (.iload_n 3, 1) := by decide +kernel
theorem dX0_firstAt_25 : decode cX0_firstAt 25 = .ok (.sipush 256, 3) := by decide +kernel
theorem dX0_firstAt_28 : decode cX0_firstAt 28 = .ok (.if_icmp .ge 24, 3) := by decide +kernel
theorem dX0_firstAt_31 : decode cX0_firstAt 31 = .ok (.aload_n 0, 1) := by decide +kernel
theorem dX0_firstAt_32 : decode cX0_firstAt 32 = .ok (.getfield 36, 3) := by decide +kernel
theorem dX0_firstAt_35 : decode cX0_firstAt 35 = .ok (.iload_n 3, 1) := by decide +kernel
theorem dX0_firstAt_36 : decode cX0_firstAt 36 = .ok (.saload, 1) := by decide +kernel
theorem dX0_firstAt_37 : decode cX0_firstAt 37 = .ok (.iload_n 1, 1) := by decide +kernel
theorem dX0_firstAt_38 : decode cX0_firstAt 38 = .ok (.ishr, 1) := by decide +kernel
theorem dX0_firstAt_39 : decode cX0_firstAt 39 = .ok (.iconst 1, 1) := by decide +kernel
theorem dX0_firstAt_40 : decode cX0_firstAt 40 = .ok (.iand, 1) := by decide +kernel
theorem dX0_firstAt_41 : decode cX0_firstAt 41 = .ok (.ifCond .eq 5, 3) := by decide +kernel
theorem dX0_firstAt_44 : decode cX0_firstAt 44 = .ok (.iload_n 3, 1) := by decide +kernel
theorem dX0_firstAt_45 : decode cX0_firstAt 45 = .ok (.ireturn, 1) := by decide +kernel
theorem dX0_firstAt_46 : decode cX0_firstAt 46 = .ok (.iinc 3 1, 3) := by decide +kernel
theorem dX0_firstAt_49 : decode cX0_firstAt 49 = .ok (.goto (-25), 3) := by decide +kernel
theorem dX0_firstAt_52 : decode cX0_firstAt 52 = .ok (.iconst (-1), 1) := by decide +kernel
theorem dX0_firstAt_53 : decode cX0_firstAt 53 = .ok (.ireturn, 1) := by decide +kernel
theorem dX0_failing_0 : decode cX0_failing 0 = .ok (.aload_n 0, 1) := by decide +kernel
theorem dX0_failing_1 : decode cX0_failing 1 = .ok (.invokevirtual 118, 3) := by decide +kernel
theorem dX0_failing_4 : decode cX0_failing 4 = .ok (.iconst 0, 1) := by decide +kernel
theorem dX0_failing_5 : decode cX0_failing 5 = .ok (.istore_n 1, 1) := by decide +kernel
theorem dX0_failing_6 : decode cX0_failing 6 = .ok (.iconst 0, 1) := by decide +kernel
theorem dX0_failing_7 : decode cX0_failing 7 = .ok (.istore_n 2, 1) := by decide +kernel
theorem dX0_failing_8 : decode cX0_failing 8 = .ok (.iload_n 2, 1) := by decide +kernel
theorem dX0_failing_9 : decode cX0_failing 9 = .ok (.sipush 256, 3) := by decide +kernel
theorem dX0_failing_12 : decode cX0_failing 12 = .ok (.if_icmp .ge 26, 3) := by decide +kernel
theorem dX0_failing_15 : decode cX0_failing 15 = .ok (.iload_n 1, 1) := by decide +kernel
theorem dX0_failing_16 : decode cX0_failing 16 = .ok (.aload_n 0, 1) := by decide +kernel
theorem dX0_failing_17 : decode cX0_failing 17 = .ok (.getfield 39, 3) := by decide +kernel
theorem dX0_failing_20 : decode cX0_failing 20 = .ok (.iload_n 2, 1) := by decide +kernel
theorem dX0_failing_21 : decode cX0_failing 21 = .ok (.baload, 1) := by decide +kernel
theorem dX0_failing_22 : decode cX0_failing 22 = .ok (.ifCond .eq 7, 3) := by decide +kernel
theorem dX0_failing_25 : decode cX0_failing 25 = .ok (.iconst 1, 1) := by decide +kernel
theorem dX0_failing_26 : decode cX0_failing 26 = .ok (.goto 4, 3) := by decide +kernel
theorem dX0_failing_29 : decode cX0_failing 29 = .ok (.iconst 0, 1) := by decide +kernel
theorem dX0_failing_30 : decode cX0_failing 30 = .ok (.iadd, 1) := by decide +kernel
theorem dX0_failing_31 : decode cX0_failing 31 = .ok (.istore_n 1, 1) := by decide +kernel
theorem dX0_failing_32 : decode cX0_failing 32 = .ok (.iinc 2 1, 3) := by decide +kernel
theorem dX0_failing_35 : decode cX0_failing 35 = .ok (.goto (-27), 3) := by decide +kernel
theorem dX0_failing_38 : decode cX0_failing 38 = .ok (.iload_n 1, 1) := by decide +kernel
theorem dX0_failing_39 : decode cX0_failing 39 = .ok (.ireturn, 1) := by decide +kernel
theorem dX0_firstFailing_0 : decode cX0_firstFailing 0 = .ok (.aload_n 0, 1) := by decide +kernel
theorem dX0_firstFailing_1 : decode cX0_firstFailing 1 = .ok (.invokevirtual 118, 3) := by decide +kernel
theorem dX0_firstFailing_4 : decode cX0_firstFailing 4 = .ok (.iload_n 1, 1) := by decide +kernel
theorem dX0_firstFailing_5 : decode cX0_firstFailing 5 = .ok (.ifCond .ge 7, 3) := by decide +kernel
theorem dX0_firstFailing_8 : decode cX0_firstFailing 8 = .ok (.iconst 0, 1) := by decide +kernel
theorem dX0_firstFailing_9 : decode cX0_firstFailing 9 = .ok (.goto 4, 3) := by decide +kernel
theorem dX0_firstFailing_12 : decode cX0_firstFailing 12 = .ok (.iload_n 1, 1) := by decide +kernel
theorem dX0_firstFailing_13 : decode cX0_firstFailing 13 = .ok (.istore_n 2, 1) := by decide +kernel
theorem dX0_firstFailing_14 : decode cX0_firstFailing 14 = .ok (.iload_n 2, 1) := by decide +kernel
theorem dX0_firstFailing_15 : decode cX0_firstFailing 15 = .ok (.sipush 256, 3) := by decide +kernel
theorem dX0_firstFailing_18 : decode cX0_firstFailing 18 = .ok (.if_icmp .ge 20, 3) := by decide +kernel
theorem dX0_firstFailing_21 : decode cX0_firstFailing 21 = .ok (.aload_n 0, 1) := by decide +kernel
theorem dX0_firstFailing_22 : decode cX0_firstFailing 22 = .ok (.getfield 39, 3) := by decide +kernel
theorem dX0_firstFailing_25 : decode cX0_firstFailing 25 = .ok (.iload_n 2, 1) := by decide +kernel
theorem dX0_firstFailing_26 : decode cX0_firstFailing 26 = .ok (.baload, 1) := by decide +kernel
theorem dX0_firstFailing_27 : decode cX0_firstFailing 27 = .ok (.ifCond .eq 5, 3) := by decide +kernel
theorem dX0_firstFailing_30 : decode cX0_firstFailing 30 = .ok (.iload_n 2, 1) := by decide +kernel
theorem dX0_firstFailing_31 : decode cX0_firstFailing 31 = .ok (.ireturn, 1) := by decide +kernel
theorem dX0_firstFailing_32 : decode cX0_firstFailing 32 = .ok (.iinc 2 1, 3) := by decide +kernel
theorem dX0_firstFailing_35 : decode cX0_firstFailing 35 = .ok (.goto (-21), 3) := by decide +kernel
theorem dX0_firstFailing_38 : decode cX0_firstFailing 38 = .ok (.iconst (-1), 1) := by decide +kernel
theorem dX0_firstFailing_39 : decode cX0_firstFailing 39 = .ok (.ireturn, 1) := by decide +kernel
theorem dX0_paths_0 : decode cX0_paths 0 = .ok (.aload_n 0, 1) := by decide +kernel
theorem dX0_paths_1 : decode cX0_paths 1 = .ok (.invokevirtual 118, 3) := by decide +kernel
theorem dX0_paths_4 : decode cX0_paths 4 = .ok (.iconst 0, 1) := by decide +kernel
theorem dX0_paths_5 : decode cX0_paths 5 = .ok (.istore_n 1, 1) := by decide +kernel
theorem dX0_paths_6 : decode cX0_paths 6 = .ok (.iconst 0, 1) := by decide +kernel
theorem dX0_paths_7 : decode cX0_paths 7 = .ok (.istore_n 2, 1) := by decide +kernel
theorem dX0_paths_8 : decode cX0_paths 8 = .ok (.iload_n 2, 1) := by decide +kernel
theorem dX0_paths_9 : decode cX0_paths 9 = .ok (.sipush 256, 3) := by decide +kernel
theorem dX0_paths_12 : decode cX0_paths 12 = .ok (.if_icmp .ge 26, 3) := by decide +kernel
theorem dX0_paths_15 : decode cX0_paths 15 = .ok (.iload_n 1, 1) := by decide +kernel
theorem dX0_paths_16 : decode cX0_paths 16 = .ok (.aload_n 0, 1) := by decide +kernel
theorem dX0_paths_17 : decode cX0_paths 17 = .ok (.iload_n 2, 1) := by decide +kernel
theorem dX0_paths_18 : decode cX0_paths 18 = .ok (.invokevirtual 121, 3) := by decide +kernel
theorem dX0_paths_21 : decode cX0_paths 21 = .ok (.iload_n 2, 1) := by decide +kernel
theorem dX0_paths_22 : decode cX0_paths 22 = .ok (.if_icmp .ne 7, 3) := by decide +kernel
theorem dX0_paths_25 : decode cX0_paths 25 = .ok (.iconst 1, 1) := by decide +kernel
theorem dX0_paths_26 : decode cX0_paths 26 = .ok (.goto 4, 3) := by decide +kernel
theorem dX0_paths_29 : decode cX0_paths 29 = .ok (.iconst 0, 1) := by decide +kernel
theorem dX0_paths_30 : decode cX0_paths 30 = .ok (.iadd, 1) := by decide +kernel
theorem dX0_paths_31 : decode cX0_paths 31 = .ok (.istore_n 1, 1) := by decide +kernel
theorem dX0_paths_32 : decode cX0_paths 32 = .ok (.iinc 2 1, 3) := by decide +kernel
theorem dX0_paths_35 : decode cX0_paths 35 = .ok (.goto (-27), 3) := by decide +kernel
theorem dX0_paths_38 : decode cX0_paths 38 = .ok (.iload_n 1, 1) := by decide +kernel
theorem dX0_paths_39 : decode cX0_paths 39 = .ok (.ireturn, 1) := by decide +kernel
theorem dX0_firstLike_0 : decode cX0_firstLike 0 = .ok (.iconst 0, 1) := by decide +kernel
theorem dX0_firstLike_1 : decode cX0_firstLike 1 = .ok (.istore_n 2, 1) := by decide +kernel
theorem dX0_firstLike_2 : decode cX0_firstLike 2 = .ok (.aload_n 0, 1) := by decide +kernel
theorem dX0_firstLike_3 : decode cX0_firstLike 3 = .ok (.getfield 36, 3) := by decide +kernel
theorem dX0_firstLike_6 : decode cX0_firstLike 6 = .ok (.iload_n 2, 1) := by decide +kernel
theorem dX0_firstLike_7 : decode cX0_firstLike 7 = .ok (.saload, 1) := by decide +kernel
theorem dX0_firstLike_8 : decode cX0_firstLike 8 = .ok (.aload_n 0, 1) := by decide +kernel
theorem dX0_firstLike_9 : decode cX0_firstLike 9 = .ok (.getfield 36, 3) := by decide +kernel
theorem dX0_firstLike_12 : decode cX0_firstLike 12 = .ok (.iload_n 1, 1) := by decide +kernel
theorem dX0_firstLike_13 : decode cX0_firstLike 13 = .ok (.saload, 1) := by decide +kernel
theorem dX0_firstLike_14 : decode cX0_firstLike 14 = .ok (.if_icmp .eq 9, 3) := by decide +kernel
theorem dX0_firstLike_17 : decode cX0_firstLike 17 = .ok (.iinc 2 1, 3) := by decide +kernel
theorem dX0_firstLike_20 : decode cX0_firstLike 20 = .ok (.goto (-18), 3) := by decide +kernel
theorem dX0_firstLike_23 : decode cX0_firstLike 23 = .ok (.iload_n 2, 1) := by decide +kernel
theorem dX0_firstLike_24 : decode cX0_firstLike 24 = .ok (.ireturn, 1) := by decide +kernel
theorem dX0_alike_0 : decode cX0_alike 0 = .ok (.iload_n 1, 1) := by decide +kernel
theorem dX0_alike_1 : decode cX0_alike 1 = .ok (.invokestatic 124, 3) := by decide +kernel
theorem dX0_alike_4 : decode cX0_alike 4 = .ok (.ifCond .ne 5, 3) := by decide +kernel
theorem dX0_alike_7 : decode cX0_alike 7 = .ok (.iconst (-1), 1) := by decide +kernel
theorem dX0_alike_8 : decode cX0_alike 8 = .ok (.ireturn, 1) := by decide +kernel
theorem dX0_alike_9 : decode cX0_alike 9 = .ok (.aload_n 0, 1) := by decide +kernel
theorem dX0_alike_10 : decode cX0_alike 10 = .ok (.invokevirtual 118, 3) := by decide +kernel
theorem dX0_alike_13 : decode cX0_alike 13 = .ok (.iconst 0, 1) := by decide +kernel
theorem dX0_alike_14 : decode cX0_alike 14 = .ok (.istore_n 2, 1) := by decide +kernel
theorem dX0_alike_15 : decode cX0_alike 15 = .ok (.iconst 0, 1) := by decide +kernel
theorem dX0_alike_16 : decode cX0_alike 16 = .ok (.istore_n 3, 1) := by decide +kernel
theorem dX0_alike_17 : decode cX0_alike 17 = .ok (.iload_n 3, 1) := by decide +kernel
theorem dX0_alike_18 : decode cX0_alike 18 = .ok (.sipush 256, 3) := by decide +kernel
theorem dX0_alike_21 : decode cX0_alike 21 = .ok (.if_icmp .ge 32, 3) := by decide +kernel
theorem dX0_alike_24 : decode cX0_alike 24 = .ok (.iload_n 2, 1) := by decide +kernel
theorem dX0_alike_25 : decode cX0_alike 25 = .ok (.aload_n 0, 1) := by decide +kernel
theorem dX0_alike_26 : decode cX0_alike 26 = .ok (.getfield 36, 3) := by decide +kernel
theorem dX0_alike_29 : decode cX0_alike 29 = .ok (.iload_n 3, 1) := by decide +kernel
theorem dX0_alike_30 : decode cX0_alike 30 = .ok (.saload, 1) := by decide +kernel
theorem dX0_alike_31 : decode cX0_alike 31 = .ok (.aload_n 0, 1) := by decide +kernel
theorem dX0_alike_32 : decode cX0_alike 32 = .ok (.getfield 36, 3) := by decide +kernel
theorem dX0_alike_35 : decode cX0_alike 35 = .ok (.iload_n 1, 1) := by decide +kernel
theorem dX0_alike_36 : decode cX0_alike 36 = .ok (.saload, 1) := by decide +kernel
theorem dX0_alike_37 : decode cX0_alike 37 = .ok (.if_icmp .ne 7, 3) := by decide +kernel
theorem dX0_alike_40 : decode cX0_alike 40 = .ok (.iconst 1, 1) := by decide +kernel
theorem dX0_alike_41 : decode cX0_alike 41 = .ok (.goto 4, 3) := by decide +kernel
theorem dX0_alike_44 : decode cX0_alike 44 = .ok (.iconst 0, 1) := by decide +kernel
theorem dX0_alike_45 : decode cX0_alike 45 = .ok (.iadd, 1) := by decide +kernel
theorem dX0_alike_46 : decode cX0_alike 46 = .ok (.istore_n 2, 1) := by decide +kernel
theorem dX0_alike_47 : decode cX0_alike 47 = .ok (.iinc 3 1, 3) := by decide +kernel
theorem dX0_alike_50 : decode cX0_alike 50 = .ok (.goto (-33), 3) := by decide +kernel
theorem dX0_alike_53 : decode cX0_alike 53 = .ok (.iload_n 2, 1) := by decide +kernel
theorem dX0_alike_54 : decode cX0_alike 54 = .ok (.ireturn, 1) := by decide +kernel
theorem dX0_isInput_0 : decode cX0_isInput 0 = .ok (.iload_n 0, 1) := by decide +kernel
theorem dX0_isInput_1 : decode cX0_isInput 1 = .ok (.ifCond .lt 14, 3) := by decide +kernel
theorem dX0_isInput_4 : decode cX0_isInput 4 = .ok (.iload_n 0, 1) := by decide +kernel
theorem dX0_isInput_5 : decode cX0_isInput 5 = .ok (.sipush 256, 3) := by decide +kernel
theorem dX0_isInput_8 : decode cX0_isInput 8 = .ok (.if_icmp .ge 7, 3) := by decide +kernel
theorem dX0_isInput_11 : decode cX0_isInput 11 = .ok (.iconst 1, 1) := by decide +kernel
theorem dX0_isInput_12 : decode cX0_isInput 12 = .ok (.goto 4, 3) := by decide +kernel
theorem dX0_isInput_15 : decode cX0_isInput 15 = .ok (.iconst 0, 1) := by decide +kernel
theorem dX0_isInput_16 : decode cX0_isInput 16 = .ok (.ireturn, 1) := by decide +kernel
theorem dX0_first_0 : decode cX0_first 0 = .ok (.iload_n 1, 1) := by decide +kernel
theorem dX0_first_1 : decode cX0_first 1 = .ok (.invokestatic 124, 3) := by decide +kernel
theorem dX0_first_4 : decode cX0_first 4 = .ok (.ifCond .ne 5, 3) := by decide +kernel
theorem dX0_first_7 : decode cX0_first 7 = .ok (.iconst (-1), 1) := by decide +kernel
theorem dX0_first_8 : decode cX0_first 8 = .ok (.ireturn, 1) := by decide +kernel
theorem dX0_first_9 : decode cX0_first 9 = .ok (.aload_n 0, 1) := by decide +kernel
theorem dX0_first_10 : decode cX0_first 10 = .ok (.invokevirtual 118, 3) := by decide +kernel
theorem dX0_first_13 : decode cX0_first 13 = .ok (.aload_n 0, 1) := by decide +kernel
theorem dX0_first_14 : decode cX0_first 14 = .ok (.iload_n 1, 1) := by decide +kernel
theorem dX0_first_15 : decode cX0_first 15 = .ok (.invokevirtual 121, 3) := by decide +kernel
theorem dX0_first_18 : decode cX0_first 18 = .ok (.ireturn, 1) := by decide +kernel
theorem dX0_mark_0 : decode cX0_mark 0 = .ok (.iload_n 1, 1) := by decide +kernel
theorem dX0_mark_1 : decode cX0_mark 1 = .ok (.invokestatic 124, 3) := by decide +kernel
theorem dX0_mark_4 : decode cX0_mark 4 = .ok (.ifCond .ne 5, 3) := by decide +kernel
theorem dX0_mark_7 : decode cX0_mark 7 = .ok (.iconst (-1), 1) := by decide +kernel
theorem dX0_mark_8 : decode cX0_mark 8 = .ok (.ireturn, 1) := by decide +kernel
theorem dX0_mark_9 : decode cX0_mark 9 = .ok (.aload_n 0, 1) := by decide +kernel
theorem dX0_mark_10 : decode cX0_mark 10 = .ok (.invokevirtual 118, 3) := by decide +kernel
theorem dX0_mark_13 : decode cX0_mark 13 = .ok (.iconst 0, 1) := by decide +kernel
theorem dX0_mark_14 : decode cX0_mark 14 = .ok (.istore_n 2, 1) := by decide +kernel
theorem dX0_mark_15 : decode cX0_mark 15 = .ok (.iconst 0, 1) := by decide +kernel
theorem dX0_mark_16 : decode cX0_mark 16 = .ok (.istore_n 3, 1) := by decide +kernel
theorem dX0_mark_17 : decode cX0_mark 17 = .ok (.iload_n 3, 1) := by decide +kernel
theorem dX0_mark_18 : decode cX0_mark 18 = .ok (.sipush 256, 3) := by decide +kernel
theorem dX0_mark_21 : decode cX0_mark 21 = .ok (.if_icmp .ge 64, 3) := by decide +kernel
theorem dX0_mark_24 : decode cX0_mark 24 = .ok (.aload_n 0, 1) := by decide +kernel
theorem dX0_mark_25 : decode cX0_mark 25 = .ok (.getfield 46, 3) := by decide +kernel
theorem dX0_mark_28 : decode cX0_mark 28 = .ok (.iload_n 3, 1) := by decide +kernel
theorem dX0_mark_29 : decode cX0_mark 29 = .ok (.dup2, 1) := by decide +kernel
theorem dX0_mark_30 : decode cX0_mark 30 = .ok (.baload, 1) := by decide +kernel
theorem dX0_mark_31 : decode cX0_mark 31 = .ok (.aload_n 0, 1) := by decide +kernel
theorem dX0_mark_32 : decode cX0_mark 32 = .ok (.getfield 36, 3) := by decide +kernel
theorem dX0_mark_35 : decode cX0_mark 35 = .ok (.iload_n 3, 1) := by decide +kernel
theorem dX0_mark_36 : decode cX0_mark 36 = .ok (.saload, 1) := by decide +kernel
theorem dX0_mark_37 : decode cX0_mark 37 = .ok (.aload_n 0, 1) := by decide +kernel
theorem dX0_mark_38 : decode cX0_mark 38 = .ok (.getfield 36, 3) := by decide +kernel
theorem dX0_mark_41 : decode cX0_mark 41 = .ok (.iload_n 1, 1) := by decide +kernel
theorem dX0_mark_42 : decode cX0_mark 42 = .ok (.saload, 1) := by decide +kernel
theorem dX0_mark_43 : decode cX0_mark 43 = .ok (.if_icmp .ne 7, 3) := by decide +kernel
theorem dX0_mark_46 : decode cX0_mark 46 = .ok (.iconst 1, 1) := by decide +kernel
theorem dX0_mark_47 : decode cX0_mark 47 = .ok (.goto 4, 3) := by decide +kernel
theorem dX0_mark_50 : decode cX0_mark 50 = .ok (.iconst 0, 1) := by decide +kernel
theorem dX0_mark_51 : decode cX0_mark 51 = .ok (.ior, 1) := by decide +kernel
theorem dX0_mark_52 : decode cX0_mark 52 = .ok (.bastore, 1) := by decide +kernel
theorem dX0_mark_53 : decode cX0_mark 53 = .ok (.iload_n 2, 1) := by decide +kernel
theorem dX0_mark_54 : decode cX0_mark 54 = .ok (.aload_n 0, 1) := by decide +kernel
theorem dX0_mark_55 : decode cX0_mark 55 = .ok (.getfield 46, 3) := by decide +kernel
theorem dX0_mark_58 : decode cX0_mark 58 = .ok (.iload_n 3, 1) := by decide +kernel
theorem dX0_mark_59 : decode cX0_mark 59 = .ok (.baload, 1) := by decide +kernel
theorem dX0_mark_60 : decode cX0_mark 60 = .ok (.ifCond .eq 16, 3) := by decide +kernel
theorem dX0_mark_63 : decode cX0_mark 63 = .ok (.aload_n 0, 1) := by decide +kernel
theorem dX0_mark_64 : decode cX0_mark 64 = .ok (.iload_n 3, 1) := by decide +kernel
theorem dX0_mark_65 : decode cX0_mark 65 = .ok (.invokevirtual 121, 3) := by decide +kernel
theorem dX0_mark_68 : decode cX0_mark 68 = .ok (.iload_n 3, 1) := by decide +kernel
theorem dX0_mark_69 : decode cX0_mark 69 = .ok (.if_icmp .ne 7, 3) := by decide +kernel
theorem dX0_mark_72 : decode cX0_mark 72 = .ok (.iconst 1, 1) := by decide +kernel
theorem dX0_mark_73 : decode cX0_mark 73 = .ok (.goto 4, 3) := by decide +kernel
theorem dX0_mark_76 : decode cX0_mark 76 = .ok (.iconst 0, 1) := by decide +kernel
theorem dX0_mark_77 : decode cX0_mark 77 = .ok (.iadd, 1) := by decide +kernel
theorem dX0_mark_78 : decode cX0_mark 78 = .ok (.istore_n 2, 1) := by decide +kernel
theorem dX0_mark_79 : decode cX0_mark 79 = .ok (.iinc 3 1, 3) := by decide +kernel
theorem dX0_mark_82 : decode cX0_mark 82 = .ok (.goto (-65), 3) := by decide +kernel
theorem dX0_mark_85 : decode cX0_mark 85 = .ok (.iload_n 2, 1) := by decide +kernel
theorem dX0_mark_86 : decode cX0_mark 86 = .ok (.ireturn, 1) := by decide +kernel
theorem dX0_unmarked_0 : decode cX0_unmarked 0 = .ok (.iconst 0, 1) := by decide +kernel
theorem dX0_unmarked_1 : decode cX0_unmarked 1 = .ok (.istore_n 1, 1) := by decide +kernel
theorem dX0_unmarked_2 : decode cX0_unmarked 2 = .ok (.iload_n 1, 1) := by decide +kernel
theorem dX0_unmarked_3 : decode cX0_unmarked 3 = .ok (.sipush 256, 3) := by decide +kernel
theorem dX0_unmarked_6 : decode cX0_unmarked 6 = .ok (.if_icmp .ge 20, 3) := by decide +kernel
theorem dX0_unmarked_9 : decode cX0_unmarked 9 = .ok (.aload_n 0, 1) := by decide +kernel
theorem dX0_unmarked_10 : decode cX0_unmarked 10 = .ok (.getfield 46, 3) := by decide +kernel
theorem dX0_unmarked_13 : decode cX0_unmarked 13 = .ok (.iload_n 1, 1) := by decide +kernel
theorem dX0_unmarked_14 : decode cX0_unmarked 14 = .ok (.baload, 1) := by decide +kernel
theorem dX0_unmarked_15 : decode cX0_unmarked 15 = .ok (.ifCond .ne 5, 3) := by decide +kernel
theorem dX0_unmarked_18 : decode cX0_unmarked 18 = .ok (.iload_n 1, 1) := by decide +kernel
theorem dX0_unmarked_19 : decode cX0_unmarked 19 = .ok (.ireturn, 1) := by decide +kernel
theorem dX0_unmarked_20 : decode cX0_unmarked 20 = .ok (.iinc 1 1, 3) := by decide +kernel
theorem dX0_unmarked_23 : decode cX0_unmarked 23 = .ok (.goto (-21), 3) := by decide +kernel
theorem dX0_unmarked_26 : decode cX0_unmarked 26 = .ok (.iconst (-1), 1) := by decide +kernel
theorem dX0_unmarked_27 : decode cX0_unmarked 27 = .ok (.ireturn, 1) := by decide +kernel
theorem dX0_extreme_0 : decode cX0_extreme 0 = .ok (.iload_n 1, 1) := by decide +kernel
theorem dX0_extreme_1 : decode cX0_extreme 1 = .ok (.ifCond .lt 17, 3) := by decide +kernel
theorem dX0_extreme_4 : decode cX0_extreme 4 = .ok (.iload_n 1, 1) := by decide +kernel
theorem dX0_extreme_5 : decode cX0_extreme 5 = .ok (.iconst 3, 1) := by decide +kernel
theorem dX0_extreme_6 : decode cX0_extreme 6 = .ok (.if_icmp .gt 12, 3) := by decide +kernel
theorem dX0_extreme_9 : decode cX0_extreme 9 = .ok (.iload_n 2, 1) := by decide +kernel
theorem dX0_extreme_10 : decode cX0_extreme 10 = .ok (.ifCond .lt 8, 3) := by decide +kernel
theorem dX0_extreme_13 : decode cX0_extreme 13 = .ok (.iload_n 2, 1) := by decide +kernel
theorem dX0_extreme_14 : decode cX0_extreme 14 = .ok (.iconst 1, 1) := by decide +kernel
theorem dX0_extreme_15 : decode cX0_extreme 15 = .ok (.if_icmp .le 6, 3) := by decide +kernel
theorem dX0_extreme_18 : decode cX0_extreme 18 = .ok (.ldc 127, 2) := by decide +kernel
theorem dX0_extreme_20 : decode cX0_extreme 20 = .ok (.ireturn, 1) := by decide +kernel
theorem dX0_extreme_21 : decode cX0_extreme 21 = .ok (.aload_n 0, 1) := by decide +kernel
theorem dX0_extreme_22 : decode cX0_extreme 22 = .ok (.invokevirtual 118, 3) := by decide +kernel
theorem dX0_extreme_25 : decode cX0_extreme 25 = .ok (.ldc 127, 2) := by decide +kernel
theorem dX0_extreme_27 : decode cX0_extreme 27 = .ok (.istore_n 3, 1) := by decide +kernel
theorem dX0_extreme_28 : decode cX0_extreme 28 = .ok (.iconst 0, 1) := by decide +kernel
theorem dX0_extreme_29 : decode cX0_extreme 29 = .ok (.istore 4, 2) := by decide +kernel
theorem dX0_extreme_31 : decode cX0_extreme 31 = .ok (.iload 4, 2) := by decide +kernel
theorem dX0_extreme_33 : decode cX0_extreme 33 = .ok (.sipush 256, 3) := by decide +kernel
theorem dX0_extreme_36 : decode cX0_extreme 36 = .ok (.if_icmp .ge 76, 3) := by decide +kernel
theorem dX0_extreme_39 : decode cX0_extreme 39 = .ok (.aload_n 0, 1) := by decide +kernel
theorem dX0_extreme_40 : decode cX0_extreme 40 = .ok (.getfield 43, 3) := by decide +kernel
theorem dX0_extreme_43 : decode cX0_extreme 43 = .ok (.iconst 4, 1) := by decide +kernel
theorem dX0_extreme_44 : decode cX0_extreme 44 = .ok (.iload 4, 2) := by decide +kernel
theorem dX0_extreme_46 : decode cX0_extreme 46 = .ok (.imul, 1) := by decide +kernel
theorem dX0_extreme_47 : decode cX0_extreme 47 = .ok (.iload_n 1, 1) := by decide +kernel
theorem dX0_extreme_48 : decode cX0_extreme 48 = .ok (.iadd, 1) := by decide +kernel
theorem dX0_extreme_49 : decode cX0_extreme 49 = .ok (.iaload, 1) := by decide +kernel
theorem dX0_extreme_50 : decode cX0_extreme 50 = .ok (.istore 5, 2) := by decide +kernel
theorem dX0_extreme_52 : decode cX0_extreme 52 = .ok (.iload_n 3, 1) := by decide +kernel
theorem dX0_extreme_53 : decode cX0_extreme 53 = .ok (.ldc 127, 2) := by decide +kernel
theorem dX0_extreme_55 : decode cX0_extreme 55 = .ok (.if_icmp .eq 22, 3) := by decide +kernel
theorem dX0_extreme_58 : decode cX0_extreme 58 = .ok (.iload_n 2, 1) := by decide +kernel
theorem dX0_extreme_59 : decode cX0_extreme 59 = .ok (.ifCond .ne 12, 3) := by decide +kernel
theorem dX0_extreme_62 : decode cX0_extreme 62 = .ok (.iload 5, 2) := by decide +kernel
theorem dX0_extreme_64 : decode cX0_extreme 64 = .ok (.iload_n 3, 1) := by decide +kernel
theorem dX0_extreme_65 : decode cX0_extreme 65 = .ok (.if_icmp .ge 16, 3) := by decide +kernel
theorem dX0_extreme_68 : decode cX0_extreme 68 = .ok (.goto 9, 3) := by decide +kernel
theorem dX0_extreme_71 : decode cX0_extreme 71 = .ok (.iload 5, 2) := by decide +kernel
theorem dX0_extreme_73 : decode cX0_extreme 73 = .ok (.iload_n 3, 1) := by decide +kernel
theorem dX0_extreme_74 : decode cX0_extreme 74 = .ok (.if_icmp .le 7, 3) := by decide +kernel
theorem dX0_extreme_77 : decode cX0_extreme 77 = .ok (.iconst 1, 1) := by decide +kernel
theorem dX0_extreme_78 : decode cX0_extreme 78 = .ok (.goto 4, 3) := by decide +kernel
theorem dX0_extreme_81 : decode cX0_extreme 81 = .ok (.iconst 0, 1) := by decide +kernel
theorem dX0_extreme_82 : decode cX0_extreme 82 = .ok (.istore 6, 2) := by decide +kernel
theorem dX0_extreme_84 : decode cX0_extreme 84 = .ok (.aload_n 0, 1) := by decide +kernel
theorem dX0_extreme_85 : decode cX0_extreme 85 = .ok (.getfield 39, 3) := by decide +kernel
theorem dX0_extreme_88 : decode cX0_extreme 88 = .ok (.iload 4, 2) := by decide +kernel
theorem dX0_extreme_90 : decode cX0_extreme 90 = .ok (.baload, 1) := by decide +kernel
theorem dX0_extreme_91 : decode cX0_extreme 91 = .ok (.ifCond .ne 13, 3) := by decide +kernel
theorem dX0_extreme_94 : decode cX0_extreme 94 = .ok (.iload 6, 2) := by decide +kernel
theorem dX0_extreme_96 : decode cX0_extreme 96 = .ok (.ifCond .eq 8, 3) := by decide +kernel
theorem dX0_extreme_99 : decode cX0_extreme 99 = .ok (.iload 5, 2) := by decide +kernel
theorem dX0_extreme_101 : decode cX0_extreme 101 = .ok (.goto 4, 3) := by decide +kernel
theorem dX0_extreme_104 : decode cX0_extreme 104 = .ok (.iload_n 3, 1) := by decide +kernel
theorem dX0_extreme_105 : decode cX0_extreme 105 = .ok (.istore_n 3, 1) := by decide +kernel
theorem dX0_extreme_106 : decode cX0_extreme 106 = .ok (.iinc 4 1, 3) := by decide +kernel
theorem dX0_extreme_109 : decode cX0_extreme 109 = .ok (.goto (-78), 3) := by decide +kernel
theorem dX0_extreme_112 : decode cX0_extreme 112 = .ok (.iload_n 3, 1) := by decide +kernel
theorem dX0_extreme_113 : decode cX0_extreme 113 = .ok (.ireturn, 1) := by decide +kernel
theorem dX0_ending_0 : decode cX0_ending 0 = .ok (.iload_n 1, 1) := by decide +kernel
theorem dX0_ending_1 : decode cX0_ending 1 = .ok (.ifCond .lt 8, 3) := by decide +kernel
theorem dX0_ending_4 : decode cX0_ending 4 = .ok (.iload_n 1, 1) := by decide +kernel
theorem dX0_ending_5 : decode cX0_ending 5 = .ok (.iconst 3, 1) := by decide +kernel
theorem dX0_ending_6 : decode cX0_ending 6 = .ok (.if_icmp .le 5, 3) := by decide +kernel
theorem dX0_ending_9 : decode cX0_ending 9 = .ok (.iconst 0, 1) := by decide +kernel
theorem dX0_ending_10 : decode cX0_ending 10 = .ok (.ireturn, 1) := by decide +kernel
theorem dX0_ending_11 : decode cX0_ending 11 = .ok (.aload_n 0, 1) := by decide +kernel
theorem dX0_ending_12 : decode cX0_ending 12 = .ok (.invokevirtual 118, 3) := by decide +kernel
theorem dX0_ending_15 : decode cX0_ending 15 = .ok (.iconst 0, 1) := by decide +kernel
theorem dX0_ending_16 : decode cX0_ending 16 = .ok (.istore_n 3, 1) := by decide +kernel
theorem dX0_ending_17 : decode cX0_ending 17 = .ok (.iconst 0, 1) := by decide +kernel
theorem dX0_ending_18 : decode cX0_ending 18 = .ok (.istore 4, 2) := by decide +kernel
theorem dX0_ending_20 : decode cX0_ending 20 = .ok (.iload 4, 2) := by decide +kernel
theorem dX0_ending_22 : decode cX0_ending 22 = .ok (.sipush 256, 3) := by decide +kernel
theorem dX0_ending_25 : decode cX0_ending 25 = .ok (.if_icmp .ge 42, 3) := by decide +kernel
theorem dX0_ending_28 : decode cX0_ending 28 = .ok (.iload_n 3, 1) := by decide +kernel
theorem dX0_ending_29 : decode cX0_ending 29 = .ok (.aload_n 0, 1) := by decide +kernel
theorem dX0_ending_30 : decode cX0_ending 30 = .ok (.getfield 39, 3) := by decide +kernel
theorem dX0_ending_33 : decode cX0_ending 33 = .ok (.iload 4, 2) := by decide +kernel
theorem dX0_ending_35 : decode cX0_ending 35 = .ok (.baload, 1) := by decide +kernel
theorem dX0_ending_36 : decode cX0_ending 36 = .ok (.ifCond .ne 22, 3) := by decide +kernel
theorem dX0_ending_39 : decode cX0_ending 39 = .ok (.aload_n 0, 1) := by decide +kernel
theorem dX0_ending_40 : decode cX0_ending 40 = .ok (.getfield 43, 3) := by decide +kernel
theorem dX0_ending_43 : decode cX0_ending 43 = .ok (.iconst 4, 1) := by decide +kernel
theorem dX0_ending_44 : decode cX0_ending 44 = .ok (.iload 4, 2) := by decide +kernel
theorem dX0_ending_46 : decode cX0_ending 46 = .ok (.imul, 1) := by decide +kernel
theorem dX0_ending_47 : decode cX0_ending 47 = .ok (.iload_n 1, 1) := by decide +kernel
theorem dX0_ending_48 : decode cX0_ending 48 = .ok (.iadd, 1) := by decide +kernel
theorem dX0_ending_49 : decode cX0_ending 49 = .ok (.iaload, 1) := by decide +kernel
theorem dX0_ending_50 : decode cX0_ending 50 = .ok (.iload_n 2, 1) := by decide +kernel
theorem dX0_ending_51 : decode cX0_ending 51 = .ok (.if_icmp .ne 7, 3) := by decide +kernel
theorem dX0_ending_54 : decode cX0_ending 54 = .ok (.iconst 1, 1) := by decide +kernel
theorem dX0_ending_55 : decode cX0_ending 55 = .ok (.goto 4, 3) := by decide +kernel
theorem dX0_ending_58 : decode cX0_ending 58 = .ok (.iconst 0, 1) := by decide +kernel
theorem dX0_ending_59 : decode cX0_ending 59 = .ok (.iadd, 1) := by decide +kernel
theorem dX0_ending_60 : decode cX0_ending 60 = .ok (.istore_n 3, 1) := by decide +kernel
theorem dX0_ending_61 : decode cX0_ending 61 = .ok (.iinc 4 1, 3) := by decide +kernel
theorem dX0_ending_64 : decode cX0_ending 64 = .ok (.goto (-44), 3) := by decide +kernel
theorem dX0_ending_67 : decode cX0_ending 67 = .ok (.iload_n 3, 1) := by decide +kernel
theorem dX0_ending_68 : decode cX0_ending 68 = .ok (.ireturn, 1) := by decide +kernel
theorem dX0_steps_0 : decode cX0_steps 0 = .ok (.iload_n 1, 1) := by decide +kernel
theorem dX0_steps_1 : decode cX0_steps 1 = .ok (.invokestatic 124, 3) := by decide +kernel
theorem dX0_steps_4 : decode cX0_steps 4 = .ok (.ifCond .ne 5, 3) := by decide +kernel
theorem dX0_steps_7 : decode cX0_steps 7 = .ok (.iconst (-1), 1) := by decide +kernel
theorem dX0_steps_8 : decode cX0_steps 8 = .ok (.ireturn, 1) := by decide +kernel
theorem dX0_steps_9 : decode cX0_steps 9 = .ok (.aload_n 0, 1) := by decide +kernel
theorem dX0_steps_10 : decode cX0_steps 10 = .ok (.invokevirtual 118, 3) := by decide +kernel
theorem dX0_steps_13 : decode cX0_steps 13 = .ok (.iconst 0, 1) := by decide +kernel
theorem dX0_steps_14 : decode cX0_steps 14 = .ok (.istore_n 2, 1) := by decide +kernel
theorem dX0_steps_15 : decode cX0_steps 15 = .ok (.iconst 0, 1) := by decide +kernel
theorem dX0_steps_16 : decode cX0_steps 16 = .ok (.istore_n 3, 1) := by decide +kernel
theorem dX0_steps_17 : decode cX0_steps 17 = .ok (.iload_n 3, 1) := by decide +kernel
theorem dX0_steps_18 : decode cX0_steps 18 = .ok (.bipush 12, 2) := by decide +kernel
theorem dX0_steps_20 : decode cX0_steps 20 = .ok (.if_icmp .ge 22, 3) := by decide +kernel
theorem dX0_steps_23 : decode cX0_steps 23 = .ok (.iload_n 2, 1) := by decide +kernel
theorem dX0_steps_24 : decode cX0_steps 24 = .ok (.aload_n 0, 1) := by decide +kernel
theorem dX0_steps_25 : decode cX0_steps 25 = .ok (.getfield 36, 3) := by decide +kernel
theorem dX0_steps_28 : decode cX0_steps 28 = .ok (.iload_n 1, 1) := by decide +kernel
theorem dX0_steps_29 : decode cX0_steps 29 = .ok (.saload, 1) := by decide +kernel
theorem dX0_steps_30 : decode cX0_steps 30 = .ok (.iload_n 3, 1) := by decide +kernel
theorem dX0_steps_31 : decode cX0_steps 31 = .ok (.ishr, 1) := by decide +kernel
theorem dX0_steps_32 : decode cX0_steps 32 = .ok (.iconst 1, 1) := by decide +kernel
theorem dX0_steps_33 : decode cX0_steps 33 = .ok (.iand, 1) := by decide +kernel
theorem dX0_steps_34 : decode cX0_steps 34 = .ok (.iadd, 1) := by decide +kernel
theorem dX0_steps_35 : decode cX0_steps 35 = .ok (.istore_n 2, 1) := by decide +kernel
theorem dX0_steps_36 : decode cX0_steps 36 = .ok (.iinc 3 1, 3) := by decide +kernel
theorem dX0_steps_39 : decode cX0_steps 39 = .ok (.goto (-22), 3) := by decide +kernel
theorem dX0_steps_42 : decode cX0_steps 42 = .ok (.iload_n 2, 1) := by decide +kernel
theorem dX0_steps_43 : decode cX0_steps 43 = .ok (.ireturn, 1) := by decide +kernel
end
section
set_option maxRecDepth 100000
theorem dX1_init_0 : decode cX1_init 0 = .ok (.aload_n 0, 1) := by decide +kernel
theorem dX1_init_1 : decode cX1_init 1 = .ok (.invokespecial 1, 3) := by decide +kernel
theorem dX1_init_4 : decode cX1_init 4 = .ok (.aload_n 0, 1) := by decide +kernel
theorem dX1_init_5 : decode cX1_init 5 = .ok (.bipush 12, 2) := by decide +kernel
theorem dX1_init_7 : decode cX1_init 7 = .ok (.newarray .int, 2) := by decide +kernel
theorem dX1_init_9 : decode cX1_init 9 = .ok (.putfield 7, 3) := by decide +kernel
theorem dX1_init_12 : decode cX1_init 12 = .ok (.aload_n 0, 1) := by decide +kernel
theorem dX1_init_13 : decode cX1_init 13 = .ok (.bipush 12, 2) := by decide +kernel
theorem dX1_init_15 : decode cX1_init 15 = .ok (.newarray .int, 2) := by decide +kernel
theorem dX1_init_17 : decode cX1_init 17 = .ok (.putfield 13, 3) := by decide +kernel
theorem dX1_init_20 : decode cX1_init 20 = .ok (.aload_n 0, 1) := by decide +kernel
theorem dX1_init_21 : decode cX1_init 21 = .ok (.bipush 12, 2) := by decide +kernel
theorem dX1_init_23 : decode cX1_init 23 = .ok (.newarray .int, 2) := by decide +kernel
theorem dX1_init_25 : decode cX1_init 25 = .ok (.putfield 16, 3) := by decide +kernel
theorem dX1_init_28 : decode cX1_init 28 = .ok (.aload_n 0, 1) := by decide +kernel
theorem dX1_init_29 : decode cX1_init 29 = .ok (.bipush 12, 2) := by decide +kernel
theorem dX1_init_31 : decode cX1_init 31 = .ok (.newarray .int, 2) := by decide +kernel
theorem dX1_init_33 : decode cX1_init 33 = .ok (.putfield 19, 3) := by decide +kernel
theorem dX1_init_36 : decode cX1_init 36 = .ok (.aload_n 0, 1) := by decide +kernel
theorem dX1_init_37 : decode cX1_init 37 = .ok (.sipush 4096, 3) := by decide +kernel
theorem dX1_init_40 : decode cX1_init 40 = .ok (.newarray .boolean, 2) := by decide +kernel
theorem dX1_init_42 : decode cX1_init 42 = .ok (.putfield 22, 3) := by decide +kernel
theorem dX1_init_45 : decode cX1_init 45 = .ok (.aload_n 0, 1) := by decide +kernel
theorem dX1_init_46 : decode cX1_init 46 = .ok (.sipush 256, 3) := by decide +kernel
theorem dX1_init_49 : decode cX1_init 49 = .ok (.newarray .int, 2) := by decide +kernel
theorem dX1_init_51 : decode cX1_init 51 = .ok (.putfield 26, 3) := by decide +kernel
theorem dX1_init_54 : decode cX1_init 54 = .ok (.aload_n 0, 1) := by decide +kernel
theorem dX1_init_55 : decode cX1_init 55 = .ok (.sipush 256, 3) := by decide +kernel
theorem dX1_init_58 : decode cX1_init 58 = .ok (.newarray .boolean, 2) := by decide +kernel
theorem dX1_init_60 : decode cX1_init 60 = .ok (.putfield 29, 3) := by decide +kernel
theorem dX1_init_63 : decode cX1_init 63 = .ok (.aload_n 0, 1) := by decide +kernel
theorem dX1_init_64 : decode cX1_init 64 = .ok (.sipush 1024, 3) := by decide +kernel
theorem dX1_init_67 : decode cX1_init 67 = .ok (.newarray .int, 2) := by decide +kernel
theorem dX1_init_69 : decode cX1_init 69 = .ok (.putfield 32, 3) := by decide +kernel
theorem dX1_init_72 : decode cX1_init 72 = .ok (.return_, 1) := by decide +kernel
theorem dX1_step_0 : decode cX1_step 0 = .ok (.iload_n 1, 1) := by decide +kernel
theorem dX1_step_1 : decode cX1_step 1 = .ok (.ifCond .lt 28, 3) := by decide +kernel
theorem dX1_step_4 : decode cX1_step 4 = .ok (.iload_n 1, 1) := by decide +kernel
theorem dX1_step_5 : decode cX1_step 5 = .ok (.bipush 7, 2) := by decide +kernel
theorem dX1_step_7 : decode cX1_step 7 = .ok (.if_icmp .gt 22, 3) := by decide +kernel
theorem dX1_step_10 : decode cX1_step 10 = .ok (.iload_n 2, 1) := by decide +kernel
theorem dX1_step_11 : decode cX1_step 11 = .ok (.ifCond .lt 18, 3) := by decide +kernel
theorem dX1_step_14 : decode cX1_step 14 = .ok (.iload_n 2, 1) := by decide +kernel
theorem dX1_step_15 : decode cX1_step 15 = .ok (.bipush 15, 2) := by decide +kernel
theorem dX1_step_17 : decode cX1_step 17 = .ok (.if_icmp .gt 12, 3) := by decide +kernel
theorem dX1_step_20 : decode cX1_step 20 = .ok (.aload_n 0, 1) := by decide +kernel
theorem dX1_step_21 : decode cX1_step 21 = .ok (.iload_n 1, 1) := by decide +kernel
theorem dX1_step_22 : decode cX1_step 22 = .ok (.iload_n 3, 1) := by decide +kernel
theorem dX1_step_23 : decode cX1_step 23 = .ok (.invokevirtual 39, 3) := by decide +kernel
theorem dX1_step_26 : decode cX1_step 26 = .ok (.ifCond .ne 5, 3) := by decide +kernel
theorem dX1_step_29 : decode cX1_step 29 = .ok (.iconst (-1), 1) := by decide +kernel
theorem dX1_step_30 : decode cX1_step 30 = .ok (.ireturn, 1) := by decide +kernel
theorem dX1_step_31 : decode cX1_step 31 = .ok (.aload_n 0, 1) := by decide +kernel
theorem dX1_step_32 : decode cX1_step 32 = .ok (.getfield 35, 3) := by decide +kernel
theorem dX1_step_35 : decode cX1_step 35 = .ok (.bipush 12, 2) := by decide +kernel
theorem dX1_step_37 : decode cX1_step 37 = .ok (.if_icmp .lt 6, 3) := by decide +kernel
theorem dX1_step_40 : decode cX1_step 40 = .ok (.bipush (-2), 2) := by decide +kernel
theorem dX1_step_42 : decode cX1_step 42 = .ok (.ireturn, 1) := by decide +kernel
theorem dX1_step_43 : decode cX1_step 43 = .ok (.aload_n 0, 1) := by decide +kernel
theorem dX1_step_44 : decode cX1_step 44 = .ok (.invokevirtual 43, 3) := by decide +kernel
theorem dX1_step_47 : decode cX1_step 47 = .ok (.aload_n 0, 1) := by decide +kernel
theorem dX1_step_48 : decode cX1_step 48 = .ok (.getfield 7, 3) := by decide +kernel
theorem dX1_step_51 : decode cX1_step 51 = .ok (.aload_n 0, 1) := by decide +kernel
theorem dX1_step_52 : decode cX1_step 52 = .ok (.getfield 35, 3) := by decide +kernel
theorem dX1_step_55 : decode cX1_step 55 = .ok (.iload_n 1, 1) := by decide +kernel
theorem dX1_step_56 : decode cX1_step 56 = .ok (.iastore, 1) := by decide +kernel
theorem dX1_step_57 : decode cX1_step 57 = .ok (.aload_n 0, 1) := by decide +kernel
theorem dX1_step_58 : decode cX1_step 58 = .ok (.getfield 13, 3) := by decide +kernel
theorem dX1_step_61 : decode cX1_step 61 = .ok (.aload_n 0, 1) := by decide +kernel
theorem dX1_step_62 : decode cX1_step 62 = .ok (.getfield 35, 3) := by decide +kernel
theorem dX1_step_65 : decode cX1_step 65 = .ok (.iload_n 2, 1) := by decide +kernel
theorem dX1_step_66 : decode cX1_step 66 = .ok (.iconst 3, 1) := by decide +kernel
theorem dX1_step_67 : decode cX1_step 67 = .ok (.iand, 1) := by decide +kernel
theorem dX1_step_68 : decode cX1_step 68 = .ok (.iastore, 1) := by decide +kernel
theorem dX1_step_69 : decode cX1_step 69 = .ok (.aload_n 0, 1) := by decide +kernel
theorem dX1_step_70 : decode cX1_step 70 = .ok (.getfield 16, 3) := by decide +kernel
theorem dX1_step_73 : decode cX1_step 73 = .ok (.aload_n 0, 1) := by decide +kernel
theorem dX1_step_74 : decode cX1_step 74 = .ok (.getfield 35, 3) := by decide +kernel
theorem dX1_step_77 : decode cX1_step 77 = .ok (.iload_n 2, 1) := by decide +kernel
theorem dX1_step_78 : decode cX1_step 78 = .ok (.iconst 2, 1) := by decide +kernel
theorem dX1_step_79 : decode cX1_step 79 = .ok (.ishr, 1) := by decide +kernel
theorem dX1_step_80 : decode cX1_step 80 = .ok (.iastore, 1) := by decide +kernel
theorem dX1_step_81 : decode cX1_step 81 = .ok (.aload_n 0, 1) := by decide +kernel
theorem dX1_step_82 : decode cX1_step 82 = .ok (.getfield 19, 3) := by decide +kernel
theorem dX1_step_85 : decode cX1_step 85 = .ok (.aload_n 0, 1) := by decide +kernel
theorem dX1_step_86 : decode cX1_step 86 = .ok (.getfield 35, 3) := by decide +kernel
theorem dX1_step_89 : decode cX1_step 89 = .ok (.iload_n 3, 1) := by decide +kernel
theorem dX1_step_90 : decode cX1_step 90 = .ok (.iastore, 1) := by decide +kernel
theorem dX1_step_91 : decode cX1_step 91 = .ok (.aload_n 0, 1) := by decide +kernel
theorem dX1_step_92 : decode cX1_step 92 = .ok (.dup, 1) := by decide +kernel
theorem dX1_step_93 : decode cX1_step 93 = .ok (.getfield 35, 3) := by decide +kernel
theorem dX1_step_96 : decode cX1_step 96 = .ok (.iconst 1, 1) := by decide +kernel
theorem dX1_step_97 : decode cX1_step 97 = .ok (.iadd, 1) := by decide +kernel
theorem dX1_step_98 : decode cX1_step 98 = .ok (.putfield 35, 3) := by decide +kernel
theorem dX1_step_101 : decode cX1_step 101 = .ok (.aload_n 0, 1) := by decide +kernel
theorem dX1_step_102 : decode cX1_step 102 = .ok (.getfield 35, 3) := by decide +kernel
theorem dX1_step_105 : decode cX1_step 105 = .ok (.iconst 1, 1) := by decide +kernel
theorem dX1_step_106 : decode cX1_step 106 = .ok (.isub, 1) := by decide +kernel
theorem dX1_step_107 : decode cX1_step 107 = .ok (.ireturn, 1) := by decide +kernel
theorem dX1_fits_0 : decode cX1_fits 0 = .ok (.iload_n 1, 1) := by decide +kernel
theorem dX1_fits_1 : decode cX1_fits 1 = .ok (.ifCond .ne 23, 3) := by decide +kernel
theorem dX1_fits_4 : decode cX1_fits 4 = .ok (.iload_n 2, 1) := by decide +kernel
theorem dX1_fits_5 : decode cX1_fits 5 = .ok (.bipush (-20), 2) := by decide +kernel
theorem dX1_fits_7 : decode cX1_fits 7 = .ok (.if_icmp .lt 13, 3) := by decide +kernel
theorem dX1_fits_10 : decode cX1_fits 10 = .ok (.iload_n 2, 1) := by decide +kernel
theorem dX1_fits_11 : decode cX1_fits 11 = .ok (.bipush 20, 2) := by decide +kernel
theorem dX1_fits_13 : decode cX1_fits 13 = .ok (.if_icmp .gt 7, 3) := by decide +kernel
theorem dX1_fits_16 : decode cX1_fits 16 = .ok (.iconst 1, 1) := by decide +kernel
theorem dX1_fits_17 : decode cX1_fits 17 = .ok (.goto 61, 3) := by decide +kernel
theorem dX1_fits_20 : decode cX1_fits 20 = .ok (.iconst 0, 1) := by decide +kernel
theorem dX1_fits_21 : decode cX1_fits 21 = .ok (.goto 57, 3) := by decide +kernel
theorem dX1_fits_24 : decode cX1_fits 24 = .ok (.iload_n 1, 1) := by decide +kernel
theorem dX1_fits_25 : decode cX1_fits 25 = .ok (.iconst 3, 1) := by decide +kernel
theorem dX1_fits_26 : decode cX1_fits 26 = .ok (.if_icmp .ne 22, 3) := by decide +kernel
theorem dX1_fits_29 : decode cX1_fits 29 = .ok (.iload_n 2, 1) := by decide +kernel
theorem dX1_fits_30 : decode cX1_fits 30 = .ok (.bipush (-3), 2) := by decide +kernel
theorem dX1_fits_32 : decode cX1_fits 32 = .ok (.if_icmp .lt 12, 3) := by decide +kernel
theorem dX1_fits_35 : decode cX1_fits 35 = .ok (.iload_n 2, 1) := by decide +kernel
theorem dX1_fits_36 : decode cX1_fits 36 = .ok (.iconst 3, 1) := by decide +kernel
theorem dX1_fits_37 : decode cX1_fits 37 = .ok (.if_icmp .gt 7, 3) := by decide +kernel
theorem dX1_fits_40 : decode cX1_fits 40 = .ok (.iconst 1, 1) := by decide +kernel
theorem dX1_fits_41 : decode cX1_fits 41 = .ok (.goto 37, 3) := by decide +kernel
theorem dX1_fits_44 : decode cX1_fits 44 = .ok (.iconst 0, 1) := by decide +kernel
theorem dX1_fits_45 : decode cX1_fits 45 = .ok (.goto 33, 3) := by decide +kernel
theorem dX1_fits_48 : decode cX1_fits 48 = .ok (.iload_n 1, 1) := by decide +kernel
theorem dX1_fits_49 : decode cX1_fits 49 = .ok (.iconst 4, 1) := by decide +kernel
theorem dX1_fits_50 : decode cX1_fits 50 = .ok (.if_icmp .lt 23, 3) := by decide +kernel
theorem dX1_fits_53 : decode cX1_fits 53 = .ok (.iload_n 1, 1) := by decide +kernel
theorem dX1_fits_54 : decode cX1_fits 54 = .ok (.bipush 7, 2) := by decide +kernel
theorem dX1_fits_56 : decode cX1_fits 56 = .ok (.if_icmp .eq 17, 3) := by decide +kernel
theorem dX1_fits_59 : decode cX1_fits 59 = .ok (.iload_n 2, 1) := by decide +kernel
theorem dX1_fits_60 : decode cX1_fits 60 = .ok (.aload_n 0, 1) := by decide +kernel
theorem dX1_fits_61 : decode cX1_fits 61 = .ok (.getfield 35, 3) := by decide +kernel
theorem dX1_fits_64 : decode cX1_fits 64 = .ok (.if_icmp .le 13, 3) := by decide +kernel
theorem dX1_fits_67 : decode cX1_fits 67 = .ok (.iload_n 2, 1) := by decide +kernel
theorem dX1_fits_68 : decode cX1_fits 68 = .ok (.bipush 12, 2) := by decide +kernel
theorem dX1_fits_70 : decode cX1_fits 70 = .ok (.if_icmp .gt 7, 3) := by decide +kernel
theorem dX1_fits_73 : decode cX1_fits 73 = .ok (.iconst 1, 1) := by decide +kernel
theorem dX1_fits_74 : decode cX1_fits 74 = .ok (.goto 4, 3) := by decide +kernel
theorem dX1_fits_77 : decode cX1_fits 77 = .ok (.iconst 0, 1) := by decide +kernel
theorem dX1_fits_78 : decode cX1_fits 78 = .ok (.ireturn, 1) := by decide +kernel
theorem dX1_forget_0 : decode cX1_forget 0 = .ok (.iconst 0, 1) := by decide +kernel
theorem dX1_forget_1 : decode cX1_forget 1 = .ok (.istore_n 1, 1) := by decide +kernel
theorem dX1_forget_2 : decode cX1_forget 2 = .ok (.iload_n 1, 1) := by decide +kernel
theorem dX1_forget_3 : decode cX1_forget 3 = .ok (.sipush 4096, 3) := by decide +kernel
theorem dX1_forget_6 : decode cX1_forget 6 = .ok (.if_icmp .ge 16, 3) := by decide +kernel
theorem dX1_forget_9 : decode cX1_forget 9 = .ok (.aload_n 0, 1) := by decide +kernel
theorem dX1_forget_10 : decode cX1_forget 10 = .ok (.getfield 22, 3) := by decide +kernel
theorem dX1_forget_13 : decode cX1_forget 13 = .ok (.iload_n 1, 1) := by decide +kernel
theorem dX1_forget_14 : decode cX1_forget 14 = .ok (.iconst 0, 1) := by decide +kernel
theorem dX1_forget_15 : decode cX1_forget 15 = .ok (.bastore, 1) := by decide +kernel
theorem dX1_forget_16 : decode cX1_forget 16 = .ok (.iinc 1 1, 3) := by decide +kernel
theorem dX1_forget_19 : decode cX1_forget 19 = .ok (.goto (-17), 3) := by decide +kernel
theorem dX1_forget_22 : decode cX1_forget 22 = .ok (.return_, 1) := by decide +kernel
theorem dX1_drop_0 : decode cX1_drop 0 = .ok (.aload_n 0, 1) := by decide +kernel
theorem dX1_drop_1 : decode cX1_drop 1 = .ok (.getfield 35, 3) := by decide +kernel
theorem dX1_drop_4 : decode cX1_drop 4 = .ok (.ifCond .ne 5, 3) := by decide +kernel
theorem dX1_drop_7 : decode cX1_drop 7 = .ok (.iconst (-1), 1) := by decide +kernel
theorem dX1_drop_8 : decode cX1_drop 8 = .ok (.ireturn, 1) := by decide +kernel
theorem dX1_drop_9 : decode cX1_drop 9 = .ok (.aload_n 0, 1) := by decide +kernel
theorem dX1_drop_10 : decode cX1_drop 10 = .ok (.invokevirtual 43, 3) := by decide +kernel
theorem dX1_drop_13 : decode cX1_drop 13 = .ok (.aload_n 0, 1) := by decide +kernel
theorem dX1_drop_14 : decode cX1_drop 14 = .ok (.dup, 1) := by decide +kernel
theorem dX1_drop_15 : decode cX1_drop 15 = .ok (.getfield 35, 3) := by decide +kernel
theorem dX1_drop_18 : decode cX1_drop 18 = .ok (.iconst 1, 1) := by decide +kernel
theorem dX1_drop_19 : decode cX1_drop 19 = .ok (.isub, 1) := by decide +kernel
theorem dX1_drop_20 : decode cX1_drop 20 = .ok (.putfield 35, 3) := by decide +kernel
theorem dX1_drop_23 : decode cX1_drop 23 = .ok (.aload_n 0, 1) := by decide +kernel
theorem dX1_drop_24 : decode cX1_drop 24 = .ok (.getfield 35, 3) := by decide +kernel
theorem dX1_drop_27 : decode cX1_drop 27 = .ok (.ireturn, 1) := by decide +kernel
theorem dX1_length_0 : decode cX1_length 0 = .ok (.aload_n 0, 1) := by decide +kernel
theorem dX1_length_1 : decode cX1_length 1 = .ok (.getfield 35, 3) := by decide +kernel
theorem dX1_length_4 : decode cX1_length 4 = .ok (.ireturn, 1) := by decide +kernel
theorem dX1_reach_0 : decode cX1_reach 0 = .ok (.aload_n 0, 1) := by decide +kernel
theorem dX1_reach_1 : decode cX1_reach 1 = .ok (.invokevirtual 50, 3) := by decide +kernel
theorem dX1_reach_4 : decode cX1_reach 4 = .ok (.iconst 0, 1) := by decide +kernel
theorem dX1_reach_5 : decode cX1_reach 5 = .ok (.istore_n 2, 1) := by decide +kernel
theorem dX1_reach_6 : decode cX1_reach 6 = .ok (.iconst 0, 1) := by decide +kernel
theorem dX1_reach_7 : decode cX1_reach 7 = .ok (.istore_n 3, 1) := by decide +kernel
theorem dX1_reach_8 : decode cX1_reach 8 = .ok (.iload_n 3, 1) := by decide +kernel
theorem dX1_reach_9 : decode cX1_reach 9 = .ok (.sipush 256, 3) := by decide +kernel
theorem dX1_reach_12 : decode cX1_reach 12 = .ok (.if_icmp .ge 30, 3) := by decide +kernel
theorem dX1_reach_15 : decode cX1_reach 15 = .ok (.aload_n 0, 1) := by decide +kernel
theorem dX1_reach_16 : decode cX1_reach 16 = .ok (.iload_n 1, 1) := by decide +kernel
theorem dX1_reach_17 : decode cX1_reach 17 = .ok (.invokevirtual 53, 3) := by decide +kernel
theorem dX1_reach_20 : decode cX1_reach 20 = .ok (.ifCond .eq 22, 3) := by decide +kernel
theorem dX1_reach_23 : decode cX1_reach 23 = .ok (.iload_n 2, 1) := by decide +kernel
theorem dX1_reach_24 : decode cX1_reach 24 = .ok (.aload_n 0, 1) := by decide +kernel
theorem dX1_reach_25 : decode cX1_reach 25 = .ok (.getfield 26, 3) := by decide +kernel
theorem dX1_reach_28 : decode cX1_reach 28 = .ok (.iload_n 3, 1) := by decide +kernel
theorem dX1_reach_29 : decode cX1_reach 29 = .ok (.iaload, 1) := by decide +kernel
theorem dX1_reach_30 : decode cX1_reach 30 = .ok (.iload_n 1, 1) := by decide +kernel
theorem dX1_reach_31 : decode cX1_reach 31 = .ok (.ishr, 1) := by decide +kernel
theorem dX1_reach_32 : decode cX1_reach 32 = .ok (.iconst 1, 1) := by decide +kernel
theorem dX1_reach_33 : decode cX1_reach 33 = .ok (.iand, 1) := by decide +kernel
theorem dX1_reach_34 : decode cX1_reach 34 = .ok (.iadd, 1) := by decide +kernel
theorem dX1_reach_35 : decode cX1_reach 35 = .ok (.istore_n 2, 1) := by decide +kernel
theorem dX1_reach_36 : decode cX1_reach 36 = .ok (.iinc 3 1, 3) := by decide +kernel
theorem dX1_reach_39 : decode cX1_reach 39 = .ok (.goto (-31), 3) := by decide +kernel
theorem dX1_reach_42 : decode cX1_reach 42 = .ok (.aload_n 0, 1) := by decide +kernel
theorem dX1_reach_43 : decode cX1_reach 43 = .ok (.iload_n 1, 1) := by decide +kernel
theorem dX1_reach_44 : decode cX1_reach 44 = .ok (.invokevirtual 53, 3) := by decide +kernel
theorem dX1_reach_47 : decode cX1_reach 47 = .ok (.ifCond .eq 7, 3) := by decide +kernel
theorem dX1_reach_50 : decode cX1_reach 50 = .ok (.iload_n 2, 1) := by decide +kernel
theorem dX1_reach_51 : decode cX1_reach 51 = .ok (.goto 4, 3) := by decide +kernel
theorem dX1_reach_54 : decode cX1_reach 54 = .ok (.iconst (-1), 1) := by decide +kernel
theorem dX1_reach_55 : decode cX1_reach 55 = .ok (.ireturn, 1) := by decide +kernel
theorem dX1_work_0 : decode cX1_work 0 = .ok (.iconst 0, 1) := by decide +kernel
theorem dX1_work_1 : decode cX1_work 1 = .ok (.istore_n 1, 1) := by decide +kernel
theorem dX1_work_2 : decode cX1_work 2 = .ok (.iload_n 1, 1) := by decide +kernel
theorem dX1_work_3 : decode cX1_work 3 = .ok (.sipush 256, 3) := by decide +kernel
theorem dX1_work_6 : decode cX1_work 6 = .ok (.if_icmp .ge 14, 3) := by decide +kernel
theorem dX1_work_9 : decode cX1_work 9 = .ok (.aload_n 0, 1) := by decide +kernel
theorem dX1_work_10 : decode cX1_work 10 = .ok (.iload_n 1, 1) := by decide +kernel
theorem dX1_work_11 : decode cX1_work 11 = .ok (.invokevirtual 46, 3) := by decide +kernel
theorem dX1_work_14 : decode cX1_work 14 = .ok (.iinc 1 1, 3) := by decide +kernel
theorem dX1_work_17 : decode cX1_work 17 = .ok (.goto (-15), 3) := by decide +kernel
theorem dX1_work_20 : decode cX1_work 20 = .ok (.return_, 1) := by decide +kernel
theorem dX1_run_0 : decode cX1_run 0 = .ok (.iconst 4, 1) := by decide +kernel
theorem dX1_run_1 : decode cX1_run 1 = .ok (.iload_n 1, 1) := by decide +kernel
theorem dX1_run_2 : decode cX1_run 2 = .ok (.imul, 1) := by decide +kernel
theorem dX1_run_3 : decode cX1_run 3 = .ok (.istore_n 2, 1) := by decide +kernel
theorem dX1_run_4 : decode cX1_run 4 = .ok (.aload_n 0, 1) := by decide +kernel
theorem dX1_run_5 : decode cX1_run 5 = .ok (.getfield 32, 3) := by decide +kernel
theorem dX1_run_8 : decode cX1_run 8 = .ok (.iload_n 2, 1) := by decide +kernel
theorem dX1_run_9 : decode cX1_run 9 = .ok (.iload_n 1, 1) := by decide +kernel
theorem dX1_run_10 : decode cX1_run 10 = .ok (.bipush 15, 2) := by decide +kernel
theorem dX1_run_12 : decode cX1_run 12 = .ok (.iand, 1) := by decide +kernel
theorem dX1_run_13 : decode cX1_run 13 = .ok (.iastore, 1) := by decide +kernel
theorem dX1_run_14 : decode cX1_run 14 = .ok (.aload_n 0, 1) := by decide +kernel
theorem dX1_run_15 : decode cX1_run 15 = .ok (.getfield 32, 3) := by decide +kernel
theorem dX1_run_18 : decode cX1_run 18 = .ok (.iload_n 2, 1) := by decide +kernel
theorem dX1_run_19 : decode cX1_run 19 = .ok (.iconst 1, 1) := by decide +kernel
theorem dX1_run_20 : decode cX1_run 20 = .ok (.iadd, 1) := by decide +kernel
theorem dX1_run_21 : decode cX1_run 21 = .ok (.iload_n 1, 1) := by decide +kernel
theorem dX1_run_22 : decode cX1_run 22 = .ok (.iconst 4, 1) := by decide +kernel
theorem dX1_run_23 : decode cX1_run 23 = .ok (.ishr, 1) := by decide +kernel
theorem dX1_run_24 : decode cX1_run 24 = .ok (.iastore, 1) := by decide +kernel
theorem dX1_run_25 : decode cX1_run 25 = .ok (.aload_n 0, 1) := by decide +kernel
theorem dX1_run_26 : decode cX1_run 26 = .ok (.getfield 32, 3) := by decide +kernel
theorem dX1_run_29 : decode cX1_run 29 = .ok (.iload_n 2, 1) := by decide +kernel
theorem dX1_run_30 : decode cX1_run 30 = .ok (.iconst 2, 1) := by decide +kernel
theorem dX1_run_31 : decode cX1_run 31 = .ok (.iadd, 1) := by decide +kernel
theorem dX1_run_32 : decode cX1_run 32 = .ok (.iconst 0, 1) := by decide +kernel
theorem dX1_run_33 : decode cX1_run 33 = .ok (.iastore, 1) := by decide +kernel
theorem dX1_run_34 : decode cX1_run 34 = .ok (.aload_n 0, 1) := by decide +kernel
theorem dX1_run_35 : decode cX1_run 35 = .ok (.getfield 32, 3) := by decide +kernel
theorem dX1_run_38 : decode cX1_run 38 = .ok (.iload_n 2, 1) := by decide +kernel
theorem dX1_run_39 : decode cX1_run 39 = .ok (.iconst 3, 1) := by decide +kernel
theorem dX1_run_40 : decode cX1_run 40 = .ok (.iadd, 1) := by decide +kernel
theorem dX1_run_41 : decode cX1_run 41 = .ok (.iconst 0, 1) := by decide +kernel
theorem dX1_run_42 : decode cX1_run 42 = .ok (.iastore, 1) := by decide +kernel
theorem dX1_run_43 : decode cX1_run 43 = .ok (.aload_n 0, 1) := by decide +kernel
theorem dX1_run_44 : decode cX1_run 44 = .ok (.getfield 29, 3) := by decide +kernel
theorem dX1_run_47 : decode cX1_run 47 = .ok (.iload_n 1, 1) := by decide +kernel
theorem dX1_run_48 : decode cX1_run 48 = .ok (.iconst 0, 1) := by decide +kernel
theorem dX1_run_49 : decode cX1_run 49 = .ok (.bastore, 1) := by decide +kernel
theorem dX1_run_50 : decode cX1_run 50 = .ok (.aload_n 0, 1) := by decide +kernel
theorem dX1_run_51 : decode cX1_run 51 = .ok (.getfield 26, 3) := by decide +kernel
theorem dX1_run_54 : decode cX1_run 54 = .ok (.iload_n 1, 1) := by decide +kernel
theorem dX1_run_55 : decode cX1_run 55 = .ok (.iconst 0, 1) := by decide +kernel
theorem dX1_run_56 : decode cX1_run 56 = .ok (.iastore, 1) := by decide +kernel
theorem dX1_run_57 : decode cX1_run 57 = .ok (.iconst 0, 1) := by decide +kernel
theorem dX1_run_58 : decode cX1_run 58 = .ok (.istore_n 3, 1) := by decide +kernel
theorem dX1_run_59 : decode cX1_run 59 = .ok (.iload_n 3, 1) := by decide +kernel
theorem dX1_run_60 : decode cX1_run 60 = .ok (.aload_n 0, 1) := by decide +kernel
theorem dX1_run_61 : decode cX1_run 61 = .ok (.getfield 35, 3) := by decide +kernel
theorem dX1_run_64 : decode cX1_run 64 = .ok (.if_icmp .ge 227, 3) := by decide +kernel
theorem dX1_run_67 : decode cX1_run 67 = .ok (.aload_n 0, 1) := by decide +kernel
theorem dX1_run_68 : decode cX1_run 68 = .ok (.getfield 29, 3) := by decide +kernel
theorem dX1_run_71 : decode cX1_run 71 = .ok (.iload_n 1, 1) := by decide +kernel
theorem dX1_run_72 : decode cX1_run 72 = .ok (.baload, 1) := by decide +kernel
theorem dX1_run_73 : decode cX1_run 73 = .ok (.ifCond .ne 218, 3) := by decide +kernel
theorem dX1_run_76 : decode cX1_run 76 = .ok (.aload_n 0, 1) := by decide +kernel
theorem dX1_run_77 : decode cX1_run 77 = .ok (.getfield 7, 3) := by decide +kernel
theorem dX1_run_80 : decode cX1_run 80 = .ok (.iload_n 3, 1) := by decide +kernel
theorem dX1_run_81 : decode cX1_run 81 = .ok (.iaload, 1) := by decide +kernel
theorem dX1_run_82 : decode cX1_run 82 = .ok (.istore 4, 2) := by decide +kernel
theorem dX1_run_84 : decode cX1_run 84 = .ok (.aload_n 0, 1) := by decide +kernel
theorem dX1_run_85 : decode cX1_run 85 = .ok (.getfield 32, 3) := by decide +kernel
theorem dX1_run_88 : decode cX1_run 88 = .ok (.iload_n 2, 1) := by decide +kernel
theorem dX1_run_89 : decode cX1_run 89 = .ok (.aload_n 0, 1) := by decide +kernel
theorem dX1_run_90 : decode cX1_run 90 = .ok (.getfield 13, 3) := by decide +kernel
theorem dX1_run_93 : decode cX1_run 93 = .ok (.iload_n 3, 1) := by decide +kernel
theorem dX1_run_94 : decode cX1_run 94 = .ok (.iaload, 1) := by decide +kernel
theorem dX1_run_95 : decode cX1_run 95 = .ok (.iadd, 1) := by decide +kernel
theorem dX1_run_96 : decode cX1_run 96 = .ok (.iaload, 1) := by decide +kernel
theorem dX1_run_97 : decode cX1_run 97 = .ok (.istore 5, 2) := by decide +kernel
theorem dX1_run_99 : decode cX1_run 99 = .ok (.aload_n 0, 1) := by decide +kernel
theorem dX1_run_100 : decode cX1_run 100 = .ok (.getfield 32, 3) := by decide +kernel
theorem dX1_run_103 : decode cX1_run 103 = .ok (.iload_n 2, 1) := by decide +kernel
theorem dX1_run_104 : decode cX1_run 104 = .ok (.aload_n 0, 1) := by decide +kernel
theorem dX1_run_105 : decode cX1_run 105 = .ok (.getfield 16, 3) := by decide +kernel
theorem dX1_run_108 : decode cX1_run 108 = .ok (.iload_n 3, 1) := by decide +kernel
theorem dX1_run_109 : decode cX1_run 109 = .ok (.iaload, 1) := by decide +kernel
theorem dX1_run_110 : decode cX1_run 110 = .ok (.iadd, 1) := by decide +kernel
theorem dX1_run_111 : decode cX1_run 111 = .ok (.iaload, 1) := by decide +kernel
theorem dX1_run_112 : decode cX1_run 112 = .ok (.istore 6, 2) := by decide +kernel
theorem dX1_run_114 : decode cX1_run 114 = .ok (.aload_n 0, 1) := by decide +kernel
theorem dX1_run_115 : decode cX1_run 115 = .ok (.getfield 19, 3) := by decide +kernel
theorem dX1_run_118 : decode cX1_run 118 = .ok (.iload_n 3, 1) := by decide +kernel
theorem dX1_run_119 : decode cX1_run 119 = .ok (.iaload, 1) := by decide +kernel
theorem dX1_run_120 : decode cX1_run 120 = .ok (.istore 7, 2) := by decide +kernel
theorem dX1_run_122 : decode cX1_run 122 = .ok (.iload 4, 2) := by decide +kernel
theorem dX1_run_124 : decode cX1_run 124 = .ok (.bipush 6, 2) := by decide +kernel
theorem dX1_run_126 : decode cX1_run 126 = .ok (.if_icmp .eq 29, 3) := by decide +kernel
theorem dX1_run_129 : decode cX1_run 129 = .ok (.iload 4, 2) := by decide +kernel
theorem dX1_run_131 : decode cX1_run 131 = .ok (.iconst 4, 1) := by decide +kernel
theorem dX1_run_132 : decode cX1_run 132 = .ok (.if_icmp .ne 10, 3) := by decide +kernel
theorem dX1_run_135 : decode cX1_run 135 = .ok (.iload 5, 2) := by decide +kernel
theorem dX1_run_137 : decode cX1_run 137 = .ok (.iload 6, 2) := by decide +kernel
theorem dX1_run_139 : decode cX1_run 139 = .ok (.if_icmp .lt 16, 3) := by decide +kernel
theorem dX1_run_142 : decode cX1_run 142 = .ok (.iload 4, 2) := by decide +kernel
theorem dX1_run_144 : decode cX1_run 144 = .ok (.iconst 5, 1) := by decide +kernel
theorem dX1_run_145 : decode cX1_run 145 = .ok (.if_icmp .ne 14, 3) := by decide +kernel
theorem dX1_run_148 : decode cX1_run 148 = .ok (.iload 5, 2) := by decide +kernel
theorem dX1_run_150 : decode cX1_run 150 = .ok (.iload 6, 2) := by decide +kernel
theorem dX1_run_152 : decode cX1_run 152 = .ok (.if_icmp .ne 7, 3) := by decide +kernel
theorem dX1_run_155 : decode cX1_run 155 = .ok (.iconst 1, 1) := by decide +kernel
theorem dX1_run_156 : decode cX1_run 156 = .ok (.goto 4, 3) := by decide +kernel
theorem dX1_run_159 : decode cX1_run 159 = .ok (.iconst 0, 1) := by decide +kernel
theorem dX1_run_160 : decode cX1_run 160 = .ok (.istore 8, 2) := by decide +kernel
theorem dX1_run_162 : decode cX1_run 162 = .ok (.iload 4, 2) := by decide +kernel
theorem dX1_run_164 : decode cX1_run 164 = .ok (.ifCond .ne 8, 3) := by decide +kernel
theorem dX1_run_167 : decode cX1_run 167 = .ok (.iload 7, 2) := by decide +kernel
theorem dX1_run_169 : decode cX1_run 169 = .ok (.goto 47, 3) := by decide +kernel
theorem dX1_run_172 : decode cX1_run 172 = .ok (.iload 4, 2) := by decide +kernel
theorem dX1_run_174 : decode cX1_run 174 = .ok (.iconst 1, 1) := by decide +kernel
theorem dX1_run_175 : decode cX1_run 175 = .ok (.if_icmp .ne 11, 3) := by decide +kernel
theorem dX1_run_178 : decode cX1_run 178 = .ok (.iload 5, 2) := by decide +kernel
theorem dX1_run_180 : decode cX1_run 180 = .ok (.iload 6, 2) := by decide +kernel
theorem dX1_run_182 : decode cX1_run 182 = .ok (.iadd, 1) := by decide +kernel
theorem dX1_run_183 : decode cX1_run 183 = .ok (.goto 33, 3) := by decide +kernel
theorem dX1_run_186 : decode cX1_run 186 = .ok (.iload 4, 2) := by decide +kernel
theorem dX1_run_188 : decode cX1_run 188 = .ok (.iconst 2, 1) := by decide +kernel
theorem dX1_run_189 : decode cX1_run 189 = .ok (.if_icmp .ne 11, 3) := by decide +kernel
theorem dX1_run_192 : decode cX1_run 192 = .ok (.iload 5, 2) := by decide +kernel
theorem dX1_run_194 : decode cX1_run 194 = .ok (.iload 6, 2) := by decide +kernel
theorem dX1_run_196 : decode cX1_run 196 = .ok (.isub, 1) := by decide +kernel
theorem dX1_run_197 : decode cX1_run 197 = .ok (.goto 19, 3) := by decide +kernel
theorem dX1_run_200 : decode cX1_run 200 = .ok (.iload 4, 2) := by decide +kernel
theorem dX1_run_202 : decode cX1_run 202 = .ok (.iconst 3, 1) := by decide +kernel
theorem dX1_run_203 : decode cX1_run 203 = .ok (.if_icmp .ne 11, 3) := by decide +kernel
theorem dX1_run_206 : decode cX1_run 206 = .ok (.iload 5, 2) := by decide +kernel
theorem dX1_run_208 : decode cX1_run 208 = .ok (.iload 7, 2) := by decide +kernel
theorem dX1_run_210 : decode cX1_run 210 = .ok (.imul, 1) := by decide +kernel
theorem dX1_run_211 : decode cX1_run 211 = .ok (.goto 5, 3) := by decide +kernel
theorem dX1_run_214 : decode cX1_run 214 = .ok (.iload 5, 2) := by decide +kernel
theorem dX1_run_216 : decode cX1_run 216 = .ok (.istore 9, 2) := by decide +kernel
theorem dX1_run_218 : decode cX1_run 218 = .ok (.aload_n 0, 1) := by decide +kernel
theorem dX1_run_219 : decode cX1_run 219 = .ok (.getfield 32, 3) := by decide +kernel
theorem dX1_run_222 : decode cX1_run 222 = .ok (.iload_n 2, 1) := by decide +kernel
theorem dX1_run_223 : decode cX1_run 223 = .ok (.aload_n 0, 1) := by decide +kernel
theorem dX1_run_224 : decode cX1_run 224 = .ok (.getfield 13, 3) := by decide +kernel
theorem dX1_run_227 : decode cX1_run 227 = .ok (.iload_n 3, 1) := by decide +kernel
theorem dX1_run_228 : decode cX1_run 228 = .ok (.iaload, 1) := by decide +kernel
theorem dX1_run_229 : decode cX1_run 229 = .ok (.iadd, 1) := by decide +kernel
theorem dX1_run_230 : decode cX1_run 230 = .ok (.iload 9, 2) := by decide +kernel
theorem dX1_run_232 : decode cX1_run 232 = .ok (.iastore, 1) := by decide +kernel
theorem dX1_run_233 : decode cX1_run 233 = .ok (.aload_n 0, 1) := by decide +kernel
theorem dX1_run_234 : decode cX1_run 234 = .ok (.getfield 29, 3) := by decide +kernel
theorem dX1_run_237 : decode cX1_run 237 = .ok (.iload_n 1, 1) := by decide +kernel
theorem dX1_run_238 : decode cX1_run 238 = .ok (.iload 4, 2) := by decide +kernel
theorem dX1_run_240 : decode cX1_run 240 = .ok (.bipush 7, 2) := by decide +kernel
theorem dX1_run_242 : decode cX1_run 242 = .ok (.if_icmp .ne 14, 3) := by decide +kernel
theorem dX1_run_245 : decode cX1_run 245 = .ok (.iload 5, 2) := by decide +kernel
theorem dX1_run_247 : decode cX1_run 247 = .ok (.iload 6, 2) := by decide +kernel
theorem dX1_run_249 : decode cX1_run 249 = .ok (.if_icmp .le 7, 3) := by decide +kernel
theorem dX1_run_252 : decode cX1_run 252 = .ok (.iconst 1, 1) := by decide +kernel
theorem dX1_run_253 : decode cX1_run 253 = .ok (.goto 4, 3) := by decide +kernel
theorem dX1_run_256 : decode cX1_run 256 = .ok (.iconst 0, 1) := by decide +kernel
theorem dX1_run_257 : decode cX1_run 257 = .ok (.bastore, 1) := by decide +kernel
theorem dX1_run_258 : decode cX1_run 258 = .ok (.aload_n 0, 1) := by decide +kernel
theorem dX1_run_259 : decode cX1_run 259 = .ok (.getfield 26, 3) := by decide +kernel
theorem dX1_run_262 : decode cX1_run 262 = .ok (.iload_n 1, 1) := by decide +kernel
theorem dX1_run_263 : decode cX1_run 263 = .ok (.aload_n 0, 1) := by decide +kernel
theorem dX1_run_264 : decode cX1_run 264 = .ok (.getfield 26, 3) := by decide +kernel
theorem dX1_run_267 : decode cX1_run 267 = .ok (.iload_n 1, 1) := by decide +kernel
theorem dX1_run_268 : decode cX1_run 268 = .ok (.iaload, 1) := by decide +kernel
theorem dX1_run_269 : decode cX1_run 269 = .ok (.iconst 1, 1) := by decide +kernel
theorem dX1_run_270 : decode cX1_run 270 = .ok (.iload_n 3, 1) := by decide +kernel
theorem dX1_run_271 : decode cX1_run 271 = .ok (.ishl, 1) := by decide +kernel
theorem dX1_run_272 : decode cX1_run 272 = .ok (.ior, 1) := by decide +kernel
theorem dX1_run_273 : decode cX1_run 273 = .ok (.iastore, 1) := by decide +kernel
theorem dX1_run_274 : decode cX1_run 274 = .ok (.iload 8, 2) := by decide +kernel
theorem dX1_run_276 : decode cX1_run 276 = .ok (.ifCond .eq 8, 3) := by decide +kernel
theorem dX1_run_279 : decode cX1_run 279 = .ok (.iload 7, 2) := by decide +kernel
theorem dX1_run_281 : decode cX1_run 281 = .ok (.goto 6, 3) := by decide +kernel
theorem dX1_run_284 : decode cX1_run 284 = .ok (.iload_n 3, 1) := by decide +kernel
theorem dX1_run_285 : decode cX1_run 285 = .ok (.iconst 1, 1) := by decide +kernel
theorem dX1_run_286 : decode cX1_run 286 = .ok (.iadd, 1) := by decide +kernel
end
section
set_option maxRecDepth 100000
theorem dX1_run_287 : decode cX1_run 287 = .ok (.istore_n 3, 1) := by decide +kernel
theorem dX1_run_288 : decode cX1_run 288 = .ok (.goto (-229), 3) := by decide +kernel
theorem dX1_run_291 : decode cX1_run 291 = .ok (.return_, 1) := by decide +kernel
theorem dX1_is_0 : decode cX1_is 0 = .ok (.iload_n 1, 1) := by decide +kernel
theorem dX1_is_1 : decode cX1_is 1 = .ok (.ifCond .lt 15, 3) := by decide +kernel
theorem dX1_is_4 : decode cX1_is 4 = .ok (.iload_n 1, 1) := by decide +kernel
theorem dX1_is_5 : decode cX1_is 5 = .ok (.aload_n 0, 1) := by decide +kernel
theorem dX1_is_6 : decode cX1_is 6 = .ok (.getfield 35, 3) := by decide +kernel
theorem dX1_is_9 : decode cX1_is 9 = .ok (.if_icmp .ge 7, 3) := by decide +kernel
theorem dX1_is_12 : decode cX1_is 12 = .ok (.iconst 1, 1) := by decide +kernel
theorem dX1_is_13 : decode cX1_is 13 = .ok (.goto 4, 3) := by decide +kernel
theorem dX1_is_16 : decode cX1_is 16 = .ok (.iconst 0, 1) := by decide +kernel
theorem dX1_is_17 : decode cX1_is 17 = .ok (.ireturn, 1) := by decide +kernel
theorem dX1_firstAt_0 : decode cX1_firstAt 0 = .ok (.aload_n 0, 1) := by decide +kernel
theorem dX1_firstAt_1 : decode cX1_firstAt 1 = .ok (.invokevirtual 50, 3) := by decide +kernel
theorem dX1_firstAt_4 : decode cX1_firstAt 4 = .ok (.iconst 0, 1) := by decide +kernel
theorem dX1_firstAt_5 : decode cX1_firstAt 5 = .ok (.istore_n 3, 1) := by decide +kernel
theorem dX1_firstAt_6 : decode cX1_firstAt 6 = .ok (.iload_n 3, 1) := by decide +kernel
theorem dX1_firstAt_7 : decode cX1_firstAt 7 = .ok (.sipush 256, 3) := by decide +kernel
theorem dX1_firstAt_10 : decode cX1_firstAt 10 = .ok (.if_icmp .ge 38, 3) := by decide +kernel
theorem dX1_firstAt_13 : decode cX1_firstAt 13 = .ok (.aload_n 0, 1) := by decide +kernel
theorem dX1_firstAt_14 : decode cX1_firstAt 14 = .ok (.iload_n 1, 1) := by decide +kernel
theorem dX1_firstAt_15 : decode cX1_firstAt 15 = .ok (.invokevirtual 53, 3) := by decide +kernel
theorem dX1_firstAt_18 : decode cX1_firstAt 18 = .ok (.ifCond .eq 30, 3) := by decide +kernel
theorem dX1_firstAt_21 : decode cX1_firstAt 21 = .ok (.iload_n 3, 1) := by decide +kernel
theorem dX1_firstAt_22 : decode cX1_firstAt 22 = .ok (.iload_n 2, 1) := by decide +kernel
theorem dX1_firstAt_23 : decode cX1_firstAt 23 = .ok (.if_icmp .lt 19, 3) := by decide +kernel
theorem dX1_firstAt_26 : decode cX1_firstAt 26 = .ok (.aload_n 0, 1) := by decide +kernel
theorem dX1_firstAt_27 : decode cX1_firstAt 27 = .ok (.getfield 26, 3) := by decide +kernel
theorem dX1_firstAt_30 : decode cX1_firstAt 30 = .ok (.iload_n 3, 1) := by decide +kernel
theorem dX1_firstAt_31 : decode cX1_firstAt 31 = .ok (.iaload, 1) := by decide +kernel
theorem dX1_firstAt_32 : decode cX1_firstAt 32 = .ok (.iload_n 1, 1) := by decide +kernel
theorem dX1_firstAt_33 : decode cX1_firstAt 33 = .ok (.ishr, 1) := by decide +kernel
theorem dX1_firstAt_34 : decode cX1_firstAt 34 = .ok (.iconst 1, 1) := by decide +kernel
theorem dX1_firstAt_35 : decode cX1_firstAt 35 = .ok (.iand, 1) := by decide +kernel
theorem dX1_firstAt_36 : decode cX1_firstAt 36 = .ok (.iconst 1, 1) := by decide +kernel
theorem dX1_firstAt_37 : decode cX1_firstAt 37 = .ok (.if_icmp .ne 5, 3) := by decide +kernel
theorem dX1_firstAt_40 : decode cX1_firstAt 40 = .ok (.iload_n 3, 1) := by decide +kernel
theorem dX1_firstAt_41 : decode cX1_firstAt 41 = .ok (.ireturn, 1) := by decide +kernel
theorem dX1_firstAt_42 : decode cX1_firstAt 42 = .ok (.iinc 3 1, 3) := by decide +kernel
theorem dX1_firstAt_45 : decode cX1_firstAt 45 = .ok (.goto (-39), 3) := by decide +kernel
theorem dX1_firstAt_48 : decode cX1_firstAt 48 = .ok (.iconst (-1), 1) := by decide +kernel
theorem dX1_firstAt_49 : decode cX1_firstAt 49 = .ok (.ireturn, 1) := by decide +kernel
theorem dX1_failing_0 : decode cX1_failing 0 = .ok (.aload_n 0, 1) := by decide +kernel
theorem dX1_failing_1 : decode cX1_failing 1 = .ok (.invokevirtual 50, 3) := by decide +kernel
theorem dX1_failing_4 : decode cX1_failing 4 = .ok (.iconst 0, 1) := by decide +kernel
theorem dX1_failing_5 : decode cX1_failing 5 = .ok (.istore_n 1, 1) := by decide +kernel
theorem dX1_failing_6 : decode cX1_failing 6 = .ok (.iconst 0, 1) := by decide +kernel
theorem dX1_failing_7 : decode cX1_failing 7 = .ok (.istore_n 2, 1) := by decide +kernel
theorem dX1_failing_8 : decode cX1_failing 8 = .ok (.iload_n 2, 1) := by decide +kernel
theorem dX1_failing_9 : decode cX1_failing 9 = .ok (.sipush 256, 3) := by decide +kernel
theorem dX1_failing_12 : decode cX1_failing 12 = .ok (.if_icmp .ge 26, 3) := by decide +kernel
theorem dX1_failing_15 : decode cX1_failing 15 = .ok (.aload_n 0, 1) := by decide +kernel
theorem dX1_failing_16 : decode cX1_failing 16 = .ok (.getfield 29, 3) := by decide +kernel
theorem dX1_failing_19 : decode cX1_failing 19 = .ok (.iload_n 2, 1) := by decide +kernel
theorem dX1_failing_20 : decode cX1_failing 20 = .ok (.baload, 1) := by decide +kernel
theorem dX1_failing_21 : decode cX1_failing 21 = .ok (.ifCond .eq 9, 3) := by decide +kernel
theorem dX1_failing_24 : decode cX1_failing 24 = .ok (.iload_n 1, 1) := by decide +kernel
theorem dX1_failing_25 : decode cX1_failing 25 = .ok (.iconst 1, 1) := by decide +kernel
theorem dX1_failing_26 : decode cX1_failing 26 = .ok (.iadd, 1) := by decide +kernel
theorem dX1_failing_27 : decode cX1_failing 27 = .ok (.goto 4, 3) := by decide +kernel
theorem dX1_failing_30 : decode cX1_failing 30 = .ok (.iload_n 1, 1) := by decide +kernel
theorem dX1_failing_31 : decode cX1_failing 31 = .ok (.istore_n 1, 1) := by decide +kernel
theorem dX1_failing_32 : decode cX1_failing 32 = .ok (.iinc 2 1, 3) := by decide +kernel
theorem dX1_failing_35 : decode cX1_failing 35 = .ok (.goto (-27), 3) := by decide +kernel
theorem dX1_failing_38 : decode cX1_failing 38 = .ok (.iload_n 1, 1) := by decide +kernel
theorem dX1_failing_39 : decode cX1_failing 39 = .ok (.ireturn, 1) := by decide +kernel
theorem dX1_firstFailing_0 : decode cX1_firstFailing 0 = .ok (.aload_n 0, 1) := by decide +kernel
theorem dX1_firstFailing_1 : decode cX1_firstFailing 1 = .ok (.invokevirtual 50, 3) := by decide +kernel
theorem dX1_firstFailing_4 : decode cX1_firstFailing 4 = .ok (.iconst 0, 1) := by decide +kernel
theorem dX1_firstFailing_5 : decode cX1_firstFailing 5 = .ok (.istore_n 2, 1) := by decide +kernel
theorem dX1_firstFailing_6 : decode cX1_firstFailing 6 = .ok (.iload_n 2, 1) := by decide +kernel
theorem dX1_firstFailing_7 : decode cX1_firstFailing 7 = .ok (.sipush 256, 3) := by decide +kernel
theorem dX1_firstFailing_10 : decode cX1_firstFailing 10 = .ok (.if_icmp .ge 25, 3) := by decide +kernel
theorem dX1_firstFailing_13 : decode cX1_firstFailing 13 = .ok (.iload_n 2, 1) := by decide +kernel
theorem dX1_firstFailing_14 : decode cX1_firstFailing 14 = .ok (.iload_n 1, 1) := by decide +kernel
theorem dX1_firstFailing_15 : decode cX1_firstFailing 15 = .ok (.if_icmp .lt 14, 3) := by decide +kernel
theorem dX1_firstFailing_18 : decode cX1_firstFailing 18 = .ok (.aload_n 0, 1) := by decide +kernel
theorem dX1_firstFailing_19 : decode cX1_firstFailing 19 = .ok (.getfield 29, 3) := by decide +kernel
theorem dX1_firstFailing_22 : decode cX1_firstFailing 22 = .ok (.iload_n 2, 1) := by decide +kernel
theorem dX1_firstFailing_23 : decode cX1_firstFailing 23 = .ok (.baload, 1) := by decide +kernel
theorem dX1_firstFailing_24 : decode cX1_firstFailing 24 = .ok (.ifCond .eq 5, 3) := by decide +kernel
theorem dX1_firstFailing_27 : decode cX1_firstFailing 27 = .ok (.iload_n 2, 1) := by decide +kernel
theorem dX1_firstFailing_28 : decode cX1_firstFailing 28 = .ok (.ireturn, 1) := by decide +kernel
theorem dX1_firstFailing_29 : decode cX1_firstFailing 29 = .ok (.iinc 2 1, 3) := by decide +kernel
theorem dX1_firstFailing_32 : decode cX1_firstFailing 32 = .ok (.goto (-26), 3) := by decide +kernel
theorem dX1_firstFailing_35 : decode cX1_firstFailing 35 = .ok (.iconst (-1), 1) := by decide +kernel
theorem dX1_firstFailing_36 : decode cX1_firstFailing 36 = .ok (.ireturn, 1) := by decide +kernel
theorem dX1_paths_0 : decode cX1_paths 0 = .ok (.aload_n 0, 1) := by decide +kernel
theorem dX1_paths_1 : decode cX1_paths 1 = .ok (.invokevirtual 50, 3) := by decide +kernel
theorem dX1_paths_4 : decode cX1_paths 4 = .ok (.iconst 0, 1) := by decide +kernel
theorem dX1_paths_5 : decode cX1_paths 5 = .ok (.istore_n 1, 1) := by decide +kernel
theorem dX1_paths_6 : decode cX1_paths 6 = .ok (.iconst 0, 1) := by decide +kernel
theorem dX1_paths_7 : decode cX1_paths 7 = .ok (.istore_n 2, 1) := by decide +kernel
theorem dX1_paths_8 : decode cX1_paths 8 = .ok (.iload_n 2, 1) := by decide +kernel
theorem dX1_paths_9 : decode cX1_paths 9 = .ok (.sipush 256, 3) := by decide +kernel
theorem dX1_paths_12 : decode cX1_paths 12 = .ok (.if_icmp .ge 26, 3) := by decide +kernel
theorem dX1_paths_15 : decode cX1_paths 15 = .ok (.aload_n 0, 1) := by decide +kernel
theorem dX1_paths_16 : decode cX1_paths 16 = .ok (.iload_n 2, 1) := by decide +kernel
theorem dX1_paths_17 : decode cX1_paths 17 = .ok (.invokevirtual 57, 3) := by decide +kernel
theorem dX1_paths_20 : decode cX1_paths 20 = .ok (.iload_n 2, 1) := by decide +kernel
theorem dX1_paths_21 : decode cX1_paths 21 = .ok (.if_icmp .ne 9, 3) := by decide +kernel
theorem dX1_paths_24 : decode cX1_paths 24 = .ok (.iload_n 1, 1) := by decide +kernel
theorem dX1_paths_25 : decode cX1_paths 25 = .ok (.iconst 1, 1) := by decide +kernel
theorem dX1_paths_26 : decode cX1_paths 26 = .ok (.iadd, 1) := by decide +kernel
theorem dX1_paths_27 : decode cX1_paths 27 = .ok (.goto 4, 3) := by decide +kernel
theorem dX1_paths_30 : decode cX1_paths 30 = .ok (.iload_n 1, 1) := by decide +kernel
theorem dX1_paths_31 : decode cX1_paths 31 = .ok (.istore_n 1, 1) := by decide +kernel
theorem dX1_paths_32 : decode cX1_paths 32 = .ok (.iinc 2 1, 3) := by decide +kernel
theorem dX1_paths_35 : decode cX1_paths 35 = .ok (.goto (-27), 3) := by decide +kernel
theorem dX1_paths_38 : decode cX1_paths 38 = .ok (.iload_n 1, 1) := by decide +kernel
theorem dX1_paths_39 : decode cX1_paths 39 = .ok (.ireturn, 1) := by decide +kernel
theorem dX1_least_0 : decode cX1_least 0 = .ok (.iconst 0, 1) := by decide +kernel
theorem dX1_least_1 : decode cX1_least 1 = .ok (.istore_n 2, 1) := by decide +kernel
theorem dX1_least_2 : decode cX1_least 2 = .ok (.aload_n 0, 1) := by decide +kernel
theorem dX1_least_3 : decode cX1_least 3 = .ok (.getfield 26, 3) := by decide +kernel
theorem dX1_least_6 : decode cX1_least 6 = .ok (.iload_n 2, 1) := by decide +kernel
theorem dX1_least_7 : decode cX1_least 7 = .ok (.iaload, 1) := by decide +kernel
theorem dX1_least_8 : decode cX1_least 8 = .ok (.aload_n 0, 1) := by decide +kernel
theorem dX1_least_9 : decode cX1_least 9 = .ok (.getfield 26, 3) := by decide +kernel
theorem dX1_least_12 : decode cX1_least 12 = .ok (.iload_n 1, 1) := by decide +kernel
theorem dX1_least_13 : decode cX1_least 13 = .ok (.iaload, 1) := by decide +kernel
theorem dX1_least_14 : decode cX1_least 14 = .ok (.if_icmp .eq 9, 3) := by decide +kernel
theorem dX1_least_17 : decode cX1_least 17 = .ok (.iinc 2 1, 3) := by decide +kernel
theorem dX1_least_20 : decode cX1_least 20 = .ok (.goto (-18), 3) := by decide +kernel
theorem dX1_least_23 : decode cX1_least 23 = .ok (.iload_n 2, 1) := by decide +kernel
theorem dX1_least_24 : decode cX1_least 24 = .ok (.ireturn, 1) := by decide +kernel
theorem dX1_alike_0 : decode cX1_alike 0 = .ok (.aload_n 0, 1) := by decide +kernel
theorem dX1_alike_1 : decode cX1_alike 1 = .ok (.invokevirtual 50, 3) := by decide +kernel
theorem dX1_alike_4 : decode cX1_alike 4 = .ok (.iconst 0, 1) := by decide +kernel
theorem dX1_alike_5 : decode cX1_alike 5 = .ok (.istore_n 2, 1) := by decide +kernel
theorem dX1_alike_6 : decode cX1_alike 6 = .ok (.iconst 0, 1) := by decide +kernel
theorem dX1_alike_7 : decode cX1_alike 7 = .ok (.istore_n 3, 1) := by decide +kernel
theorem dX1_alike_8 : decode cX1_alike 8 = .ok (.iload_n 3, 1) := by decide +kernel
theorem dX1_alike_9 : decode cX1_alike 9 = .ok (.sipush 256, 3) := by decide +kernel
theorem dX1_alike_12 : decode cX1_alike 12 = .ok (.if_icmp .ge 40, 3) := by decide +kernel
theorem dX1_alike_15 : decode cX1_alike 15 = .ok (.aload_n 0, 1) := by decide +kernel
theorem dX1_alike_16 : decode cX1_alike 16 = .ok (.iload_n 1, 1) := by decide +kernel
theorem dX1_alike_17 : decode cX1_alike 17 = .ok (.invokevirtual 61, 3) := by decide +kernel
theorem dX1_alike_20 : decode cX1_alike 20 = .ok (.ifCond .eq 32, 3) := by decide +kernel
theorem dX1_alike_23 : decode cX1_alike 23 = .ok (.aload_n 0, 1) := by decide +kernel
theorem dX1_alike_24 : decode cX1_alike 24 = .ok (.getfield 26, 3) := by decide +kernel
theorem dX1_alike_27 : decode cX1_alike 27 = .ok (.iload_n 3, 1) := by decide +kernel
theorem dX1_alike_28 : decode cX1_alike 28 = .ok (.iaload, 1) := by decide +kernel
theorem dX1_alike_29 : decode cX1_alike 29 = .ok (.aload_n 0, 1) := by decide +kernel
theorem dX1_alike_30 : decode cX1_alike 30 = .ok (.getfield 26, 3) := by decide +kernel
theorem dX1_alike_33 : decode cX1_alike 33 = .ok (.iload_n 1, 1) := by decide +kernel
theorem dX1_alike_34 : decode cX1_alike 34 = .ok (.iaload, 1) := by decide +kernel
theorem dX1_alike_35 : decode cX1_alike 35 = .ok (.if_icmp .ne 9, 3) := by decide +kernel
theorem dX1_alike_38 : decode cX1_alike 38 = .ok (.iload_n 2, 1) := by decide +kernel
theorem dX1_alike_39 : decode cX1_alike 39 = .ok (.iconst 1, 1) := by decide +kernel
theorem dX1_alike_40 : decode cX1_alike 40 = .ok (.iadd, 1) := by decide +kernel
theorem dX1_alike_41 : decode cX1_alike 41 = .ok (.goto 4, 3) := by decide +kernel
theorem dX1_alike_44 : decode cX1_alike 44 = .ok (.iload_n 2, 1) := by decide +kernel
theorem dX1_alike_45 : decode cX1_alike 45 = .ok (.istore_n 2, 1) := by decide +kernel
theorem dX1_alike_46 : decode cX1_alike 46 = .ok (.iinc 3 1, 3) := by decide +kernel
theorem dX1_alike_49 : decode cX1_alike 49 = .ok (.goto (-41), 3) := by decide +kernel
theorem dX1_alike_52 : decode cX1_alike 52 = .ok (.aload_n 0, 1) := by decide +kernel
theorem dX1_alike_53 : decode cX1_alike 53 = .ok (.iload_n 1, 1) := by decide +kernel
theorem dX1_alike_54 : decode cX1_alike 54 = .ok (.invokevirtual 61, 3) := by decide +kernel
theorem dX1_alike_57 : decode cX1_alike 57 = .ok (.ifCond .eq 7, 3) := by decide +kernel
theorem dX1_alike_60 : decode cX1_alike 60 = .ok (.iload_n 2, 1) := by decide +kernel
theorem dX1_alike_61 : decode cX1_alike 61 = .ok (.goto 4, 3) := by decide +kernel
theorem dX1_alike_64 : decode cX1_alike 64 = .ok (.iconst (-1), 1) := by decide +kernel
theorem dX1_alike_65 : decode cX1_alike 65 = .ok (.ireturn, 1) := by decide +kernel
theorem dX1_isInput_0 : decode cX1_isInput 0 = .ok (.iload_n 1, 1) := by decide +kernel
theorem dX1_isInput_1 : decode cX1_isInput 1 = .ok (.ifCond .lt 14, 3) := by decide +kernel
theorem dX1_isInput_4 : decode cX1_isInput 4 = .ok (.iload_n 1, 1) := by decide +kernel
theorem dX1_isInput_5 : decode cX1_isInput 5 = .ok (.sipush 255, 3) := by decide +kernel
theorem dX1_isInput_8 : decode cX1_isInput 8 = .ok (.if_icmp .gt 7, 3) := by decide +kernel
theorem dX1_isInput_11 : decode cX1_isInput 11 = .ok (.iconst 1, 1) := by decide +kernel
theorem dX1_isInput_12 : decode cX1_isInput 12 = .ok (.goto 4, 3) := by decide +kernel
theorem dX1_isInput_15 : decode cX1_isInput 15 = .ok (.iconst 0, 1) := by decide +kernel
theorem dX1_isInput_16 : decode cX1_isInput 16 = .ok (.ireturn, 1) := by decide +kernel
theorem dX1_first_0 : decode cX1_first 0 = .ok (.aload_n 0, 1) := by decide +kernel
theorem dX1_first_1 : decode cX1_first 1 = .ok (.invokevirtual 50, 3) := by decide +kernel
theorem dX1_first_4 : decode cX1_first 4 = .ok (.aload_n 0, 1) := by decide +kernel
theorem dX1_first_5 : decode cX1_first 5 = .ok (.iload_n 1, 1) := by decide +kernel
theorem dX1_first_6 : decode cX1_first 6 = .ok (.invokevirtual 61, 3) := by decide +kernel
theorem dX1_first_9 : decode cX1_first 9 = .ok (.ifCond .eq 11, 3) := by decide +kernel
theorem dX1_first_12 : decode cX1_first 12 = .ok (.aload_n 0, 1) := by decide +kernel
theorem dX1_first_13 : decode cX1_first 13 = .ok (.iload_n 1, 1) := by decide +kernel
theorem dX1_first_14 : decode cX1_first 14 = .ok (.invokevirtual 57, 3) := by decide +kernel
theorem dX1_first_17 : decode cX1_first 17 = .ok (.goto 4, 3) := by decide +kernel
theorem dX1_first_20 : decode cX1_first 20 = .ok (.iconst (-1), 1) := by decide +kernel
theorem dX1_first_21 : decode cX1_first 21 = .ok (.ireturn, 1) := by decide +kernel
theorem dX1_mark_0 : decode cX1_mark 0 = .ok (.aload_n 0, 1) := by decide +kernel
theorem dX1_mark_1 : decode cX1_mark 1 = .ok (.iload_n 1, 1) := by decide +kernel
theorem dX1_mark_2 : decode cX1_mark 2 = .ok (.invokevirtual 61, 3) := by decide +kernel
theorem dX1_mark_5 : decode cX1_mark 5 = .ok (.ifCond .ne 5, 3) := by decide +kernel
theorem dX1_mark_8 : decode cX1_mark 8 = .ok (.iconst (-1), 1) := by decide +kernel
theorem dX1_mark_9 : decode cX1_mark 9 = .ok (.ireturn, 1) := by decide +kernel
theorem dX1_mark_10 : decode cX1_mark 10 = .ok (.aload_n 0, 1) := by decide +kernel
theorem dX1_mark_11 : decode cX1_mark 11 = .ok (.invokevirtual 50, 3) := by decide +kernel
theorem dX1_mark_14 : decode cX1_mark 14 = .ok (.aload_n 0, 1) := by decide +kernel
theorem dX1_mark_15 : decode cX1_mark 15 = .ok (.getfield 22, 3) := by decide +kernel
theorem dX1_mark_18 : decode cX1_mark 18 = .ok (.aload_n 0, 1) := by decide +kernel
theorem dX1_mark_19 : decode cX1_mark 19 = .ok (.getfield 26, 3) := by decide +kernel
theorem dX1_mark_22 : decode cX1_mark 22 = .ok (.iload_n 1, 1) := by decide +kernel
theorem dX1_mark_23 : decode cX1_mark 23 = .ok (.iaload, 1) := by decide +kernel
theorem dX1_mark_24 : decode cX1_mark 24 = .ok (.iconst 1, 1) := by decide +kernel
theorem dX1_mark_25 : decode cX1_mark 25 = .ok (.bastore, 1) := by decide +kernel
theorem dX1_mark_26 : decode cX1_mark 26 = .ok (.iconst 0, 1) := by decide +kernel
theorem dX1_mark_27 : decode cX1_mark 27 = .ok (.istore_n 2, 1) := by decide +kernel
theorem dX1_mark_28 : decode cX1_mark 28 = .ok (.iconst 0, 1) := by decide +kernel
theorem dX1_mark_29 : decode cX1_mark 29 = .ok (.istore_n 3, 1) := by decide +kernel
theorem dX1_mark_30 : decode cX1_mark 30 = .ok (.iload_n 3, 1) := by decide +kernel
theorem dX1_mark_31 : decode cX1_mark 31 = .ok (.sipush 4096, 3) := by decide +kernel
theorem dX1_mark_34 : decode cX1_mark 34 = .ok (.if_icmp .ge 26, 3) := by decide +kernel
theorem dX1_mark_37 : decode cX1_mark 37 = .ok (.aload_n 0, 1) := by decide +kernel
theorem dX1_mark_38 : decode cX1_mark 38 = .ok (.getfield 22, 3) := by decide +kernel
theorem dX1_mark_41 : decode cX1_mark 41 = .ok (.iload_n 3, 1) := by decide +kernel
theorem dX1_mark_42 : decode cX1_mark 42 = .ok (.baload, 1) := by decide +kernel
theorem dX1_mark_43 : decode cX1_mark 43 = .ok (.ifCond .eq 9, 3) := by decide +kernel
theorem dX1_mark_46 : decode cX1_mark 46 = .ok (.iload_n 2, 1) := by decide +kernel
theorem dX1_mark_47 : decode cX1_mark 47 = .ok (.iconst 1, 1) := by decide +kernel
theorem dX1_mark_48 : decode cX1_mark 48 = .ok (.iadd, 1) := by decide +kernel
theorem dX1_mark_49 : decode cX1_mark 49 = .ok (.goto 4, 3) := by decide +kernel
theorem dX1_mark_52 : decode cX1_mark 52 = .ok (.iload_n 2, 1) := by decide +kernel
theorem dX1_mark_53 : decode cX1_mark 53 = .ok (.istore_n 2, 1) := by decide +kernel
theorem dX1_mark_54 : decode cX1_mark 54 = .ok (.iinc 3 1, 3) := by decide +kernel
theorem dX1_mark_57 : decode cX1_mark 57 = .ok (.goto (-27), 3) := by decide +kernel
theorem dX1_mark_60 : decode cX1_mark 60 = .ok (.iload_n 2, 1) := by decide +kernel
theorem dX1_mark_61 : decode cX1_mark 61 = .ok (.ireturn, 1) := by decide +kernel
theorem dX1_unmarked_0 : decode cX1_unmarked 0 = .ok (.aload_n 0, 1) := by decide +kernel
theorem dX1_unmarked_1 : decode cX1_unmarked 1 = .ok (.invokevirtual 50, 3) := by decide +kernel
theorem dX1_unmarked_4 : decode cX1_unmarked 4 = .ok (.iconst 0, 1) := by decide +kernel
theorem dX1_unmarked_5 : decode cX1_unmarked 5 = .ok (.istore_n 1, 1) := by decide +kernel
theorem dX1_unmarked_6 : decode cX1_unmarked 6 = .ok (.iload_n 1, 1) := by decide +kernel
theorem dX1_unmarked_7 : decode cX1_unmarked 7 = .ok (.sipush 256, 3) := by decide +kernel
theorem dX1_unmarked_10 : decode cX1_unmarked 10 = .ok (.if_icmp .ge 25, 3) := by decide +kernel
theorem dX1_unmarked_13 : decode cX1_unmarked 13 = .ok (.aload_n 0, 1) := by decide +kernel
theorem dX1_unmarked_14 : decode cX1_unmarked 14 = .ok (.getfield 22, 3) := by decide +kernel
theorem dX1_unmarked_17 : decode cX1_unmarked 17 = .ok (.aload_n 0, 1) := by decide +kernel
theorem dX1_unmarked_18 : decode cX1_unmarked 18 = .ok (.getfield 26, 3) := by decide +kernel
theorem dX1_unmarked_21 : decode cX1_unmarked 21 = .ok (.iload_n 1, 1) := by decide +kernel
theorem dX1_unmarked_22 : decode cX1_unmarked 22 = .ok (.iaload, 1) := by decide +kernel
theorem dX1_unmarked_23 : decode cX1_unmarked 23 = .ok (.baload, 1) := by decide +kernel
theorem dX1_unmarked_24 : decode cX1_unmarked 24 = .ok (.ifCond .ne 5, 3) := by decide +kernel
theorem dX1_unmarked_27 : decode cX1_unmarked 27 = .ok (.iload_n 1, 1) := by decide +kernel
theorem dX1_unmarked_28 : decode cX1_unmarked 28 = .ok (.ireturn, 1) := by decide +kernel
theorem dX1_unmarked_29 : decode cX1_unmarked 29 = .ok (.iinc 1 1, 3) := by decide +kernel
theorem dX1_unmarked_32 : decode cX1_unmarked 32 = .ok (.goto (-26), 3) := by decide +kernel
theorem dX1_unmarked_35 : decode cX1_unmarked 35 = .ok (.iconst (-1), 1) := by decide +kernel
theorem dX1_unmarked_36 : decode cX1_unmarked 36 = .ok (.ireturn, 1) := by decide +kernel
theorem dX1_extreme_0 : decode cX1_extreme 0 = .ok (.aload_n 0, 1) := by decide +kernel
theorem dX1_extreme_1 : decode cX1_extreme 1 = .ok (.invokevirtual 50, 3) := by decide +kernel
theorem dX1_extreme_4 : decode cX1_extreme 4 = .ok (.ldc 64, 2) := by decide +kernel
theorem dX1_extreme_6 : decode cX1_extreme 6 = .ok (.istore_n 3, 1) := by decide +kernel
theorem dX1_extreme_7 : decode cX1_extreme 7 = .ok (.iconst 0, 1) := by decide +kernel
theorem dX1_extreme_8 : decode cX1_extreme 8 = .ok (.istore 4, 2) := by decide +kernel
theorem dX1_extreme_10 : decode cX1_extreme 10 = .ok (.iconst 0, 1) := by decide +kernel
theorem dX1_extreme_11 : decode cX1_extreme 11 = .ok (.istore 5, 2) := by decide +kernel
theorem dX1_extreme_13 : decode cX1_extreme 13 = .ok (.iload 5, 2) := by decide +kernel
theorem dX1_extreme_15 : decode cX1_extreme 15 = .ok (.sipush 256, 3) := by decide +kernel
theorem dX1_extreme_18 : decode cX1_extreme 18 = .ok (.if_icmp .ge 115, 3) := by decide +kernel
theorem dX1_extreme_21 : decode cX1_extreme 21 = .ok (.iload_n 1, 1) := by decide +kernel
theorem dX1_extreme_22 : decode cX1_extreme 22 = .ok (.ifCond .lt 111, 3) := by decide +kernel
theorem dX1_extreme_25 : decode cX1_extreme 25 = .ok (.iload_n 1, 1) := by decide +kernel
theorem dX1_extreme_26 : decode cX1_extreme 26 = .ok (.iconst 3, 1) := by decide +kernel
theorem dX1_extreme_27 : decode cX1_extreme 27 = .ok (.if_icmp .gt 106, 3) := by decide +kernel
theorem dX1_extreme_30 : decode cX1_extreme 30 = .ok (.iload_n 2, 1) := by decide +kernel
theorem dX1_extreme_31 : decode cX1_extreme 31 = .ok (.ifCond .eq 8, 3) := by decide +kernel
theorem dX1_extreme_34 : decode cX1_extreme 34 = .ok (.iload_n 2, 1) := by decide +kernel
theorem dX1_extreme_35 : decode cX1_extreme 35 = .ok (.iconst 1, 1) := by decide +kernel
theorem dX1_extreme_36 : decode cX1_extreme 36 = .ok (.if_icmp .ne 97, 3) := by decide +kernel
theorem dX1_extreme_39 : decode cX1_extreme 39 = .ok (.aload_n 0, 1) := by decide +kernel
theorem dX1_extreme_40 : decode cX1_extreme 40 = .ok (.getfield 32, 3) := by decide +kernel
theorem dX1_extreme_43 : decode cX1_extreme 43 = .ok (.iconst 4, 1) := by decide +kernel
theorem dX1_extreme_44 : decode cX1_extreme 44 = .ok (.iload 5, 2) := by decide +kernel
theorem dX1_extreme_46 : decode cX1_extreme 46 = .ok (.imul, 1) := by decide +kernel
theorem dX1_extreme_47 : decode cX1_extreme 47 = .ok (.iload_n 1, 1) := by decide +kernel
theorem dX1_extreme_48 : decode cX1_extreme 48 = .ok (.iadd, 1) := by decide +kernel
theorem dX1_extreme_49 : decode cX1_extreme 49 = .ok (.iaload, 1) := by decide +kernel
theorem dX1_extreme_50 : decode cX1_extreme 50 = .ok (.istore 6, 2) := by decide +kernel
theorem dX1_extreme_52 : decode cX1_extreme 52 = .ok (.aload_n 0, 1) := by decide +kernel
theorem dX1_extreme_53 : decode cX1_extreme 53 = .ok (.getfield 29, 3) := by decide +kernel
theorem dX1_extreme_56 : decode cX1_extreme 56 = .ok (.iload 5, 2) := by decide +kernel
theorem dX1_extreme_58 : decode cX1_extreme 58 = .ok (.baload, 1) := by decide +kernel
theorem dX1_extreme_59 : decode cX1_extreme 59 = .ok (.ifCond .ne 31, 3) := by decide +kernel
theorem dX1_extreme_62 : decode cX1_extreme 62 = .ok (.iload 4, 2) := by decide +kernel
theorem dX1_extreme_64 : decode cX1_extreme 64 = .ok (.ifCond .eq 22, 3) := by decide +kernel
theorem dX1_extreme_67 : decode cX1_extreme 67 = .ok (.iload_n 2, 1) := by decide +kernel
theorem dX1_extreme_68 : decode cX1_extreme 68 = .ok (.ifCond .ne 12, 3) := by decide +kernel
theorem dX1_extreme_71 : decode cX1_extreme 71 = .ok (.iload 6, 2) := by decide +kernel
theorem dX1_extreme_73 : decode cX1_extreme 73 = .ok (.iload_n 3, 1) := by decide +kernel
theorem dX1_extreme_74 : decode cX1_extreme 74 = .ok (.if_icmp .ge 16, 3) := by decide +kernel
theorem dX1_extreme_77 : decode cX1_extreme 77 = .ok (.goto 9, 3) := by decide +kernel
theorem dX1_extreme_80 : decode cX1_extreme 80 = .ok (.iload 6, 2) := by decide +kernel
theorem dX1_extreme_82 : decode cX1_extreme 82 = .ok (.iload_n 3, 1) := by decide +kernel
theorem dX1_extreme_83 : decode cX1_extreme 83 = .ok (.if_icmp .le 7, 3) := by decide +kernel
theorem dX1_extreme_86 : decode cX1_extreme 86 = .ok (.iconst 1, 1) := by decide +kernel
theorem dX1_extreme_87 : decode cX1_extreme 87 = .ok (.goto 4, 3) := by decide +kernel
theorem dX1_extreme_90 : decode cX1_extreme 90 = .ok (.iconst 0, 1) := by decide +kernel
theorem dX1_extreme_91 : decode cX1_extreme 91 = .ok (.istore 7, 2) := by decide +kernel
theorem dX1_extreme_93 : decode cX1_extreme 93 = .ok (.iload 7, 2) := by decide +kernel
theorem dX1_extreme_95 : decode cX1_extreme 95 = .ok (.ifCond .eq 8, 3) := by decide +kernel
theorem dX1_extreme_98 : decode cX1_extreme 98 = .ok (.iload 6, 2) := by decide +kernel
theorem dX1_extreme_100 : decode cX1_extreme 100 = .ok (.goto 4, 3) := by decide +kernel
theorem dX1_extreme_103 : decode cX1_extreme 103 = .ok (.iload_n 3, 1) := by decide +kernel
theorem dX1_extreme_104 : decode cX1_extreme 104 = .ok (.istore_n 3, 1) := by decide +kernel
theorem dX1_extreme_105 : decode cX1_extreme 105 = .ok (.iload 4, 2) := by decide +kernel
theorem dX1_extreme_107 : decode cX1_extreme 107 = .ok (.ifCond .ne 13, 3) := by decide +kernel
theorem dX1_extreme_110 : decode cX1_extreme 110 = .ok (.aload_n 0, 1) := by decide +kernel
theorem dX1_extreme_111 : decode cX1_extreme 111 = .ok (.getfield 29, 3) := by decide +kernel
theorem dX1_extreme_114 : decode cX1_extreme 114 = .ok (.iload 5, 2) := by decide +kernel
theorem dX1_extreme_116 : decode cX1_extreme 116 = .ok (.baload, 1) := by decide +kernel
theorem dX1_extreme_117 : decode cX1_extreme 117 = .ok (.ifCond .ne 7, 3) := by decide +kernel
theorem dX1_extreme_120 : decode cX1_extreme 120 = .ok (.iconst 1, 1) := by decide +kernel
theorem dX1_extreme_121 : decode cX1_extreme 121 = .ok (.goto 4, 3) := by decide +kernel
theorem dX1_extreme_124 : decode cX1_extreme 124 = .ok (.iconst 0, 1) := by decide +kernel
theorem dX1_extreme_125 : decode cX1_extreme 125 = .ok (.istore 4, 2) := by decide +kernel
theorem dX1_extreme_127 : decode cX1_extreme 127 = .ok (.iinc 5 1, 3) := by decide +kernel
theorem dX1_extreme_130 : decode cX1_extreme 130 = .ok (.goto (-117), 3) := by decide +kernel
theorem dX1_extreme_133 : decode cX1_extreme 133 = .ok (.iload_n 3, 1) := by decide +kernel
theorem dX1_extreme_134 : decode cX1_extreme 134 = .ok (.ireturn, 1) := by decide +kernel
theorem dX1_ending_0 : decode cX1_ending 0 = .ok (.aload_n 0, 1) := by decide +kernel
theorem dX1_ending_1 : decode cX1_ending 1 = .ok (.invokevirtual 50, 3) := by decide +kernel
theorem dX1_ending_4 : decode cX1_ending 4 = .ok (.iconst 0, 1) := by decide +kernel
theorem dX1_ending_5 : decode cX1_ending 5 = .ok (.istore_n 3, 1) := by decide +kernel
theorem dX1_ending_6 : decode cX1_ending 6 = .ok (.iconst 0, 1) := by decide +kernel
theorem dX1_ending_7 : decode cX1_ending 7 = .ok (.istore 4, 2) := by decide +kernel
theorem dX1_ending_9 : decode cX1_ending 9 = .ok (.iload 4, 2) := by decide +kernel
theorem dX1_ending_11 : decode cX1_ending 11 = .ok (.sipush 256, 3) := by decide +kernel
theorem dX1_ending_14 : decode cX1_ending 14 = .ok (.if_icmp .ge 51, 3) := by decide +kernel
theorem dX1_ending_17 : decode cX1_ending 17 = .ok (.iload_n 1, 1) := by decide +kernel
theorem dX1_ending_18 : decode cX1_ending 18 = .ok (.ifCond .lt 47, 3) := by decide +kernel
theorem dX1_ending_21 : decode cX1_ending 21 = .ok (.iload_n 1, 1) := by decide +kernel
theorem dX1_ending_22 : decode cX1_ending 22 = .ok (.iconst 3, 1) := by decide +kernel
theorem dX1_ending_23 : decode cX1_ending 23 = .ok (.if_icmp .gt 42, 3) := by decide +kernel
theorem dX1_ending_26 : decode cX1_ending 26 = .ok (.aload_n 0, 1) := by decide +kernel
theorem dX1_ending_27 : decode cX1_ending 27 = .ok (.getfield 29, 3) := by decide +kernel
theorem dX1_ending_30 : decode cX1_ending 30 = .ok (.iload 4, 2) := by decide +kernel
theorem dX1_ending_32 : decode cX1_ending 32 = .ok (.baload, 1) := by decide +kernel
theorem dX1_ending_33 : decode cX1_ending 33 = .ok (.ifCond .ne 24, 3) := by decide +kernel
theorem dX1_ending_36 : decode cX1_ending 36 = .ok (.aload_n 0, 1) := by decide +kernel
theorem dX1_ending_37 : decode cX1_ending 37 = .ok (.getfield 32, 3) := by decide +kernel
theorem dX1_ending_40 : decode cX1_ending 40 = .ok (.iconst 4, 1) := by decide +kernel
theorem dX1_ending_41 : decode cX1_ending 41 = .ok (.iload 4, 2) := by decide +kernel
theorem dX1_ending_43 : decode cX1_ending 43 = .ok (.imul, 1) := by decide +kernel
theorem dX1_ending_44 : decode cX1_ending 44 = .ok (.iload_n 1, 1) := by decide +kernel
theorem dX1_ending_45 : decode cX1_ending 45 = .ok (.iadd, 1) := by decide +kernel
theorem dX1_ending_46 : decode cX1_ending 46 = .ok (.iaload, 1) := by decide +kernel
theorem dX1_ending_47 : decode cX1_ending 47 = .ok (.iload_n 2, 1) := by decide +kernel
theorem dX1_ending_48 : decode cX1_ending 48 = .ok (.if_icmp .ne 9, 3) := by decide +kernel
theorem dX1_ending_51 : decode cX1_ending 51 = .ok (.iload_n 3, 1) := by decide +kernel
theorem dX1_ending_52 : decode cX1_ending 52 = .ok (.iconst 1, 1) := by decide +kernel
theorem dX1_ending_53 : decode cX1_ending 53 = .ok (.iadd, 1) := by decide +kernel
theorem dX1_ending_54 : decode cX1_ending 54 = .ok (.goto 4, 3) := by decide +kernel
theorem dX1_ending_57 : decode cX1_ending 57 = .ok (.iload_n 3, 1) := by decide +kernel
theorem dX1_ending_58 : decode cX1_ending 58 = .ok (.istore_n 3, 1) := by decide +kernel
theorem dX1_ending_59 : decode cX1_ending 59 = .ok (.iinc 4 1, 3) := by decide +kernel
theorem dX1_ending_62 : decode cX1_ending 62 = .ok (.goto (-53), 3) := by decide +kernel
theorem dX1_ending_65 : decode cX1_ending 65 = .ok (.iload_n 3, 1) := by decide +kernel
theorem dX1_ending_66 : decode cX1_ending 66 = .ok (.ireturn, 1) := by decide +kernel
theorem dX1_steps_0 : decode cX1_steps 0 = .ok (.aload_n 0, 1) := by decide +kernel
theorem dX1_steps_1 : decode cX1_steps 1 = .ok (.invokevirtual 50, 3) := by decide +kernel
theorem dX1_steps_4 : decode cX1_steps 4 = .ok (.iconst 0, 1) := by decide +kernel
theorem dX1_steps_5 : decode cX1_steps 5 = .ok (.istore_n 2, 1) := by decide +kernel
theorem dX1_steps_6 : decode cX1_steps 6 = .ok (.iconst 0, 1) := by decide +kernel
theorem dX1_steps_7 : decode cX1_steps 7 = .ok (.istore_n 3, 1) := by decide +kernel
theorem dX1_steps_8 : decode cX1_steps 8 = .ok (.iload_n 3, 1) := by decide +kernel
theorem dX1_steps_9 : decode cX1_steps 9 = .ok (.bipush 12, 2) := by decide +kernel
theorem dX1_steps_11 : decode cX1_steps 11 = .ok (.if_icmp .ge 30, 3) := by decide +kernel
theorem dX1_steps_14 : decode cX1_steps 14 = .ok (.aload_n 0, 1) := by decide +kernel
theorem dX1_steps_15 : decode cX1_steps 15 = .ok (.iload_n 1, 1) := by decide +kernel
theorem dX1_steps_16 : decode cX1_steps 16 = .ok (.invokevirtual 61, 3) := by decide +kernel
theorem dX1_steps_19 : decode cX1_steps 19 = .ok (.ifCond .eq 22, 3) := by decide +kernel
theorem dX1_steps_22 : decode cX1_steps 22 = .ok (.iload_n 2, 1) := by decide +kernel
theorem dX1_steps_23 : decode cX1_steps 23 = .ok (.aload_n 0, 1) := by decide +kernel
theorem dX1_steps_24 : decode cX1_steps 24 = .ok (.getfield 26, 3) := by decide +kernel
theorem dX1_steps_27 : decode cX1_steps 27 = .ok (.iload_n 1, 1) := by decide +kernel
theorem dX1_steps_28 : decode cX1_steps 28 = .ok (.iaload, 1) := by decide +kernel
theorem dX1_steps_29 : decode cX1_steps 29 = .ok (.iload_n 3, 1) := by decide +kernel
theorem dX1_steps_30 : decode cX1_steps 30 = .ok (.ishr, 1) := by decide +kernel
theorem dX1_steps_31 : decode cX1_steps 31 = .ok (.iconst 1, 1) := by decide +kernel
theorem dX1_steps_32 : decode cX1_steps 32 = .ok (.iand, 1) := by decide +kernel
theorem dX1_steps_33 : decode cX1_steps 33 = .ok (.iadd, 1) := by decide +kernel
theorem dX1_steps_34 : decode cX1_steps 34 = .ok (.istore_n 2, 1) := by decide +kernel
theorem dX1_steps_35 : decode cX1_steps 35 = .ok (.iinc 3 1, 3) := by decide +kernel
theorem dX1_steps_38 : decode cX1_steps 38 = .ok (.goto (-30), 3) := by decide +kernel
theorem dX1_steps_41 : decode cX1_steps 41 = .ok (.aload_n 0, 1) := by decide +kernel
theorem dX1_steps_42 : decode cX1_steps 42 = .ok (.iload_n 1, 1) := by decide +kernel
theorem dX1_steps_43 : decode cX1_steps 43 = .ok (.invokevirtual 61, 3) := by decide +kernel
theorem dX1_steps_46 : decode cX1_steps 46 = .ok (.ifCond .eq 7, 3) := by decide +kernel
theorem dX1_steps_49 : decode cX1_steps 49 = .ok (.iload_n 2, 1) := by decide +kernel
theorem dX1_steps_50 : decode cX1_steps 50 = .ok (.goto 4, 3) := by decide +kernel
theorem dX1_steps_53 : decode cX1_steps 53 = .ok (.iconst (-1), 1) := by decide +kernel
theorem dX1_steps_54 : decode cX1_steps 54 = .ok (.ireturn, 1) := by decide +kernel
end
section
/-! the law's own entry -/
set_option maxRecDepth 100000
abbrev cL_law : ByteArray := code
theorem dL_law_0 : decode cL_law 0 = .ok (.new 7, 3) := by decide +kernel
theorem dL_law_3 : decode cL_law 3 = .ok (.dup, 1) := by decide +kernel
theorem dL_law_4 : decode cL_law 4 = .ok (.invokespecial 9, 3) := by decide +kernel
theorem dL_law_7 : decode cL_law 7 = .ok (.astore_n 1, 1) := by decide +kernel
theorem dL_law_8 : decode cL_law 8 = .ok (.new 10, 3) := by decide +kernel
theorem dL_law_11 : decode cL_law 11 = .ok (.dup, 1) := by decide +kernel
theorem dL_law_12 : decode cL_law 12 = .ok (.invokespecial 12, 3) := by decide +kernel
theorem dL_law_15 : decode cL_law 15 = .ok (.astore_n 2, 1) := by decide +kernel
theorem dL_law_16 : decode cL_law 16 = .ok (.iconst 0, 1) := by decide +kernel
theorem dL_law_17 : decode cL_law 17 = .ok (.istore_n 3, 1) := by decide +kernel
theorem dL_law_18 : decode cL_law 18 = .ok (.iload_n 3, 1) := by decide +kernel
theorem dL_law_19 : decode cL_law 19 = .ok (.aload_n 0, 1) := by decide +kernel
theorem dL_law_20 : decode cL_law 20 = .ok (.arraylength, 1) := by decide +kernel
theorem dL_law_21 : decode cL_law 21 = .ok (.iconst 4, 1) := by decide +kernel
theorem dL_law_22 : decode cL_law 22 = .ok (.isub, 1) := by decide +kernel
theorem dL_law_23 : decode cL_law 23 = .ok (.if_icmp .gt 436, 3) := by decide +kernel
theorem dL_law_26 : decode cL_law 26 = .ok (.aload_n 0, 1) := by decide +kernel
theorem dL_law_27 : decode cL_law 27 = .ok (.iload_n 3, 1) := by decide +kernel
theorem dL_law_28 : decode cL_law 28 = .ok (.iaload, 1) := by decide +kernel
theorem dL_law_29 : decode cL_law 29 = .ok (.bipush 15, 2) := by decide +kernel
theorem dL_law_31 : decode cL_law 31 = .ok (.iand, 1) := by decide +kernel
theorem dL_law_32 : decode cL_law 32 = .ok (.tableswitch 421 0 14 #[76, 119, 132, 145, 168, 201, 214, 237, 250, 273, 296, 319, 332, 365, 398], 76) := by decide +kernel
theorem dL_law_108 : decode cL_law 108 = .ok (.aload_n 1, 1) := by decide +kernel
theorem dL_law_109 : decode cL_law 109 = .ok (.aload_n 0, 1) := by decide +kernel
theorem dL_law_110 : decode cL_law 110 = .ok (.iload_n 3, 1) := by decide +kernel
theorem dL_law_111 : decode cL_law 111 = .ok (.iconst 1, 1) := by decide +kernel
theorem dL_law_112 : decode cL_law 112 = .ok (.iadd, 1) := by decide +kernel
theorem dL_law_113 : decode cL_law 113 = .ok (.iaload, 1) := by decide +kernel
theorem dL_law_114 : decode cL_law 114 = .ok (.aload_n 0, 1) := by decide +kernel
theorem dL_law_115 : decode cL_law 115 = .ok (.iload_n 3, 1) := by decide +kernel
theorem dL_law_116 : decode cL_law 116 = .ok (.iconst 2, 1) := by decide +kernel
theorem dL_law_117 : decode cL_law 117 = .ok (.iadd, 1) := by decide +kernel
theorem dL_law_118 : decode cL_law 118 = .ok (.iaload, 1) := by decide +kernel
theorem dL_law_119 : decode cL_law 119 = .ok (.aload_n 0, 1) := by decide +kernel
theorem dL_law_120 : decode cL_law 120 = .ok (.iload_n 3, 1) := by decide +kernel
theorem dL_law_121 : decode cL_law 121 = .ok (.iconst 3, 1) := by decide +kernel
theorem dL_law_122 : decode cL_law 122 = .ok (.iadd, 1) := by decide +kernel
theorem dL_law_123 : decode cL_law 123 = .ok (.iaload, 1) := by decide +kernel
theorem dL_law_124 : decode cL_law 124 = .ok (.invokevirtual 13, 3) := by decide +kernel
theorem dL_law_127 : decode cL_law 127 = .ok (.aload_n 2, 1) := by decide +kernel
theorem dL_law_128 : decode cL_law 128 = .ok (.aload_n 0, 1) := by decide +kernel
theorem dL_law_129 : decode cL_law 129 = .ok (.iload_n 3, 1) := by decide +kernel
theorem dL_law_130 : decode cL_law 130 = .ok (.iconst 1, 1) := by decide +kernel
theorem dL_law_131 : decode cL_law 131 = .ok (.iadd, 1) := by decide +kernel
theorem dL_law_132 : decode cL_law 132 = .ok (.iaload, 1) := by decide +kernel
theorem dL_law_133 : decode cL_law 133 = .ok (.aload_n 0, 1) := by decide +kernel
theorem dL_law_134 : decode cL_law 134 = .ok (.iload_n 3, 1) := by decide +kernel
theorem dL_law_135 : decode cL_law 135 = .ok (.iconst 2, 1) := by decide +kernel
theorem dL_law_136 : decode cL_law 136 = .ok (.iadd, 1) := by decide +kernel
theorem dL_law_137 : decode cL_law 137 = .ok (.iaload, 1) := by decide +kernel
theorem dL_law_138 : decode cL_law 138 = .ok (.aload_n 0, 1) := by decide +kernel
theorem dL_law_139 : decode cL_law 139 = .ok (.iload_n 3, 1) := by decide +kernel
theorem dL_law_140 : decode cL_law 140 = .ok (.iconst 3, 1) := by decide +kernel
theorem dL_law_141 : decode cL_law 141 = .ok (.iadd, 1) := by decide +kernel
theorem dL_law_142 : decode cL_law 142 = .ok (.iaload, 1) := by decide +kernel
theorem dL_law_143 : decode cL_law 143 = .ok (.invokevirtual 17, 3) := by decide +kernel
theorem dL_law_146 : decode cL_law 146 = .ok (.if_icmp .eq 307, 3) := by decide +kernel
theorem dL_law_149 : decode cL_law 149 = .ok (.iconst 0, 1) := by decide +kernel
theorem dL_law_150 : decode cL_law 150 = .ok (.ireturn, 1) := by decide +kernel
theorem dL_law_151 : decode cL_law 151 = .ok (.aload_n 1, 1) := by decide +kernel
theorem dL_law_152 : decode cL_law 152 = .ok (.invokevirtual 18, 3) := by decide +kernel
theorem dL_law_155 : decode cL_law 155 = .ok (.aload_n 2, 1) := by decide +kernel
theorem dL_law_156 : decode cL_law 156 = .ok (.invokevirtual 22, 3) := by decide +kernel
theorem dL_law_159 : decode cL_law 159 = .ok (.if_icmp .eq 294, 3) := by decide +kernel
theorem dL_law_162 : decode cL_law 162 = .ok (.iconst 0, 1) := by decide +kernel
theorem dL_law_163 : decode cL_law 163 = .ok (.ireturn, 1) := by decide +kernel
theorem dL_law_164 : decode cL_law 164 = .ok (.aload_n 1, 1) := by decide +kernel
theorem dL_law_165 : decode cL_law 165 = .ok (.invokevirtual 23, 3) := by decide +kernel
theorem dL_law_168 : decode cL_law 168 = .ok (.aload_n 2, 1) := by decide +kernel
theorem dL_law_169 : decode cL_law 169 = .ok (.invokevirtual 26, 3) := by decide +kernel
theorem dL_law_172 : decode cL_law 172 = .ok (.if_icmp .eq 281, 3) := by decide +kernel
theorem dL_law_175 : decode cL_law 175 = .ok (.iconst 0, 1) := by decide +kernel
theorem dL_law_176 : decode cL_law 176 = .ok (.ireturn, 1) := by decide +kernel
theorem dL_law_177 : decode cL_law 177 = .ok (.aload_n 1, 1) := by decide +kernel
theorem dL_law_178 : decode cL_law 178 = .ok (.aload_n 0, 1) := by decide +kernel
theorem dL_law_179 : decode cL_law 179 = .ok (.iload_n 3, 1) := by decide +kernel
theorem dL_law_180 : decode cL_law 180 = .ok (.iconst 1, 1) := by decide +kernel
theorem dL_law_181 : decode cL_law 181 = .ok (.iadd, 1) := by decide +kernel
theorem dL_law_182 : decode cL_law 182 = .ok (.iaload, 1) := by decide +kernel
theorem dL_law_183 : decode cL_law 183 = .ok (.invokevirtual 27, 3) := by decide +kernel
theorem dL_law_186 : decode cL_law 186 = .ok (.aload_n 2, 1) := by decide +kernel
theorem dL_law_187 : decode cL_law 187 = .ok (.aload_n 0, 1) := by decide +kernel
theorem dL_law_188 : decode cL_law 188 = .ok (.iload_n 3, 1) := by decide +kernel
theorem dL_law_189 : decode cL_law 189 = .ok (.iconst 1, 1) := by decide +kernel
theorem dL_law_190 : decode cL_law 190 = .ok (.iadd, 1) := by decide +kernel
theorem dL_law_191 : decode cL_law 191 = .ok (.iaload, 1) := by decide +kernel
theorem dL_law_192 : decode cL_law 192 = .ok (.invokevirtual 31, 3) := by decide +kernel
theorem dL_law_195 : decode cL_law 195 = .ok (.if_icmp .eq 258, 3) := by decide +kernel
theorem dL_law_198 : decode cL_law 198 = .ok (.iconst 0, 1) := by decide +kernel
theorem dL_law_199 : decode cL_law 199 = .ok (.ireturn, 1) := by decide +kernel
theorem dL_law_200 : decode cL_law 200 = .ok (.aload_n 1, 1) := by decide +kernel
theorem dL_law_201 : decode cL_law 201 = .ok (.aload_n 0, 1) := by decide +kernel
theorem dL_law_202 : decode cL_law 202 = .ok (.iload_n 3, 1) := by decide +kernel
theorem dL_law_203 : decode cL_law 203 = .ok (.iconst 1, 1) := by decide +kernel
theorem dL_law_204 : decode cL_law 204 = .ok (.iadd, 1) := by decide +kernel
theorem dL_law_205 : decode cL_law 205 = .ok (.iaload, 1) := by decide +kernel
theorem dL_law_206 : decode cL_law 206 = .ok (.aload_n 0, 1) := by decide +kernel
theorem dL_law_207 : decode cL_law 207 = .ok (.iload_n 3, 1) := by decide +kernel
theorem dL_law_208 : decode cL_law 208 = .ok (.iconst 2, 1) := by decide +kernel
theorem dL_law_209 : decode cL_law 209 = .ok (.iadd, 1) := by decide +kernel
theorem dL_law_210 : decode cL_law 210 = .ok (.iaload, 1) := by decide +kernel
theorem dL_law_211 : decode cL_law 211 = .ok (.invokevirtual 32, 3) := by decide +kernel
theorem dL_law_214 : decode cL_law 214 = .ok (.aload_n 2, 1) := by decide +kernel
theorem dL_law_215 : decode cL_law 215 = .ok (.aload_n 0, 1) := by decide +kernel
theorem dL_law_216 : decode cL_law 216 = .ok (.iload_n 3, 1) := by decide +kernel
theorem dL_law_217 : decode cL_law 217 = .ok (.iconst 1, 1) := by decide +kernel
theorem dL_law_218 : decode cL_law 218 = .ok (.iadd, 1) := by decide +kernel
theorem dL_law_219 : decode cL_law 219 = .ok (.iaload, 1) := by decide +kernel
theorem dL_law_220 : decode cL_law 220 = .ok (.aload_n 0, 1) := by decide +kernel
theorem dL_law_221 : decode cL_law 221 = .ok (.iload_n 3, 1) := by decide +kernel
theorem dL_law_222 : decode cL_law 222 = .ok (.iconst 2, 1) := by decide +kernel
theorem dL_law_223 : decode cL_law 223 = .ok (.iadd, 1) := by decide +kernel
theorem dL_law_224 : decode cL_law 224 = .ok (.iaload, 1) := by decide +kernel
theorem dL_law_225 : decode cL_law 225 = .ok (.invokevirtual 36, 3) := by decide +kernel
theorem dL_law_228 : decode cL_law 228 = .ok (.if_icmp .eq 225, 3) := by decide +kernel
theorem dL_law_231 : decode cL_law 231 = .ok (.iconst 0, 1) := by decide +kernel
theorem dL_law_232 : decode cL_law 232 = .ok (.ireturn, 1) := by decide +kernel
theorem dL_law_233 : decode cL_law 233 = .ok (.aload_n 1, 1) := by decide +kernel
theorem dL_law_234 : decode cL_law 234 = .ok (.invokevirtual 37, 3) := by decide +kernel
theorem dL_law_237 : decode cL_law 237 = .ok (.aload_n 2, 1) := by decide +kernel
theorem dL_law_238 : decode cL_law 238 = .ok (.invokevirtual 40, 3) := by decide +kernel
theorem dL_law_241 : decode cL_law 241 = .ok (.if_icmp .eq 212, 3) := by decide +kernel
theorem dL_law_244 : decode cL_law 244 = .ok (.iconst 0, 1) := by decide +kernel
theorem dL_law_245 : decode cL_law 245 = .ok (.ireturn, 1) := by decide +kernel
theorem dL_law_246 : decode cL_law 246 = .ok (.aload_n 1, 1) := by decide +kernel
theorem dL_law_247 : decode cL_law 247 = .ok (.aload_n 0, 1) := by decide +kernel
theorem dL_law_248 : decode cL_law 248 = .ok (.iload_n 3, 1) := by decide +kernel
theorem dL_law_249 : decode cL_law 249 = .ok (.iconst 1, 1) := by decide +kernel
theorem dL_law_250 : decode cL_law 250 = .ok (.iadd, 1) := by decide +kernel
theorem dL_law_251 : decode cL_law 251 = .ok (.iaload, 1) := by decide +kernel
theorem dL_law_252 : decode cL_law 252 = .ok (.invokevirtual 41, 3) := by decide +kernel
theorem dL_law_255 : decode cL_law 255 = .ok (.aload_n 2, 1) := by decide +kernel
theorem dL_law_256 : decode cL_law 256 = .ok (.aload_n 0, 1) := by decide +kernel
theorem dL_law_257 : decode cL_law 257 = .ok (.iload_n 3, 1) := by decide +kernel
theorem dL_law_258 : decode cL_law 258 = .ok (.iconst 1, 1) := by decide +kernel
theorem dL_law_259 : decode cL_law 259 = .ok (.iadd, 1) := by decide +kernel
theorem dL_law_260 : decode cL_law 260 = .ok (.iaload, 1) := by decide +kernel
theorem dL_law_261 : decode cL_law 261 = .ok (.invokevirtual 44, 3) := by decide +kernel
theorem dL_law_264 : decode cL_law 264 = .ok (.if_icmp .eq 189, 3) := by decide +kernel
theorem dL_law_267 : decode cL_law 267 = .ok (.iconst 0, 1) := by decide +kernel
theorem dL_law_268 : decode cL_law 268 = .ok (.ireturn, 1) := by decide +kernel
theorem dL_law_269 : decode cL_law 269 = .ok (.aload_n 1, 1) := by decide +kernel
theorem dL_law_270 : decode cL_law 270 = .ok (.invokevirtual 45, 3) := by decide +kernel
theorem dL_law_273 : decode cL_law 273 = .ok (.aload_n 2, 1) := by decide +kernel
theorem dL_law_274 : decode cL_law 274 = .ok (.invokevirtual 48, 3) := by decide +kernel
theorem dL_law_277 : decode cL_law 277 = .ok (.if_icmp .eq 176, 3) := by decide +kernel
theorem dL_law_280 : decode cL_law 280 = .ok (.iconst 0, 1) := by decide +kernel
theorem dL_law_281 : decode cL_law 281 = .ok (.ireturn, 1) := by decide +kernel
theorem dL_law_282 : decode cL_law 282 = .ok (.aload_n 1, 1) := by decide +kernel
theorem dL_law_283 : decode cL_law 283 = .ok (.aload_n 0, 1) := by decide +kernel
theorem dL_law_284 : decode cL_law 284 = .ok (.iload_n 3, 1) := by decide +kernel
theorem dL_law_285 : decode cL_law 285 = .ok (.iconst 1, 1) := by decide +kernel
theorem dL_law_286 : decode cL_law 286 = .ok (.iadd, 1) := by decide +kernel
theorem dL_law_287 : decode cL_law 287 = .ok (.iaload, 1) := by decide +kernel
theorem dL_law_288 : decode cL_law 288 = .ok (.invokevirtual 49, 3) := by decide +kernel
theorem dL_law_291 : decode cL_law 291 = .ok (.aload_n 2, 1) := by decide +kernel
theorem dL_law_292 : decode cL_law 292 = .ok (.aload_n 0, 1) := by decide +kernel
theorem dL_law_293 : decode cL_law 293 = .ok (.iload_n 3, 1) := by decide +kernel
theorem dL_law_294 : decode cL_law 294 = .ok (.iconst 1, 1) := by decide +kernel
theorem dL_law_295 : decode cL_law 295 = .ok (.iadd, 1) := by decide +kernel
theorem dL_law_296 : decode cL_law 296 = .ok (.iaload, 1) := by decide +kernel
theorem dL_law_297 : decode cL_law 297 = .ok (.invokevirtual 52, 3) := by decide +kernel
theorem dL_law_300 : decode cL_law 300 = .ok (.if_icmp .eq 153, 3) := by decide +kernel
theorem dL_law_303 : decode cL_law 303 = .ok (.iconst 0, 1) := by decide +kernel
theorem dL_law_304 : decode cL_law 304 = .ok (.ireturn, 1) := by decide +kernel
theorem dL_law_305 : decode cL_law 305 = .ok (.aload_n 1, 1) := by decide +kernel
theorem dL_law_306 : decode cL_law 306 = .ok (.aload_n 0, 1) := by decide +kernel
theorem dL_law_307 : decode cL_law 307 = .ok (.iload_n 3, 1) := by decide +kernel
theorem dL_law_308 : decode cL_law 308 = .ok (.iconst 1, 1) := by decide +kernel
theorem dL_law_309 : decode cL_law 309 = .ok (.iadd, 1) := by decide +kernel
theorem dL_law_310 : decode cL_law 310 = .ok (.iaload, 1) := by decide +kernel
theorem dL_law_311 : decode cL_law 311 = .ok (.invokevirtual 53, 3) := by decide +kernel
theorem dL_law_314 : decode cL_law 314 = .ok (.aload_n 2, 1) := by decide +kernel
theorem dL_law_315 : decode cL_law 315 = .ok (.aload_n 0, 1) := by decide +kernel
theorem dL_law_316 : decode cL_law 316 = .ok (.iload_n 3, 1) := by decide +kernel
theorem dL_law_317 : decode cL_law 317 = .ok (.iconst 1, 1) := by decide +kernel
theorem dL_law_318 : decode cL_law 318 = .ok (.iadd, 1) := by decide +kernel
theorem dL_law_319 : decode cL_law 319 = .ok (.iaload, 1) := by decide +kernel
theorem dL_law_320 : decode cL_law 320 = .ok (.invokevirtual 56, 3) := by decide +kernel
theorem dL_law_323 : decode cL_law 323 = .ok (.if_icmp .eq 130, 3) := by decide +kernel
theorem dL_law_326 : decode cL_law 326 = .ok (.iconst 0, 1) := by decide +kernel
theorem dL_law_327 : decode cL_law 327 = .ok (.ireturn, 1) := by decide +kernel
theorem dL_law_328 : decode cL_law 328 = .ok (.aload_n 1, 1) := by decide +kernel
theorem dL_law_329 : decode cL_law 329 = .ok (.aload_n 0, 1) := by decide +kernel
theorem dL_law_330 : decode cL_law 330 = .ok (.iload_n 3, 1) := by decide +kernel
theorem dL_law_331 : decode cL_law 331 = .ok (.iconst 1, 1) := by decide +kernel
theorem dL_law_332 : decode cL_law 332 = .ok (.iadd, 1) := by decide +kernel
theorem dL_law_333 : decode cL_law 333 = .ok (.iaload, 1) := by decide +kernel
theorem dL_law_334 : decode cL_law 334 = .ok (.invokevirtual 57, 3) := by decide +kernel
theorem dL_law_337 : decode cL_law 337 = .ok (.aload_n 2, 1) := by decide +kernel
theorem dL_law_338 : decode cL_law 338 = .ok (.aload_n 0, 1) := by decide +kernel
theorem dL_law_339 : decode cL_law 339 = .ok (.iload_n 3, 1) := by decide +kernel
theorem dL_law_340 : decode cL_law 340 = .ok (.iconst 1, 1) := by decide +kernel
theorem dL_law_341 : decode cL_law 341 = .ok (.iadd, 1) := by decide +kernel
theorem dL_law_342 : decode cL_law 342 = .ok (.iaload, 1) := by decide +kernel
theorem dL_law_343 : decode cL_law 343 = .ok (.invokevirtual 60, 3) := by decide +kernel
theorem dL_law_346 : decode cL_law 346 = .ok (.if_icmp .eq 107, 3) := by decide +kernel
theorem dL_law_349 : decode cL_law 349 = .ok (.iconst 0, 1) := by decide +kernel
theorem dL_law_350 : decode cL_law 350 = .ok (.ireturn, 1) := by decide +kernel
theorem dL_law_351 : decode cL_law 351 = .ok (.aload_n 1, 1) := by decide +kernel
theorem dL_law_352 : decode cL_law 352 = .ok (.invokevirtual 61, 3) := by decide +kernel
theorem dL_law_355 : decode cL_law 355 = .ok (.aload_n 2, 1) := by decide +kernel
theorem dL_law_356 : decode cL_law 356 = .ok (.invokevirtual 64, 3) := by decide +kernel
theorem dL_law_359 : decode cL_law 359 = .ok (.if_icmp .eq 94, 3) := by decide +kernel
theorem dL_law_362 : decode cL_law 362 = .ok (.iconst 0, 1) := by decide +kernel
theorem dL_law_363 : decode cL_law 363 = .ok (.ireturn, 1) := by decide +kernel
theorem dL_law_364 : decode cL_law 364 = .ok (.aload_n 1, 1) := by decide +kernel
theorem dL_law_365 : decode cL_law 365 = .ok (.aload_n 0, 1) := by decide +kernel
theorem dL_law_366 : decode cL_law 366 = .ok (.iload_n 3, 1) := by decide +kernel
theorem dL_law_367 : decode cL_law 367 = .ok (.iconst 1, 1) := by decide +kernel
theorem dL_law_368 : decode cL_law 368 = .ok (.iadd, 1) := by decide +kernel
theorem dL_law_369 : decode cL_law 369 = .ok (.iaload, 1) := by decide +kernel
theorem dL_law_370 : decode cL_law 370 = .ok (.aload_n 0, 1) := by decide +kernel
theorem dL_law_371 : decode cL_law 371 = .ok (.iload_n 3, 1) := by decide +kernel
theorem dL_law_372 : decode cL_law 372 = .ok (.iconst 2, 1) := by decide +kernel
theorem dL_law_373 : decode cL_law 373 = .ok (.iadd, 1) := by decide +kernel
theorem dL_law_374 : decode cL_law 374 = .ok (.iaload, 1) := by decide +kernel
theorem dL_law_375 : decode cL_law 375 = .ok (.invokevirtual 65, 3) := by decide +kernel
theorem dL_law_378 : decode cL_law 378 = .ok (.aload_n 2, 1) := by decide +kernel
theorem dL_law_379 : decode cL_law 379 = .ok (.aload_n 0, 1) := by decide +kernel
theorem dL_law_380 : decode cL_law 380 = .ok (.iload_n 3, 1) := by decide +kernel
theorem dL_law_381 : decode cL_law 381 = .ok (.iconst 1, 1) := by decide +kernel
theorem dL_law_382 : decode cL_law 382 = .ok (.iadd, 1) := by decide +kernel
theorem dL_law_383 : decode cL_law 383 = .ok (.iaload, 1) := by decide +kernel
theorem dL_law_384 : decode cL_law 384 = .ok (.aload_n 0, 1) := by decide +kernel
theorem dL_law_385 : decode cL_law 385 = .ok (.iload_n 3, 1) := by decide +kernel
theorem dL_law_386 : decode cL_law 386 = .ok (.iconst 2, 1) := by decide +kernel
theorem dL_law_387 : decode cL_law 387 = .ok (.iadd, 1) := by decide +kernel
theorem dL_law_388 : decode cL_law 388 = .ok (.iaload, 1) := by decide +kernel
theorem dL_law_389 : decode cL_law 389 = .ok (.invokevirtual 68, 3) := by decide +kernel
theorem dL_law_392 : decode cL_law 392 = .ok (.if_icmp .eq 61, 3) := by decide +kernel
theorem dL_law_395 : decode cL_law 395 = .ok (.iconst 0, 1) := by decide +kernel
theorem dL_law_396 : decode cL_law 396 = .ok (.ireturn, 1) := by decide +kernel
theorem dL_law_397 : decode cL_law 397 = .ok (.aload_n 1, 1) := by decide +kernel
theorem dL_law_398 : decode cL_law 398 = .ok (.aload_n 0, 1) := by decide +kernel
theorem dL_law_399 : decode cL_law 399 = .ok (.iload_n 3, 1) := by decide +kernel
theorem dL_law_400 : decode cL_law 400 = .ok (.iconst 1, 1) := by decide +kernel
theorem dL_law_401 : decode cL_law 401 = .ok (.iadd, 1) := by decide +kernel
theorem dL_law_402 : decode cL_law 402 = .ok (.iaload, 1) := by decide +kernel
theorem dL_law_403 : decode cL_law 403 = .ok (.aload_n 0, 1) := by decide +kernel
theorem dL_law_404 : decode cL_law 404 = .ok (.iload_n 3, 1) := by decide +kernel
theorem dL_law_405 : decode cL_law 405 = .ok (.iconst 2, 1) := by decide +kernel
theorem dL_law_406 : decode cL_law 406 = .ok (.iadd, 1) := by decide +kernel
theorem dL_law_407 : decode cL_law 407 = .ok (.iaload, 1) := by decide +kernel
theorem dL_law_408 : decode cL_law 408 = .ok (.invokevirtual 69, 3) := by decide +kernel
theorem dL_law_411 : decode cL_law 411 = .ok (.aload_n 2, 1) := by decide +kernel
theorem dL_law_412 : decode cL_law 412 = .ok (.aload_n 0, 1) := by decide +kernel
theorem dL_law_413 : decode cL_law 413 = .ok (.iload_n 3, 1) := by decide +kernel
theorem dL_law_414 : decode cL_law 414 = .ok (.iconst 1, 1) := by decide +kernel
theorem dL_law_415 : decode cL_law 415 = .ok (.iadd, 1) := by decide +kernel
theorem dL_law_416 : decode cL_law 416 = .ok (.iaload, 1) := by decide +kernel
theorem dL_law_417 : decode cL_law 417 = .ok (.aload_n 0, 1) := by decide +kernel
theorem dL_law_418 : decode cL_law 418 = .ok (.iload_n 3, 1) := by decide +kernel
theorem dL_law_419 : decode cL_law 419 = .ok (.iconst 2, 1) := by decide +kernel
theorem dL_law_420 : decode cL_law 420 = .ok (.iadd, 1) := by decide +kernel
theorem dL_law_421 : decode cL_law 421 = .ok (.iaload, 1) := by decide +kernel
theorem dL_law_422 : decode cL_law 422 = .ok (.invokevirtual 72, 3) := by decide +kernel
theorem dL_law_425 : decode cL_law 425 = .ok (.if_icmp .eq 28, 3) := by decide +kernel
theorem dL_law_428 : decode cL_law 428 = .ok (.iconst 0, 1) := by decide +kernel
theorem dL_law_429 : decode cL_law 429 = .ok (.ireturn, 1) := by decide +kernel
theorem dL_law_430 : decode cL_law 430 = .ok (.aload_n 1, 1) := by decide +kernel
theorem dL_law_431 : decode cL_law 431 = .ok (.aload_n 0, 1) := by decide +kernel
theorem dL_law_432 : decode cL_law 432 = .ok (.iload_n 3, 1) := by decide +kernel
theorem dL_law_433 : decode cL_law 433 = .ok (.iconst 1, 1) := by decide +kernel
theorem dL_law_434 : decode cL_law 434 = .ok (.iadd, 1) := by decide +kernel
theorem dL_law_435 : decode cL_law 435 = .ok (.iaload, 1) := by decide +kernel
theorem dL_law_436 : decode cL_law 436 = .ok (.invokevirtual 73, 3) := by decide +kernel
theorem dL_law_439 : decode cL_law 439 = .ok (.aload_n 2, 1) := by decide +kernel
theorem dL_law_440 : decode cL_law 440 = .ok (.aload_n 0, 1) := by decide +kernel
theorem dL_law_441 : decode cL_law 441 = .ok (.iload_n 3, 1) := by decide +kernel
theorem dL_law_442 : decode cL_law 442 = .ok (.iconst 1, 1) := by decide +kernel
theorem dL_law_443 : decode cL_law 443 = .ok (.iadd, 1) := by decide +kernel
theorem dL_law_444 : decode cL_law 444 = .ok (.iaload, 1) := by decide +kernel
theorem dL_law_445 : decode cL_law 445 = .ok (.invokevirtual 76, 3) := by decide +kernel
theorem dL_law_448 : decode cL_law 448 = .ok (.if_icmp .eq 5, 3) := by decide +kernel
theorem dL_law_451 : decode cL_law 451 = .ok (.iconst 0, 1) := by decide +kernel
theorem dL_law_452 : decode cL_law 452 = .ok (.ireturn, 1) := by decide +kernel
theorem dL_law_453 : decode cL_law 453 = .ok (.iinc 3 4, 3) := by decide +kernel
theorem dL_law_456 : decode cL_law 456 = .ok (.goto (-438), 3) := by decide +kernel
theorem dL_law_459 : decode cL_law 459 = .ok (.iconst 1, 1) := by decide +kernel
theorem dL_law_460 : decode cL_law 460 = .ok (.ireturn, 1) := by decide +kernel
end
section
/-! ROWS OF OUR OWN: one world, one contract's form, numbers as Nats -/
set_option maxRecDepth 100000
abbrev iCl : List vw_C := [(RX0, TX0, 15), (RX1, TX1, 9)]
abbrev iTy (d : Nat → ClassId) : List (ClassId × FieldType) := [(d 0, .int), (d 1, .byte), (d 2, .short), (d 3, .boolean)]
/-- a room k calls deep -/
def rk (k : Nat) : Room := { frames := k, cells := 0, slots := 0, locals := 31 * k }
/-- what stays fixed in a method's walk -/
def CX (p : Program) (c : Code) (cc : ByteArray) (nL : Nat) (s : State) (m : MethodId) (ar : Array Value) (own : String) (D : va_G) (d : Nat → ClassId) : Prop := CallFix p m c cc nL s ar lw_all own ∧ va_K D iCl (iTy d) s
/-- the world w in the heap H; since H0 nothing outside A has changed -/
def IW (D : va_G) (A : Nat → Prop) (H0 : Heap) (ws : va_W) (H : Heap) (locs : List Loc) : Prop := va_P D iCl ws H ∧ va_D A ws ∧ va_S A H0 H locs ∧ ∀ q, H0.size ≤ q → A q
/-- contracts: an int (or boolean) answer, none, and of a static method that touches no cell -/
def CT (l : Launch) (y : MethodName) (ws : List Cond) (rm : Room) (D : va_G) (d : Nat → ClassId) (av : List Value) (w : va_W) (post : Int32 → va_W → Prop) : Prop :=
  ∀ sz : Nat, Met l y ws rm (va_Pc av (fun U => U.heap.size = sz ∧ va_P D iCl w U.heap ∧ va_K D iCl (iTy d) U ∧ va_D (fun _ => True) w)) (va_Qi post (fun u t => va_P D iCl u t.heap ∧ va_K D iCl (iTy d) t ∧ va_D (va_A w sz) u) (va_A w sz)) 0 0 (va_A w sz)
def CV (l : Launch) (y : MethodName) (ws : List Cond) (rm : Room) (D : va_G) (d : Nat → ClassId) (av : List Value) (w : va_W) (post : va_W → Prop) : Prop :=
  ∀ sz : Nat, Met l y ws rm (va_Pc av (fun U => U.heap.size = sz ∧ va_P D iCl w U.heap ∧ va_K D iCl (iTy d) U ∧ va_D (fun _ => True) w)) (va_Qv post (fun u t => va_P D iCl u t.heap ∧ va_K D iCl (iTy d) t ∧ va_D (va_A w sz) u) (va_A w sz)) 0 0 (va_A w sz)
def CS (l : Launch) (y : MethodName) (ws : List Cond) (rm : Room) (av : List Value) (post : Int32 → Prop) : Prop := Met l y ws rm (fun v _ => v = av.toArray) (vp_Si post) 0 0 (fun _ => False)
set_option maxHeartbeats 4000000 in
theorem ct_in {l : Launch} {y : MethodName} {ws : List Cond} {rm : Room} {D : va_G} {d : Nat → ClassId} {av : List Value} {w : va_W} {post : Int32 → va_W → Prop} {cc : ByteArray} {nL : Nat} {ty : FieldType} (hy : plainName y.cls = true) (hw : ws = Cond.code y cc nL (some ty) :: lw_all) (hav : (lg_sl av).length ≤ nL)
    (body : ∀ (p : Program) (e : Env) (s : State) (m : MethodId) (ar : Array Value) (bl : List Frame) (me : Method) (c : Code) (A : Nat → Prop) (Q : State → Prop) (ls : Array Slot), CX p c cc nL s m ar y.cls D d → IW D A s.heap w s.heap [] → lv_has ls nL (lv_args 0 av) →
      (∀ (v : Int32) (w' : va_W) (H : Heap) (locs : List Loc) (pc : Nat) (ls : Array Slot), narrow ty (.int v) = .int v → IW D A s.heap w' H locs → post v w' → decode cc pc = .ok (.ireturn, 1) → W p l e rm s m ar bl me c H locs 0 0 Q (F0 m pc ls [.int v])) →
      W p l e rm s m ar bl me c s.heap [] 0 0 Q (F0 m 0 ls [])) : CT l y ws rm D d av w post := by
  intro sz
  refine Met.ofW (cc := cc) (maxL := nL) (ret := some ty) hy hw ?_
  intro p e s m args below meth c s₁ B hml hv
  obtain ⟨rfl, hsz, hP, hK, hD0⟩ := hv
  have hts := atoms_spec (ws := ws) B.pre
  have hts : ∀ w ∈ lw_all, w.before _ s = true := fun w h => hts w (by rw [hw]; exact List.mem_cons_of_mem _ h)
  have hown : s.vm.findClass y.cls = some m.cls := findClass_of_methodNamed B.named
  subst hsz
  have hD := hD0.self (sz := s.heap.size)
  rw [lg_entry_eq]
  exact body p e s m _ below meth c (va_A w s.heap.size) _ _ ⟨⟨B.exec, B.bytes, hml, hown, hts⟩, hK⟩ ⟨hP, hD, va_S.rf, fun q h => Or.inr h⟩ (lv_entry av hav) (fun v w' H locs pc ls hn I hp hd => W.zret B.exec B.bytes B.returns hn (fun t ht hW => ⟨⟨v, w', rfl, hp, by rw [ht]; exact I.1, va_K.moved hW.alike hK, I.2.1⟩, I.2.2.1.F ht⟩) I.2.2.1.2.2 hd B.notSynchronized)
set_option maxHeartbeats 4000000 in
theorem cv_in {l : Launch} {y : MethodName} {ws : List Cond} {rm : Room} {D : va_G} {d : Nat → ClassId} {av : List Value} {w : va_W} {post : va_W → Prop} {cc : ByteArray} {nL : Nat} (hy : plainName y.cls = true) (hw : ws = Cond.code y cc nL none :: lw_all) (hav : (lg_sl av).length ≤ nL)
    (body : ∀ (p : Program) (e : Env) (s : State) (m : MethodId) (ar : Array Value) (bl : List Frame) (me : Method) (c : Code) (A : Nat → Prop) (Q : State → Prop) (ls : Array Slot), CX p c cc nL s m ar y.cls D d → IW D A s.heap w s.heap [] → lv_has ls nL (lv_args 0 av) →
      (∀ (w' : va_W) (H : Heap) (locs : List Loc) (pc : Nat) (ls : Array Slot), IW D A s.heap w' H locs → post w' → decode cc pc = .ok (.return_, 1) → W p l e rm s m ar bl me c H locs 0 0 Q (F0 m pc ls [])) →
      W p l e rm s m ar bl me c s.heap [] 0 0 Q (F0 m 0 ls [])) : CV l y ws rm D d av w post := by
  intro sz
  refine Met.ofW (cc := cc) (maxL := nL) (ret := none) hy hw ?_
  intro p e s m args below meth c s₁ B hml hv
  obtain ⟨rfl, hsz, hP, hK, hD0⟩ := hv
  have hts := atoms_spec (ws := ws) B.pre
  have hts : ∀ w ∈ lw_all, w.before _ s = true := fun w h => hts w (by rw [hw]; exact List.mem_cons_of_mem _ h)
  have hown : s.vm.findClass y.cls = some m.cls := findClass_of_methodNamed B.named
  subst hsz
  have hD := hD0.self (sz := s.heap.size)
  rw [lg_entry_eq]
  exact body p e s m _ below meth c (va_A w s.heap.size) _ _ ⟨⟨B.exec, B.bytes, hml, hown, hts⟩, hK⟩ ⟨hP, hD, va_S.rf, fun q h => Or.inr h⟩ (lv_entry av hav) (fun w' H locs pc ls I hp hd => W.vret B.exec B.bytes B.returns (fun t ht hW => ⟨⟨w', rfl, hp, by rw [ht]; exact I.1, va_K.moved hW.alike hK, I.2.1⟩, I.2.2.1.F ht⟩) I.2.2.1.2.2 hd B.notSynchronized)
set_option maxHeartbeats 4000000 in
theorem cs_in {l : Launch} {y : MethodName} {ws : List Cond} {rm : Room} {av : List Value} {post : Int32 → Prop} {cc : ByteArray} {nL : Nat} {ty : FieldType} (hy : plainName y.cls = true) (hw : ws = Cond.code y cc nL (some ty) :: lw_all) (hav : (lg_sl av).length ≤ nL)
    (body : ∀ (p : Program) (e : Env) (s : State) (m : MethodId) (ar : Array Value) (bl : List Frame) (me : Method) (c : Code) (H : Heap) (Q : State → Prop) (ls : Array Slot), CallFix p m c cc nL s ar lw_all y.cls → lv_has ls nL (lv_args 0 av) →
      (∀ (v : Int32) (pc : Nat) (ls : Array Slot), narrow ty (.int v) = .int v → post v → decode cc pc = .ok (.ireturn, 1) → W p l e rm s m ar bl me c H [] 0 0 Q (F0 m pc ls [.int v])) →
      W p l e rm s m ar bl me c H [] 0 0 Q (F0 m 0 ls [])) : CS l y ws rm av post := by
  refine Met.ofW (cc := cc) (maxL := nL) (ret := some ty) hy hw ?_
  intro p e s m args below meth c s₁ B hml hv
  obtain rfl := hv
  have hts := atoms_spec (ws := ws) B.pre
  have hts : ∀ w ∈ lw_all, w.before _ s = true := fun w h => hts w (by rw [hw]; exact List.mem_cons_of_mem _ h)
  have hown : s.vm.findClass y.cls = some m.cls := findClass_of_methodNamed B.named
  rw [lg_entry_eq]
  exact body p e s m _ below meth c s.heap _ _ ⟨B.exec, B.bytes, hml, hown, hts⟩ (lv_entry av hav) (fun v pc ls hn hp hd => W.zret B.exec B.bytes B.returns hn (fun t ht hW => ⟨v, rfl, hp, ht⟩) (fun _ h => by cases h) hd B.notSynchronized)
section RW
variable {p : Program} {l : Launch} {e : Env} {R : Room} {s : State} {m : MethodId} {ar : Array Value} {bl : List Frame} {me : Method} {c : Code} {H : Heap} {locs : List Loc} {cells slots : Nat} {Q : State → Prop}
variable {cc : ByteArray} {pc nL : Nat} {ls : Array Slot} {rest st : List Value} {own : String} {D : va_G} {d : Nat → ClassId} {A : Nat → Prop} {H0 : Heap} {ws ws' : va_W} {a n : Nat} {f : Nat → Int32} {k : Nat} {x v : Int32}
theorem iw_free (I : IW D A H0 ws H locs) : ∀ q, va_A ws H.size q → A q := by
  intro q h
  rcases h with ⟨k, e, h⟩ | h
  · exact I.2.1.2 k (q, e) h
  · exact I.2.2.2 q (Nat.le_trans I.2.2.1.1 h)
/-- a call with the whole world: int answer -/
theorem ct_call {y : MethodName} {wd : List Cond} {rm : Room} {As : List Value} {b : Addr} {post : Int32 → va_W → Prop} {Cn : String} {index maxL ar0 : Nat} {bytes : ByteArray} {ret : Option FieldType} (C : CX p c cc nL s m ar own D d) (I : IW D A s.heap ws H locs) (hM : CT l y wd rm D d (.ref b :: As) ws post) (cw : CallW R s ar own Cn index y bytes maxL ret wd rm 0 0 ar0) {fs : List Value} {ci : Nat} {T : u_T} {N : Nat} (hc : iCl[ci]? = some (Cn, T, N)) (he : ws[0]? = some (b, .inr (ci, fs))) (hn : As.length = ar0) (hl : ls.size = nL) (hst : st = As.reverse ++ .ref b :: rest) (hW : (rest.map fun v => v.category).sum ≤ 8) (hdg : decode cc pc = .ok (.invokevirtual index, 3)) (hf : cells ≤ R.cells ∧ slots ≤ R.slots)
    (kk : ∀ (r : Int32) (w' : va_W) (H1 : Heap) (locs1 : List Loc), post r w' → IW D A s.heap w' H1 locs1 → W p l e R s m ar bl me c H1 locs1 cells slots Q (F0 m (pc + 3) ls (.int r :: rest))) : W p l e R s m ar bl me c H locs cells slots Q (F0 m pc ls st) := by
  have hFc := iw_free I
  obtain ⟨hP, hD, hS, hA⟩ := I
  refine va_calli (va_runV (As := As) (rest := rest) C.1 (hM H.size) cw ⟨fun a U g mk q => by obtain ⟨q0, q1, qP, qK, qD⟩ := q; exact ⟨q0, q1, qP, va_K.moved (u := U) (U := U.calling g mk a) (Vm.Alike.refl U.vm) qK, qD⟩, va_recv C.2 hP hc he, fun U hU hW => ⟨rfl, by rw [hU], by rw [hU]; exact hP, va_K.moved hW.alike C.2, hD.weaken (fun _ _ _ _ => trivial)⟩⟩ rfl hn hl hst (lv_room hW) hdg hf) hS (fun q _ h => hFc q h) hFc (fun r u t H1 locs1 ht hvm hp hB hz hk hS1 => ?_)
  exact kk r u H1 locs1 hp ⟨by rw [← ht]; exact hB.1, hB.2.2.weaken (fun k q _ h => hFc q.1 h), hS1, hA⟩
/-- the same, no answer -/
theorem cv_call {y : MethodName} {wd : List Cond} {rm : Room} {As : List Value} {b : Addr} {post : va_W → Prop} {Cn : String} {index maxL ar0 : Nat} {bytes : ByteArray} {ret : Option FieldType} (C : CX p c cc nL s m ar own D d) (I : IW D A s.heap ws H locs) (hM : CV l y wd rm D d (.ref b :: As) ws post) (cw : CallW R s ar own Cn index y bytes maxL ret wd rm 0 0 ar0) {fs : List Value} {ci : Nat} {T : u_T} {N : Nat} (hc : iCl[ci]? = some (Cn, T, N)) (he : ws[0]? = some (b, .inr (ci, fs))) (hn : As.length = ar0) (hl : ls.size = nL) (hst : st = As.reverse ++ .ref b :: rest) (hW : (rest.map fun v => v.category).sum ≤ 8) (hdg : decode cc pc = .ok (.invokevirtual index, 3)) (hf : cells ≤ R.cells ∧ slots ≤ R.slots)
    (kk : ∀ (w' : va_W) (H1 : Heap) (locs1 : List Loc), post w' → IW D A s.heap w' H1 locs1 → W p l e R s m ar bl me c H1 locs1 cells slots Q (F0 m (pc + 3) ls rest)) : W p l e R s m ar bl me c H locs cells slots Q (F0 m pc ls st) := by
  have hFc := iw_free I
  obtain ⟨hP, hD, hS, hA⟩ := I
  refine va_callv (va_runV (As := As) (rest := rest) C.1 (hM H.size) cw ⟨fun a U g mk q => by obtain ⟨q0, q1, qP, qK, qD⟩ := q; exact ⟨q0, q1, qP, va_K.moved (u := U) (U := U.calling g mk a) (Vm.Alike.refl U.vm) qK, qD⟩, va_recv C.2 hP hc he, fun U hU hW => ⟨rfl, by rw [hU], by rw [hU]; exact hP, va_K.moved hW.alike C.2, hD.weaken (fun _ _ _ _ => trivial)⟩⟩ rfl hn hl hst (lv_room hW) hdg hf) hS (fun q _ h => hFc q h) hFc (fun u t H1 locs1 ht hvm hp hB hz hk hS1 => ?_)
  exact kk u H1 locs1 hp ⟨by rw [← ht]; exact hB.1, hB.2.2.weaken (fun k q _ h => hFc q.1 h), hS1, hA⟩
/-- a static call that touches no cell -/
theorem cs_call {y : MethodName} {wd : List Cond} {rm : Room} {As : List Value} {post : Int32 → Prop} {index maxL ar0 : Nat} {bytes : ByteArray} {ret : Option FieldType} (S : CallFix p m c cc nL s ar lw_all own) (hM : CS l y wd rm As post) (cw : CallB R s ar own index y bytes maxL ret wd rm 0 0 ar0 ∧ (Cond.static y).before ar s = true) (hn : As.length = ar0) (hl : ls.size = nL) (hst : st = As.reverse ++ rest) (hW : (rest.map fun v => v.category).sum ≤ 8) (hdg : decode cc pc = .ok (.invokestatic index, 3)) (hf : cells ≤ R.cells ∧ slots ≤ R.slots)
    (kk : ∀ r : Int32, post r → W p l e R s m ar bl me c H locs cells slots Q (F0 m (pc + 3) ls (.int r :: rest))) : W p l e R s m ar bl me c H locs cells slots Q (F0 m pc ls st) :=
  vp_callSi (W.runS S hM cw preEq rfl hn hl hst (lv_room hW) hdg hf) kk
/-- fields of our two classes, in their own methods -/
theorem x_get (C : CX p c cc nL s m ar RX0 D d) (I : IW D A H0 ws H locs) {fs : List Value} (he : ws[0]? = some (a, .inr (0, fs))) (k : Nat) (hk : k < 15) {index : Nat} (hl : Cond.fieldLink RX0 index (TX0 k).1 (TX0 k).2.1 (TX0 k).2.2.1 ∈ lw_all) {v : Value} (hv : fs[k]? = some v) (hdg : decode cc pc = .ok (.getfield index, 3))
    (kk : W p l e R s m ar bl me c H locs cells slots Q (F0 m (pc + 3) ls (v :: rest))) : W p l e R s m ar bl me c H locs cells slots Q (F0 m pc ls (.ref a :: rest)) :=
  va_get (C := RX0) (T := TX0) (N := 15) C.1.1 C.1.2.1 C.1.2.2.2.2 in_X0 C.1.2.2.2.1 C.2 I.1 0 he rfl k hk (C.1.2.2.2.2 _ hl) (fun _ h => h) hv hdg kk
theorem m_get (C : CX p c cc nL s m ar RX1 D d) (I : IW D A H0 ws H locs) {fs : List Value} (he : ws[0]? = some (a, .inr (1, fs))) (k : Nat) (hk : k < 9) {index : Nat} (hl : Cond.fieldLink RX1 index (TX1 k).1 (TX1 k).2.1 (TX1 k).2.2.1 ∈ lw_all) {v : Value} (hv : fs[k]? = some v) (hdg : decode cc pc = .ok (.getfield index, 3))
    (kk : W p l e R s m ar bl me c H locs cells slots Q (F0 m (pc + 3) ls (v :: rest))) : W p l e R s m ar bl me c H locs cells slots Q (F0 m pc ls (.ref a :: rest)) :=
  va_get (C := RX1) (T := TX1) (N := 9) C.1.1 C.1.2.1 C.1.2.2.2.2 in_X1 C.1.2.2.2.1 C.2 I.1 0 he rfl k hk (C.1.2.2.2.2 _ hl) (fun _ h => h) hv hdg kk
theorem x_put (C : CX p c cc nL s m ar RX0 D d) (I : IW D A H0 ws H locs) {fs : List Value} (he : ws[0]? = some (a, .inr (0, fs))) (k : Nat) (hk : k < 15) {index : Nat} (hl : Cond.fieldLink RX0 index (TX0 k).1 (TX0 k).2.1 (TX0 k).2.2.1 ∈ lw_all) (hfin : (TX0 k).2.2.2 = false) {ty : FieldType} {v : Value} (hd : parseFieldDescriptor (TX0 k).2.2.1 = some ty) (hn : narrow ty v = v) (hfit : fits ty v = true) (hll : k < fs.length) (hw : ws.set 0 (a, .inr (0, fs.set k v)) = ws') (hdg : decode cc pc = .ok (.putfield index, 3))
    (kk : ∀ (H1 : Heap) (locs1 : List Loc), IW D A H0 ws' H1 locs1 → W p l e R s m ar bl me c H1 locs1 cells slots Q (F0 m (pc + 3) ls rest)) : W p l e R s m ar bl me c H locs cells slots Q (F0 m pc ls (v :: .ref a :: rest)) := by
  subst hw
  exact va_put (C := RX0) (T := TX0) (N := 15) C.1.1 C.1.2.1 C.1.2.2.2.2 in_X0 tyX0 tyX0_ok nmX0 C.1.2.2.2.1 C.2 I.1 I.2.1 I.2.2.1 0 he rfl k hk (C.1.2.2.2.2 _ hl) (fun _ h => h) hfin hd hn hfit hll hdg (fun H1 locs1 hP hD hS => kk H1 locs1 ⟨hP, hD, hS, I.2.2.2⟩)
theorem m_put (C : CX p c cc nL s m ar RX1 D d) (I : IW D A H0 ws H locs) {fs : List Value} (he : ws[0]? = some (a, .inr (1, fs))) (k : Nat) (hk : k < 9) {index : Nat} (hl : Cond.fieldLink RX1 index (TX1 k).1 (TX1 k).2.1 (TX1 k).2.2.1 ∈ lw_all) (hfin : (TX1 k).2.2.2 = false) {ty : FieldType} {v : Value} (hd : parseFieldDescriptor (TX1 k).2.2.1 = some ty) (hn : narrow ty v = v) (hfit : fits ty v = true) (hll : k < fs.length) (hw : ws.set 0 (a, .inr (1, fs.set k v)) = ws') (hdg : decode cc pc = .ok (.putfield index, 3))
    (kk : ∀ (H1 : Heap) (locs1 : List Loc), IW D A H0 ws' H1 locs1 → W p l e R s m ar bl me c H1 locs1 cells slots Q (F0 m (pc + 3) ls rest)) : W p l e R s m ar bl me c H locs cells slots Q (F0 m pc ls (v :: .ref a :: rest)) := by
  subst hw
  exact va_put (C := RX1) (T := TX1) (N := 9) C.1.1 C.1.2.1 C.1.2.2.2.2 in_X1 tyX1 tyX1_ok nmX1 C.1.2.2.2.1 C.2 I.1 I.2.1 I.2.2.1 0 he rfl k hk (C.1.2.2.2.2 _ hl) (fun _ h => h) hfin hd hn hfit hll hdg (fun H1 locs1 hP hD hS => kk H1 locs1 ⟨hP, hD, hS, I.2.2.2⟩)
/-- arrays, at a place that is a Nat -/
theorem i_ild (C : CX p c cc nL s m ar own D d) (I : IW D A H0 ws H locs) (q0 : Nat) (ha : ws[q0]? = some (a, .inl (d 0, n, .inl f))) (hk : k < n) (hdg : decode cc pc = .ok (.iaload, 1)) (kk : W p l e R s m ar bl me c H locs cells slots Q (F0 m (pc + 1) ls (.int (f k) :: rest))) (hn : n < 2 ^ 31 := by decide) : W p l e R s m ar bl me c H locs cells slots Q (F0 m pc ls (.int (nI k) :: .ref a :: rest)) := by
  refine va_iald C.1.1 C.1.2.1 C.2 I.1 q0 0 ha rfl (vp_in_nI hk hn) hdg ?_
  rw [nI_clamp (Nat.lt_trans hk hn)]
  exact kk
theorem i_bld (C : CX p c cc nL s m ar own D d) (I : IW D A H0 ws H locs) (q0 : Nat) (ha : ws[q0]? = some (a, .inl (d 1, n, .inl f))) (hk : k < n) (hdg : decode cc pc = .ok (.baload, 1)) (kk : W p l e R s m ar bl me c H locs cells slots Q (F0 m (pc + 1) ls (.int (f k) :: rest))) (hn : n < 2 ^ 31 := by decide) : W p l e R s m ar bl me c H locs cells slots Q (F0 m pc ls (.int (nI k) :: .ref a :: rest)) := by
  refine va_bald C.1.1 C.1.2.1 C.2 I.1 q0 1 ha rfl (vp_in_nI hk hn) hdg ?_
  rw [nI_clamp (Nat.lt_trans hk hn)]
  exact kk
theorem i_sld (C : CX p c cc nL s m ar own D d) (I : IW D A H0 ws H locs) (q0 : Nat) (ha : ws[q0]? = some (a, .inl (d 2, n, .inl f))) (hk : k < n) (hdg : decode cc pc = .ok (.saload, 1)) (kk : W p l e R s m ar bl me c H locs cells slots Q (F0 m (pc + 1) ls (.int (f k) :: rest))) (hn : n < 2 ^ 31 := by decide) : W p l e R s m ar bl me c H locs cells slots Q (F0 m pc ls (.int (nI k) :: .ref a :: rest)) := by
  refine va_sald C.1.1 C.1.2.1 C.2 I.1 q0 2 ha rfl (vp_in_nI hk hn) hdg ?_
  rw [nI_clamp (Nat.lt_trans hk hn)]
  exact kk
theorem i_zld (C : CX p c cc nL s m ar own D d) (I : IW D A H0 ws H locs) (q0 : Nat) (ha : ws[q0]? = some (a, .inl (d 3, n, .inl f))) (hk : k < n) (hdg : decode cc pc = .ok (.baload, 1)) (kk : W p l e R s m ar bl me c H locs cells slots Q (F0 m (pc + 1) ls (.int (f k) :: rest))) (hn : n < 2 ^ 31 := by decide) : W p l e R s m ar bl me c H locs cells slots Q (F0 m pc ls (.int (nI k) :: .ref a :: rest)) := by
  refine va_zald C.1.1 C.1.2.1 C.2 I.1 q0 3 ha rfl (vp_in_nI hk hn) hdg ?_
  rw [nI_clamp (Nat.lt_trans hk hn)]
  exact kk
theorem i_ist (C : CX p c cc nL s m ar own D d) (I : IW D A H0 ws H locs) (q0 : Nat) (ha : ws[q0]? = some (a, .inl (d 0, n, .inl f))) (hk : k < n) (hw : ws.set q0 (a, .inl (d 0, n, .inl (upd f k x))) = ws') (hdg : decode cc pc = .ok (.iastore, 1)) (kk : ∀ (H1 : Heap) (locs1 : List Loc), IW D A H0 ws' H1 locs1 → W p l e R s m ar bl me c H1 locs1 cells slots Q (F0 m (pc + 1) ls rest)) (hn : n < 2 ^ 31 := by decide) : W p l e R s m ar bl me c H locs cells slots Q (F0 m pc ls (.int x :: .int (nI k) :: .ref a :: rest)) := by
  refine va_iast C.1.1 C.1.2.1 C.2 I.1 I.2.1 I.2.2.1 q0 0 ha rfl (vp_in_nI hk hn) hdg (fun H1 locs1 hP hD hS => ?_)
  rw [nI_clamp (Nat.lt_trans hk hn), hw] at hP hD
  exact kk H1 locs1 ⟨hP, hD, hS, I.2.2.2⟩
theorem i_bst (C : CX p c cc nL s m ar own D d) (I : IW D A H0 ws H locs) (q0 : Nat) (ha : ws[q0]? = some (a, .inl (d 1, n, .inl f))) (hk : k < n) (hv : vp_nar .byte x = v) (hw : ws.set q0 (a, .inl (d 1, n, .inl (upd f k v))) = ws') (hdg : decode cc pc = .ok (.bastore, 1)) (kk : ∀ (H1 : Heap) (locs1 : List Loc), IW D A H0 ws' H1 locs1 → W p l e R s m ar bl me c H1 locs1 cells slots Q (F0 m (pc + 1) ls rest)) (hn : n < 2 ^ 31 := by decide) : W p l e R s m ar bl me c H locs cells slots Q (F0 m pc ls (.int x :: .int (nI k) :: .ref a :: rest)) := by
  refine va_bast C.1.1 C.1.2.1 C.2 I.1 I.2.1 I.2.2.1 q0 1 ha rfl (vp_in_nI hk hn) hdg (fun H1 locs1 hP hD hS => ?_)
  rw [nI_clamp (Nat.lt_trans hk hn), hv, hw] at hP hD
  exact kk H1 locs1 ⟨hP, hD, hS, I.2.2.2⟩
theorem i_sst (C : CX p c cc nL s m ar own D d) (I : IW D A H0 ws H locs) (q0 : Nat) (ha : ws[q0]? = some (a, .inl (d 2, n, .inl f))) (hk : k < n) (hv : vp_nar .short x = v) (hw : ws.set q0 (a, .inl (d 2, n, .inl (upd f k v))) = ws') (hdg : decode cc pc = .ok (.sastore, 1)) (kk : ∀ (H1 : Heap) (locs1 : List Loc), IW D A H0 ws' H1 locs1 → W p l e R s m ar bl me c H1 locs1 cells slots Q (F0 m (pc + 1) ls rest)) (hn : n < 2 ^ 31 := by decide) : W p l e R s m ar bl me c H locs cells slots Q (F0 m pc ls (.int x :: .int (nI k) :: .ref a :: rest)) := by
  refine va_sast C.1.1 C.1.2.1 C.2 I.1 I.2.1 I.2.2.1 q0 2 ha rfl (vp_in_nI hk hn) hdg (fun H1 locs1 hP hD hS => ?_)
  rw [nI_clamp (Nat.lt_trans hk hn), hv, hw] at hP hD
  exact kk H1 locs1 ⟨hP, hD, hS, I.2.2.2⟩
theorem i_zst (C : CX p c cc nL s m ar own D d) (I : IW D A H0 ws H locs) (q0 : Nat) (ha : ws[q0]? = some (a, .inl (d 3, n, .inl f))) (hk : k < n) (hv : vp_nar .boolean x = v) (hw : ws.set q0 (a, .inl (d 3, n, .inl (upd f k v))) = ws') (hdg : decode cc pc = .ok (.bastore, 1)) (kk : ∀ (H1 : Heap) (locs1 : List Loc), IW D A H0 ws' H1 locs1 → W p l e R s m ar bl me c H1 locs1 cells slots Q (F0 m (pc + 1) ls rest)) (hn : n < 2 ^ 31 := by decide) : W p l e R s m ar bl me c H locs cells slots Q (F0 m pc ls (.int x :: .int (nI k) :: .ref a :: rest)) := by
  refine va_zast C.1.1 C.1.2.1 C.2 I.1 I.2.1 I.2.2.1 q0 3 ha rfl (vp_in_nI hk hn) hdg (fun H1 locs1 hP hD hS => ?_)
  rw [nI_clamp (Nat.lt_trans hk hn), hv, hw] at hP hD
  exact kk H1 locs1 ⟨hP, hD, hS, I.2.2.2⟩
/-- numbers that are Nats -/
theorem n_add {a b : Nat} (hx : p.tables.exec = Jvm.exec) (hb : c.code = cc) (hdg : decode cc pc = .ok (.iadd, 1)) (k : W p l e R s m ar bl me c H locs cells slots Q (F0 m (pc + 1) ls (.int (nI (a + b)) :: rest))) : W p l e R s m ar bl me c H locs cells slots Q (F0 m pc ls (.int (nI b) :: .int (nI a) :: rest)) :=
  lv_iadd hx hb hdg (by rw [nI_add]; exact k)
theorem n_mul {a b : Nat} (hx : p.tables.exec = Jvm.exec) (hb : c.code = cc) (hdg : decode cc pc = .ok (.imul, 1)) (k : W p l e R s m ar bl me c H locs cells slots Q (F0 m (pc + 1) ls (.int (nI (a * b)) :: rest))) : W p l e R s m ar bl me c H locs cells slots Q (F0 m pc ls (.int (nI b) :: .int (nI a) :: rest)) :=
  lv_imul hx hb hdg (by rw [pk_mul]; exact k)
theorem n_sub {a b : Nat} (hx : p.tables.exec = Jvm.exec) (hb : c.code = cc) (hdg : decode cc pc = .ok (.isub, 1)) (h : b ≤ a) (k : W p l e R s m ar bl me c H locs cells slots Q (F0 m (pc + 1) ls (.int (nI (a - b)) :: rest))) : W p l e R s m ar bl me c H locs cells slots Q (F0 m pc ls (.int (nI b) :: .int (nI a) :: rest)) :=
  lv_isub hx hb hdg (by rw [pk_sub h]; exact k)
theorem n_inc (a : Nat) : nI a + Int32.ofInt 1 = nI (a + 1) := nI_1 a
theorem n_ge {a b : Nat} {off : Int} {tgt : Nat} (hx : p.tables.exec = Jvm.exec) (hb : c.code = cc) (hdg : decode cc pc = .ok (.if_icmp .ge off, 3)) (ht : (pc : Int) + off = (tgt : Int)) (ha : a < 2 ^ 31) (hb2 : b < 2 ^ 31) (kt : b ≤ a → W p l e R s m ar bl me c H locs cells slots Q (F0 m tgt ls rest)) (kf : a < b → W p l e R s m ar bl me c H locs cells slots Q (F0 m (pc + 3) ls rest)) : W p l e R s m ar bl me c H locs cells slots Q (F0 m pc ls (.int (nI b) :: .int (nI a) :: rest)) :=
  lv_icmp_ge hx hb hdg ht (fun h => kt ((nI_leI hb2 ha).mp h)) (fun h => kf (Nat.lt_of_not_le fun q => h ((nI_leI hb2 ha).mpr q)))
theorem n_le {a b : Nat} {off : Int} {tgt : Nat} (hx : p.tables.exec = Jvm.exec) (hb : c.code = cc) (hdg : decode cc pc = .ok (.if_icmp .le off, 3)) (ht : (pc : Int) + off = (tgt : Int)) (ha : a < 2 ^ 31) (hb2 : b < 2 ^ 31) (kt : a ≤ b → W p l e R s m ar bl me c H locs cells slots Q (F0 m tgt ls rest)) (kf : b < a → W p l e R s m ar bl me c H locs cells slots Q (F0 m (pc + 3) ls rest)) : W p l e R s m ar bl me c H locs cells slots Q (F0 m pc ls (.int (nI b) :: .int (nI a) :: rest)) :=
  lv_icmp_le hx hb hdg ht (fun h => kt ((nI_leI ha hb2).mp h)) (fun h => kf (Nat.lt_of_not_le fun q => h ((nI_leI ha hb2).mpr q)))
theorem n_lt {a b : Nat} {off : Int} {tgt : Nat} (hx : p.tables.exec = Jvm.exec) (hb : c.code = cc) (hdg : decode cc pc = .ok (.if_icmp .lt off, 3)) (ht : (pc : Int) + off = (tgt : Int)) (ha : a < 2 ^ 31) (hb2 : b < 2 ^ 31) (kt : a < b → W p l e R s m ar bl me c H locs cells slots Q (F0 m tgt ls rest)) (kf : b ≤ a → W p l e R s m ar bl me c H locs cells slots Q (F0 m (pc + 3) ls rest)) : W p l e R s m ar bl me c H locs cells slots Q (F0 m pc ls (.int (nI b) :: .int (nI a) :: rest)) :=
  lv_icmp_lt hx hb hdg ht (fun h => kt ((nI_ltI ha hb2).mp h)) (fun h => kf (Nat.le_of_not_lt fun q => h ((nI_ltI ha hb2).mpr q)))
theorem n_gt {a b : Nat} {off : Int} {tgt : Nat} (hx : p.tables.exec = Jvm.exec) (hb : c.code = cc) (hdg : decode cc pc = .ok (.if_icmp .gt off, 3)) (ht : (pc : Int) + off = (tgt : Int)) (ha : a < 2 ^ 31) (hb2 : b < 2 ^ 31) (kt : b < a → W p l e R s m ar bl me c H locs cells slots Q (F0 m tgt ls rest)) (kf : a ≤ b → W p l e R s m ar bl me c H locs cells slots Q (F0 m (pc + 3) ls rest)) : W p l e R s m ar bl me c H locs cells slots Q (F0 m pc ls (.int (nI b) :: .int (nI a) :: rest)) :=
  lv_icmp_gt hx hb hdg ht (fun h => kt ((nI_ltI hb2 ha).mp h)) (fun h => kf (Nat.le_of_not_lt fun q => h ((nI_ltI hb2 ha).mpr q)))
theorem n_eq {a b : Nat} {off : Int} {tgt : Nat} (hx : p.tables.exec = Jvm.exec) (hb : c.code = cc) (hdg : decode cc pc = .ok (.if_icmp .eq off, 3)) (ht : (pc : Int) + off = (tgt : Int)) (ha : a < 2 ^ 31) (hb2 : b < 2 ^ 31) (kt : a = b → W p l e R s m ar bl me c H locs cells slots Q (F0 m tgt ls rest)) (kf : ¬ a = b → W p l e R s m ar bl me c H locs cells slots Q (F0 m (pc + 3) ls rest)) : W p l e R s m ar bl me c H locs cells slots Q (F0 m pc ls (.int (nI b) :: .int (nI a) :: rest)) :=
  lv_icmp_eq hx hb hdg ht (fun h => kt ((nI_eq ha hb2).mp h)) (fun h => kf (fun q => h ((nI_eq ha hb2).mpr q)))
theorem n_ne {a b : Nat} {off : Int} {tgt : Nat} (hx : p.tables.exec = Jvm.exec) (hb : c.code = cc) (hdg : decode cc pc = .ok (.if_icmp .ne off, 3)) (ht : (pc : Int) + off = (tgt : Int)) (ha : a < 2 ^ 31) (hb2 : b < 2 ^ 31) (kt : ¬ a = b → W p l e R s m ar bl me c H locs cells slots Q (F0 m tgt ls rest)) (kf : a = b → W p l e R s m ar bl me c H locs cells slots Q (F0 m (pc + 3) ls rest)) : W p l e R s m ar bl me c H locs cells slots Q (F0 m pc ls (.int (nI b) :: .int (nI a) :: rest)) :=
  lv_icmp_ne hx hb hdg ht (fun h => kt (fun q => h ((nI_eq ha hb2).mpr q))) (fun h => kf ((nI_eq ha hb2).mp h))
theorem n_ifeq {a : Nat} {off : Int} {tgt : Nat} (hx : p.tables.exec = Jvm.exec) (hb : c.code = cc) (hdg : decode cc pc = .ok (.ifCond .eq off, 3)) (ht : (pc : Int) + off = (tgt : Int)) (ha : a < 2 ^ 31) (kt : a = 0 → W p l e R s m ar bl me c H locs cells slots Q (F0 m tgt ls rest)) (kf : ¬ a = 0 → W p l e R s m ar bl me c H locs cells slots Q (F0 m (pc + 3) ls rest)) : W p l e R s m ar bl me c H locs cells slots Q (F0 m pc ls (.int (nI a) :: rest)) :=
  lv_if_eq hx hb hdg ht (fun h => kt ((nI_eq ha (by decide)).mp (h.trans nI_0.symm))) (fun h => kf (fun q => h (by rw [q]; exact nI_0)))
theorem n_ifne {a : Nat} {off : Int} {tgt : Nat} (hx : p.tables.exec = Jvm.exec) (hb : c.code = cc) (hdg : decode cc pc = .ok (.ifCond .ne off, 3)) (ht : (pc : Int) + off = (tgt : Int)) (ha : a < 2 ^ 31) (kt : ¬ a = 0 → W p l e R s m ar bl me c H locs cells slots Q (F0 m tgt ls rest)) (kf : a = 0 → W p l e R s m ar bl me c H locs cells slots Q (F0 m (pc + 3) ls rest)) : W p l e R s m ar bl me c H locs cells slots Q (F0 m pc ls (.int (nI a) :: rest)) :=
  lv_if_ne hx hb hdg ht (fun h => kt (fun q => h (by rw [q]; exact nI_0))) (fun h => kf ((nI_eq ha (by decide)).mp (h.trans nI_0.symm)))
/-- a value on top that several branches bring -/
theorem w_join (J : Nat) (v : Int32) (r0 : List Value) (kj : ∀ r : Int32, r = v → W p l e R s m ar bl me c H locs cells slots Q (F0 m J ls (.int r :: r0))) (kb : (∀ r : Int32, r = v → W p l e R s m ar bl me c H locs cells slots Q (F0 m J ls (.int r :: r0))) → W p l e R s m ar bl me c H locs cells slots Q (F0 m pc ls st)) : W p l e R s m ar bl me c H locs cells slots Q (F0 m pc ls st) := kb kj
end RW
end
section
/-! THE TWO WORLDS: the class's thirteen cells, the reference's nine -/
def wX (h : Nat → Nat) (d : Nat → ClassId) (sz wy kn : Int32) (fK fP fN fO fD fI fR fH fT fF fE fM : Nat → Int32) : va_W :=
  [(h 0, .inr (0, [.ref (h 1), .ref (h 2), .ref (h 3), .int sz, .int wy, .ref (h 4), .ref (h 5), .ref (h 6), .ref (h 7), .ref (h 8), .int kn, .ref (h 9), .ref (h 10), .ref (h 11), .ref (h 12)])), (h 1, .inl (d 1, 12, .inl fK)), (h 2, .inl (d 1, 12, .inl fP)), (h 3, .inl (d 1, 12, .inl fN)), (h 4, .inl (d 1, 16, .inl fO)), (h 5, .inl (d 2, 16, .inl fD)), (h 6, .inl (d 0, 256, .inl fI)), (h 7, .inl (d 0, 192, .inl fR)), (h 8, .inl (d 0, 16, .inl fH)), (h 9, .inl (d 2, 256, .inl fT)), (h 10, .inl (d 3, 256, .inl fF)), (h 11, .inl (d 0, 1024, .inl fE)), (h 12, .inl (d 3, 256, .inl fM))]
def wM (h : Nat → Nat) (d : Nat → ClassId) (sz : Int32) (gK gA gB gN gM gT gF gE : Nat → Int32) : va_W :=
  [(h 0, .inr (1, [.int sz, .ref (h 1), .ref (h 2), .ref (h 3), .ref (h 4), .ref (h 5), .ref (h 6), .ref (h 7), .ref (h 8)])), (h 1, .inl (d 0, 12, .inl gK)), (h 2, .inl (d 0, 12, .inl gA)), (h 3, .inl (d 0, 12, .inl gB)), (h 4, .inl (d 0, 12, .inl gN)), (h 5, .inl (d 3, 4096, .inl gM)), (h 6, .inl (d 0, 256, .inl gT)), (h 7, .inl (d 3, 256, .inl gF)), (h 8, .inl (d 0, 1024, .inl gE))]
/-- a truth value as the machine's int -/
def bI (b : Bool) : Int32 := if b then 1 else 0
theorem bI_nar (b : Bool) : narrow .boolean (.int (bI b)) = .int (bI b) := by cases b <;> rfl
theorem bI_z (b : Bool) : vp_nar .boolean (bI b) = bI b := by cases b <;> rfl
theorem bI_0 {b : Bool} : bI b = 0 ↔ b = false := by cases b <;> decide
theorem bI_inj {a b : Bool} : bI a = bI b ↔ a = b := by cases a <;> cases b <;> decide
theorem upd_s {f : Nat → Int32} {k : Nat} {x : Int32} : upd f k x k = x := by simp [upd]
theorem upd_n {f : Nat → Int32} {k j : Nat} {x : Int32} (h : j ≠ k) : upd f k x j = f j := by simp [upd, h]
/-- what a loop has written so far stays, and the next place comes -/
theorem lt_upd {f : Nat → Int32} {i : Nat} {x : Int32} {P : Nat → Int32 → Prop} (h : ∀ j, j < i → P j (f j)) (hx : P i x) : ∀ j, j < i + 1 → P j (upd f i x j) := by
  intro j hj
  by_cases e : j = i
  · subst e; rw [upd_s]; exact hx
  · rw [upd_n e]; exact h j (by omega)
end
section
def bt (x : Int32) (i : Nat) : Bool := x.toBitVec.getLsbD i
theorem b_ext {x y : Int32} (h : ∀ i, i < 32 → bt x i = bt y i) : x = y := Int32.toBitVec_inj.mp (BitVec.eq_of_getLsbD_eq (fun i hi => h i hi))
theorem b_or (x y : Int32) (i : Nat) : bt (x ||| y) i = (bt x i || bt y i) := by unfold bt; rw [Int32.toBitVec_or, BitVec.getLsbD_or]
theorem b_and (x y : Int32) (i : Nat) : bt (x &&& y) i = (bt x i && bt y i) := by unfold bt; rw [Int32.toBitVec_and, BitVec.getLsbD_and]
theorem b_xor (x y : Int32) (i : Nat) : bt (x ^^^ y) i = (bt x i ^^ bt y i) := by unfold bt; rw [Int32.toBitVec_xor, BitVec.getLsbD_xor]
theorem b_big {x : Int32} {i : Nat} (h : 32 ≤ i) : bt x i = false := BitVec.getLsbD_of_ge _ _ h
theorem b_255 (i : Nat) : bt 255 i = decide (i < 8) := by
  rcases Nat.lt_or_ge i 32 with h | h
  · exact (by decide +kernel : ∀ i, i < 32 → bt 255 i = decide (i < 8)) i h
  · rw [b_big h, decide_eq_false (by omega)]
theorem b_65535 (i : Nat) : bt 65535 i = decide (i < 16) := by
  rcases Nat.lt_or_ge i 32 with h | h
  · exact (by decide +kernel : ∀ i, i < 32 → bt 65535 i = decide (i < 16)) i h
  · rw [b_big h, decide_eq_false (by omega)]
theorem b_m1 : ∀ i, i < 32 → bt (-1) i = true := by decide +kernel
theorem b_0 (i : Nat) : bt 0 i = false := BitVec.getLsbD_zero
theorem s_l : ∀ n, n < 32 → ((nI n &&& 31).toBitVec.smod 32).toNat = n := by decide +kernel
theorem s_u : ∀ n, n < 32 → (((nI n).toUInt32 &&& Int32.toUInt32 31).toBitVec % 32).toNat = n := by decide +kernel
theorem b_shl (n : Nat) (hn : n < 32) (x : Int32) {i : Nat} (hi : i < 32) : bt (x <<< (nI n &&& 31)) i = (decide (n ≤ i) && bt x (i - n)) := by
  unfold bt
  rw [Int32.toBitVec_shiftLeft]
  show (x.toBitVec <<< ((nI n &&& 31).toBitVec.smod 32).toNat).getLsbD i = _
  rw [s_l n hn, BitVec.getLsbD_shiftLeft]
  rcases Nat.lt_or_ge i n with h | h
  · simp [h, Nat.not_le.mpr h]
  · simp [hi, h, Nat.not_lt.mpr h]
theorem b_ushr (n : Nat) (hn : n < 32) (x : Int32) (i : Nat) : bt ((x.toUInt32 >>> ((nI n).toUInt32 &&& Int32.toUInt32 31)).toInt32) i = bt x (n + i) := by
  show (x.toUInt32 >>> ((nI n).toUInt32 &&& Int32.toUInt32 31)).toBitVec.getLsbD i = x.toUInt32.toBitVec.getLsbD (n + i)
  rw [UInt32.toBitVec_shiftRight]
  show (x.toUInt32.toBitVec >>> (((nI n).toUInt32 &&& Int32.toUInt32 31).toBitVec % 32).toNat).getLsbD i = _
  rw [s_u n hn, BitVec.getLsbD_ushiftRight]
theorem b_sshr (n : Nat) (hn : n < 32) (x : Int32) {i : Nat} (hi : i < 32) : bt (x >>> (nI n &&& 31)) i = if n + i < 32 then bt x (n + i) else bt x 31 := by
  unfold bt
  rw [Int32.toBitVec_shiftRight]
  show (x.toBitVec.sshiftRight ((nI n &&& 31).toBitVec.smod 32).toNat).getLsbD i = _
  rw [s_l n hn, BitVec.getLsbD_sshiftRight, BitVec.msb_eq_getLsbD_last]
  simp [hi]
theorem nx_and (a b : Nat) : nI a &&& nI b = nI (a &&& b) := by
  apply Int32.toBitVec_inj.1
  show BitVec.ofNat 32 a &&& BitVec.ofNat 32 b = BitVec.ofNat 32 (a &&& b)
  apply BitVec.eq_of_getLsbD_eq
  intro i hi
  simp [hi]
theorem nx_or (a b : Nat) : nI a ||| nI b = nI (a ||| b) := by
  apply Int32.toBitVec_inj.1
  show BitVec.ofNat 32 a ||| BitVec.ofNat 32 b = BitVec.ofNat 32 (a ||| b)
  apply BitVec.eq_of_getLsbD_eq
  intro i hi
  simp [hi]
theorem n_pow : ∀ a, a < 31 → (nI 1) <<< (nI a &&& 31) = nI (2 ^ a) := by decide +kernel
theorem n_shr {q y : Nat} (hq : q < 2 ^ 31) (hy : y < 32) : nI q >>> (nI y &&& 31) = nI (q / 2 ^ y) := pk_shrN hq _ y (s_l y hy)
theorem n_and1 {q : Nat} (hq : q < 2 ^ 32) : nI q &&& nI 1 = nI (q % 2) := pk_andN hq 1 (by decide)
theorem n_bit {q y : Nat} (hq : q < 2 ^ 31) (hy : y < 32) : (nI q >>> (nI y &&& 31)) &&& nI 1 = nI (q / 2 ^ y % 2) := by
  rw [n_shr hq hy]
  exact n_and1 (Nat.lt_of_le_of_lt (Nat.div_le_self _ _) (by omega))
/-- one bit, as the machine asks for it -/
theorem b_ask (x : Int32) {y : Nat} (hy : y < 31) : ((x >>> (nI y &&& 31)) &&& nI 1) = 0 ↔ bt x y = false := by
  have h1 : ∀ i, i < 32 → bt ((x >>> (nI y &&& 31)) &&& nI 1) i = (decide (i = 0) && bt x y) := by
    intro i hi
    rw [b_and, b_sshr y (by omega) x hi]
    by_cases e : i = 0
    · subst e
      have h2 : bt (nI 1) 0 = true := by decide
      rw [h2, if_pos (by omega)]
      simp
    · have h2 : bt (nI 1) i = false := by
        have := (by decide +kernel : ∀ i, i < 32 → i ≠ 0 → bt (nI 1) i = false) i hi e
        exact this
      rw [h2]
      simp [e]
  constructor
  · intro h
    have := h1 0 (by omega)
    rw [h, b_0] at this
    simpa using this.symm
  · intro h
    refine b_ext (fun i hi => ?_)
    rw [h1 i hi, h, b_0]
    simp
theorem b_nz {x : Int32} : x ≠ 0 ↔ ∃ i, i < 32 ∧ bt x i = true := by
  constructor
  · intro h
    refine Decidable.byContradiction fun q => h (b_ext (fun i hi => ?_))
    rw [b_0]
    cases hb : bt x i
    · rfl
    · exact absurd ⟨i, hi, hb⟩ q
  · rintro ⟨i, hi, hb⟩ rfl
    rw [b_0] at hb
    cases hb
theorem b_not (x : Int32) {i : Nat} (hi : i < 32) : bt (x ^^^ (-1)) i = !bt x i := by
  rw [b_xor, b_m1 i hi]
  simp
/-! sums and least places -/
def sumN (f : Nat → Nat) : Nat → Nat
  | 0 => 0
  | k + 1 => sumN f k + f k
theorem sumN_le {f : Nat → Nat} {b : Nat} (h : ∀ i, f i ≤ b) : ∀ k, sumN f k ≤ b * k
  | 0 => by simp [sumN]
  | k + 1 => by
    have := sumN_le h k
    have := h k
    simp only [sumN, Nat.mul_succ]
    omega
theorem sumN_congr {f g : Nat → Nat} : ∀ k, (∀ i, i < k → f i = g i) → sumN f k = sumN g k
  | 0, _ => rfl
  | k + 1, h => by
    simp only [sumN]
    rw [sumN_congr k (fun i hi => h i (by omega)), h k (by omega)]
theorem sumN_add {f g : Nat → Nat} : ∀ k, sumN (fun i => f i + g i) k = sumN f k + sumN g k
  | 0 => rfl
  | k + 1 => by
    simp only [sumN]
    rw [sumN_add k]
    omega
def b1 (b : Bool) : Nat := if b then 1 else 0
theorem b1_le (b : Bool) : b1 b ≤ 1 := by cases b <;> decide
/-- the least place below 256 with P, or -1 -/
def Fnd (P : Nat → Prop) (r : Int32) : Prop := (∃ i, i < 256 ∧ P i ∧ (∀ j, j < i → ¬ P j) ∧ r = nI i) ∨ ((∀ i, i < 256 → ¬ P i) ∧ r = -1)
theorem Fnd.one {P : Nat → Prop} {r r' : Int32} (h : Fnd P r) (h' : Fnd P r') : r = r' := by
  rcases h with ⟨i, hi, hp, hm, rfl⟩ | ⟨hn, rfl⟩ <;> rcases h' with ⟨i', hi', hp', hm', rfl⟩ | ⟨hn', rfl⟩
  · have : i = i' := by
      rcases Nat.lt_trichotomy i i' with q | q | q
      · exact absurd hp (hm' i q)
      · exact q
      · exact absurd hp' (hm i' q)
    rw [this]
  · exact absurd hp (hn' i hi)
  · exact absurd hp' (hn i' hi')
  · rfl
theorem Fnd.congr {P P' : Nat → Prop} {r : Int32} (h : Fnd P r) (e : ∀ i, i < 256 → (P i ↔ P' i)) : Fnd P' r := by
  rcases h with ⟨i, hi, hp, hm, rfl⟩ | ⟨hn, rfl⟩
  · exact Or.inl ⟨i, hi, (e i hi).mp hp, fun j hj q => hm j hj ((e j (by omega)).mpr q), rfl⟩
  · exact Or.inr ⟨fun i hi q => hn i hi ((e i hi).mpr q), rfl⟩
/-! the program and its run -/
abbrev Pg : Type := Nat → Nat × Nat × Nat × Int32
def st_made (k : Nat) (n x y : Int32) : Int32 := if k = 0 then n else if k = 1 then x + y else if k = 2 then x - y else if k = 3 then x * n else x
def st_goes (k : Nat) (x y : Int32) : Bool := decide (k = 6 ∨ (k = 4 ∧ x < y) ∨ (k = 5 ∧ x = y))
def st_fail (k : Nat) (x y : Int32) : Bool := decide (k = 7 ∧ y < x)
/-- from position a with registers r and path q -/
def rn (n : Nat) (G : Pg) : Nat → Nat → (Nat → Int32) → Nat → (Nat → Int32) × Nat × Bool
  | 0, _, r, q => (r, q, false)
  | f + 1, a, r, q =>
    if n ≤ a then (r, q, false)
    else if st_fail (G a).1 (r (G a).2.1) (r (G a).2.2.1) then (upd r (G a).2.1 (st_made (G a).1 (G a).2.2.2 (r (G a).2.1) (r (G a).2.2.1)), q ||| 2 ^ a, true)
    else rn n G f (if st_goes (G a).1 (r (G a).2.1) (r (G a).2.2.1) then (G a).2.2.2.toNatClampNeg else a + 1) (upd r (G a).2.1 (st_made (G a).1 (G a).2.2.2 (r (G a).2.1) (r (G a).2.2.1))) (q ||| 2 ^ a)
/-- a step as the two classes let it in -/
def PS (p : Nat) (g : Nat × Nat × Nat × Int32) : Prop := g.1 ≤ 7 ∧ g.2.1 ≤ 3 ∧ g.2.2.1 ≤ 3 ∧ (g.1 = 0 → -20 ≤ g.2.2.2.toInt ∧ g.2.2.2.toInt ≤ 20) ∧ (g.1 = 3 → -3 ≤ g.2.2.2.toInt ∧ g.2.2.2.toInt ≤ 3) ∧ (4 ≤ g.1 → g.1 ≤ 6 → ∃ j, p < j ∧ j ≤ 12 ∧ g.2.2.2 = nI j)
def PW (n : Nat) (G : Pg) : Prop := n ≤ 12 ∧ ∀ p, p < n → PS p (G p)
def r0 (i : Nat) : Nat → Int32 := fun r => if r = 0 then nI (i % 16) else if r = 1 then nI (i / 16) else 0
def Rs (n : Nat) (G : Pg) (i : Nat) : (Nat → Int32) × Nat × Bool := rn n G 13 0 (r0 i) 0
def pt (n : Nat) (G : Pg) (i : Nat) : Nat := (Rs n G i).2.1
def fl (n : Nat) (G : Pg) (i : Nat) : Bool := (Rs n G i).2.2
def en (n : Nat) (G : Pg) (i r : Nat) : Int32 := (Rs n G i).1 r
/-- arrays that hold what the runs give -/
def KN (n : Nat) (G : Pg) (fT fF fE : Nat → Int32) : Prop := ∀ i, i < 256 → fT i = nI (pt n G i) ∧ fF i = bI (fl n G i) ∧ ∀ r, r < 4 → fE (4 * i + r) = en n G i r
/-- where the next position is -/
def nxt (G : Pg) (a : Nat) (r : Nat → Int32) : Nat := if st_goes (G a).1 (r (G a).2.1) (r (G a).2.2.1) then (G a).2.2.2.toNatClampNeg else a + 1
theorem st_goes_k {k : Nat} {x y : Int32} (h : st_goes k x y = true) : 4 ≤ k ∧ k ≤ 6 := by
  have h := of_decide_eq_true h
  omega
theorem nxt_gt {n a : Nat} {G : Pg} {r : Nat → Int32} (hG : PW n G) (ha : a < n) : a < nxt G a r ∧ nxt G a r ≤ 12 := by
  unfold nxt
  split
  · rename_i h
    obtain ⟨h1, h2⟩ := st_goes_k h
    obtain ⟨j, h3, h4, h5⟩ := (hG.2 a ha).2.2.2.2.2 h1 h2
    rw [h5, nI_clamp (by omega)]
    exact ⟨h3, h4⟩
  · have := hG.1
    omega
theorem rn_fuel {n : Nat} {G : Pg} (hG : PW n G) : ∀ (f a : Nat) (r : Nat → Int32) (q : Nat), n ≤ a + f → rn n G (f + 1) a r q = rn n G f a r q := by
  intro f
  induction f with
  | zero =>
    intro a r q h
    simp only [rn]
    rw [if_pos (by omega)]
  | succ f ih =>
    intro a r q h
    rw [rn]
    conv => rhs; rw [rn]
    split
    · rfl
    · rename_i ha
      split
      · rfl
      · have h1 := (nxt_gt (r := r) hG (show a < n by omega)).1
        unfold nxt at h1
        exact ih _ _ _ (by omega)
theorem rn_end {n a : Nat} {G : Pg} {r : Nat → Int32} {q : Nat} (h : n ≤ a) : rn n G 13 a r q = (r, q, false) := by
  rw [rn, if_pos h]
theorem rn_step {n a : Nat} {G : Pg} {r : Nat → Int32} {q : Nat} (hG : PW n G) (ha : a < n) : rn n G 13 a r q = if st_fail (G a).1 (r (G a).2.1) (r (G a).2.2.1) then (upd r (G a).2.1 (st_made (G a).1 (G a).2.2.2 (r (G a).2.1) (r (G a).2.2.1)), q ||| 2 ^ a, true) else rn n G 13 (nxt G a r) (upd r (G a).2.1 (st_made (G a).1 (G a).2.2.2 (r (G a).2.1) (r (G a).2.2.1))) (q ||| 2 ^ a) := by
  rw [rn, if_neg (by omega)]
  split
  · rfl
  · have h1 := (nxt_gt (r := r) hG ha).1
    have h2 := hG.1
    exact (rn_fuel hG 12 (nxt G a r) _ _ (by omega)).symm
theorem or_lt {q a b : Nat} (h : q < 2 ^ a) (hab : a < b) : q ||| 2 ^ a < 2 ^ b := by
  refine Nat.or_lt_two_pow (Nat.lt_of_lt_of_le h (Nat.pow_le_pow_right (by omega) (by omega))) (Nat.pow_lt_pow_right (by omega) hab)
theorem rn_path {n : Nat} {G : Pg} (hG : PW n G) : ∀ (f a : Nat) (r : Nat → Int32) (q : Nat), a ≤ 12 → q < 2 ^ a → (rn n G f a r q).2.1 < 4096 := by
  intro f
  induction f with
  | zero =>
    intro a r q ha hq
    simp only [rn]
    exact Nat.lt_of_lt_of_le hq (Nat.pow_le_pow_right (by omega) ha)
  | succ f ih =>
    intro a r q ha hq
    rw [rn]
    split
    · exact Nat.lt_of_lt_of_le hq (Nat.pow_le_pow_right (by omega) ha)
    · split
      · have := hG.1
        exact or_lt hq (show a < 12 by omega)
      · have h1 := nxt_gt (r := r) hG (show a < n by omega)
        unfold nxt at h1
        exact ih _ _ _ h1.2 (or_lt hq h1.1)
theorem pt_lt {n : Nat} {G : Pg} (hG : PW n G) (i : Nat) : pt n G i < 4096 := rn_path hG 13 0 _ 0 (by omega) (by decide)
end
section
/-! what a method asks and answers, in our words -/
def okN (k v z : Int) : Bool := decide ((k = 0 → -20 ≤ v ∧ v ≤ 20) ∧ (k = 3 → -3 ≤ v ∧ v ≤ 3) ∧ (4 ≤ k → k ≠ 7 → z < v ∧ v ≤ 12))
theorem i_m20 : (-20 : Int32).toInt = -20 := by decide
theorem i_m3 : (-3 : Int32).toInt = -3 := by decide
theorem i_0 : (0 : Int32).toInt = 0 := by decide
theorem bI_t {b : Bool} (h : b = true) : nI 1 = bI b := by rw [h]; rfl
theorem bI_f {b : Bool} (h : b = false) : nI 0 = bI b := by rw [h]; rfl
/-- an argument that is a place: below n or not -/
def inR (x : Int32) (n : Int) : Bool := decide (0 ≤ x.toInt ∧ x.toInt < n)
theorem inR_t {x : Int32} {n : Nat} (h : inR x n = true) : ∃ j, j < n ∧ x = nI j := by
  have h := of_decide_eq_true h
  have h1 : ¬ x < 0 := by rw [Int32.lt_iff_toInt_lt, i_0]; omega
  obtain ⟨j, hj, rfl⟩ := nI_of h1
  rw [nI_toInt hj] at h
  exact ⟨j, by omega, rfl⟩
theorem inR_n {j n : Nat} (hj : j < 2 ^ 31) : inR (nI j) n = decide (j < n) := by
  unfold inR
  rw [nI_toInt hj]
  exact decide_eq_decide.mpr (by omega)
/-- the class's state: program of n steps G, marks mk (of paths) -/
def XI (n : Nat) (G : Pg) (mk : Nat → Bool) (sz kn : Int32) (fK fP fN fT fF fE fM : Nat → Int32) : Prop :=
  sz = nI n ∧ PW n G ∧ (∀ p, p < n → fK p = nI (G p).1 ∧ fP p = nI ((G p).2.1 + 4 * (G p).2.2.1) ∧ fN p = (G p).2.2.2.toInt8.toInt32) ∧ (kn = 0 ∨ kn = 1 ∧ KN n G fT fF fE) ∧ ∀ i, i < 256 → fM i = bI (mk (pt n G i))
def XW (n : Nat) (G : Pg) (mk : Nat → Bool) (h : Nat → Nat) (d : Nat → ClassId) (w : va_W) : Prop :=
  ∃ (sz wy kn : Int32) (fK fP fN fO fD fI fR fH fT fF fE fM : Nat → Int32), XI n G mk sz kn fK fP fN fT fF fE fM ∧ w = wX h d sz wy kn fK fP fN fO fD fI fR fH fT fF fE fM
/-- the reference's -/
def MI (n : Nat) (G : Pg) (mk : Nat → Bool) (sz : Int32) (gK gA gB gN gM : Nat → Int32) : Prop :=
  sz = nI n ∧ PW n G ∧ (∀ p, p < n → gK p = nI (G p).1 ∧ gA p = nI (G p).2.1 ∧ gB p = nI (G p).2.2.1 ∧ gN p = (G p).2.2.2) ∧ ∀ q, q < 4096 → gM q = bI (mk q)
def MW (n : Nat) (G : Pg) (mk : Nat → Bool) (h : Nat → Nat) (d : Nat → ClassId) (w : va_W) : Prop :=
  ∃ (sz : Int32) (gK gA gB gN gM gT gF gE : Nat → Int32), MI n G mk sz gK gA gB gN gM ∧ w = wM h d sz gK gA gB gN gM gT gF gE
theorem ti_0 : (nI 0).toInt = 0 := by decide
theorem ti_1 : (nI 1).toInt = 1 := by decide
theorem ti_2 : (nI 2).toInt = 2 := by decide
theorem ti_3 : (nI 3).toInt = 3 := by decide
theorem ti_4 : (nI 4).toInt = 4 := by decide
theorem ti_5 : (nI 5).toInt = 5 := by decide
theorem ti_6 : (nI 6).toInt = 6 := by decide
theorem ti_7 : (nI 7).toInt = 7 := by decide
theorem ti_12 : (nI 12).toInt = 12 := by decide
theorem ti_15 : (nI 15).toInt = 15 := by decide
theorem ti_16 : (nI 16).toInt = 16 := by decide
theorem ti_20 : (nI 20).toInt = 20 := by decide
theorem ti_255 : (nI 255).toInt = 255 := by decide
theorem ti_256 : (nI 256).toInt = 256 := by decide
theorem goes_t {k : Nat} {x y : Int32} (h : k = 6 ∨ (k = 4 ∧ x < y) ∨ (k = 5 ∧ x = y)) : nI 1 = bI (st_goes k x y) := bI_t (decide_eq_true h)
theorem goes_f {k : Nat} {x y : Int32} (h : ¬ (k = 6 ∨ (k = 4 ∧ x < y) ∨ (k = 5 ∧ x = y))) : nI 0 = bI (st_goes k x y) := bI_f (decide_eq_false h)
theorem fail_t {k : Nat} {x y : Int32} (h : k = 7 ∧ y < x) : nI 1 = bI (st_fail k x y) := bI_t (decide_eq_true h)
theorem fail_f {k : Nat} {x y : Int32} (h : ¬ (k = 7 ∧ y < x)) : nI 0 = bI (st_fail k x y) := bI_f (decide_eq_false h)
theorem made_0 {k : Nat} {n x y : Int32} (h : k = 0) : n = st_made k n x y := by rw [st_made, if_pos h]
theorem made_1 {k : Nat} {n x y : Int32} (h : k = 1) : x + y = st_made k n x y := by rw [st_made, if_neg (by omega), if_pos h]
theorem made_2 {k : Nat} {n x y : Int32} (h : k = 2) : x - y = st_made k n x y := by rw [st_made, if_neg (by omega), if_neg (by omega), if_pos h]
theorem made_3 {k : Nat} {n x y : Int32} (h : k = 3) : x * n = st_made k n x y := by rw [st_made, if_neg (by omega), if_neg (by omega), if_neg (by omega), if_pos h]
theorem made_4 {k : Nat} {n x y : Int32} (h0 : ¬ k = 0) (h1 : ¬ k = 1) (h2 : ¬ k = 2) (h3 : ¬ k = 3) : x = st_made k n x y := by rw [st_made, if_neg h0, if_neg h1, if_neg h2, if_neg h3]
theorem n_and15 {i : Nat} (h : i < 2 ^ 32) : nI i &&& nI 15 = nI (i % 16) := pk_andN h 4 (by decide)
theorem n_and3 {i : Nat} (h : i < 2 ^ 32) : nI i &&& nI 3 = nI (i % 4) := pk_andN h 2 (by decide)
theorem n_shr4 {i : Nat} (h : i < 2 ^ 31) : nI i >>> (nI 4 &&& 31) = nI (i / 16) := n_shr (y := 4) h (by decide)
theorem n_shr2 {i : Nat} (h : i < 2 ^ 31) : nI i >>> (nI 2 &&& 31) = nI (i / 4) := n_shr (y := 2) h (by decide)
theorem n_or1 {q a : Nat} (ha : a < 31) : nI q ||| (nI 1 <<< (nI a &&& 31)) = nI (q ||| 2 ^ a) := by rw [n_pow a ha, nx_or]
def RunAt (n : Nat) (G : Pg) (i : Nat) (T F E : Nat → Int32) : Prop := T i = nI (pt n G i) ∧ F i = bI (fl n G i) ∧ ∀ r, r < 4 → E (4 * i + r) = en n G i r
def KeepAt (j : Nat) (T F E T' F' E' : Nat → Int32) : Prop := T' j = T j ∧ F' j = F j ∧ ∀ r, r < 4 → E' (4 * j + r) = E (4 * j + r)
theorem KeepAt.rf {j : Nat} {T F E : Nat → Int32} : KeepAt j T F E T F E := ⟨rfl, rfl, fun _ _ => rfl⟩
theorem KeepAt.tr {j : Nat} {T F E T' F' E' T2 F2 E2 : Nat → Int32} (h : KeepAt j T F E T' F' E') (h2 : KeepAt j T' F' E' T2 F2 E2) : KeepAt j T F E T2 F2 E2 := ⟨h2.1.trans h.1, h2.2.1.trans h.2.1, fun r hr => (h2.2.2 r hr).trans (h.2.2 r hr)⟩
theorem KeepAt.t {j i : Nat} {T F E T' F' E' : Nat → Int32} {x : Int32} (h : KeepAt j T F E T' F' E') (hj : j ≠ i) : KeepAt j T F E (upd T' i x) F' E' := ⟨(upd_n hj).trans h.1, h.2.1, h.2.2⟩
theorem KeepAt.f {j i : Nat} {T F E T' F' E' : Nat → Int32} {x : Int32} (h : KeepAt j T F E T' F' E') (hj : j ≠ i) : KeepAt j T F E T' (upd F' i x) E' := ⟨h.1, (upd_n hj).trans h.2.1, h.2.2⟩
theorem KeepAt.e {j i r : Nat} {T F E T' F' E' : Nat → Int32} {x : Int32} (h : KeepAt j T F E T' F' E') (hj : j ≠ i) (hr : r < 4) : KeepAt j T F E T' F' (upd E' (4 * i + r) x) := ⟨h.1, h.2.1, fun r' hr' => (upd_n (by omega)).trans (h.2.2 r' hr')⟩
theorem run_init (E : Nat → Int32) (i : Nat) : ∀ r, r < 4 → (upd (upd (upd (upd E (4 * i) (nI (i % 16))) (4 * i + 1) (nI (i / 16))) (4 * i + 2) (nI 0)) (4 * i + 3) (nI 0)) (4 * i + r) = r0 i r := by
  intro r hr
  match r, hr with
  | 0, _ => simp [upd, r0]
  | 1, _ => simp [upd, r0]
  | 2, _ => simp [upd, r0]; rfl
  | 3, _ => simp [upd, r0]; rfl
theorem run_upd {E r : Nat → Int32} {i a : Nat} {x : Int32} (ha : a < 4) (h : ∀ ρ, ρ < 4 → E (4 * i + ρ) = r ρ) : ∀ ρ, ρ < 4 → upd E (4 * i + a) x (4 * i + ρ) = upd r a x ρ := by
  intro ρ hρ
  by_cases e : ρ = a
  · subst e; rw [upd_s, upd_s]
  · rw [upd_n (by omega), upd_n e]; exact h ρ hρ
theorem run_end {n : Nat} {G : Pg} {i q : Nat} {r T F E : Nat → Int32} {b : Bool} (h : (r, q, b) = Rs n G i) (hT : T i = nI q) (hF : F i = bI b) (hE : ∀ ρ, ρ < 4 → E (4 * i + ρ) = r ρ) : RunAt n G i T F E := by
  refine ⟨?_, ?_, fun ρ hρ => ?_⟩
  · rw [hT, pt, ← h]
  · rw [hF, fl, ← h]
  · rw [hE ρ hρ, en, ← h]
theorem nxt_I {n a : Nat} {G : Pg} {r : Nat → Int32} (hG : PW n G) (ha : a < n) (h : st_goes (G a).1 (r (G a).2.1) (r (G a).2.2.1) = true) : (G a).2.2.2 = nI (nxt G a r) := by
  obtain ⟨h1, h2⟩ := st_goes_k h
  obtain ⟨j, h3, h4, h5⟩ := (hG.2 a ha).2.2.2.2.2 h1 h2
  rw [nxt, if_pos h, h5, nI_clamp (by omega)]
theorem nxt_N {a : Nat} {G : Pg} {r : Nat → Int32} (h : st_goes (G a).1 (r (G a).2.1) (r (G a).2.2.1) = false) : nI (a + 1) = nI (nxt G a r) := by
  rw [nxt, if_neg (by rw [h]; decide)]
theorem RunAt.keep {n : Nat} {G : Pg} {j : Nat} {T F E T' F' E' : Nat → Int32} (h : RunAt n G j T F E) (k : KeepAt j T F E T' F' E') : RunAt n G j T' F' E' := ⟨k.1.trans h.1, k.2.1.trans h.2.1, fun r hr => (k.2.2 r hr).trans (h.2.2 r hr)⟩
/-- an answer to an argument that is a place below n; 'bad' if it is none -/
def QR (x : Int32) (n : Nat) (bad : Int32) (Φ : Nat → Int32 → Prop) (r : Int32) : Prop := (∀ p, p < n → x = nI p → Φ p r) ∧ (inR x n = false → r = bad)
theorem QR.one {x : Int32} {n : Nat} {bad : Int32} {Φ : Nat → Int32 → Prop} {r r' : Int32} (hu : ∀ p r r', Φ p r → Φ p r' → r = r') (h : QR x n bad Φ r) (h' : QR x n bad Φ r') : r = r' := by
  cases hv : inR x n
  · rw [h.2 hv, h'.2 hv]
  · obtain ⟨j, hj, e⟩ := inR_t hv
    exact hu j _ _ (h.1 j hj e) (h'.1 j hj e)
theorem QR.t {p n : Nat} {bad r : Int32} {Φ : Nat → Int32 → Prop} (hp : p < n) (hn : n < 2 ^ 31) (h : Φ p r) : QR (nI p) n bad Φ r := by
  refine ⟨fun p' hp' e => ?_, fun q => ?_⟩
  · have e := (nI_eq (by omega) (by omega)).mp e
    subst e
    exact h
  · rw [inR_n (by omega), decide_eq_true hp] at q
    cases q
theorem QR.f {x : Int32} {n : Nat} {bad : Int32} {Φ : Nat → Int32 → Prop} (hn : n < 2 ^ 31) (h : inR x n = false) : QR x n bad Φ bad := by
  refine ⟨fun p hp e => ?_, fun _ => rfl⟩
  obtain rfl := e
  rw [inR_n (by omega), decide_eq_true hp] at h
  cases h
theorem isP_n {x : Int32} {n : Nat} (h : n < 2 ^ 31) : inR x (nI n).toInt = inR x n := by rw [nI_toInt h]
def isF (n : Nat) (G : Pg) (i : Nat) : Bool := decide (∀ j, j < i → pt n G j ≠ pt n G i)
/-- the extreme of a register so far -/
def exS (n : Nat) (G : Pg) (ρ : Nat) (x2 : Int32) : Nat → Option Int32
  | 0 => none
  | i + 1 => if fl n G i then exS n G ρ x2 i else some (match exS n G ρ x2 i with
    | none => en n G i ρ
    | some b => if (if x2 = 0 then en n G i ρ < b else b < en n G i ρ) then en n G i ρ else b)
def mkS (n : Nat) (G : Pg) (mk : Nat → Bool) (j : Nat) : Nat → Bool := fun q => mk q || decide (q = pt n G j)
theorem fnd_like {P : Nat → Nat} {i : Nat} {r : Int32} (hi : i < 256) (h : Fnd (fun k => P k = P i) r) : ∃ i2, i2 ≤ i ∧ P i2 = P i ∧ (∀ k, k < i2 → ¬ P k = P i) ∧ r = nI i2 := by
  rcases h with ⟨i2, h1, h2, h3, h4⟩ | ⟨h1, h2⟩
  · refine ⟨i2, ?_, h2, h3, h4⟩
    rcases Nat.lt_or_ge i i2 with q | q
    · exact absurd rfl (h3 i q)
    · exact q
  · exact absurd rfl (h1 i hi)
theorem mk_upd {n : Nat} {G : Pg} {mk : Nat → Bool} {gM : Nat → Int32} {j : Nat} (h : ∀ q, q < 4096 → gM q = bI (mk q)) : ∀ q, q < 4096 → upd gM (pt n G j) (nI 1) q = bI (mkS n G mk j q) := by
  intro q hq
  by_cases e : q = pt n G j
  · rw [e, upd_s, mkS, decide_eq_true rfl, Bool.or_true]
    rfl
  · rw [upd_n e, h q hq, mkS, decide_eq_false e, Bool.or_false]
theorem inR_no {x : Int32} (h : inR x 256 = false) {j : Nat} (hj : j < 256) (e : x = nI j) : False := by
  rw [e] at h
  have h2 := inR_n (j := j) (n := 256) (by omega)
  rw [decide_eq_true hj] at h2
  exact absurd (h.symm.trans h2) (by decide)
theorem bI_n {b : Bool} (h : ¬ bI b = 0) : b = true := by
  cases b
  · exact absurd rfl h
  · rfl
/-- is the i-th a better extreme? -/
def exB (n : Nat) (G : Pg) (ρ : Nat) (x2 : Int32) (i : Nat) : Bool := !fl n G i && (!(exS n G ρ x2 i).isSome || decide (if x2 = 0 then en n G i ρ < (exS n G ρ x2 i).getD (-1000000000) else (exS n G ρ x2 i).getD (-1000000000) < en n G i ρ))
theorem exB_t {n : Nat} {G : Pg} {ρ : Nat} {x2 : Int32} {i : Nat} (h : fl n G i = false ∧ ((exS n G ρ x2 i).isSome = false ∨ (exS n G ρ x2 i).isSome = true ∧ if x2 = 0 then en n G i ρ < (exS n G ρ x2 i).getD (-1000000000) else (exS n G ρ x2 i).getD (-1000000000) < en n G i ρ)) : nI 1 = bI (exB n G ρ x2 i) := by
  refine bI_t ?_
  unfold exB
  rw [h.1]
  rcases h.2 with q | q
  · rw [q]; rfl
  · rw [decide_eq_true q.2]; simp
theorem exB_f {n : Nat} {G : Pg} {ρ : Nat} {x2 : Int32} {i : Nat} (h : fl n G i = true ∨ (exS n G ρ x2 i).isSome = true ∧ ¬ if x2 = 0 then en n G i ρ < (exS n G ρ x2 i).getD (-1000000000) else (exS n G ρ x2 i).getD (-1000000000) < en n G i ρ) : nI 0 = bI (exB n G ρ x2 i) := by
  refine bI_f ?_
  unfold exB
  rcases h with q | q
  · rw [q]; rfl
  · rw [decide_eq_false q.2, q.1]; simp
theorem exV_t {n : Nat} {G : Pg} {ρ : Nat} {x2 : Int32} {i : Nat} (h : exB n G ρ x2 i = true) : en n G i ρ = (exS n G ρ x2 (i + 1)).getD (-1000000000) := by
  unfold exB at h
  rw [Bool.and_eq_true, Bool.or_eq_true] at h
  rw [exS, if_neg (by have := h.1; simpa using this)]
  cases he : exS n G ρ x2 i with
  | none => rfl
  | some b =>
    rw [he] at h
    rcases h.2 with q | q
    · simp at q
    · have q := of_decide_eq_true q
      rw [Option.getD_some] at q
      simp only [Option.getD_some]
      rw [if_pos q]
theorem exV_f {n : Nat} {G : Pg} {ρ : Nat} {x2 : Int32} {i : Nat} (h : exB n G ρ x2 i = false) : (exS n G ρ x2 i).getD (-1000000000) = (exS n G ρ x2 (i + 1)).getD (-1000000000) := by
  unfold exB at h
  rw [exS]
  cases hf : fl n G i
  · rw [hf] at h
    rw [if_neg (by decide)]
    cases he : exS n G ρ x2 i with
    | none => rw [he] at h; simp at h
    | some b =>
      rw [he] at h
      simp only [Option.getD_some, Option.isSome_some, Bool.not_true, Bool.false_or, Bool.not_false, Bool.true_and] at h ⊢
      rw [if_neg (of_decide_eq_false h)]
  · rw [if_pos rfl]
theorem exI_a {n : Nat} {G : Pg} {ρ : Nat} {x2 : Int32} {i : Nat} (h : (exS n G ρ x2 i).isSome = true) : (exS n G ρ x2 (i + 1)).isSome = true := by
  rw [exS]
  split
  · exact h
  · rfl
theorem exI_b {n : Nat} {G : Pg} {ρ : Nat} {x2 : Int32} {i : Nat} (h : fl n G i = false) : (exS n G ρ x2 (i + 1)).isSome = true := by
  rw [exS, if_neg (by rw [h]; decide)]
  rfl
theorem exI_c {n : Nat} {G : Pg} {ρ : Nat} {x2 : Int32} {i : Nat} (h : (exS n G ρ x2 i).isSome = false) (hf : fl n G i = true) : (exS n G ρ x2 (i + 1)).isSome = false := by
  rw [exS, if_pos hf]
  exact h
end
section
set_option maxHeartbeats 4000000 in
set_option maxRecDepth 100000 in
/-- forget(): no mark -/
theorem kM_forget (l : Launch) (D : va_G) (d : Nat → ClassId) (h : Nat → Nat) (sz : Int32) (gK gA gB gN gM gT gF gE : Nat → Int32) : CV l yX1_forget (ws_ yX1_forget cX1_forget 2 none) (rk 0) D d [.ref (h 0)] (wM h d sz gK gA gB gN gM gT gF gE) (fun w' => ∃ gM', (∀ i, i < 4096 → gM' i = 0) ∧ w' = wM h d sz gK gA gB gN gM' gT gF gE) := by
  refine cv_in (cc := cX1_forget) (nL := 2) (by decide) rfl (Nat.le_of_ble_eq_true rfl) ?_
  intro p e s m ar bl me c A Q ls C I hl hret
  have hx := C.1.1
  have hb := C.1.2.1
  have hl : lv_has ls 2 [(0, .ref (h 0))] := hl
  refine lv_iconst (v := nI 0) hx hb dX1_forget_0 (by decide) ?_
  refine lv_istore_n (lv' := [(1, .int (nI 0)), (0, .ref (h 0))]) hx hb dX1_forget_1 rfl hl (by decide) rfl (fun ls hl => ?_)
  have lp : ∀ (nn : Nat) (i : Nat) (f : Nat → Int32) (H : Heap) (locs : List Loc) (ls : Array Slot), 4096 + 1 ≤ i + nn → (i ≤ 4096) → (∀ j, j < i → f j = 0) → IW D A s.heap (wM h d sz gK gA gB gN f gT gF gE) H locs → lv_has ls 2 [(0, .ref (h 0)), (1, .int (nI i))] → W p l e (rk 0) s m ar bl me c H locs 0 0 Q (F0 m 2 ls []) := by
    intro nn
    induction nn with
    | zero => intro i f H locs ls hme hi hf; exact absurd hme (by omega)
    | succ nn ih =>
      intro i f H locs ls hme hi hf I hl
      refine lv_iload_n hx hb dX1_forget_2 rfl (lv_at hl 1 rfl) ?_
      refine lv_sipush (v := nI 4096) hx hb dX1_forget_3 (by decide) ?_
      refine n_ge (tgt := 22) hx hb dX1_forget_6 (by decide) (by omega) (by omega) (fun c_6 => ?_) (fun c_6 => ?_)
      · exact hret _ _ _ _ _ I (⟨f, fun i' hi' => hf i' (by omega), rfl⟩) dX1_forget_22
      · refine lv_aload_n hx hb dX1_forget_9 rfl (lv_at hl 0 rfl) ?_
        refine m_get C I rfl 5 (by decide) q221 rfl dX1_forget_10 ?_
        refine lv_iload_n hx hb dX1_forget_13 rfl (lv_at hl 1 rfl) ?_
        refine lv_iconst (v := nI 0) hx hb dX1_forget_14 (by decide) ?_
        refine i_zst (ws' := wM h d sz gK gA gB gN (upd f i (nI 0)) gT gF gE) (v := (nI 0)) C I 5 rfl (by omega) (rfl) rfl dX1_forget_15 (fun H locs I => ?_)
        refine lv_iinc (v := (nI (i + 1))) (lv' := [(1, .int (nI (i + 1))), (0, .ref (h 0))]) hx hb dX1_forget_16 hl (k := 1) rfl (n_inc _) (by decide) rfl (fun ls hl => ?_)
        refine lv_goto (tgt := 2) hx hb dX1_forget_19 (by decide) ?_
        exact ih (i + 1) (upd f i (nI 0)) _ _ _ (by omega) (by omega) (lt_upd (P := fun _ z => z = 0) hf rfl) I (lv_sub hl [1, 0] rfl)
  exact lp 4097 0 gM _ _ _ (by omega) (by omega) (fun _ h => absurd h (by omega)) I (lv_sub hl [1, 0] rfl)
set_option maxHeartbeats 4000000 in
set_option maxRecDepth 100000 in
/-- fits(kind, n) -/
theorem kM_fits (l : Launch) (D : va_G) (d : Nat → ClassId) (h : Nat → Nat) (sz : Int32) (gK gA gB gN gM gT gF gE : Nat → Int32) (x1 x2 : Int32) : CT l yX1_fits (ws_ yX1_fits cX1_fits 3 (some .boolean)) (rk 0) D d [.ref (h 0), .int x1, .int x2] (wM h d sz gK gA gB gN gM gT gF gE) (fun r w' => r = bI (okN x1.toInt x2.toInt sz.toInt) ∧ w' = wM h d sz gK gA gB gN gM gT gF gE) := by
  refine ct_in (cc := cX1_fits) (nL := 3) (ty := .boolean) (by decide) rfl (Nat.le_of_ble_eq_true rfl) ?_
  intro p e s m ar bl me c A Q ls C I hl hret
  have hx := C.1.1
  have hb := C.1.2.1
  have hl : lv_has ls 3 [(0, .ref (h 0)), (1, .int x1), (2, .int x2)] := hl
  refine lv_iload_n hx hb dX1_fits_0 rfl (lv_at hl 1 rfl) ?_
  refine lv_if_ne (tgt := 24) hx hb dX1_fits_1 (by decide) (fun c_1 => ?_) (fun c_1 => ?_)
  · refine lv_iload_n hx hb dX1_fits_24 rfl (lv_at hl 1 rfl) ?_
    refine lv_iconst (v := nI 3) hx hb dX1_fits_25 (by decide) ?_
    refine lv_icmp_ne (tgt := 48) hx hb dX1_fits_26 (by decide) (fun c_26 => ?_) (fun c_26 => ?_)
    · refine lv_iload_n hx hb dX1_fits_48 rfl (lv_at hl 1 rfl) ?_
      refine lv_iconst (v := nI 4) hx hb dX1_fits_49 (by decide) ?_
      refine lv_icmp_lt (tgt := 73) hx hb dX1_fits_50 (by decide) (fun c_50 => ?_) (fun c_50 => ?_)
      · refine lv_iconst (v := nI 1) hx hb dX1_fits_73 (by decide) ?_
        refine lv_goto (tgt := 78) hx hb dX1_fits_74 (by decide) ?_
        exact hret (nI 1) _ _ _ _ _ rfl I (⟨bI_t (decide_eq_true (by simp only [Int32.lt_iff_toInt_lt, Int32.le_iff_toInt_le, ← Int32.toInt_inj, i_m20, i_m3, i_0, ti_0, ti_1, ti_2, ti_3, ti_4, ti_5, ti_6, ti_7, ti_12, ti_15, ti_16, ti_20, ti_255, ti_256] at c_1 c_26 c_50; omega)), rfl⟩) dX1_fits_78
      · refine lv_iload_n hx hb dX1_fits_53 rfl (lv_at hl 1 rfl) ?_
        refine lv_bipush (v := nI 7) hx hb dX1_fits_54 (by decide) ?_
        refine lv_icmp_eq (tgt := 73) hx hb dX1_fits_56 (by decide) (fun c_56 => ?_) (fun c_56 => ?_)
        · refine lv_iconst (v := nI 1) hx hb dX1_fits_73 (by decide) ?_
          refine lv_goto (tgt := 78) hx hb dX1_fits_74 (by decide) ?_
          exact hret (nI 1) _ _ _ _ _ rfl I (⟨bI_t (decide_eq_true (by simp only [Int32.lt_iff_toInt_lt, Int32.le_iff_toInt_le, ← Int32.toInt_inj, i_m20, i_m3, i_0, ti_0, ti_1, ti_2, ti_3, ti_4, ti_5, ti_6, ti_7, ti_12, ti_15, ti_16, ti_20, ti_255, ti_256] at c_1 c_26 c_50 c_56; omega)), rfl⟩) dX1_fits_78
        · refine lv_iload_n hx hb dX1_fits_59 rfl (lv_at hl 2 rfl) ?_
          refine lv_aload_n hx hb dX1_fits_60 rfl (lv_at hl 0 rfl) ?_
          refine m_get C I rfl 0 (by decide) q216 rfl dX1_fits_61 ?_
          refine lv_icmp_le (tgt := 77) hx hb dX1_fits_64 (by decide) (fun c_64 => ?_) (fun c_64 => ?_)
          · refine lv_iconst (v := nI 0) hx hb dX1_fits_77 (by decide) ?_
            exact hret (nI 0) _ _ _ _ _ rfl I (⟨bI_f (decide_eq_false (by simp only [Int32.lt_iff_toInt_lt, Int32.le_iff_toInt_le, ← Int32.toInt_inj, i_m20, i_m3, i_0, ti_0, ti_1, ti_2, ti_3, ti_4, ti_5, ti_6, ti_7, ti_12, ti_15, ti_16, ti_20, ti_255, ti_256] at c_1 c_26 c_50 c_56 c_64; omega)), rfl⟩) dX1_fits_78
          · refine lv_iload_n hx hb dX1_fits_67 rfl (lv_at hl 2 rfl) ?_
            refine lv_bipush (v := nI 12) hx hb dX1_fits_68 (by decide) ?_
            refine lv_icmp_gt (tgt := 77) hx hb dX1_fits_70 (by decide) (fun c_70 => ?_) (fun c_70 => ?_)
            · refine lv_iconst (v := nI 0) hx hb dX1_fits_77 (by decide) ?_
              exact hret (nI 0) _ _ _ _ _ rfl I (⟨bI_f (decide_eq_false (by simp only [Int32.lt_iff_toInt_lt, Int32.le_iff_toInt_le, ← Int32.toInt_inj, i_m20, i_m3, i_0, ti_0, ti_1, ti_2, ti_3, ti_4, ti_5, ti_6, ti_7, ti_12, ti_15, ti_16, ti_20, ti_255, ti_256] at c_1 c_26 c_50 c_56 c_64 c_70; omega)), rfl⟩) dX1_fits_78
            · refine lv_iconst (v := nI 1) hx hb dX1_fits_73 (by decide) ?_
              refine lv_goto (tgt := 78) hx hb dX1_fits_74 (by decide) ?_
              exact hret (nI 1) _ _ _ _ _ rfl I (⟨bI_t (decide_eq_true (by simp only [Int32.lt_iff_toInt_lt, Int32.le_iff_toInt_le, ← Int32.toInt_inj, i_m20, i_m3, i_0, ti_0, ti_1, ti_2, ti_3, ti_4, ti_5, ti_6, ti_7, ti_12, ti_15, ti_16, ti_20, ti_255, ti_256] at c_1 c_26 c_50 c_56 c_64 c_70; omega)), rfl⟩) dX1_fits_78
    · refine lv_iload_n hx hb dX1_fits_29 rfl (lv_at hl 2 rfl) ?_
      refine lv_bipush (v := -3) hx hb dX1_fits_30 (by decide) ?_
      refine lv_icmp_lt (tgt := 44) hx hb dX1_fits_32 (by decide) (fun c_32 => ?_) (fun c_32 => ?_)
      · refine lv_iconst (v := nI 0) hx hb dX1_fits_44 (by decide) ?_
        refine lv_goto (tgt := 78) hx hb dX1_fits_45 (by decide) ?_
        exact hret (nI 0) _ _ _ _ _ rfl I (⟨bI_f (decide_eq_false (by simp only [Int32.lt_iff_toInt_lt, Int32.le_iff_toInt_le, ← Int32.toInt_inj, i_m20, i_m3, i_0, ti_0, ti_1, ti_2, ti_3, ti_4, ti_5, ti_6, ti_7, ti_12, ti_15, ti_16, ti_20, ti_255, ti_256] at c_1 c_26 c_32; omega)), rfl⟩) dX1_fits_78
      · refine lv_iload_n hx hb dX1_fits_35 rfl (lv_at hl 2 rfl) ?_
        refine lv_iconst (v := nI 3) hx hb dX1_fits_36 (by decide) ?_
        refine lv_icmp_gt (tgt := 44) hx hb dX1_fits_37 (by decide) (fun c_37 => ?_) (fun c_37 => ?_)
        · refine lv_iconst (v := nI 0) hx hb dX1_fits_44 (by decide) ?_
          refine lv_goto (tgt := 78) hx hb dX1_fits_45 (by decide) ?_
          exact hret (nI 0) _ _ _ _ _ rfl I (⟨bI_f (decide_eq_false (by simp only [Int32.lt_iff_toInt_lt, Int32.le_iff_toInt_le, ← Int32.toInt_inj, i_m20, i_m3, i_0, ti_0, ti_1, ti_2, ti_3, ti_4, ti_5, ti_6, ti_7, ti_12, ti_15, ti_16, ti_20, ti_255, ti_256] at c_1 c_26 c_32 c_37; omega)), rfl⟩) dX1_fits_78
        · refine lv_iconst (v := nI 1) hx hb dX1_fits_40 (by decide) ?_
          refine lv_goto (tgt := 78) hx hb dX1_fits_41 (by decide) ?_
          exact hret (nI 1) _ _ _ _ _ rfl I (⟨bI_t (decide_eq_true (by simp only [Int32.lt_iff_toInt_lt, Int32.le_iff_toInt_le, ← Int32.toInt_inj, i_m20, i_m3, i_0, ti_0, ti_1, ti_2, ti_3, ti_4, ti_5, ti_6, ti_7, ti_12, ti_15, ti_16, ti_20, ti_255, ti_256] at c_1 c_26 c_32 c_37; omega)), rfl⟩) dX1_fits_78
  · refine lv_iload_n hx hb dX1_fits_4 rfl (lv_at hl 2 rfl) ?_
    refine lv_bipush (v := -20) hx hb dX1_fits_5 (by decide) ?_
    refine lv_icmp_lt (tgt := 20) hx hb dX1_fits_7 (by decide) (fun c_7 => ?_) (fun c_7 => ?_)
    · refine lv_iconst (v := nI 0) hx hb dX1_fits_20 (by decide) ?_
      refine lv_goto (tgt := 78) hx hb dX1_fits_21 (by decide) ?_
      exact hret (nI 0) _ _ _ _ _ rfl I (⟨bI_f (decide_eq_false (by simp only [Int32.lt_iff_toInt_lt, Int32.le_iff_toInt_le, ← Int32.toInt_inj, i_m20, i_m3, i_0, ti_0, ti_1, ti_2, ti_3, ti_4, ti_5, ti_6, ti_7, ti_12, ti_15, ti_16, ti_20, ti_255, ti_256] at c_1 c_7; omega)), rfl⟩) dX1_fits_78
    · refine lv_iload_n hx hb dX1_fits_10 rfl (lv_at hl 2 rfl) ?_
      refine lv_bipush (v := nI 20) hx hb dX1_fits_11 (by decide) ?_
      refine lv_icmp_gt (tgt := 20) hx hb dX1_fits_13 (by decide) (fun c_13 => ?_) (fun c_13 => ?_)
      · refine lv_iconst (v := nI 0) hx hb dX1_fits_20 (by decide) ?_
        refine lv_goto (tgt := 78) hx hb dX1_fits_21 (by decide) ?_
        exact hret (nI 0) _ _ _ _ _ rfl I (⟨bI_f (decide_eq_false (by simp only [Int32.lt_iff_toInt_lt, Int32.le_iff_toInt_le, ← Int32.toInt_inj, i_m20, i_m3, i_0, ti_0, ti_1, ti_2, ti_3, ti_4, ti_5, ti_6, ti_7, ti_12, ti_15, ti_16, ti_20, ti_255, ti_256] at c_1 c_7 c_13; omega)), rfl⟩) dX1_fits_78
      · refine lv_iconst (v := nI 1) hx hb dX1_fits_16 (by decide) ?_
        refine lv_goto (tgt := 78) hx hb dX1_fits_17 (by decide) ?_
        exact hret (nI 1) _ _ _ _ _ rfl I (⟨bI_t (decide_eq_true (by simp only [Int32.lt_iff_toInt_lt, Int32.le_iff_toInt_le, ← Int32.toInt_inj, i_m20, i_m3, i_0, ti_0, ti_1, ti_2, ti_3, ti_4, ti_5, ti_6, ti_7, ti_12, ti_15, ti_16, ti_20, ti_255, ti_256] at c_1 c_7 c_13; omega)), rfl⟩) dX1_fits_78
set_option maxHeartbeats 4000000 in
set_option maxRecDepth 100000 in
/-- is(p) -/
theorem kM_is (l : Launch) (D : va_G) (d : Nat → ClassId) (h : Nat → Nat) (sz : Int32) (gK gA gB gN gM gT gF gE : Nat → Int32) (x1 : Int32) : CT l yX1_is (ws_ yX1_is cX1_is 2 (some .boolean)) (rk 0) D d [.ref (h 0), .int x1] (wM h d sz gK gA gB gN gM gT gF gE) (fun r w' => r = bI (inR x1 sz.toInt) ∧ w' = wM h d sz gK gA gB gN gM gT gF gE) := by
  refine ct_in (cc := cX1_is) (nL := 2) (ty := .boolean) (by decide) rfl (Nat.le_of_ble_eq_true rfl) ?_
  intro p e s m ar bl me c A Q ls C I hl hret
  have hx := C.1.1
  have hb := C.1.2.1
  have hl : lv_has ls 2 [(0, .ref (h 0)), (1, .int x1)] := hl
  refine lv_iload_n hx hb dX1_is_0 rfl (lv_at hl 1 rfl) ?_
  refine lv_if_lt (tgt := 16) hx hb dX1_is_1 (by decide) (fun c_1 => ?_) (fun c_1 => ?_)
  · refine lv_iconst (v := nI 0) hx hb dX1_is_16 (by decide) ?_
    exact hret (nI 0) _ _ _ _ _ rfl I (⟨bI_f (decide_eq_false (by simp only [Int32.lt_iff_toInt_lt, Int32.le_iff_toInt_le, ← Int32.toInt_inj, i_m20, i_m3, i_0, ti_0, ti_1, ti_2, ti_3, ti_4, ti_5, ti_6, ti_7, ti_12, ti_15, ti_16, ti_20, ti_255, ti_256] at c_1; omega)), rfl⟩) dX1_is_17
  · refine lv_iload_n hx hb dX1_is_4 rfl (lv_at hl 1 rfl) ?_
    refine lv_aload_n hx hb dX1_is_5 rfl (lv_at hl 0 rfl) ?_
    refine m_get C I rfl 0 (by decide) q216 rfl dX1_is_6 ?_
    refine lv_icmp_ge (tgt := 16) hx hb dX1_is_9 (by decide) (fun c_9 => ?_) (fun c_9 => ?_)
    · refine lv_iconst (v := nI 0) hx hb dX1_is_16 (by decide) ?_
      exact hret (nI 0) _ _ _ _ _ rfl I (⟨bI_f (decide_eq_false (by simp only [Int32.lt_iff_toInt_lt, Int32.le_iff_toInt_le, ← Int32.toInt_inj, i_m20, i_m3, i_0, ti_0, ti_1, ti_2, ti_3, ti_4, ti_5, ti_6, ti_7, ti_12, ti_15, ti_16, ti_20, ti_255, ti_256] at c_1 c_9; omega)), rfl⟩) dX1_is_17
    · refine lv_iconst (v := nI 1) hx hb dX1_is_12 (by decide) ?_
      refine lv_goto (tgt := 17) hx hb dX1_is_13 (by decide) ?_
      exact hret (nI 1) _ _ _ _ _ rfl I (⟨bI_t (decide_eq_true (by simp only [Int32.lt_iff_toInt_lt, Int32.le_iff_toInt_le, ← Int32.toInt_inj, i_m20, i_m3, i_0, ti_0, ti_1, ti_2, ti_3, ti_4, ti_5, ti_6, ti_7, ti_12, ti_15, ti_16, ti_20, ti_255, ti_256] at c_1 c_9; omega)), rfl⟩) dX1_is_17
set_option maxHeartbeats 4000000 in
set_option maxRecDepth 100000 in
/-- isInput(x) -/
theorem kM_isInput (l : Launch) (D : va_G) (d : Nat → ClassId) (h : Nat → Nat) (sz : Int32) (gK gA gB gN gM gT gF gE : Nat → Int32) (x1 : Int32) : CT l yX1_isInput (ws_ yX1_isInput cX1_isInput 2 (some .boolean)) (rk 0) D d [.ref (h 0), .int x1] (wM h d sz gK gA gB gN gM gT gF gE) (fun r w' => r = bI (inR x1 256) ∧ w' = wM h d sz gK gA gB gN gM gT gF gE) := by
  refine ct_in (cc := cX1_isInput) (nL := 2) (ty := .boolean) (by decide) rfl (Nat.le_of_ble_eq_true rfl) ?_
  intro p e s m ar bl me c A Q ls C I hl hret
  have hx := C.1.1
  have hb := C.1.2.1
  have hl : lv_has ls 2 [(0, .ref (h 0)), (1, .int x1)] := hl
  refine lv_iload_n hx hb dX1_isInput_0 rfl (lv_at hl 1 rfl) ?_
  refine lv_if_lt (tgt := 15) hx hb dX1_isInput_1 (by decide) (fun c_1 => ?_) (fun c_1 => ?_)
  · refine lv_iconst (v := nI 0) hx hb dX1_isInput_15 (by decide) ?_
    exact hret (nI 0) _ _ _ _ _ rfl I (⟨bI_f (decide_eq_false (by simp only [Int32.lt_iff_toInt_lt, Int32.le_iff_toInt_le, ← Int32.toInt_inj, i_m20, i_m3, i_0, ti_0, ti_1, ti_2, ti_3, ti_4, ti_5, ti_6, ti_7, ti_12, ti_15, ti_16, ti_20, ti_255, ti_256] at c_1; omega)), rfl⟩) dX1_isInput_16
  · refine lv_iload_n hx hb dX1_isInput_4 rfl (lv_at hl 1 rfl) ?_
    refine lv_sipush (v := nI 255) hx hb dX1_isInput_5 (by decide) ?_
    refine lv_icmp_gt (tgt := 15) hx hb dX1_isInput_8 (by decide) (fun c_8 => ?_) (fun c_8 => ?_)
    · refine lv_iconst (v := nI 0) hx hb dX1_isInput_15 (by decide) ?_
      exact hret (nI 0) _ _ _ _ _ rfl I (⟨bI_f (decide_eq_false (by simp only [Int32.lt_iff_toInt_lt, Int32.le_iff_toInt_le, ← Int32.toInt_inj, i_m20, i_m3, i_0, ti_0, ti_1, ti_2, ti_3, ti_4, ti_5, ti_6, ti_7, ti_12, ti_15, ti_16, ti_20, ti_255, ti_256] at c_1 c_8; omega)), rfl⟩) dX1_isInput_16
    · refine lv_iconst (v := nI 1) hx hb dX1_isInput_11 (by decide) ?_
      refine lv_goto (tgt := 16) hx hb dX1_isInput_12 (by decide) ?_
      exact hret (nI 1) _ _ _ _ _ rfl I (⟨bI_t (decide_eq_true (by simp only [Int32.lt_iff_toInt_lt, Int32.le_iff_toInt_le, ← Int32.toInt_inj, i_m20, i_m3, i_0, ti_0, ti_1, ti_2, ti_3, ti_4, ti_5, ti_6, ti_7, ti_12, ti_15, ti_16, ti_20, ti_255, ti_256] at c_1 c_8; omega)), rfl⟩) dX1_isInput_16
set_option maxHeartbeats 4000000 in
set_option maxRecDepth 100000 in
/-- length() -/
theorem kM_length (l : Launch) (D : va_G) (d : Nat → ClassId) (h : Nat → Nat) (sz : Int32) (gK gA gB gN gM gT gF gE : Nat → Int32) : CT l yX1_length (ws_ yX1_length cX1_length 1 (some .int)) (rk 2) D d [.ref (h 0)] (wM h d sz gK gA gB gN gM gT gF gE) (fun r w' => r = sz ∧ w' = wM h d sz gK gA gB gN gM gT gF gE) := by
  refine ct_in (cc := cX1_length) (nL := 1) (ty := .int) (by decide) rfl (Nat.le_of_ble_eq_true rfl) ?_
  intro p e s m ar bl me c A Q ls C I hl hret
  have hx := C.1.1
  have hb := C.1.2.1
  have hl : lv_has ls 1 [(0, .ref (h 0))] := hl
  refine lv_aload_n hx hb dX1_length_0 rfl (lv_at hl 0 rfl) ?_
  refine m_get C I rfl 0 (by decide) q216 rfl dX1_length_1 ?_
  exact hret sz _ _ _ _ _ rfl I (⟨rfl, rfl⟩) dX1_length_4
end
section
set_option maxHeartbeats 4000000 in
set_option maxRecDepth 100000 in
/-- run(input): what the run of that input gives; the rest stays -/
theorem kM_run (l : Launch) (D : va_G) (d : Nat → ClassId) (h : Nat → Nat) (n : Nat) (G : Pg) (mk : Nat → Bool) (sz : Int32) (gK gA gB gN gM gT gF gE : Nat → Int32) (hM : MI n G mk sz gK gA gB gN gM) (i : Nat) (hi : i < 256) : CV l yX1_run (ws_ yX1_run cX1_run 10 none) (rk 0) D d [.ref (h 0), .int (nI i)] (wM h d sz gK gA gB gN gM gT gF gE) (fun w' => ∃ gT' gF' gE', RunAt n G i gT' gF' gE' ∧ (∀ j, j < 256 → j ≠ i → KeepAt j gT gF gE gT' gF' gE') ∧ w' = wM h d sz gK gA gB gN gM gT' gF' gE') := by
  obtain ⟨rfl, hG, hP, -⟩ := hM
  have hn12 := hG.1
  refine cv_in (cc := cX1_run) (nL := 10) (by decide) rfl (Nat.le_of_ble_eq_true rfl) ?_
  intro p e s m ar bl me c A Q ls C I hl hret
  have hx := C.1.1
  have hb := C.1.2.1
  have hl : lv_has ls 10 [(0, .ref (h 0)), (1, .int (nI i))] := hl
  refine lv_iconst (v := nI 4) hx hb dX1_run_0 (by decide) ?_
  refine lv_iload_n hx hb dX1_run_1 rfl (lv_at hl 1 rfl) ?_
  refine n_mul hx hb dX1_run_2 ?_
  refine lv_istore_n (lv' := [(2, .int (nI (4 * i))), (0, .ref (h 0)), (1, .int (nI i))]) hx hb dX1_run_3 rfl hl (by decide) rfl (fun ls hl => ?_)
  refine lv_aload_n hx hb dX1_run_4 rfl (lv_at hl 1 rfl) ?_
  refine m_get C I rfl 8 (by decide) q224 rfl dX1_run_5 ?_
  refine lv_iload_n hx hb dX1_run_8 rfl (lv_at hl 0 rfl) ?_
  refine lv_iload_n hx hb dX1_run_9 rfl (lv_at hl 2 rfl) ?_
  refine lv_bipush (v := nI 15) hx hb dX1_run_10 (by decide) ?_
  refine lv_iand hx hb dX1_run_12 ?_
  refine lv_topi (fun z_1 ez_1 => ?_)
  obtain rfl : z_1 = nI (i % 16) := ez_1.trans (n_and15 (by omega))
  refine i_ist (ws' := wM h d (nI n) gK gA gB gN gM gT gF (upd gE (4 * i) (nI (i % 16)))) C I 8 rfl (by omega) rfl dX1_run_13 (fun H locs I => ?_)
  refine lv_aload_n hx hb dX1_run_14 rfl (lv_at hl 1 rfl) ?_
  refine m_get C I rfl 8 (by decide) q224 rfl dX1_run_15 ?_
  refine lv_iload_n hx hb dX1_run_18 rfl (lv_at hl 0 rfl) ?_
  refine lv_iconst (v := nI 1) hx hb dX1_run_19 (by decide) ?_
  refine n_add hx hb dX1_run_20 ?_
  refine lv_iload_n hx hb dX1_run_21 rfl (lv_at hl 2 rfl) ?_
  refine lv_iconst (v := nI 4) hx hb dX1_run_22 (by decide) ?_
  refine lv_ishr hx hb dX1_run_23 ?_
  refine lv_topi (fun z_2 ez_2 => ?_)
  obtain rfl : z_2 = nI (i / 16) := ez_2.trans (n_shr4 (by omega))
  refine i_ist (ws' := wM h d (nI n) gK gA gB gN gM gT gF (upd (upd gE (4 * i) (nI (i % 16))) (4 * i + 1) (nI (i / 16)))) C I 8 rfl (by omega) rfl dX1_run_24 (fun H locs I => ?_)
  refine lv_aload_n hx hb dX1_run_25 rfl (lv_at hl 1 rfl) ?_
  refine m_get C I rfl 8 (by decide) q224 rfl dX1_run_26 ?_
  refine lv_iload_n hx hb dX1_run_29 rfl (lv_at hl 0 rfl) ?_
  refine lv_iconst (v := nI 2) hx hb dX1_run_30 (by decide) ?_
  refine n_add hx hb dX1_run_31 ?_
  refine lv_iconst (v := nI 0) hx hb dX1_run_32 (by decide) ?_
  refine i_ist (ws' := wM h d (nI n) gK gA gB gN gM gT gF (upd (upd (upd gE (4 * i) (nI (i % 16))) (4 * i + 1) (nI (i / 16))) (4 * i + 2) (nI 0))) C I 8 rfl (by omega) rfl dX1_run_33 (fun H locs I => ?_)
  refine lv_aload_n hx hb dX1_run_34 rfl (lv_at hl 1 rfl) ?_
  refine m_get C I rfl 8 (by decide) q224 rfl dX1_run_35 ?_
  refine lv_iload_n hx hb dX1_run_38 rfl (lv_at hl 0 rfl) ?_
  refine lv_iconst (v := nI 3) hx hb dX1_run_39 (by decide) ?_
  refine n_add hx hb dX1_run_40 ?_
  refine lv_iconst (v := nI 0) hx hb dX1_run_41 (by decide) ?_
  refine i_ist (ws' := wM h d (nI n) gK gA gB gN gM gT gF (upd (upd (upd (upd gE (4 * i) (nI (i % 16))) (4 * i + 1) (nI (i / 16))) (4 * i + 2) (nI 0)) (4 * i + 3) (nI 0))) C I 8 rfl (by omega) rfl dX1_run_42 (fun H locs I => ?_)
  refine lv_aload_n hx hb dX1_run_43 rfl (lv_at hl 1 rfl) ?_
  refine m_get C I rfl 7 (by decide) q223 rfl dX1_run_44 ?_
  refine lv_iload_n hx hb dX1_run_47 rfl (lv_at hl 2 rfl) ?_
  refine lv_iconst (v := nI 0) hx hb dX1_run_48 (by decide) ?_
  refine i_zst (ws' := wM h d (nI n) gK gA gB gN gM gT (upd gF i (nI 0)) (upd (upd (upd (upd gE (4 * i) (nI (i % 16))) (4 * i + 1) (nI (i / 16))) (4 * i + 2) (nI 0)) (4 * i + 3) (nI 0))) (v := (nI 0)) C I 7 rfl (by omega) (rfl) rfl dX1_run_49 (fun H locs I => ?_)
  refine lv_aload_n hx hb dX1_run_50 rfl (lv_at hl 1 rfl) ?_
  refine m_get C I rfl 6 (by decide) q222 rfl dX1_run_51 ?_
  refine lv_iload_n hx hb dX1_run_54 rfl (lv_at hl 2 rfl) ?_
  refine lv_iconst (v := nI 0) hx hb dX1_run_55 (by decide) ?_
  refine i_ist (ws' := wM h d (nI n) gK gA gB gN gM (upd gT i (nI 0)) (upd gF i (nI 0)) (upd (upd (upd (upd gE (4 * i) (nI (i % 16))) (4 * i + 1) (nI (i / 16))) (4 * i + 2) (nI 0)) (4 * i + 3) (nI 0))) C I 6 rfl (by omega) rfl dX1_run_56 (fun H locs I => ?_)
  refine lv_iconst (v := nI 0) hx hb dX1_run_57 (by decide) ?_
  refine lv_istore_n (lv' := [(3, .int (nI 0)), (2, .int (nI (4 * i))), (0, .ref (h 0)), (1, .int (nI i))]) hx hb dX1_run_58 rfl hl (by decide) rfl (fun ls hl => ?_)
  have lp : ∀ (nn : Nat) (a : Nat) (q : Nat) (r : Nat → Int32) (b : Bool) (T : Nat → Int32) (F : Nat → Int32) (E : Nat → Int32) (H : Heap) (locs : List Loc) (ls : Array Slot), 12 + 1 ≤ a + nn → (a ≤ 12) → (q < 2 ^ a) → ((if b then (r, q, true) else rn n G 13 a r q) = Rs n G i) → (T i = nI q) → (F i = bI b) → (∀ ρ, ρ < 4 → E (4 * i + ρ) = r ρ) → (∀ j, j < 256 → j ≠ i → KeepAt j gT gF gE T F E) → IW D A s.heap (wM h d (nI n) gK gA gB gN gM T F E) H locs → lv_has ls 10 [(0, .ref (h 0)), (1, .int (nI i)), (2, .int (nI (4 * i))), (3, .int (nI a))] → W p l e (rk 0) s m ar bl me c H locs 0 0 Q (F0 m 59 ls []) := by
    intro nn
    induction nn with
    | zero => intro a q r b T F E H locs ls hme ha hq hR hT hF hE hKe; exact absurd hme (by omega)
    | succ nn ih =>
      intro a q r b T F E H locs ls hme ha hq hR hT hF hE hKe I hl
      refine lv_iload_n hx hb dX1_run_59 rfl (lv_at hl 3 rfl) ?_
      refine lv_aload_n hx hb dX1_run_60 rfl (lv_at hl 0 rfl) ?_
      refine m_get C I rfl 0 (by decide) q216 rfl dX1_run_61 ?_
      refine n_ge (tgt := 291) hx hb dX1_run_64 (by decide) (by omega) (by omega) (fun c_64 => ?_) (fun c_64 => ?_)
      · exact hret _ _ _ _ _ I (⟨T, F, E, run_end (b := b) (by cases b; rw [← hR]; exact (rn_end c_64).symm; exact hR) hT hF hE, hKe, rfl⟩) dX1_run_291
      · refine lv_aload_n hx hb dX1_run_67 rfl (lv_at hl 0 rfl) ?_
        refine m_get C I rfl 7 (by decide) q223 rfl dX1_run_68 ?_
        refine lv_iload_n hx hb dX1_run_71 rfl (lv_at hl 1 rfl) ?_
        refine i_zld C I 7 rfl (by omega) dX1_run_72 ?_
        refine lv_topi (fun z_3 ez_3 => ?_)
        obtain rfl : z_3 = bI b := ez_3.trans (hF)
        refine lv_if_ne (tgt := 291) hx hb dX1_run_73 (by decide) (fun c_73 => ?_) (fun c_73 => ?_)
        · exact hret _ _ _ _ _ I (⟨T, F, E, run_end (b := b) (by cases b; exact absurd rfl c_73; exact hR) hT hF hE, hKe, rfl⟩) dX1_run_291
        · skip
          have hbf : b = false := bI_0.mp c_73
          subst hbf
          have hPa := hP a c_64
          have hS := hG.2 a c_64
          have hA3 := hS.2.1
          have hB3 := hS.2.2.1
          have hK7 := hS.1
          refine lv_aload_n hx hb dX1_run_76 rfl (lv_at hl 0 rfl) ?_
          refine m_get C I rfl 1 (by decide) q217 rfl dX1_run_77 ?_
          refine lv_iload_n hx hb dX1_run_80 rfl (lv_at hl 3 rfl) ?_
          refine i_ild C I 1 rfl (by omega) dX1_run_81 ?_
          refine lv_topi (fun z_4 ez_4 => ?_)
          obtain rfl : z_4 = nI ((G a).1) := ez_4.trans (hPa.1)
          refine lv_istore (lv' := [(4, .int (nI ((G a).1))), (0, .ref (h 0)), (1, .int (nI i)), (2, .int (nI (4 * i))), (3, .int (nI a))]) hx hb dX1_run_82 hl (by decide) rfl (fun ls hl => ?_)
          refine lv_aload_n hx hb dX1_run_84 rfl (lv_at hl 1 rfl) ?_
          refine m_get C I rfl 8 (by decide) q224 rfl dX1_run_85 ?_
          refine lv_iload_n hx hb dX1_run_88 rfl (lv_at hl 3 rfl) ?_
          refine lv_aload_n hx hb dX1_run_89 rfl (lv_at hl 1 rfl) ?_
          refine m_get C I rfl 2 (by decide) q218 rfl dX1_run_90 ?_
          refine lv_iload_n hx hb dX1_run_93 rfl (lv_at hl 4 rfl) ?_
          refine i_ild C I 2 rfl (by omega) dX1_run_94 ?_
          refine lv_topi (fun z_5 ez_5 => ?_)
          obtain rfl : z_5 = nI ((G a).2.1) := ez_5.trans (hPa.2.1)
          refine n_add hx hb dX1_run_95 ?_
          refine i_ild C I 8 rfl (by omega) dX1_run_96 ?_
          refine lv_topi (fun z_6 ez_6 => ?_)
          obtain rfl : z_6 = r (G a).2.1 := ez_6.trans (hE _ (by omega))
          refine lv_istore (lv' := [(5, .int (r (G a).2.1)), (4, .int (nI ((G a).1))), (0, .ref (h 0)), (1, .int (nI i)), (2, .int (nI (4 * i))), (3, .int (nI a))]) hx hb dX1_run_97 hl (by decide) rfl (fun ls hl => ?_)
          refine lv_aload_n hx hb dX1_run_99 rfl (lv_at hl 2 rfl) ?_
          refine m_get C I rfl 8 (by decide) q224 rfl dX1_run_100 ?_
          refine lv_iload_n hx hb dX1_run_103 rfl (lv_at hl 4 rfl) ?_
          refine lv_aload_n hx hb dX1_run_104 rfl (lv_at hl 2 rfl) ?_
          refine m_get C I rfl 3 (by decide) q219 rfl dX1_run_105 ?_
          refine lv_iload_n hx hb dX1_run_108 rfl (lv_at hl 5 rfl) ?_
          refine i_ild C I 3 rfl (by omega) dX1_run_109 ?_
          refine lv_topi (fun z_7 ez_7 => ?_)
          obtain rfl : z_7 = nI ((G a).2.2.1) := ez_7.trans (hPa.2.2.1)
          refine n_add hx hb dX1_run_110 ?_
          refine i_ild C I 8 rfl (by omega) dX1_run_111 ?_
          refine lv_topi (fun z_8 ez_8 => ?_)
          obtain rfl : z_8 = r (G a).2.2.1 := ez_8.trans (hE _ (by omega))
          refine lv_istore (lv' := [(6, .int (r (G a).2.2.1)), (5, .int (r (G a).2.1)), (4, .int (nI ((G a).1))), (0, .ref (h 0)), (1, .int (nI i)), (2, .int (nI (4 * i))), (3, .int (nI a))]) hx hb dX1_run_112 hl (by decide) rfl (fun ls hl => ?_)
          refine lv_aload_n hx hb dX1_run_114 rfl (lv_at hl 3 rfl) ?_
          refine m_get C I rfl 4 (by decide) q220 rfl dX1_run_115 ?_
          refine lv_iload_n hx hb dX1_run_118 rfl (lv_at hl 6 rfl) ?_
          refine i_ild C I 4 rfl (by omega) dX1_run_119 ?_
          refine lv_topi (fun z_9 ez_9 => ?_)
          obtain rfl : z_9 = (G a).2.2.2 := ez_9.trans (hPa.2.2.2)
          refine lv_istore (lv' := [(7, .int ((G a).2.2.2)), (6, .int (r (G a).2.2.1)), (5, .int (r (G a).2.1)), (4, .int (nI ((G a).1))), (0, .ref (h 0)), (1, .int (nI i)), (2, .int (nI (4 * i))), (3, .int (nI a))]) hx hb dX1_run_120 hl (by decide) rfl (fun ls hl => ?_)
          refine w_join 160 ((bI (st_goes (G a).1 (r (G a).2.1) (r (G a).2.2.1)))) [] (fun z ez => ?_) (fun hj => ?_)
          · subst ez
            refine lv_istore (lv' := [(8, .int (bI (st_goes (G a).1 (r (G a).2.1) (r (G a).2.2.1)))), (7, .int ((G a).2.2.2)), (6, .int (r (G a).2.2.1)), (5, .int (r (G a).2.1)), (4, .int (nI ((G a).1))), (0, .ref (h 0)), (1, .int (nI i)), (2, .int (nI (4 * i))), (3, .int (nI a))]) hx hb dX1_run_160 hl (by decide) rfl (fun ls hl => ?_)
            refine w_join 216 ((st_made (G a).1 (G a).2.2.2 (r (G a).2.1) (r (G a).2.2.1))) [] (fun z ez => ?_) (fun hj => ?_)
            · subst ez
              refine lv_istore (lv' := [(9, .int (st_made (G a).1 (G a).2.2.2 (r (G a).2.1) (r (G a).2.2.1))), (8, .int (bI (st_goes (G a).1 (r (G a).2.1) (r (G a).2.2.1)))), (7, .int ((G a).2.2.2)), (6, .int (r (G a).2.2.1)), (5, .int (r (G a).2.1)), (4, .int (nI ((G a).1))), (0, .ref (h 0)), (1, .int (nI i)), (2, .int (nI (4 * i))), (3, .int (nI a))]) hx hb dX1_run_216 hl (by decide) rfl (fun ls hl => ?_)
              refine lv_aload_n hx hb dX1_run_218 rfl (lv_at hl 6 rfl) ?_
              refine m_get C I rfl 8 (by decide) q224 rfl dX1_run_219 ?_
              refine lv_iload_n hx hb dX1_run_222 rfl (lv_at hl 8 rfl) ?_
              refine lv_aload_n hx hb dX1_run_223 rfl (lv_at hl 6 rfl) ?_
              refine m_get C I rfl 2 (by decide) q218 rfl dX1_run_224 ?_
              refine lv_iload_n hx hb dX1_run_227 rfl (lv_at hl 9 rfl) ?_
              refine i_ild C I 2 rfl (by omega) dX1_run_228 ?_
              refine lv_topi (fun z_10 ez_10 => ?_)
              obtain rfl : z_10 = nI ((G a).2.1) := ez_10.trans (hPa.2.1)
              refine n_add hx hb dX1_run_229 ?_
              refine lv_iload hx hb dX1_run_230 (lv_at hl 0 rfl) ?_
              refine i_ist (ws' := wM h d (nI n) gK gA gB gN gM T F (upd E (4 * i + ((G a).2.1)) (st_made (G a).1 (G a).2.2.2 (r (G a).2.1) (r (G a).2.2.1)))) C I 8 rfl (by omega) rfl dX1_run_232 (fun H locs I => ?_)
              refine lv_aload_n hx hb dX1_run_233 rfl (lv_at hl 6 rfl) ?_
              refine m_get C I rfl 7 (by decide) q223 rfl dX1_run_234 ?_
              refine lv_iload_n hx hb dX1_run_237 rfl (lv_at hl 7 rfl) ?_
              refine w_join 257 ((bI (st_fail (G a).1 (r (G a).2.1) (r (G a).2.2.1)))) [.int (nI i), .ref (h 7)] (fun z ez => ?_) (fun hj => ?_)
              · subst ez
                refine i_zst (ws' := wM h d (nI n) gK gA gB gN gM T (upd F i (bI (st_fail (G a).1 (r (G a).2.1) (r (G a).2.2.1)))) (upd E (4 * i + ((G a).2.1)) (st_made (G a).1 (G a).2.2.2 (r (G a).2.1) (r (G a).2.2.1)))) (v := (bI (st_fail (G a).1 (r (G a).2.1) (r (G a).2.2.1)))) C I 7 rfl (by omega) (bI_z _) rfl dX1_run_257 (fun H locs I => ?_)
                refine lv_aload_n hx hb dX1_run_258 rfl (lv_at hl 6 rfl) ?_
                refine m_get C I rfl 6 (by decide) q222 rfl dX1_run_259 ?_
                refine lv_iload_n hx hb dX1_run_262 rfl (lv_at hl 7 rfl) ?_
                refine lv_aload_n hx hb dX1_run_263 rfl (lv_at hl 6 rfl) ?_
                refine m_get C I rfl 6 (by decide) q222 rfl dX1_run_264 ?_
                refine lv_iload_n hx hb dX1_run_267 rfl (lv_at hl 7 rfl) ?_
                refine i_ild C I 6 rfl (by omega) dX1_run_268 ?_
                refine lv_topi (fun z_11 ez_11 => ?_)
                obtain rfl : z_11 = nI q := ez_11.trans (hT)
                refine lv_iconst (v := nI 1) hx hb dX1_run_269 (by decide) ?_
                refine lv_iload_n hx hb dX1_run_270 rfl (lv_at hl 9 rfl) ?_
                refine lv_ishl hx hb dX1_run_271 ?_
                refine lv_ior hx hb dX1_run_272 ?_
                refine lv_topi (fun z_12 ez_12 => ?_)
                obtain rfl : z_12 = nI (q ||| 2 ^ a) := ez_12.trans (n_or1 (by omega))
                refine i_ist (ws' := wM h d (nI n) gK gA gB gN gM (upd T i (nI (q ||| 2 ^ a))) (upd F i (bI (st_fail (G a).1 (r (G a).2.1) (r (G a).2.2.1)))) (upd E (4 * i + ((G a).2.1)) (st_made (G a).1 (G a).2.2.2 (r (G a).2.1) (r (G a).2.2.1)))) C I 6 rfl (by omega) rfl dX1_run_273 (fun H locs I => ?_)
                refine w_join 287 ((nI (nxt G a r))) [] (fun z ez => ?_) (fun hj => ?_)
                · subst ez
                  refine lv_istore_n (lv' := [(3, .int (nI (nxt G a r))), (9, .int (st_made (G a).1 (G a).2.2.2 (r (G a).2.1) (r (G a).2.2.1))), (8, .int (bI (st_goes (G a).1 (r (G a).2.1) (r (G a).2.2.1)))), (7, .int ((G a).2.2.2)), (6, .int (r (G a).2.2.1)), (5, .int (r (G a).2.1)), (4, .int (nI ((G a).1))), (0, .ref (h 0)), (1, .int (nI i)), (2, .int (nI (4 * i)))]) hx hb dX1_run_287 rfl hl (by decide) rfl (fun ls hl => ?_)
                  refine lv_goto (tgt := 59) hx hb dX1_run_288 (by decide) ?_
                  have hnx := nxt_gt (r := r) hG c_64
                  exact ih (nxt G a r) (q ||| 2 ^ a) (upd r (G a).2.1 (st_made (G a).1 (G a).2.2.2 (r (G a).2.1) (r (G a).2.2.1))) (st_fail (G a).1 (r (G a).2.1) (r (G a).2.2.1)) (upd T i (nI (q ||| 2 ^ a))) (upd F i (bI (st_fail (G a).1 (r (G a).2.1) (r (G a).2.2.1)))) (upd E (4 * i + ((G a).2.1)) (st_made (G a).1 (G a).2.2.2 (r (G a).2.1) (r (G a).2.2.1))) _ _ _ (by omega) (hnx.2) (or_lt hq hnx.1) (by rw [← hR]; exact (rn_step hG c_64).symm) (upd_s) (upd_s) (run_upd (by omega) hE) (fun j h1 h2 => (((hKe j h1 h2).e h2 (by omega)).f h2).t h2) I (lv_sub hl [7, 8, 9, 0] rfl)
                · refine lv_iload hx hb dX1_run_274 (lv_at hl 1 rfl) ?_
                  refine lv_if_eq (tgt := 284) hx hb dX1_run_276 (by decide) (fun c_276 => ?_) (fun c_276 => ?_)
                  · refine lv_iload_n hx hb dX1_run_284 rfl (lv_at hl 9 rfl) ?_
                    refine lv_iconst (v := nI 1) hx hb dX1_run_285 (by decide) ?_
                    refine n_add hx hb dX1_run_286 ?_
                    exact hj _ (nxt_N (bI_0.mp c_276))
                  · refine lv_iload hx hb dX1_run_279 (lv_at hl 2 rfl) ?_
                    refine lv_goto (tgt := 287) hx hb dX1_run_281 (by decide) ?_
                    exact hj _ (nxt_I hG c_64 (by cases hz : st_goes (G a).1 (r (G a).2.1) (r (G a).2.2.1); rw [hz] at c_276; exact absurd rfl c_276; rfl))
              · refine lv_iload hx hb dX1_run_238 (lv_at hl 5 rfl) ?_
                refine lv_bipush (v := nI 7) hx hb dX1_run_240 (by decide) ?_
                refine n_ne (tgt := 256) hx hb dX1_run_242 (by decide) (by omega) (by omega) (fun c_242 => ?_) (fun c_242 => ?_)
                · refine lv_iconst (v := nI 0) hx hb dX1_run_256 (by decide) ?_
                  exact hj _ (fail_f (by rintro ⟨h, h2⟩; first | exact c_242 h | exact absurd h2 (by rw [Int32.not_lt]; exact c_249) | omega))
                · refine lv_iload hx hb dX1_run_245 (lv_at hl 4 rfl) ?_
                  refine lv_iload hx hb dX1_run_247 (lv_at hl 3 rfl) ?_
                  refine lv_icmp_le (tgt := 256) hx hb dX1_run_249 (by decide) (fun c_249 => ?_) (fun c_249 => ?_)
                  · refine lv_iconst (v := nI 0) hx hb dX1_run_256 (by decide) ?_
                    exact hj _ (fail_f (by rintro ⟨h, h2⟩; first | exact c_242 h | exact absurd h2 (by rw [Int32.not_lt]; exact c_249) | omega))
                  · refine lv_iconst (v := nI 1) hx hb dX1_run_252 (by decide) ?_
                    refine lv_goto (tgt := 257) hx hb dX1_run_253 (by decide) ?_
                    exact hj _ (fail_t ⟨c_242, Int32.not_le.mp c_249⟩)
            · refine lv_iload hx hb dX1_run_162 (lv_at hl 4 rfl) ?_
              refine n_ifne (tgt := 172) hx hb dX1_run_164 (by decide) (by omega) (fun c_164 => ?_) (fun c_164 => ?_)
              · refine lv_iload hx hb dX1_run_172 (lv_at hl 4 rfl) ?_
                refine lv_iconst (v := nI 1) hx hb dX1_run_174 (by decide) ?_
                refine n_ne (tgt := 186) hx hb dX1_run_175 (by decide) (by omega) (by omega) (fun c_175 => ?_) (fun c_175 => ?_)
                · refine lv_iload hx hb dX1_run_186 (lv_at hl 4 rfl) ?_
                  refine lv_iconst (v := nI 2) hx hb dX1_run_188 (by decide) ?_
                  refine n_ne (tgt := 200) hx hb dX1_run_189 (by decide) (by omega) (by omega) (fun c_189 => ?_) (fun c_189 => ?_)
                  · refine lv_iload hx hb dX1_run_200 (lv_at hl 4 rfl) ?_
                    refine lv_iconst (v := nI 3) hx hb dX1_run_202 (by decide) ?_
                    refine n_ne (tgt := 214) hx hb dX1_run_203 (by decide) (by omega) (by omega) (fun c_203 => ?_) (fun c_203 => ?_)
                    · refine lv_iload hx hb dX1_run_214 (lv_at hl 3 rfl) ?_
                      exact hj _ (by first | exact made_0 c_164 | exact made_1 c_175 | exact made_2 c_189 | exact made_3 c_203 | exact made_4 c_164 c_175 c_189 c_203)
                    · refine lv_iload hx hb dX1_run_206 (lv_at hl 3 rfl) ?_
                      refine lv_iload hx hb dX1_run_208 (lv_at hl 1 rfl) ?_
                      refine lv_imul hx hb dX1_run_210 ?_
                      refine lv_goto (tgt := 216) hx hb dX1_run_211 (by decide) ?_
                      exact hj _ (by first | exact made_0 c_164 | exact made_1 c_175 | exact made_2 c_189 | exact made_3 c_203 | exact made_4 c_164 c_175 c_189 c_203)
                  · refine lv_iload hx hb dX1_run_192 (lv_at hl 3 rfl) ?_
                    refine lv_iload hx hb dX1_run_194 (lv_at hl 2 rfl) ?_
                    refine lv_isub hx hb dX1_run_196 ?_
                    refine lv_goto (tgt := 216) hx hb dX1_run_197 (by decide) ?_
                    exact hj _ (by first | exact made_0 c_164 | exact made_1 c_175 | exact made_2 c_189 | exact made_3 c_203 | exact made_4 c_164 c_175 c_189 c_203)
                · refine lv_iload hx hb dX1_run_178 (lv_at hl 3 rfl) ?_
                  refine lv_iload hx hb dX1_run_180 (lv_at hl 2 rfl) ?_
                  refine lv_iadd hx hb dX1_run_182 ?_
                  refine lv_goto (tgt := 216) hx hb dX1_run_183 (by decide) ?_
                  exact hj _ (by first | exact made_0 c_164 | exact made_1 c_175 | exact made_2 c_189 | exact made_3 c_203 | exact made_4 c_164 c_175 c_189 c_203)
              · refine lv_iload hx hb dX1_run_167 (lv_at hl 1 rfl) ?_
                refine lv_goto (tgt := 216) hx hb dX1_run_169 (by decide) ?_
                exact hj _ (by first | exact made_0 c_164 | exact made_1 c_175 | exact made_2 c_189 | exact made_3 c_203 | exact made_4 c_164 c_175 c_189 c_203)
          · refine lv_iload hx hb dX1_run_122 (lv_at hl 3 rfl) ?_
            refine lv_bipush (v := nI 6) hx hb dX1_run_124 (by decide) ?_
            refine n_eq (tgt := 155) hx hb dX1_run_126 (by decide) (by omega) (by omega) (fun c_126 => ?_) (fun c_126 => ?_)
            · refine lv_iconst (v := nI 1) hx hb dX1_run_155 (by decide) ?_
              refine lv_goto (tgt := 160) hx hb dX1_run_156 (by decide) ?_
              exact hj _ (goes_t (by first | exact Or.inl c_126 | exact Or.inr (Or.inl ⟨c_132, c_139⟩) | exact Or.inr (Or.inr ⟨c_145, c_152⟩)))
            · refine lv_iload hx hb dX1_run_129 (lv_at hl 3 rfl) ?_
              refine lv_iconst (v := nI 4) hx hb dX1_run_131 (by decide) ?_
              refine n_ne (tgt := 142) hx hb dX1_run_132 (by decide) (by omega) (by omega) (fun c_132 => ?_) (fun c_132 => ?_)
              · refine lv_iload hx hb dX1_run_142 (lv_at hl 3 rfl) ?_
                refine lv_iconst (v := nI 5) hx hb dX1_run_144 (by decide) ?_
                refine n_ne (tgt := 159) hx hb dX1_run_145 (by decide) (by omega) (by omega) (fun c_145 => ?_) (fun c_145 => ?_)
                · refine lv_iconst (v := nI 0) hx hb dX1_run_159 (by decide) ?_
                  exact hj _ (goes_f (by rintro (h | ⟨h, h2⟩ | ⟨h, h2⟩) <;> first | exact c_126 h | exact c_132 h | exact c_139 h2 | exact c_145 h | exact c_152 h2 | omega))
                · refine lv_iload hx hb dX1_run_148 (lv_at hl 2 rfl) ?_
                  refine lv_iload hx hb dX1_run_150 (lv_at hl 1 rfl) ?_
                  refine lv_icmp_ne (tgt := 159) hx hb dX1_run_152 (by decide) (fun c_152 => ?_) (fun c_152 => ?_)
                  · refine lv_iconst (v := nI 0) hx hb dX1_run_159 (by decide) ?_
                    exact hj _ (goes_f (by rintro (h | ⟨h, h2⟩ | ⟨h, h2⟩) <;> first | exact c_126 h | exact c_132 h | exact c_139 h2 | exact c_145 h | exact c_152 h2 | omega))
                  · refine lv_iconst (v := nI 1) hx hb dX1_run_155 (by decide) ?_
                    refine lv_goto (tgt := 160) hx hb dX1_run_156 (by decide) ?_
                    exact hj _ (goes_t (by first | exact Or.inl c_126 | exact Or.inr (Or.inl ⟨c_132, c_139⟩) | exact Or.inr (Or.inr ⟨c_145, c_152⟩)))
              · refine lv_iload hx hb dX1_run_135 (lv_at hl 2 rfl) ?_
                refine lv_iload hx hb dX1_run_137 (lv_at hl 1 rfl) ?_
                refine lv_icmp_lt (tgt := 155) hx hb dX1_run_139 (by decide) (fun c_139 => ?_) (fun c_139 => ?_)
                · refine lv_iconst (v := nI 1) hx hb dX1_run_155 (by decide) ?_
                  refine lv_goto (tgt := 160) hx hb dX1_run_156 (by decide) ?_
                  exact hj _ (goes_t (by first | exact Or.inl c_126 | exact Or.inr (Or.inl ⟨c_132, c_139⟩) | exact Or.inr (Or.inr ⟨c_145, c_152⟩)))
                · refine lv_iload hx hb dX1_run_142 (lv_at hl 3 rfl) ?_
                  refine lv_iconst (v := nI 5) hx hb dX1_run_144 (by decide) ?_
                  refine n_ne (tgt := 159) hx hb dX1_run_145 (by decide) (by omega) (by omega) (fun c_145 => ?_) (fun c_145 => ?_)
                  · refine lv_iconst (v := nI 0) hx hb dX1_run_159 (by decide) ?_
                    exact hj _ (goes_f (by rintro (h | ⟨h, h2⟩ | ⟨h, h2⟩) <;> first | exact c_126 h | exact c_132 h | exact c_139 h2 | exact c_145 h | exact c_152 h2 | omega))
                  · refine lv_iload hx hb dX1_run_148 (lv_at hl 2 rfl) ?_
                    refine lv_iload hx hb dX1_run_150 (lv_at hl 1 rfl) ?_
                    refine lv_icmp_ne (tgt := 159) hx hb dX1_run_152 (by decide) (fun c_152 => ?_) (fun c_152 => ?_)
                    · refine lv_iconst (v := nI 0) hx hb dX1_run_159 (by decide) ?_
                      exact hj _ (goes_f (by rintro (h | ⟨h, h2⟩ | ⟨h, h2⟩) <;> first | exact c_126 h | exact c_132 h | exact c_139 h2 | exact c_145 h | exact c_152 h2 | omega))
                    · refine lv_iconst (v := nI 1) hx hb dX1_run_155 (by decide) ?_
                      refine lv_goto (tgt := 160) hx hb dX1_run_156 (by decide) ?_
                      exact hj _ (goes_t (by first | exact Or.inl c_126 | exact Or.inr (Or.inl ⟨c_132, c_139⟩) | exact Or.inr (Or.inr ⟨c_145, c_152⟩)))
  exact lp 13 0 0 (r0 i) false (upd gT i (nI 0)) (upd gF i (nI 0)) (upd (upd (upd (upd gE (4 * i) (nI (i % 16))) (4 * i + 1) (nI (i / 16))) (4 * i + 2) (nI 0)) (4 * i + 3) (nI 0)) _ _ _ (by omega) (by omega) (by decide) (rfl) (upd_s) (upd_s) (run_init gE i) (fun j h1 h2 => (((((KeepAt.rf.e (r := 0) h2 (by omega)).e h2 (by omega)).e h2 (by omega)).e h2 (by omega)).f h2).t h2) I (lv_sub hl [2, 3, 1, 0] rfl)
end
section
set_option maxHeartbeats 4000000 in
set_option maxRecDepth 100000 in
/-- work(): every input is run -/
theorem kM_work (l : Launch) (D : va_G) (d : Nat → ClassId) (h : Nat → Nat) (n : Nat) (G : Pg) (mk : Nat → Bool) (sz : Int32) (gK gA gB gN gM gT gF gE : Nat → Int32) (hM : MI n G mk sz gK gA gB gN gM) : CV l yX1_work (ws_ yX1_work cX1_work 2 none) (rk 1) D d [.ref (h 0)] (wM h d sz gK gA gB gN gM gT gF gE) (fun w' => ∃ gT' gF' gE', KN n G gT' gF' gE' ∧ w' = wM h d sz gK gA gB gN gM gT' gF' gE') := by
  have hMI := hM
  obtain ⟨rfl, hG, hP, hMk⟩ := hM
  have hn12 := hG.1
  refine cv_in (cc := cX1_work) (nL := 2) (by decide) rfl (Nat.le_of_ble_eq_true rfl) ?_
  intro p e s m ar bl me c A Q ls C I hl hret
  have hx := C.1.1
  have hb := C.1.2.1
  have hl : lv_has ls 2 [(0, .ref (h 0))] := hl
  refine lv_iconst (v := nI 0) hx hb dX1_work_0 (by decide) ?_
  refine lv_istore_n (lv' := [(1, .int (nI 0)), (0, .ref (h 0))]) hx hb dX1_work_1 rfl hl (by decide) rfl (fun ls hl => ?_)
  have lp : ∀ (nn : Nat) (i : Nat) (T : Nat → Int32) (F : Nat → Int32) (E : Nat → Int32) (H : Heap) (locs : List Loc) (ls : Array Slot), 256 + 1 ≤ i + nn → (i ≤ 256) → (∀ j, j < i → RunAt n G j T F E) → IW D A s.heap (wM h d (nI n) gK gA gB gN gM T F E) H locs → lv_has ls 2 [(0, .ref (h 0)), (1, .int (nI i))] → W p l e (rk 1) s m ar bl me c H locs 0 0 Q (F0 m 2 ls []) := by
    intro nn
    induction nn with
    | zero => intro i T F E H locs ls hme hi hR; exact absurd hme (by omega)
    | succ nn ih =>
      intro i T F E H locs ls hme hi hR I hl
      refine lv_iload_n hx hb dX1_work_2 rfl (lv_at hl 1 rfl) ?_
      refine lv_sipush (v := nI 256) hx hb dX1_work_3 (by decide) ?_
      refine n_ge (tgt := 20) hx hb dX1_work_6 (by decide) (by omega) (by omega) (fun c_6 => ?_) (fun c_6 => ?_)
      · exact hret _ _ _ _ _ I (⟨T, F, E, fun j hj => hR j (by omega), rfl⟩) dX1_work_20
      · refine lv_aload_n hx hb dX1_work_9 rfl (lv_at hl 0 rfl) ?_
        refine lv_iload_n hx hb dX1_work_10 rfl (lv_at hl 1 rfl) ?_
        refine cv_call (As := [.int (nI i)]) (rest := []) C I (kM_run l D d h n G mk (nI n) gK gA gB gN gM T F E hMI i (by omega)) (cwV 1 C.1.2.2.2.2 (lw_V q272 q274 qs16 q22 q275) rfl rfl rfl (by decide +kernel) ⟨Nat.le_of_ble_eq_true rfl, Nat.le_of_ble_eq_true rfl⟩) rfl rfl rfl hl.1 rfl (Nat.le_of_ble_eq_true rfl) dX1_work_11 ⟨Nat.zero_le _, Nat.zero_le _⟩ (fun w' H locs hpo I => ?_)
        obtain ⟨T', F', E', hR1, hK1, rfl⟩ := hpo
        refine lv_iinc (v := (nI (i + 1))) (lv' := [(1, .int (nI (i + 1))), (0, .ref (h 0))]) hx hb dX1_work_14 hl (k := 1) rfl (n_inc _) (by decide) rfl (fun ls hl => ?_)
        refine lv_goto (tgt := 2) hx hb dX1_work_17 (by decide) ?_
        exact ih (i + 1) T' F' E' _ _ _ (by omega) (by omega) (fun j hj => by rcases Nat.lt_or_eq_of_le (Nat.le_of_lt_succ hj) with q | q; exact (hR j q).keep (hK1 j (by omega) (by omega)); rw [q]; exact hR1) I (lv_sub hl [1, 0] rfl)
  exact lp 257 0 gT gF gE _ _ _ (by omega) (by omega) (fun _ h => absurd h (by omega)) I (lv_sub hl [1, 0] rfl)
set_option maxHeartbeats 4000000 in
set_option maxRecDepth 100000 in
/-- least(input) -/
theorem kM_least (l : Launch) (D : va_G) (d : Nat → ClassId) (h : Nat → Nat) (sz : Int32) (gK gA gB gN gM gT gF gE : Nat → Int32) (P : Nat → Nat) (hP : ∀ i, i < 256 → gT i = nI (P i)) (hB : ∀ i, P i < 2 ^ 31) (j : Nat) (hj : j < 256) : CT l yX1_least (ws_ yX1_least cX1_least 3 (some .int)) (rk 0) D d [.ref (h 0), .int (nI j)] (wM h d sz gK gA gB gN gM gT gF gE) (fun r w' => Fnd (fun i => P i = P j) r ∧ w' = wM h d sz gK gA gB gN gM gT gF gE) := by
  refine ct_in (cc := cX1_least) (nL := 3) (ty := .int) (by decide) rfl (Nat.le_of_ble_eq_true rfl) ?_
  intro p e s m ar bl me c A Q ls C I hl hret
  have hx := C.1.1
  have hb := C.1.2.1
  have hl : lv_has ls 3 [(0, .ref (h 0)), (1, .int (nI j))] := hl
  refine lv_iconst (v := nI 0) hx hb dX1_least_0 (by decide) ?_
  refine lv_istore_n (lv' := [(2, .int (nI 0)), (0, .ref (h 0)), (1, .int (nI j))]) hx hb dX1_least_1 rfl hl (by decide) rfl (fun ls hl => ?_)
  have lp : ∀ (nn : Nat) (i : Nat) (H : Heap) (locs : List Loc) (ls : Array Slot), j + 1 ≤ i + nn → (i ≤ j) → (∀ k, k < i → ¬ P k = P j) → IW D A s.heap (wM h d sz gK gA gB gN gM gT gF gE) H locs → lv_has ls 3 [(0, .ref (h 0)), (1, .int (nI j)), (2, .int (nI i))] → W p l e (rk 0) s m ar bl me c H locs 0 0 Q (F0 m 2 ls []) := by
    intro nn
    induction nn with
    | zero => intro i H locs ls hme hi hL; exact absurd hme (by omega)
    | succ nn ih =>
      intro i H locs ls hme hi hL I hl
      refine lv_aload_n hx hb dX1_least_2 rfl (lv_at hl 0 rfl) ?_
      refine m_get C I rfl 6 (by decide) q222 rfl dX1_least_3 ?_
      refine lv_iload_n hx hb dX1_least_6 rfl (lv_at hl 2 rfl) ?_
      refine i_ild C I 6 rfl (by omega) dX1_least_7 ?_
      refine lv_topi (fun z_1 ez_1 => ?_)
      obtain rfl : z_1 = nI (P i) := ez_1.trans (hP _ (by omega))
      refine lv_aload_n hx hb dX1_least_8 rfl (lv_at hl 0 rfl) ?_
      refine m_get C I rfl 6 (by decide) q222 rfl dX1_least_9 ?_
      refine lv_iload_n hx hb dX1_least_12 rfl (lv_at hl 1 rfl) ?_
      refine i_ild C I 6 rfl (by omega) dX1_least_13 ?_
      refine lv_topi (fun z_2 ez_2 => ?_)
      obtain rfl : z_2 = nI (P j) := ez_2.trans (hP _ (by omega))
      refine n_eq (tgt := 23) hx hb dX1_least_14 (by decide) (hB _) (hB _) (fun c_14 => ?_) (fun c_14 => ?_)
      · refine lv_iload_n hx hb dX1_least_23 rfl (lv_at hl 2 rfl) ?_
        exact hret (nI i) _ _ _ _ _ rfl I (⟨Or.inl ⟨i, by omega, c_14, hL, rfl⟩, rfl⟩) dX1_least_24
      · refine lv_iinc (v := (nI (i + 1))) (lv' := [(2, .int (nI (i + 1))), (0, .ref (h 0)), (1, .int (nI j))]) hx hb dX1_least_17 hl (k := 2) rfl (n_inc _) (by decide) rfl (fun ls hl => ?_)
        refine lv_goto (tgt := 2) hx hb dX1_least_20 (by decide) ?_
        have hne : i ≠ j := fun q => c_14 (by rw [q])
        exact ih (i + 1) _ _ _ (by omega) (by omega) (fun k hk => by rcases Nat.lt_or_eq_of_le (Nat.le_of_lt_succ hk) with q | q; exact hL k q; rw [q]; exact c_14) I (lv_sub hl [1, 2, 0] rfl)
  exact lp (j + 1) 0 _ _ _ (by omega) (by omega) (fun _ h => absurd h (by omega)) I (lv_sub hl [1, 2, 0] rfl)
set_option maxHeartbeats 4000000 in
set_option maxRecDepth 100000 in
/-- reach(p) -/
theorem kM_reach (l : Launch) (D : va_G) (d : Nat → ClassId) (h : Nat → Nat) (n : Nat) (G : Pg) (mk : Nat → Bool) (sz : Int32) (gK gA gB gN gM gT gF gE : Nat → Int32) (hM : MI n G mk sz gK gA gB gN gM) (x1 : Int32) : CT l yX1_reach (ws_ yX1_reach cX1_reach 4 (some .int)) (rk 2) D d [.ref (h 0), .int x1] (wM h d sz gK gA gB gN gM gT gF gE) (fun r w' => (QR x1 n (-1) (fun j r => r = nI (sumN (fun i => pt n G i / 2 ^ j % 2) 256)) r) ∧ MW n G mk h d w') := by
  have hMI := hM
  obtain ⟨rfl, hG, hP, hMk⟩ := hM
  have hn12 := hG.1
  refine ct_in (cc := cX1_reach) (nL := 4) (ty := .int) (by decide) rfl (Nat.le_of_ble_eq_true rfl) ?_
  intro p e s m ar bl me c A Q ls C I hl hret
  have hx := C.1.1
  have hb := C.1.2.1
  have hl : lv_has ls 4 [(0, .ref (h 0)), (1, .int x1)] := hl
  cases hv : inR x1 n
  · refine lv_aload_n hx hb dX1_reach_0 rfl (lv_at hl 0 rfl) ?_
    refine cv_call (As := []) (rest := []) C I (kM_work l D d h n G mk (nI n) gK gA gB gN gM gT gF gE hMI) (cwV 0 C.1.2.2.2.2 (lw_V q268 q270 qs15 q22 q271) rfl rfl rfl (by decide +kernel) ⟨Nat.le_of_ble_eq_true rfl, Nat.le_of_ble_eq_true rfl⟩) rfl rfl rfl hl.1 rfl (Nat.le_of_ble_eq_true rfl) dX1_reach_1 ⟨Nat.zero_le _, Nat.zero_le _⟩ (fun w' H locs hpo I => ?_)
    obtain ⟨T, F, E, hKN, rfl⟩ := hpo
    refine lv_iconst (v := nI 0) hx hb dX1_reach_4 (by decide) ?_
    refine lv_istore_n (lv' := [(2, .int (nI 0)), (0, .ref (h 0)), (1, .int x1)]) hx hb dX1_reach_5 rfl hl (by decide) rfl (fun ls hl => ?_)
    refine lv_iconst (v := nI 0) hx hb dX1_reach_6 (by decide) ?_
    refine lv_istore_n (lv' := [(3, .int (nI 0)), (2, .int (nI 0)), (0, .ref (h 0)), (1, .int x1)]) hx hb dX1_reach_7 rfl hl (by decide) rfl (fun ls hl => ?_)
    refine lv_iload_n hx hb dX1_reach_8 rfl (lv_at hl 0 rfl) ?_
    refine lv_sipush (v := nI 256) hx hb dX1_reach_9 (by decide) ?_
    refine n_ge (tgt := 42) hx hb dX1_reach_12 (by decide) (by omega) (by omega) (fun c_12 => ?_) (fun c_12 => ?_)
    · skip
      exact absurd c_12 (by omega)
    · refine lv_aload_n hx hb dX1_reach_15 rfl (lv_at hl 2 rfl) ?_
      refine lv_iload_n hx hb dX1_reach_16 rfl (lv_at hl 3 rfl) ?_
      refine ct_call (As := [.int x1]) (rest := []) C I (kM_is l D d h (nI n) gK gA gB gN gM T F E x1) (cwV 1 C.1.2.2.2.2 (lw_V q276 q278 qs17 q22 q279) rfl rfl rfl (by decide +kernel) ⟨Nat.le_of_ble_eq_true rfl, Nat.le_of_ble_eq_true rfl⟩) rfl rfl rfl hl.1 rfl (Nat.le_of_ble_eq_true rfl) dX1_reach_17 ⟨Nat.zero_le _, Nat.zero_le _⟩ (fun r w' H locs hpo I => ?_)
      obtain ⟨rfl, rfl⟩ := hpo
      refine lv_topi (fun z_1 ez_1 => ?_)
      obtain rfl : z_1 = nI 0 := ez_1.trans (by rw [isP_n (by omega), hv]; rfl)
      refine n_ifeq (tgt := 42) hx hb dX1_reach_20 (by decide) (by omega) (fun c_20 => ?_) (fun c_20 => ?_)
      · refine lv_aload_n hx hb dX1_reach_42 rfl (lv_at hl 2 rfl) ?_
        refine lv_iload_n hx hb dX1_reach_43 rfl (lv_at hl 3 rfl) ?_
        refine ct_call (As := [.int x1]) (rest := []) C I (kM_is l D d h (nI n) gK gA gB gN gM T F E x1) (cwV 1 C.1.2.2.2.2 (lw_V q276 q278 qs17 q22 q279) rfl rfl rfl (by decide +kernel) ⟨Nat.le_of_ble_eq_true rfl, Nat.le_of_ble_eq_true rfl⟩) rfl rfl rfl hl.1 rfl (Nat.le_of_ble_eq_true rfl) dX1_reach_44 ⟨Nat.zero_le _, Nat.zero_le _⟩ (fun r w' H locs hpo I => ?_)
        obtain ⟨rfl, rfl⟩ := hpo
        refine lv_topi (fun z_2 ez_2 => ?_)
        obtain rfl : z_2 = nI 0 := ez_2.trans (by rw [isP_n (by omega), hv]; rfl)
        refine n_ifeq (tgt := 54) hx hb dX1_reach_47 (by decide) (by omega) (fun c_47 => ?_) (fun c_47 => ?_)
        · refine lv_iconst (v := -1) hx hb dX1_reach_54 (by decide) ?_
          exact hret (-1) _ _ _ _ _ rfl I (⟨QR.f (by omega) hv, ⟨_, _, _, _, _, _, _, _, _, hMI, rfl⟩⟩) dX1_reach_55
        · skip
          exact absurd c_47 (by simp)
      · skip
        exact absurd c_20 (by simp)
  · obtain ⟨j, hj, rfl⟩ := inR_t (n := n) hv
    refine lv_aload_n hx hb dX1_reach_0 rfl (lv_at hl 0 rfl) ?_
    refine cv_call (As := []) (rest := []) C I (kM_work l D d h n G mk (nI n) gK gA gB gN gM gT gF gE hMI) (cwV 0 C.1.2.2.2.2 (lw_V q268 q270 qs15 q22 q271) rfl rfl rfl (by decide +kernel) ⟨Nat.le_of_ble_eq_true rfl, Nat.le_of_ble_eq_true rfl⟩) rfl rfl rfl hl.1 rfl (Nat.le_of_ble_eq_true rfl) dX1_reach_1 ⟨Nat.zero_le _, Nat.zero_le _⟩ (fun w' H locs hpo I => ?_)
    obtain ⟨T, F, E, hKN, rfl⟩ := hpo
    refine lv_iconst (v := nI 0) hx hb dX1_reach_4 (by decide) ?_
    refine lv_istore_n (lv' := [(2, .int (nI 0)), (0, .ref (h 0)), (1, .int (nI j))]) hx hb dX1_reach_5 rfl hl (by decide) rfl (fun ls hl => ?_)
    refine lv_iconst (v := nI 0) hx hb dX1_reach_6 (by decide) ?_
    refine lv_istore_n (lv' := [(3, .int (nI 0)), (2, .int (nI 0)), (0, .ref (h 0)), (1, .int (nI j))]) hx hb dX1_reach_7 rfl hl (by decide) rfl (fun ls hl => ?_)
    have lp : ∀ (nn : Nat) (i : Nat) (H : Heap) (locs : List Loc) (ls : Array Slot), 256 + 1 ≤ i + nn → (i ≤ 256) → IW D A s.heap (wM h d (nI n) gK gA gB gN gM T F E) H locs → lv_has ls 4 [(0, .ref (h 0)), (1, .int (nI j)), (2, .int (nI (sumN (fun i => pt n G i / 2 ^ j % 2) i))), (3, .int (nI i))] → W p l e (rk 2) s m ar bl me c H locs 0 0 Q (F0 m 8 ls []) := by
      intro nn
      induction nn with
      | zero => intro i H locs ls hme hi; exact absurd hme (by omega)
      | succ nn ih =>
        intro i H locs ls hme hi I hl
        refine lv_iload_n hx hb dX1_reach_8 rfl (lv_at hl 3 rfl) ?_
        refine lv_sipush (v := nI 256) hx hb dX1_reach_9 (by decide) ?_
        refine n_ge (tgt := 42) hx hb dX1_reach_12 (by decide) (by omega) (by omega) (fun c_12 => ?_) (fun c_12 => ?_)
        · skip
          have hi2 : i = 256 := by omega
          refine lv_aload_n hx hb dX1_reach_42 rfl (lv_at hl 0 rfl) ?_
          refine lv_iload_n hx hb dX1_reach_43 rfl (lv_at hl 1 rfl) ?_
          refine ct_call (As := [.int (nI j)]) (rest := []) C I (kM_is l D d h (nI n) gK gA gB gN gM T F E (nI j)) (cwV 1 C.1.2.2.2.2 (lw_V q276 q278 qs17 q22 q279) rfl rfl rfl (by decide +kernel) ⟨Nat.le_of_ble_eq_true rfl, Nat.le_of_ble_eq_true rfl⟩) rfl rfl rfl hl.1 rfl (Nat.le_of_ble_eq_true rfl) dX1_reach_44 ⟨Nat.zero_le _, Nat.zero_le _⟩ (fun r w' H locs hpo I => ?_)
          obtain ⟨rfl, rfl⟩ := hpo
          refine lv_topi (fun z_3 ez_3 => ?_)
          obtain rfl : z_3 = nI 1 := ez_3.trans (by rw [isP_n (by omega), hv]; rfl)
          refine n_ifeq (tgt := 54) hx hb dX1_reach_47 (by decide) (by omega) (fun c_47 => ?_) (fun c_47 => ?_)
          · skip
            exact absurd c_47 (by simp)
          · refine lv_iload_n hx hb dX1_reach_50 rfl (lv_at hl 2 rfl) ?_
            refine lv_goto (tgt := 55) hx hb dX1_reach_51 (by decide) ?_
            exact hret (nI (sumN (fun i => pt n G i / 2 ^ j % 2) i)) _ _ _ _ _ rfl I (⟨QR.t hj (by omega) (by rw [hi2]), ⟨_, _, _, _, _, _, _, _, _, hMI, rfl⟩⟩) dX1_reach_55
        · refine lv_aload_n hx hb dX1_reach_15 rfl (lv_at hl 0 rfl) ?_
          refine lv_iload_n hx hb dX1_reach_16 rfl (lv_at hl 1 rfl) ?_
          refine ct_call (As := [.int (nI j)]) (rest := []) C I (kM_is l D d h (nI n) gK gA gB gN gM T F E (nI j)) (cwV 1 C.1.2.2.2.2 (lw_V q276 q278 qs17 q22 q279) rfl rfl rfl (by decide +kernel) ⟨Nat.le_of_ble_eq_true rfl, Nat.le_of_ble_eq_true rfl⟩) rfl rfl rfl hl.1 rfl (Nat.le_of_ble_eq_true rfl) dX1_reach_17 ⟨Nat.zero_le _, Nat.zero_le _⟩ (fun r w' H locs hpo I => ?_)
          obtain ⟨rfl, rfl⟩ := hpo
          refine lv_topi (fun z_4 ez_4 => ?_)
          obtain rfl : z_4 = nI 1 := ez_4.trans (by rw [isP_n (by omega), hv]; rfl)
          refine n_ifeq (tgt := 42) hx hb dX1_reach_20 (by decide) (by omega) (fun c_20 => ?_) (fun c_20 => ?_)
          · skip
            exact absurd c_20 (by simp)
          · refine lv_iload_n hx hb dX1_reach_23 rfl (lv_at hl 2 rfl) ?_
            refine lv_aload_n hx hb dX1_reach_24 rfl (lv_at hl 0 rfl) ?_
            refine m_get C I rfl 6 (by decide) q222 rfl dX1_reach_25 ?_
            refine lv_iload_n hx hb dX1_reach_28 rfl (lv_at hl 3 rfl) ?_
            refine i_ild C I 6 rfl (by omega) dX1_reach_29 ?_
            refine lv_iload_n hx hb dX1_reach_30 rfl (lv_at hl 1 rfl) ?_
            refine lv_ishr hx hb dX1_reach_31 ?_
            refine lv_iconst (v := nI 1) hx hb dX1_reach_32 (by decide) ?_
            refine lv_iand hx hb dX1_reach_33 ?_
            refine lv_topi (fun z_5 ez_5 => ?_)
            obtain rfl : z_5 = nI (pt n G i / 2 ^ j % 2) := ez_5.trans (by rw [(hKN i (by omega)).1]; exact n_bit (Nat.lt_trans (pt_lt hG i) (by decide)) (by omega))
            refine n_add hx hb dX1_reach_34 ?_
            refine lv_istore_n (lv' := [(2, .int (nI (sumN (fun i => pt n G i / 2 ^ j % 2) i + (pt n G i / 2 ^ j % 2)))), (0, .ref (h 0)), (1, .int (nI j)), (3, .int (nI i))]) hx hb dX1_reach_35 rfl hl (by decide) rfl (fun ls hl => ?_)
            refine lv_iinc (v := (nI (i + 1))) (lv' := [(3, .int (nI (i + 1))), (2, .int (nI (sumN (fun i => pt n G i / 2 ^ j % 2) i + (pt n G i / 2 ^ j % 2)))), (0, .ref (h 0)), (1, .int (nI j))]) hx hb dX1_reach_36 hl (k := 3) rfl (n_inc _) (by decide) rfl (fun ls hl => ?_)
            refine lv_goto (tgt := 8) hx hb dX1_reach_39 (by decide) ?_
            exact ih (i + 1) _ _ _ (by omega) (by omega) I (lv_sub hl [2, 3, 1, 0] rfl)
    exact lp 257 0 _ _ _ (by omega) (by omega) I (lv_sub hl [2, 3, 1, 0] rfl)
end
section
set_option maxHeartbeats 4000000 in
set_option maxRecDepth 100000 in
/-- firstAt(p, from) -/
theorem kM_firstAt (l : Launch) (D : va_G) (d : Nat → ClassId) (h : Nat → Nat) (n : Nat) (G : Pg) (mk : Nat → Bool) (sz : Int32) (gK gA gB gN gM gT gF gE : Nat → Int32) (hM : MI n G mk sz gK gA gB gN gM) (x1 x2 : Int32) : CT l yX1_firstAt (ws_ yX1_firstAt cX1_firstAt 4 (some .int)) (rk 2) D d [.ref (h 0), .int x1, .int x2] (wM h d sz gK gA gB gN gM gT gF gE) (fun r w' => (QR x1 n (-1) (fun j r => Fnd (fun i => ¬ nI i < x2 ∧ pt n G i / 2 ^ j % 2 = 1) r) r) ∧ MW n G mk h d w') := by
  have hMI := hM
  obtain ⟨rfl, hG, hP, hMk⟩ := hM
  have hn12 := hG.1
  refine ct_in (cc := cX1_firstAt) (nL := 4) (ty := .int) (by decide) rfl (Nat.le_of_ble_eq_true rfl) ?_
  intro p e s m ar bl me c A Q ls C I hl hret
  have hx := C.1.1
  have hb := C.1.2.1
  have hl : lv_has ls 4 [(0, .ref (h 0)), (1, .int x1), (2, .int x2)] := hl
  cases hv : inR x1 n
  · refine lv_aload_n hx hb dX1_firstAt_0 rfl (lv_at hl 0 rfl) ?_
    refine cv_call (As := []) (rest := []) C I (kM_work l D d h n G mk (nI n) gK gA gB gN gM gT gF gE hMI) (cwV 0 C.1.2.2.2.2 (lw_V q268 q270 qs15 q22 q271) rfl rfl rfl (by decide +kernel) ⟨Nat.le_of_ble_eq_true rfl, Nat.le_of_ble_eq_true rfl⟩) rfl rfl rfl hl.1 rfl (Nat.le_of_ble_eq_true rfl) dX1_firstAt_1 ⟨Nat.zero_le _, Nat.zero_le _⟩ (fun w' H locs hpo I => ?_)
    obtain ⟨T, F, E, hKN, rfl⟩ := hpo
    refine lv_iconst (v := nI 0) hx hb dX1_firstAt_4 (by decide) ?_
    refine lv_istore_n (lv' := [(3, .int (nI 0)), (0, .ref (h 0)), (1, .int x1), (2, .int x2)]) hx hb dX1_firstAt_5 rfl hl (by decide) rfl (fun ls hl => ?_)
    refine lv_iload_n hx hb dX1_firstAt_6 rfl (lv_at hl 0 rfl) ?_
    refine lv_sipush (v := nI 256) hx hb dX1_firstAt_7 (by decide) ?_
    refine n_ge (tgt := 48) hx hb dX1_firstAt_10 (by decide) (by omega) (by omega) (fun c_10 => ?_) (fun c_10 => ?_)
    · skip
      exact absurd c_10 (by omega)
    · refine lv_aload_n hx hb dX1_firstAt_13 rfl (lv_at hl 1 rfl) ?_
      refine lv_iload_n hx hb dX1_firstAt_14 rfl (lv_at hl 2 rfl) ?_
      refine ct_call (As := [.int x1]) (rest := []) C I (kM_is l D d h (nI n) gK gA gB gN gM T F E x1) (cwV 1 C.1.2.2.2.2 (lw_V q276 q278 qs17 q22 q279) rfl rfl rfl (by decide +kernel) ⟨Nat.le_of_ble_eq_true rfl, Nat.le_of_ble_eq_true rfl⟩) rfl rfl rfl hl.1 rfl (Nat.le_of_ble_eq_true rfl) dX1_firstAt_15 ⟨Nat.zero_le _, Nat.zero_le _⟩ (fun r w' H locs hpo I => ?_)
      obtain ⟨rfl, rfl⟩ := hpo
      refine lv_topi (fun z_1 ez_1 => ?_)
      obtain rfl : z_1 = nI 0 := ez_1.trans (by rw [isP_n (by omega), hv]; rfl)
      refine n_ifeq (tgt := 48) hx hb dX1_firstAt_18 (by decide) (by omega) (fun c_18 => ?_) (fun c_18 => ?_)
      · refine lv_iconst (v := -1) hx hb dX1_firstAt_48 (by decide) ?_
        exact hret (-1) _ _ _ _ _ rfl I (⟨QR.f (by omega) hv, ⟨_, _, _, _, _, _, _, _, _, hMI, rfl⟩⟩) dX1_firstAt_49
      · skip
        exact absurd c_18 (by simp)
  · obtain ⟨j, hj, rfl⟩ := inR_t (n := n) hv
    refine lv_aload_n hx hb dX1_firstAt_0 rfl (lv_at hl 0 rfl) ?_
    refine cv_call (As := []) (rest := []) C I (kM_work l D d h n G mk (nI n) gK gA gB gN gM gT gF gE hMI) (cwV 0 C.1.2.2.2.2 (lw_V q268 q270 qs15 q22 q271) rfl rfl rfl (by decide +kernel) ⟨Nat.le_of_ble_eq_true rfl, Nat.le_of_ble_eq_true rfl⟩) rfl rfl rfl hl.1 rfl (Nat.le_of_ble_eq_true rfl) dX1_firstAt_1 ⟨Nat.zero_le _, Nat.zero_le _⟩ (fun w' H locs hpo I => ?_)
    obtain ⟨T, F, E, hKN, rfl⟩ := hpo
    refine lv_iconst (v := nI 0) hx hb dX1_firstAt_4 (by decide) ?_
    refine lv_istore_n (lv' := [(3, .int (nI 0)), (0, .ref (h 0)), (1, .int (nI j)), (2, .int x2)]) hx hb dX1_firstAt_5 rfl hl (by decide) rfl (fun ls hl => ?_)
    have lp : ∀ (nn : Nat) (i : Nat) (H : Heap) (locs : List Loc) (ls : Array Slot), 256 + 1 ≤ i + nn → (i ≤ 256) → (∀ k, k < i → ¬ (fun i => ¬ nI i < x2 ∧ pt n G i / 2 ^ j % 2 = 1) k) → IW D A s.heap (wM h d (nI n) gK gA gB gN gM T F E) H locs → lv_has ls 4 [(0, .ref (h 0)), (1, .int (nI j)), (2, .int x2), (3, .int (nI i))] → W p l e (rk 2) s m ar bl me c H locs 0 0 Q (F0 m 6 ls []) := by
      intro nn
      induction nn with
      | zero => intro i H locs ls hme hi hL; exact absurd hme (by omega)
      | succ nn ih =>
        intro i H locs ls hme hi hL I hl
        refine lv_iload_n hx hb dX1_firstAt_6 rfl (lv_at hl 3 rfl) ?_
        refine lv_sipush (v := nI 256) hx hb dX1_firstAt_7 (by decide) ?_
        refine n_ge (tgt := 48) hx hb dX1_firstAt_10 (by decide) (by omega) (by omega) (fun c_10 => ?_) (fun c_10 => ?_)
        · refine lv_iconst (v := -1) hx hb dX1_firstAt_48 (by decide) ?_
          exact hret (-1) _ _ _ _ _ rfl I (⟨QR.t hj (by omega) (Or.inr ⟨fun k hk => hL k (by omega), rfl⟩), ⟨_, _, _, _, _, _, _, _, _, hMI, rfl⟩⟩) dX1_firstAt_49
        · refine lv_aload_n hx hb dX1_firstAt_13 rfl (lv_at hl 0 rfl) ?_
          refine lv_iload_n hx hb dX1_firstAt_14 rfl (lv_at hl 1 rfl) ?_
          refine ct_call (As := [.int (nI j)]) (rest := []) C I (kM_is l D d h (nI n) gK gA gB gN gM T F E (nI j)) (cwV 1 C.1.2.2.2.2 (lw_V q276 q278 qs17 q22 q279) rfl rfl rfl (by decide +kernel) ⟨Nat.le_of_ble_eq_true rfl, Nat.le_of_ble_eq_true rfl⟩) rfl rfl rfl hl.1 rfl (Nat.le_of_ble_eq_true rfl) dX1_firstAt_15 ⟨Nat.zero_le _, Nat.zero_le _⟩ (fun r w' H locs hpo I => ?_)
          obtain ⟨rfl, rfl⟩ := hpo
          refine lv_topi (fun z_2 ez_2 => ?_)
          obtain rfl : z_2 = nI 1 := ez_2.trans (by rw [isP_n (by omega), hv]; rfl)
          refine n_ifeq (tgt := 48) hx hb dX1_firstAt_18 (by decide) (by omega) (fun c_18 => ?_) (fun c_18 => ?_)
          · skip
            exact absurd c_18 (by simp)
          · refine lv_iload_n hx hb dX1_firstAt_21 rfl (lv_at hl 3 rfl) ?_
            refine lv_iload_n hx hb dX1_firstAt_22 rfl (lv_at hl 2 rfl) ?_
            refine lv_icmp_lt (tgt := 42) hx hb dX1_firstAt_23 (by decide) (fun c_23 => ?_) (fun c_23 => ?_)
            · refine lv_iinc (v := (nI (i + 1))) (lv' := [(3, .int (nI (i + 1))), (0, .ref (h 0)), (1, .int (nI j)), (2, .int x2)]) hx hb dX1_firstAt_42 hl (k := 3) rfl (n_inc _) (by decide) rfl (fun ls hl => ?_)
              refine lv_goto (tgt := 6) hx hb dX1_firstAt_45 (by decide) ?_
              exact ih (i + 1) _ _ _ (by omega) (by omega) (fun k hk => by rcases Nat.lt_or_eq_of_le (Nat.le_of_lt_succ hk) with q | q; exact hL k q; rw [q]; exact (fun q => q.1 c_23)) I (lv_sub hl [1, 2, 3, 0] rfl)
            · refine lv_aload_n hx hb dX1_firstAt_26 rfl (lv_at hl 0 rfl) ?_
              refine m_get C I rfl 6 (by decide) q222 rfl dX1_firstAt_27 ?_
              refine lv_iload_n hx hb dX1_firstAt_30 rfl (lv_at hl 3 rfl) ?_
              refine i_ild C I 6 rfl (by omega) dX1_firstAt_31 ?_
              refine lv_iload_n hx hb dX1_firstAt_32 rfl (lv_at hl 1 rfl) ?_
              refine lv_ishr hx hb dX1_firstAt_33 ?_
              refine lv_iconst (v := nI 1) hx hb dX1_firstAt_34 (by decide) ?_
              refine lv_iand hx hb dX1_firstAt_35 ?_
              refine lv_topi (fun z_3 ez_3 => ?_)
              obtain rfl : z_3 = nI (pt n G i / 2 ^ j % 2) := ez_3.trans (by rw [(hKN i (by omega)).1]; exact n_bit (Nat.lt_trans (pt_lt hG i) (by decide)) (by omega))
              refine lv_iconst (v := nI 1) hx hb dX1_firstAt_36 (by decide) ?_
              refine n_ne (tgt := 42) hx hb dX1_firstAt_37 (by decide) (by omega) (by omega) (fun c_37 => ?_) (fun c_37 => ?_)
              · refine lv_iinc (v := (nI (i + 1))) (lv' := [(3, .int (nI (i + 1))), (0, .ref (h 0)), (1, .int (nI j)), (2, .int x2)]) hx hb dX1_firstAt_42 hl (k := 3) rfl (n_inc _) (by decide) rfl (fun ls hl => ?_)
                refine lv_goto (tgt := 6) hx hb dX1_firstAt_45 (by decide) ?_
                exact ih (i + 1) _ _ _ (by omega) (by omega) (fun k hk => by rcases Nat.lt_or_eq_of_le (Nat.le_of_lt_succ hk) with q | q; exact hL k q; rw [q]; exact (fun q => c_37 q.2)) I (lv_sub hl [1, 2, 3, 0] rfl)
              · refine lv_iload_n hx hb dX1_firstAt_40 rfl (lv_at hl 3 rfl) ?_
                exact hret (nI i) _ _ _ _ _ rfl I (⟨QR.t hj (by omega) (Or.inl ⟨i, by omega, ⟨c_23, c_37⟩, hL, rfl⟩), ⟨_, _, _, _, _, _, _, _, _, hMI, rfl⟩⟩) dX1_firstAt_41
    exact lp 257 0 _ _ _ (by omega) (by omega) (fun _ h => absurd h (by omega)) I (lv_sub hl [1, 2, 3, 0] rfl)
set_option maxHeartbeats 4000000 in
set_option maxRecDepth 100000 in
/-- failing() -/
theorem kM_failing (l : Launch) (D : va_G) (d : Nat → ClassId) (h : Nat → Nat) (n : Nat) (G : Pg) (mk : Nat → Bool) (sz : Int32) (gK gA gB gN gM gT gF gE : Nat → Int32) (hM : MI n G mk sz gK gA gB gN gM)  : CT l yX1_failing (ws_ yX1_failing cX1_failing 3 (some .int)) (rk 2) D d [.ref (h 0)] (wM h d sz gK gA gB gN gM gT gF gE) (fun r w' => r = nI (sumN (fun i => b1 (fl n G i)) 256) ∧ MW n G mk h d w') := by
  have hMI := hM
  obtain ⟨rfl, hG, hP, hMk⟩ := hM
  have hn12 := hG.1
  refine ct_in (cc := cX1_failing) (nL := 3) (ty := .int) (by decide) rfl (Nat.le_of_ble_eq_true rfl) ?_
  intro p e s m ar bl me c A Q ls C I hl hret
  have hx := C.1.1
  have hb := C.1.2.1
  have hl : lv_has ls 3 [(0, .ref (h 0))] := hl
  refine lv_aload_n hx hb dX1_failing_0 rfl (lv_at hl 0 rfl) ?_
  refine cv_call (As := []) (rest := []) C I (kM_work l D d h n G mk (nI n) gK gA gB gN gM gT gF gE hMI) (cwV 0 C.1.2.2.2.2 (lw_V q268 q270 qs15 q22 q271) rfl rfl rfl (by decide +kernel) ⟨Nat.le_of_ble_eq_true rfl, Nat.le_of_ble_eq_true rfl⟩) rfl rfl rfl hl.1 rfl (Nat.le_of_ble_eq_true rfl) dX1_failing_1 ⟨Nat.zero_le _, Nat.zero_le _⟩ (fun w' H locs hpo I => ?_)
  obtain ⟨T, F, E, hKN, rfl⟩ := hpo
  refine lv_iconst (v := nI 0) hx hb dX1_failing_4 (by decide) ?_
  refine lv_istore_n (lv' := [(1, .int (nI 0)), (0, .ref (h 0))]) hx hb dX1_failing_5 rfl hl (by decide) rfl (fun ls hl => ?_)
  refine lv_iconst (v := nI 0) hx hb dX1_failing_6 (by decide) ?_
  refine lv_istore_n (lv' := [(2, .int (nI 0)), (1, .int (nI 0)), (0, .ref (h 0))]) hx hb dX1_failing_7 rfl hl (by decide) rfl (fun ls hl => ?_)
  have lp : ∀ (nn : Nat) (i : Nat) (H : Heap) (locs : List Loc) (ls : Array Slot), 256 + 1 ≤ i + nn → (i ≤ 256) → IW D A s.heap (wM h d (nI n) gK gA gB gN gM T F E) H locs → lv_has ls 3 [(0, .ref (h 0)), (1, .int (nI (sumN (fun i => b1 (fl n G i)) i))), (2, .int (nI i))] → W p l e (rk 2) s m ar bl me c H locs 0 0 Q (F0 m 8 ls []) := by
    intro nn
    induction nn with
    | zero => intro i H locs ls hme hi; exact absurd hme (by omega)
    | succ nn ih =>
      intro i H locs ls hme hi I hl
      refine lv_iload_n hx hb dX1_failing_8 rfl (lv_at hl 2 rfl) ?_
      refine lv_sipush (v := nI 256) hx hb dX1_failing_9 (by decide) ?_
      refine n_ge (tgt := 38) hx hb dX1_failing_12 (by decide) (by omega) (by omega) (fun c_12 => ?_) (fun c_12 => ?_)
      · skip
        have hi2 : i = 256 := by omega
        refine lv_iload_n hx hb dX1_failing_38 rfl (lv_at hl 1 rfl) ?_
        exact hret (nI (sumN (fun i => b1 (fl n G i)) i)) _ _ _ _ _ rfl I (⟨by rw [hi2], ⟨_, _, _, _, _, _, _, _, _, hMI, rfl⟩⟩) dX1_failing_39
      · refine lv_aload_n hx hb dX1_failing_15 rfl (lv_at hl 0 rfl) ?_
        refine m_get C I rfl 7 (by decide) q223 rfl dX1_failing_16 ?_
        refine lv_iload_n hx hb dX1_failing_19 rfl (lv_at hl 2 rfl) ?_
        refine i_zld C I 7 rfl (by omega) dX1_failing_20 ?_
        refine lv_topi (fun z_1 ez_1 => ?_)
        obtain rfl : z_1 = bI (fl n G i) := ez_1.trans ((hKN i (by omega)).2.1)
        refine lv_if_eq (tgt := 30) hx hb dX1_failing_21 (by decide) (fun c_21 => ?_) (fun c_21 => ?_)
        · refine lv_iload_n hx hb dX1_failing_30 rfl (lv_at hl 1 rfl) ?_
          refine lv_topi (fun z_2 ez_2 => ?_)
          obtain rfl : z_2 = nI (sumN (fun i => b1 (fl n G i)) (i + 1)) := ez_2.trans (by show _ = nI (sumN (fun i => b1 (fl n G i)) i + b1 (fl n G i)); rw [show fl n G i = false from bI_0.mp c_21]; rfl)
          refine lv_istore_n (lv' := [(1, .int (nI (sumN (fun i => b1 (fl n G i)) (i + 1)))), (0, .ref (h 0)), (2, .int (nI i))]) hx hb dX1_failing_31 rfl hl (by decide) rfl (fun ls hl => ?_)
          refine lv_iinc (v := (nI (i + 1))) (lv' := [(2, .int (nI (i + 1))), (1, .int (nI (sumN (fun i => b1 (fl n G i)) (i + 1)))), (0, .ref (h 0))]) hx hb dX1_failing_32 hl (k := 2) rfl (n_inc _) (by decide) rfl (fun ls hl => ?_)
          refine lv_goto (tgt := 8) hx hb dX1_failing_35 (by decide) ?_
          exact ih (i + 1) _ _ _ (by omega) (by omega) I (lv_sub hl [2, 1, 0] rfl)
        · refine lv_iload_n hx hb dX1_failing_24 rfl (lv_at hl 1 rfl) ?_
          refine lv_iconst (v := nI 1) hx hb dX1_failing_25 (by decide) ?_
          refine n_add hx hb dX1_failing_26 ?_
          refine lv_goto (tgt := 31) hx hb dX1_failing_27 (by decide) ?_
          refine lv_topi (fun z_3 ez_3 => ?_)
          obtain rfl : z_3 = nI (sumN (fun i => b1 (fl n G i)) (i + 1)) := ez_3.trans (by show _ = nI (sumN (fun i => b1 (fl n G i)) i + b1 (fl n G i)); rw [show fl n G i = true from by cases hz : fl n G i; rw [hz] at c_21; exact absurd rfl c_21; rfl]; rfl)
          refine lv_istore_n (lv' := [(1, .int (nI (sumN (fun i => b1 (fl n G i)) (i + 1)))), (0, .ref (h 0)), (2, .int (nI i))]) hx hb dX1_failing_31 rfl hl (by decide) rfl (fun ls hl => ?_)
          refine lv_iinc (v := (nI (i + 1))) (lv' := [(2, .int (nI (i + 1))), (1, .int (nI (sumN (fun i => b1 (fl n G i)) (i + 1)))), (0, .ref (h 0))]) hx hb dX1_failing_32 hl (k := 2) rfl (n_inc _) (by decide) rfl (fun ls hl => ?_)
          refine lv_goto (tgt := 8) hx hb dX1_failing_35 (by decide) ?_
          exact ih (i + 1) _ _ _ (by omega) (by omega) I (lv_sub hl [2, 1, 0] rfl)
  exact lp 257 0 _ _ _ (by omega) (by omega) I (lv_sub hl [2, 1, 0] rfl)
set_option maxHeartbeats 4000000 in
set_option maxRecDepth 100000 in
/-- firstFailing(from) -/
theorem kM_firstFailing (l : Launch) (D : va_G) (d : Nat → ClassId) (h : Nat → Nat) (n : Nat) (G : Pg) (mk : Nat → Bool) (sz : Int32) (gK gA gB gN gM gT gF gE : Nat → Int32) (hM : MI n G mk sz gK gA gB gN gM) (x1 : Int32) : CT l yX1_firstFailing (ws_ yX1_firstFailing cX1_firstFailing 3 (some .int)) (rk 2) D d [.ref (h 0), .int x1] (wM h d sz gK gA gB gN gM gT gF gE) (fun r w' => Fnd (fun i => ¬ nI i < x1 ∧ fl n G i = true) r ∧ MW n G mk h d w') := by
  have hMI := hM
  obtain ⟨rfl, hG, hP, hMk⟩ := hM
  have hn12 := hG.1
  refine ct_in (cc := cX1_firstFailing) (nL := 3) (ty := .int) (by decide) rfl (Nat.le_of_ble_eq_true rfl) ?_
  intro p e s m ar bl me c A Q ls C I hl hret
  have hx := C.1.1
  have hb := C.1.2.1
  have hl : lv_has ls 3 [(0, .ref (h 0)), (1, .int x1)] := hl
  refine lv_aload_n hx hb dX1_firstFailing_0 rfl (lv_at hl 0 rfl) ?_
  refine cv_call (As := []) (rest := []) C I (kM_work l D d h n G mk (nI n) gK gA gB gN gM gT gF gE hMI) (cwV 0 C.1.2.2.2.2 (lw_V q268 q270 qs15 q22 q271) rfl rfl rfl (by decide +kernel) ⟨Nat.le_of_ble_eq_true rfl, Nat.le_of_ble_eq_true rfl⟩) rfl rfl rfl hl.1 rfl (Nat.le_of_ble_eq_true rfl) dX1_firstFailing_1 ⟨Nat.zero_le _, Nat.zero_le _⟩ (fun w' H locs hpo I => ?_)
  obtain ⟨T, F, E, hKN, rfl⟩ := hpo
  refine lv_iconst (v := nI 0) hx hb dX1_firstFailing_4 (by decide) ?_
  refine lv_istore_n (lv' := [(2, .int (nI 0)), (0, .ref (h 0)), (1, .int x1)]) hx hb dX1_firstFailing_5 rfl hl (by decide) rfl (fun ls hl => ?_)
  have lp : ∀ (nn : Nat) (i : Nat) (H : Heap) (locs : List Loc) (ls : Array Slot), 256 + 1 ≤ i + nn → (i ≤ 256) → (∀ k, k < i → ¬ (fun i => ¬ nI i < x1 ∧ fl n G i = true) k) → IW D A s.heap (wM h d (nI n) gK gA gB gN gM T F E) H locs → lv_has ls 3 [(0, .ref (h 0)), (1, .int x1), (2, .int (nI i))] → W p l e (rk 2) s m ar bl me c H locs 0 0 Q (F0 m 6 ls []) := by
    intro nn
    induction nn with
    | zero => intro i H locs ls hme hi hL; exact absurd hme (by omega)
    | succ nn ih =>
      intro i H locs ls hme hi hL I hl
      refine lv_iload_n hx hb dX1_firstFailing_6 rfl (lv_at hl 2 rfl) ?_
      refine lv_sipush (v := nI 256) hx hb dX1_firstFailing_7 (by decide) ?_
      refine n_ge (tgt := 35) hx hb dX1_firstFailing_10 (by decide) (by omega) (by omega) (fun c_10 => ?_) (fun c_10 => ?_)
      · refine lv_iconst (v := -1) hx hb dX1_firstFailing_35 (by decide) ?_
        exact hret (-1) _ _ _ _ _ rfl I (⟨Or.inr ⟨fun k hk => hL k (by omega), rfl⟩, ⟨_, _, _, _, _, _, _, _, _, hMI, rfl⟩⟩) dX1_firstFailing_36
      · refine lv_iload_n hx hb dX1_firstFailing_13 rfl (lv_at hl 2 rfl) ?_
        refine lv_iload_n hx hb dX1_firstFailing_14 rfl (lv_at hl 1 rfl) ?_
        refine lv_icmp_lt (tgt := 29) hx hb dX1_firstFailing_15 (by decide) (fun c_15 => ?_) (fun c_15 => ?_)
        · refine lv_iinc (v := (nI (i + 1))) (lv' := [(2, .int (nI (i + 1))), (0, .ref (h 0)), (1, .int x1)]) hx hb dX1_firstFailing_29 hl (k := 2) rfl (n_inc _) (by decide) rfl (fun ls hl => ?_)
          refine lv_goto (tgt := 6) hx hb dX1_firstFailing_32 (by decide) ?_
          exact ih (i + 1) _ _ _ (by omega) (by omega) (fun k hk => by rcases Nat.lt_or_eq_of_le (Nat.le_of_lt_succ hk) with q | q; exact hL k q; rw [q]; exact (fun q => q.1 c_15)) I (lv_sub hl [1, 2, 0] rfl)
        · refine lv_aload_n hx hb dX1_firstFailing_18 rfl (lv_at hl 0 rfl) ?_
          refine m_get C I rfl 7 (by decide) q223 rfl dX1_firstFailing_19 ?_
          refine lv_iload_n hx hb dX1_firstFailing_22 rfl (lv_at hl 2 rfl) ?_
          refine i_zld C I 7 rfl (by omega) dX1_firstFailing_23 ?_
          refine lv_topi (fun z_1 ez_1 => ?_)
          obtain rfl : z_1 = bI (fl n G i) := ez_1.trans ((hKN i (by omega)).2.1)
          refine lv_if_eq (tgt := 29) hx hb dX1_firstFailing_24 (by decide) (fun c_24 => ?_) (fun c_24 => ?_)
          · refine lv_iinc (v := (nI (i + 1))) (lv' := [(2, .int (nI (i + 1))), (0, .ref (h 0)), (1, .int x1)]) hx hb dX1_firstFailing_29 hl (k := 2) rfl (n_inc _) (by decide) rfl (fun ls hl => ?_)
            refine lv_goto (tgt := 6) hx hb dX1_firstFailing_32 (by decide) ?_
            exact ih (i + 1) _ _ _ (by omega) (by omega) (fun k hk => by rcases Nat.lt_or_eq_of_le (Nat.le_of_lt_succ hk) with q | q; exact hL k q; rw [q]; exact (fun q => absurd (q.2.symm.trans (bI_0.mp c_24)) (by decide))) I (lv_sub hl [1, 2, 0] rfl)
          · refine lv_iload_n hx hb dX1_firstFailing_27 rfl (lv_at hl 2 rfl) ?_
            exact hret (nI i) _ _ _ _ _ rfl I (⟨Or.inl ⟨i, by omega, ⟨c_15, by cases hz : fl n G i; rw [hz] at c_24; exact absurd rfl c_24; rfl⟩, hL, rfl⟩, ⟨_, _, _, _, _, _, _, _, _, hMI, rfl⟩⟩) dX1_firstFailing_28
  exact lp 257 0 _ _ _ (by omega) (by omega) (fun _ h => absurd h (by omega)) I (lv_sub hl [1, 2, 0] rfl)
end
section
set_option maxHeartbeats 4000000 in
set_option maxRecDepth 100000 in
/-- paths() -/
theorem kM_paths (l : Launch) (D : va_G) (d : Nat → ClassId) (h : Nat → Nat) (n : Nat) (G : Pg) (mk : Nat → Bool) (sz : Int32) (gK gA gB gN gM gT gF gE : Nat → Int32) (hM : MI n G mk sz gK gA gB gN gM)  : CT l yX1_paths (ws_ yX1_paths cX1_paths 3 (some .int)) (rk 2) D d [.ref (h 0)] (wM h d sz gK gA gB gN gM gT gF gE) (fun r w' => r = nI (sumN (fun i => b1 (isF n G i)) 256) ∧ MW n G mk h d w') := by
  have hMI := hM
  obtain ⟨rfl, hG, hP, hMk⟩ := hM
  have hn12 := hG.1
  refine ct_in (cc := cX1_paths) (nL := 3) (ty := .int) (by decide) rfl (Nat.le_of_ble_eq_true rfl) ?_
  intro p e s m ar bl me c A Q ls C I hl hret
  have hx := C.1.1
  have hb := C.1.2.1
  have hl : lv_has ls 3 [(0, .ref (h 0))] := hl
  refine lv_aload_n hx hb dX1_paths_0 rfl (lv_at hl 0 rfl) ?_
  refine cv_call (As := []) (rest := []) C I (kM_work l D d h n G mk (nI n) gK gA gB gN gM gT gF gE hMI) (cwV 0 C.1.2.2.2.2 (lw_V q268 q270 qs15 q22 q271) rfl rfl rfl (by decide +kernel) ⟨Nat.le_of_ble_eq_true rfl, Nat.le_of_ble_eq_true rfl⟩) rfl rfl rfl hl.1 rfl (Nat.le_of_ble_eq_true rfl) dX1_paths_1 ⟨Nat.zero_le _, Nat.zero_le _⟩ (fun w' H locs hpo I => ?_)
  obtain ⟨T, F, E, hKN, rfl⟩ := hpo
  refine lv_iconst (v := nI 0) hx hb dX1_paths_4 (by decide) ?_
  refine lv_istore_n (lv' := [(1, .int (nI 0)), (0, .ref (h 0))]) hx hb dX1_paths_5 rfl hl (by decide) rfl (fun ls hl => ?_)
  refine lv_iconst (v := nI 0) hx hb dX1_paths_6 (by decide) ?_
  refine lv_istore_n (lv' := [(2, .int (nI 0)), (1, .int (nI 0)), (0, .ref (h 0))]) hx hb dX1_paths_7 rfl hl (by decide) rfl (fun ls hl => ?_)
  have lp : ∀ (nn : Nat) (i : Nat) (H : Heap) (locs : List Loc) (ls : Array Slot), 256 + 1 ≤ i + nn → (i ≤ 256) → IW D A s.heap (wM h d (nI n) gK gA gB gN gM T F E) H locs → lv_has ls 3 [(0, .ref (h 0)), (1, .int (nI (sumN (fun i => b1 (isF n G i)) i))), (2, .int (nI i))] → W p l e (rk 2) s m ar bl me c H locs 0 0 Q (F0 m 8 ls []) := by
    intro nn
    induction nn with
    | zero => intro i H locs ls hme hi; exact absurd hme (by omega)
    | succ nn ih =>
      intro i H locs ls hme hi I hl
      refine lv_iload_n hx hb dX1_paths_8 rfl (lv_at hl 2 rfl) ?_
      refine lv_sipush (v := nI 256) hx hb dX1_paths_9 (by decide) ?_
      refine n_ge (tgt := 38) hx hb dX1_paths_12 (by decide) (by omega) (by omega) (fun c_12 => ?_) (fun c_12 => ?_)
      · skip
        have hi2 : i = 256 := by omega
        refine lv_iload_n hx hb dX1_paths_38 rfl (lv_at hl 1 rfl) ?_
        exact hret (nI (sumN (fun i => b1 (isF n G i)) i)) _ _ _ _ _ rfl I (⟨by rw [hi2], ⟨_, _, _, _, _, _, _, _, _, hMI, rfl⟩⟩) dX1_paths_39
      · refine lv_aload_n hx hb dX1_paths_15 rfl (lv_at hl 0 rfl) ?_
        refine lv_iload_n hx hb dX1_paths_16 rfl (lv_at hl 2 rfl) ?_
        refine ct_call (As := [.int (nI i)]) (rest := []) C I (kM_least l D d h (nI n) gK gA gB gN gM T F E (pt n G) (fun i hi => (hKN i hi).1) (fun _ => Nat.lt_trans (pt_lt hG _) (by decide)) i (by omega)) (cwV 1 C.1.2.2.2.2 (lw_V q296 q298 qs18 q22 q299) rfl rfl rfl (by decide +kernel) ⟨Nat.le_of_ble_eq_true rfl, Nat.le_of_ble_eq_true rfl⟩) rfl rfl rfl hl.1 rfl (Nat.le_of_ble_eq_true rfl) dX1_paths_17 ⟨Nat.zero_le _, Nat.zero_le _⟩ (fun r w' H locs hpo I => ?_)
        obtain ⟨hF1, rfl⟩ := hpo
        obtain ⟨i2, hi2a, hF2, hF3, rfl⟩ : ∃ i2, i2 ≤ i ∧ pt n G i2 = pt n G i ∧ (∀ k, k < i2 → ¬ pt n G k = pt n G i) ∧ r = nI i2 := fnd_like (by omega) hF1
        refine lv_iload_n hx hb dX1_paths_20 rfl (lv_at hl 2 rfl) ?_
        refine n_ne (tgt := 30) hx hb dX1_paths_21 (by decide) (by omega) (by omega) (fun c_21 => ?_) (fun c_21 => ?_)
        · refine lv_iload_n hx hb dX1_paths_30 rfl (lv_at hl 1 rfl) ?_
          refine lv_topi (fun z_1 ez_1 => ?_)
          obtain rfl : z_1 = nI (sumN (fun i => b1 (isF n G i)) (i + 1)) := ez_1.trans (by show _ = nI (sumN (fun i => b1 (isF n G i)) i + b1 (isF n G i)); rw [show (isF n G i) = false from decide_eq_false (fun q => q i2 (by omega) hF2)]; rfl)
          refine lv_istore_n (lv' := [(1, .int (nI (sumN (fun i => b1 (isF n G i)) (i + 1)))), (0, .ref (h 0)), (2, .int (nI i))]) hx hb dX1_paths_31 rfl hl (by decide) rfl (fun ls hl => ?_)
          refine lv_iinc (v := (nI (i + 1))) (lv' := [(2, .int (nI (i + 1))), (1, .int (nI (sumN (fun i => b1 (isF n G i)) (i + 1)))), (0, .ref (h 0))]) hx hb dX1_paths_32 hl (k := 2) rfl (n_inc _) (by decide) rfl (fun ls hl => ?_)
          refine lv_goto (tgt := 8) hx hb dX1_paths_35 (by decide) ?_
          exact ih (i + 1) _ _ _ (by omega) (by omega) I (lv_sub hl [2, 1, 0] rfl)
        · have hF3c : ∀ j, j < i2 → pt n G j ≠ pt n G i2 := fun j hj q => hF3 j hj (by rw [q, hF2])
          refine lv_iload_n hx hb dX1_paths_24 rfl (lv_at hl 1 rfl) ?_
          refine lv_iconst (v := nI 1) hx hb dX1_paths_25 (by decide) ?_
          refine n_add hx hb dX1_paths_26 ?_
          refine lv_goto (tgt := 31) hx hb dX1_paths_27 (by decide) ?_
          refine lv_topi (fun z_2 ez_2 => ?_)
          obtain rfl : z_2 = nI (sumN (fun i => b1 (isF n G i)) (i + 1)) := ez_2.trans (by show _ = nI (sumN (fun i => b1 (isF n G i)) i + b1 (isF n G i)); rw [show (isF n G i) = true from decide_eq_true (by rw [← c_21]; exact hF3c)]; rfl)
          refine lv_istore_n (lv' := [(1, .int (nI (sumN (fun i => b1 (isF n G i)) (i + 1)))), (0, .ref (h 0)), (2, .int (nI i))]) hx hb dX1_paths_31 rfl hl (by decide) rfl (fun ls hl => ?_)
          refine lv_iinc (v := (nI (i + 1))) (lv' := [(2, .int (nI (i + 1))), (1, .int (nI (sumN (fun i => b1 (isF n G i)) (i + 1)))), (0, .ref (h 0))]) hx hb dX1_paths_32 hl (k := 2) rfl (n_inc _) (by decide) rfl (fun ls hl => ?_)
          refine lv_goto (tgt := 8) hx hb dX1_paths_35 (by decide) ?_
          exact ih (i + 1) _ _ _ (by omega) (by omega) I (lv_sub hl [2, 1, 0] rfl)
  exact lp 257 0 _ _ _ (by omega) (by omega) I (lv_sub hl [2, 1, 0] rfl)
set_option maxHeartbeats 4000000 in
set_option maxRecDepth 100000 in
/-- alike(input) -/
theorem kM_alike (l : Launch) (D : va_G) (d : Nat → ClassId) (h : Nat → Nat) (n : Nat) (G : Pg) (mk : Nat → Bool) (sz : Int32) (gK gA gB gN gM gT gF gE : Nat → Int32) (hM : MI n G mk sz gK gA gB gN gM) (x1 : Int32) : CT l yX1_alike (ws_ yX1_alike cX1_alike 4 (some .int)) (rk 2) D d [.ref (h 0), .int x1] (wM h d sz gK gA gB gN gM gT gF gE) (fun r w' => (QR x1 256 (-1) (fun j r => r = nI (sumN (fun i => b1 (decide (pt n G i = pt n G j))) 256)) r) ∧ MW n G mk h d w') := by
  have hMI := hM
  obtain ⟨rfl, hG, hP, hMk⟩ := hM
  have hn12 := hG.1
  refine ct_in (cc := cX1_alike) (nL := 4) (ty := .int) (by decide) rfl (Nat.le_of_ble_eq_true rfl) ?_
  intro p e s m ar bl me c A Q ls C I hl hret
  have hx := C.1.1
  have hb := C.1.2.1
  have hl : lv_has ls 4 [(0, .ref (h 0)), (1, .int x1)] := hl
  cases hv : inR x1 256
  · refine lv_aload_n hx hb dX1_alike_0 rfl (lv_at hl 0 rfl) ?_
    refine cv_call (As := []) (rest := []) C I (kM_work l D d h n G mk (nI n) gK gA gB gN gM gT gF gE hMI) (cwV 0 C.1.2.2.2.2 (lw_V q268 q270 qs15 q22 q271) rfl rfl rfl (by decide +kernel) ⟨Nat.le_of_ble_eq_true rfl, Nat.le_of_ble_eq_true rfl⟩) rfl rfl rfl hl.1 rfl (Nat.le_of_ble_eq_true rfl) dX1_alike_1 ⟨Nat.zero_le _, Nat.zero_le _⟩ (fun w' H locs hpo I => ?_)
    obtain ⟨T, F, E, hKN, rfl⟩ := hpo
    refine lv_iconst (v := nI 0) hx hb dX1_alike_4 (by decide) ?_
    refine lv_istore_n (lv' := [(2, .int (nI 0)), (0, .ref (h 0)), (1, .int x1)]) hx hb dX1_alike_5 rfl hl (by decide) rfl (fun ls hl => ?_)
    refine lv_iconst (v := nI 0) hx hb dX1_alike_6 (by decide) ?_
    refine lv_istore_n (lv' := [(3, .int (nI 0)), (2, .int (nI 0)), (0, .ref (h 0)), (1, .int x1)]) hx hb dX1_alike_7 rfl hl (by decide) rfl (fun ls hl => ?_)
    refine lv_iload_n hx hb dX1_alike_8 rfl (lv_at hl 0 rfl) ?_
    refine lv_sipush (v := nI 256) hx hb dX1_alike_9 (by decide) ?_
    refine n_ge (tgt := 52) hx hb dX1_alike_12 (by decide) (by omega) (by omega) (fun c_12 => ?_) (fun c_12 => ?_)
    · skip
      exact absurd c_12 (by omega)
    · refine lv_aload_n hx hb dX1_alike_15 rfl (lv_at hl 2 rfl) ?_
      refine lv_iload_n hx hb dX1_alike_16 rfl (lv_at hl 3 rfl) ?_
      refine ct_call (As := [.int x1]) (rest := []) C I (kM_isInput l D d h (nI n) gK gA gB gN gM T F E x1) (cwV 1 C.1.2.2.2.2 (lw_V q304 q306 qs19 q22 q307) rfl rfl rfl (by decide +kernel) ⟨Nat.le_of_ble_eq_true rfl, Nat.le_of_ble_eq_true rfl⟩) rfl rfl rfl hl.1 rfl (Nat.le_of_ble_eq_true rfl) dX1_alike_17 ⟨Nat.zero_le _, Nat.zero_le _⟩ (fun r w' H locs hpo I => ?_)
      obtain ⟨rfl, rfl⟩ := hpo
      refine lv_topi (fun z_1 ez_1 => ?_)
      obtain rfl : z_1 = nI 0 := ez_1.trans (by rw [hv]; rfl)
      refine n_ifeq (tgt := 52) hx hb dX1_alike_20 (by decide) (by omega) (fun c_20 => ?_) (fun c_20 => ?_)
      · refine lv_aload_n hx hb dX1_alike_52 rfl (lv_at hl 2 rfl) ?_
        refine lv_iload_n hx hb dX1_alike_53 rfl (lv_at hl 3 rfl) ?_
        refine ct_call (As := [.int x1]) (rest := []) C I (kM_isInput l D d h (nI n) gK gA gB gN gM T F E x1) (cwV 1 C.1.2.2.2.2 (lw_V q304 q306 qs19 q22 q307) rfl rfl rfl (by decide +kernel) ⟨Nat.le_of_ble_eq_true rfl, Nat.le_of_ble_eq_true rfl⟩) rfl rfl rfl hl.1 rfl (Nat.le_of_ble_eq_true rfl) dX1_alike_54 ⟨Nat.zero_le _, Nat.zero_le _⟩ (fun r w' H locs hpo I => ?_)
        obtain ⟨rfl, rfl⟩ := hpo
        refine lv_topi (fun z_2 ez_2 => ?_)
        obtain rfl : z_2 = nI 0 := ez_2.trans (by rw [hv]; rfl)
        refine n_ifeq (tgt := 64) hx hb dX1_alike_57 (by decide) (by omega) (fun c_57 => ?_) (fun c_57 => ?_)
        · refine lv_iconst (v := -1) hx hb dX1_alike_64 (by decide) ?_
          exact hret (-1) _ _ _ _ _ rfl I (⟨QR.f (by omega) hv, ⟨_, _, _, _, _, _, _, _, _, hMI, rfl⟩⟩) dX1_alike_65
        · skip
          exact absurd c_57 (by simp)
      · skip
        exact absurd c_20 (by simp)
  · obtain ⟨j, hj, rfl⟩ := inR_t (n := 256) hv
    refine lv_aload_n hx hb dX1_alike_0 rfl (lv_at hl 0 rfl) ?_
    refine cv_call (As := []) (rest := []) C I (kM_work l D d h n G mk (nI n) gK gA gB gN gM gT gF gE hMI) (cwV 0 C.1.2.2.2.2 (lw_V q268 q270 qs15 q22 q271) rfl rfl rfl (by decide +kernel) ⟨Nat.le_of_ble_eq_true rfl, Nat.le_of_ble_eq_true rfl⟩) rfl rfl rfl hl.1 rfl (Nat.le_of_ble_eq_true rfl) dX1_alike_1 ⟨Nat.zero_le _, Nat.zero_le _⟩ (fun w' H locs hpo I => ?_)
    obtain ⟨T, F, E, hKN, rfl⟩ := hpo
    refine lv_iconst (v := nI 0) hx hb dX1_alike_4 (by decide) ?_
    refine lv_istore_n (lv' := [(2, .int (nI 0)), (0, .ref (h 0)), (1, .int (nI j))]) hx hb dX1_alike_5 rfl hl (by decide) rfl (fun ls hl => ?_)
    refine lv_iconst (v := nI 0) hx hb dX1_alike_6 (by decide) ?_
    refine lv_istore_n (lv' := [(3, .int (nI 0)), (2, .int (nI 0)), (0, .ref (h 0)), (1, .int (nI j))]) hx hb dX1_alike_7 rfl hl (by decide) rfl (fun ls hl => ?_)
    have lp : ∀ (nn : Nat) (i : Nat) (H : Heap) (locs : List Loc) (ls : Array Slot), 256 + 1 ≤ i + nn → (i ≤ 256) → IW D A s.heap (wM h d (nI n) gK gA gB gN gM T F E) H locs → lv_has ls 4 [(0, .ref (h 0)), (1, .int (nI j)), (2, .int (nI (sumN (fun i => b1 (decide (pt n G i = pt n G j))) i))), (3, .int (nI i))] → W p l e (rk 2) s m ar bl me c H locs 0 0 Q (F0 m 8 ls []) := by
      intro nn
      induction nn with
      | zero => intro i H locs ls hme hi; exact absurd hme (by omega)
      | succ nn ih =>
        intro i H locs ls hme hi I hl
        refine lv_iload_n hx hb dX1_alike_8 rfl (lv_at hl 3 rfl) ?_
        refine lv_sipush (v := nI 256) hx hb dX1_alike_9 (by decide) ?_
        refine n_ge (tgt := 52) hx hb dX1_alike_12 (by decide) (by omega) (by omega) (fun c_12 => ?_) (fun c_12 => ?_)
        · skip
          have hi2 : i = 256 := by omega
          refine lv_aload_n hx hb dX1_alike_52 rfl (lv_at hl 0 rfl) ?_
          refine lv_iload_n hx hb dX1_alike_53 rfl (lv_at hl 1 rfl) ?_
          refine ct_call (As := [.int (nI j)]) (rest := []) C I (kM_isInput l D d h (nI n) gK gA gB gN gM T F E (nI j)) (cwV 1 C.1.2.2.2.2 (lw_V q304 q306 qs19 q22 q307) rfl rfl rfl (by decide +kernel) ⟨Nat.le_of_ble_eq_true rfl, Nat.le_of_ble_eq_true rfl⟩) rfl rfl rfl hl.1 rfl (Nat.le_of_ble_eq_true rfl) dX1_alike_54 ⟨Nat.zero_le _, Nat.zero_le _⟩ (fun r w' H locs hpo I => ?_)
          obtain ⟨rfl, rfl⟩ := hpo
          refine lv_topi (fun z_3 ez_3 => ?_)
          obtain rfl : z_3 = nI 1 := ez_3.trans (by rw [hv]; rfl)
          refine n_ifeq (tgt := 64) hx hb dX1_alike_57 (by decide) (by omega) (fun c_57 => ?_) (fun c_57 => ?_)
          · skip
            exact absurd c_57 (by simp)
          · refine lv_iload_n hx hb dX1_alike_60 rfl (lv_at hl 2 rfl) ?_
            refine lv_goto (tgt := 65) hx hb dX1_alike_61 (by decide) ?_
            exact hret (nI (sumN (fun i => b1 (decide (pt n G i = pt n G j))) i)) _ _ _ _ _ rfl I (⟨QR.t hj (by omega) (by rw [hi2]), ⟨_, _, _, _, _, _, _, _, _, hMI, rfl⟩⟩) dX1_alike_65
        · refine lv_aload_n hx hb dX1_alike_15 rfl (lv_at hl 0 rfl) ?_
          refine lv_iload_n hx hb dX1_alike_16 rfl (lv_at hl 1 rfl) ?_
          refine ct_call (As := [.int (nI j)]) (rest := []) C I (kM_isInput l D d h (nI n) gK gA gB gN gM T F E (nI j)) (cwV 1 C.1.2.2.2.2 (lw_V q304 q306 qs19 q22 q307) rfl rfl rfl (by decide +kernel) ⟨Nat.le_of_ble_eq_true rfl, Nat.le_of_ble_eq_true rfl⟩) rfl rfl rfl hl.1 rfl (Nat.le_of_ble_eq_true rfl) dX1_alike_17 ⟨Nat.zero_le _, Nat.zero_le _⟩ (fun r w' H locs hpo I => ?_)
          obtain ⟨rfl, rfl⟩ := hpo
          refine lv_topi (fun z_4 ez_4 => ?_)
          obtain rfl : z_4 = nI 1 := ez_4.trans (by rw [hv]; rfl)
          refine n_ifeq (tgt := 52) hx hb dX1_alike_20 (by decide) (by omega) (fun c_20 => ?_) (fun c_20 => ?_)
          · skip
            exact absurd c_20 (by simp)
          · refine lv_aload_n hx hb dX1_alike_23 rfl (lv_at hl 0 rfl) ?_
            refine m_get C I rfl 6 (by decide) q222 rfl dX1_alike_24 ?_
            refine lv_iload_n hx hb dX1_alike_27 rfl (lv_at hl 3 rfl) ?_
            refine i_ild C I 6 rfl (by omega) dX1_alike_28 ?_
            refine lv_topi (fun z_5 ez_5 => ?_)
            obtain rfl : z_5 = nI (pt n G i) := ez_5.trans ((hKN i (by omega)).1)
            refine lv_aload_n hx hb dX1_alike_29 rfl (lv_at hl 0 rfl) ?_
            refine m_get C I rfl 6 (by decide) q222 rfl dX1_alike_30 ?_
            refine lv_iload_n hx hb dX1_alike_33 rfl (lv_at hl 1 rfl) ?_
            refine i_ild C I 6 rfl (by omega) dX1_alike_34 ?_
            refine lv_topi (fun z_6 ez_6 => ?_)
            obtain rfl : z_6 = nI (pt n G j) := ez_6.trans ((hKN j (by omega)).1)
            refine n_ne (tgt := 44) hx hb dX1_alike_35 (by decide) (Nat.lt_trans (pt_lt hG _) (by decide)) (Nat.lt_trans (pt_lt hG _) (by decide)) (fun c_35 => ?_) (fun c_35 => ?_)
            · refine lv_iload_n hx hb dX1_alike_44 rfl (lv_at hl 2 rfl) ?_
              refine lv_topi (fun z_7 ez_7 => ?_)
              obtain rfl : z_7 = nI (sumN (fun i => b1 (decide (pt n G i = pt n G j))) (i + 1)) := ez_7.trans (by show _ = nI (sumN (fun i => b1 (decide (pt n G i = pt n G j))) i + b1 (decide (pt n G i = pt n G j))); rw [show (decide (pt n G i = pt n G j)) = false from decide_eq_false c_35]; rfl)
              refine lv_istore_n (lv' := [(2, .int (nI (sumN (fun i => b1 (decide (pt n G i = pt n G j))) (i + 1)))), (0, .ref (h 0)), (1, .int (nI j)), (3, .int (nI i))]) hx hb dX1_alike_45 rfl hl (by decide) rfl (fun ls hl => ?_)
              refine lv_iinc (v := (nI (i + 1))) (lv' := [(3, .int (nI (i + 1))), (2, .int (nI (sumN (fun i => b1 (decide (pt n G i = pt n G j))) (i + 1)))), (0, .ref (h 0)), (1, .int (nI j))]) hx hb dX1_alike_46 hl (k := 3) rfl (n_inc _) (by decide) rfl (fun ls hl => ?_)
              refine lv_goto (tgt := 8) hx hb dX1_alike_49 (by decide) ?_
              exact ih (i + 1) _ _ _ (by omega) (by omega) I (lv_sub hl [2, 3, 1, 0] rfl)
            · refine lv_iload_n hx hb dX1_alike_38 rfl (lv_at hl 2 rfl) ?_
              refine lv_iconst (v := nI 1) hx hb dX1_alike_39 (by decide) ?_
              refine n_add hx hb dX1_alike_40 ?_
              refine lv_goto (tgt := 45) hx hb dX1_alike_41 (by decide) ?_
              refine lv_topi (fun z_8 ez_8 => ?_)
              obtain rfl : z_8 = nI (sumN (fun i => b1 (decide (pt n G i = pt n G j))) (i + 1)) := ez_8.trans (by show _ = nI (sumN (fun i => b1 (decide (pt n G i = pt n G j))) i + b1 (decide (pt n G i = pt n G j))); rw [show (decide (pt n G i = pt n G j)) = true from decide_eq_true c_35]; rfl)
              refine lv_istore_n (lv' := [(2, .int (nI (sumN (fun i => b1 (decide (pt n G i = pt n G j))) (i + 1)))), (0, .ref (h 0)), (1, .int (nI j)), (3, .int (nI i))]) hx hb dX1_alike_45 rfl hl (by decide) rfl (fun ls hl => ?_)
              refine lv_iinc (v := (nI (i + 1))) (lv' := [(3, .int (nI (i + 1))), (2, .int (nI (sumN (fun i => b1 (decide (pt n G i = pt n G j))) (i + 1)))), (0, .ref (h 0)), (1, .int (nI j))]) hx hb dX1_alike_46 hl (k := 3) rfl (n_inc _) (by decide) rfl (fun ls hl => ?_)
              refine lv_goto (tgt := 8) hx hb dX1_alike_49 (by decide) ?_
              exact ih (i + 1) _ _ _ (by omega) (by omega) I (lv_sub hl [2, 3, 1, 0] rfl)
    exact lp 257 0 _ _ _ (by omega) (by omega) I (lv_sub hl [2, 3, 1, 0] rfl)
set_option maxHeartbeats 4000000 in
set_option maxRecDepth 100000 in
/-- first(input) -/
theorem kM_first (l : Launch) (D : va_G) (d : Nat → ClassId) (h : Nat → Nat) (n : Nat) (G : Pg) (mk : Nat → Bool) (sz : Int32) (gK gA gB gN gM gT gF gE : Nat → Int32) (hM : MI n G mk sz gK gA gB gN gM) (x1 : Int32) : CT l yX1_first (ws_ yX1_first cX1_first 2 (some .int)) (rk 2) D d [.ref (h 0), .int x1] (wM h d sz gK gA gB gN gM gT gF gE) (fun r w' => (QR x1 256 (-1) (fun j r => Fnd (fun i => pt n G i = pt n G j) r) r) ∧ MW n G mk h d w') := by
  have hMI := hM
  obtain ⟨rfl, hG, hP, hMk⟩ := hM
  have hn12 := hG.1
  refine ct_in (cc := cX1_first) (nL := 2) (ty := .int) (by decide) rfl (Nat.le_of_ble_eq_true rfl) ?_
  intro p e s m ar bl me c A Q ls C I hl hret
  have hx := C.1.1
  have hb := C.1.2.1
  have hl : lv_has ls 2 [(0, .ref (h 0)), (1, .int x1)] := hl
  cases hv : inR x1 256
  · refine lv_aload_n hx hb dX1_first_0 rfl (lv_at hl 0 rfl) ?_
    refine cv_call (As := []) (rest := []) C I (kM_work l D d h n G mk (nI n) gK gA gB gN gM gT gF gE hMI) (cwV 0 C.1.2.2.2.2 (lw_V q268 q270 qs15 q22 q271) rfl rfl rfl (by decide +kernel) ⟨Nat.le_of_ble_eq_true rfl, Nat.le_of_ble_eq_true rfl⟩) rfl rfl rfl hl.1 rfl (Nat.le_of_ble_eq_true rfl) dX1_first_1 ⟨Nat.zero_le _, Nat.zero_le _⟩ (fun w' H locs hpo I => ?_)
    obtain ⟨T, F, E, hKN, rfl⟩ := hpo
    refine lv_aload_n hx hb dX1_first_4 rfl (lv_at hl 0 rfl) ?_
    refine lv_iload_n hx hb dX1_first_5 rfl (lv_at hl 1 rfl) ?_
    refine ct_call (As := [.int x1]) (rest := []) C I (kM_isInput l D d h (nI n) gK gA gB gN gM T F E x1) (cwV 1 C.1.2.2.2.2 (lw_V q304 q306 qs19 q22 q307) rfl rfl rfl (by decide +kernel) ⟨Nat.le_of_ble_eq_true rfl, Nat.le_of_ble_eq_true rfl⟩) rfl rfl rfl hl.1 rfl (Nat.le_of_ble_eq_true rfl) dX1_first_6 ⟨Nat.zero_le _, Nat.zero_le _⟩ (fun r w' H locs hpo I => ?_)
    obtain ⟨rfl, rfl⟩ := hpo
    refine lv_topi (fun z_1 ez_1 => ?_)
    obtain rfl : z_1 = nI 0 := ez_1.trans (by rw [hv]; rfl)
    refine n_ifeq (tgt := 20) hx hb dX1_first_9 (by decide) (by omega) (fun c_9 => ?_) (fun c_9 => ?_)
    · refine lv_iconst (v := -1) hx hb dX1_first_20 (by decide) ?_
      exact hret (-1) _ _ _ _ _ rfl I (⟨QR.f (by omega) hv, ⟨_, _, _, _, _, _, _, _, _, hMI, rfl⟩⟩) dX1_first_21
    · skip
      exact absurd c_9 (by simp)
  · obtain ⟨j, hj, rfl⟩ := inR_t (n := 256) hv
    refine lv_aload_n hx hb dX1_first_0 rfl (lv_at hl 0 rfl) ?_
    refine cv_call (As := []) (rest := []) C I (kM_work l D d h n G mk (nI n) gK gA gB gN gM gT gF gE hMI) (cwV 0 C.1.2.2.2.2 (lw_V q268 q270 qs15 q22 q271) rfl rfl rfl (by decide +kernel) ⟨Nat.le_of_ble_eq_true rfl, Nat.le_of_ble_eq_true rfl⟩) rfl rfl rfl hl.1 rfl (Nat.le_of_ble_eq_true rfl) dX1_first_1 ⟨Nat.zero_le _, Nat.zero_le _⟩ (fun w' H locs hpo I => ?_)
    obtain ⟨T, F, E, hKN, rfl⟩ := hpo
    refine lv_aload_n hx hb dX1_first_4 rfl (lv_at hl 0 rfl) ?_
    refine lv_iload_n hx hb dX1_first_5 rfl (lv_at hl 1 rfl) ?_
    refine ct_call (As := [.int (nI j)]) (rest := []) C I (kM_isInput l D d h (nI n) gK gA gB gN gM T F E (nI j)) (cwV 1 C.1.2.2.2.2 (lw_V q304 q306 qs19 q22 q307) rfl rfl rfl (by decide +kernel) ⟨Nat.le_of_ble_eq_true rfl, Nat.le_of_ble_eq_true rfl⟩) rfl rfl rfl hl.1 rfl (Nat.le_of_ble_eq_true rfl) dX1_first_6 ⟨Nat.zero_le _, Nat.zero_le _⟩ (fun r w' H locs hpo I => ?_)
    obtain ⟨rfl, rfl⟩ := hpo
    refine lv_topi (fun z_2 ez_2 => ?_)
    obtain rfl : z_2 = nI 1 := ez_2.trans (by rw [hv]; rfl)
    refine n_ifeq (tgt := 20) hx hb dX1_first_9 (by decide) (by omega) (fun c_9 => ?_) (fun c_9 => ?_)
    · skip
      exact absurd c_9 (by simp)
    · refine lv_aload_n hx hb dX1_first_12 rfl (lv_at hl 0 rfl) ?_
      refine lv_iload_n hx hb dX1_first_13 rfl (lv_at hl 1 rfl) ?_
      refine ct_call (As := [.int (nI j)]) (rest := []) C I (kM_least l D d h (nI n) gK gA gB gN gM T F E (pt n G) (fun i hi => (hKN i hi).1) (fun _ => Nat.lt_trans (pt_lt hG _) (by decide)) j hj) (cwV 1 C.1.2.2.2.2 (lw_V q296 q298 qs18 q22 q299) rfl rfl rfl (by decide +kernel) ⟨Nat.le_of_ble_eq_true rfl, Nat.le_of_ble_eq_true rfl⟩) rfl rfl rfl hl.1 rfl (Nat.le_of_ble_eq_true rfl) dX1_first_14 ⟨Nat.zero_le _, Nat.zero_le _⟩ (fun r w' H locs hpo I => ?_)
      obtain ⟨hF1, rfl⟩ := hpo
      refine lv_goto (tgt := 21) hx hb dX1_first_17 (by decide) ?_
      exact hret r _ _ _ _ _ rfl I (⟨QR.t hj (by omega) hF1, ⟨_, _, _, _, _, _, _, _, _, hMI, rfl⟩⟩) dX1_first_21
set_option maxHeartbeats 4000000 in
set_option maxRecDepth 100000 in
/-- mark(input) -/
theorem kM_mark (l : Launch) (D : va_G) (d : Nat → ClassId) (h : Nat → Nat) (n : Nat) (G : Pg) (mk : Nat → Bool) (sz : Int32) (gK gA gB gN gM gT gF gE : Nat → Int32) (hM : MI n G mk sz gK gA gB gN gM) (x1 : Int32) : CT l yX1_mark (ws_ yX1_mark cX1_mark 4 (some .int)) (rk 2) D d [.ref (h 0), .int x1] (wM h d sz gK gA gB gN gM gT gF gE) (fun r w' => (QR x1 256 (-1) (fun j r => r = nI (sumN (fun q => b1 (mkS n G mk j q)) 4096)) r) ∧ (inR x1 256 = false → MW n G mk h d w') ∧ ∀ j, j < 256 → x1 = nI j → MW n G (mkS n G mk j) h d w') := by
  have hMI := hM
  obtain ⟨rfl, hG, hP, hMk⟩ := hM
  have hn12 := hG.1
  refine ct_in (cc := cX1_mark) (nL := 4) (ty := .int) (by decide) rfl (Nat.le_of_ble_eq_true rfl) ?_
  intro p e s m ar bl me c A Q ls C I hl hret
  have hx := C.1.1
  have hb := C.1.2.1
  have hl : lv_has ls 4 [(0, .ref (h 0)), (1, .int x1)] := hl
  cases hv : inR x1 256
  · refine lv_aload_n hx hb dX1_mark_0 rfl (lv_at hl 0 rfl) ?_
    refine lv_iload_n hx hb dX1_mark_1 rfl (lv_at hl 1 rfl) ?_
    refine ct_call (As := [.int x1]) (rest := []) C I (kM_isInput l D d h (nI n) gK gA gB gN gM gT gF gE x1) (cwV 1 C.1.2.2.2.2 (lw_V q304 q306 qs19 q22 q307) rfl rfl rfl (by decide +kernel) ⟨Nat.le_of_ble_eq_true rfl, Nat.le_of_ble_eq_true rfl⟩) rfl rfl rfl hl.1 rfl (Nat.le_of_ble_eq_true rfl) dX1_mark_2 ⟨Nat.zero_le _, Nat.zero_le _⟩ (fun r w' H locs hpo I => ?_)
    obtain ⟨rfl, rfl⟩ := hpo
    refine lv_topi (fun z_1 ez_1 => ?_)
    obtain rfl : z_1 = nI 0 := ez_1.trans (by rw [hv]; rfl)
    refine n_ifne (tgt := 10) hx hb dX1_mark_5 (by decide) (by omega) (fun c_5 => ?_) (fun c_5 => ?_)
    · skip
      exact absurd c_5 (by simp)
    · refine lv_iconst (v := -1) hx hb dX1_mark_8 (by decide) ?_
      exact hret (-1) _ _ _ _ _ rfl I (⟨QR.f (by omega) hv, fun _ => ⟨_, _, _, _, _, _, _, _, _, hMI, rfl⟩, fun j hj e => (inR_no hv hj e).elim⟩) dX1_mark_9
  · obtain ⟨j, hj, rfl⟩ := inR_t (n := 256) hv
    refine lv_aload_n hx hb dX1_mark_0 rfl (lv_at hl 0 rfl) ?_
    refine lv_iload_n hx hb dX1_mark_1 rfl (lv_at hl 1 rfl) ?_
    refine ct_call (As := [.int (nI j)]) (rest := []) C I (kM_isInput l D d h (nI n) gK gA gB gN gM gT gF gE (nI j)) (cwV 1 C.1.2.2.2.2 (lw_V q304 q306 qs19 q22 q307) rfl rfl rfl (by decide +kernel) ⟨Nat.le_of_ble_eq_true rfl, Nat.le_of_ble_eq_true rfl⟩) rfl rfl rfl hl.1 rfl (Nat.le_of_ble_eq_true rfl) dX1_mark_2 ⟨Nat.zero_le _, Nat.zero_le _⟩ (fun r w' H locs hpo I => ?_)
    obtain ⟨rfl, rfl⟩ := hpo
    refine lv_topi (fun z_2 ez_2 => ?_)
    obtain rfl : z_2 = nI 1 := ez_2.trans (by rw [hv]; rfl)
    refine n_ifne (tgt := 10) hx hb dX1_mark_5 (by decide) (by omega) (fun c_5 => ?_) (fun c_5 => ?_)
    · refine lv_aload_n hx hb dX1_mark_10 rfl (lv_at hl 0 rfl) ?_
      refine cv_call (As := []) (rest := []) C I (kM_work l D d h n G mk (nI n) gK gA gB gN gM gT gF gE hMI) (cwV 0 C.1.2.2.2.2 (lw_V q268 q270 qs15 q22 q271) rfl rfl rfl (by decide +kernel) ⟨Nat.le_of_ble_eq_true rfl, Nat.le_of_ble_eq_true rfl⟩) rfl rfl rfl hl.1 rfl (Nat.le_of_ble_eq_true rfl) dX1_mark_11 ⟨Nat.zero_le _, Nat.zero_le _⟩ (fun w' H locs hpo I => ?_)
      obtain ⟨T, F, E, hKN, rfl⟩ := hpo
      refine lv_aload_n hx hb dX1_mark_14 rfl (lv_at hl 0 rfl) ?_
      refine m_get C I rfl 5 (by decide) q221 rfl dX1_mark_15 ?_
      refine lv_aload_n hx hb dX1_mark_18 rfl (lv_at hl 0 rfl) ?_
      refine m_get C I rfl 6 (by decide) q222 rfl dX1_mark_19 ?_
      refine lv_iload_n hx hb dX1_mark_22 rfl (lv_at hl 1 rfl) ?_
      refine i_ild C I 6 rfl (by omega) dX1_mark_23 ?_
      refine lv_topi (fun z_3 ez_3 => ?_)
      obtain rfl : z_3 = nI (pt n G j) := ez_3.trans ((hKN j hj).1)
      refine lv_iconst (v := nI 1) hx hb dX1_mark_24 (by decide) ?_
      refine i_zst (ws' := wM h d (nI n) gK gA gB gN (upd gM (pt n G j) (nI 1)) T F E) (v := (nI 1)) C I 5 rfl (pt_lt hG j) (rfl) rfl dX1_mark_25 (fun H locs I => ?_)
      have hMk2 : ∀ q, q < 4096 → upd gM (pt n G j) (nI 1) q = bI (mkS n G mk j q) := mk_upd hMk
      obtain ⟨gM2, egM2⟩ : ∃ z, z = upd gM (pt n G j) (nI 1) := ⟨_, rfl⟩
      rw [← egM2] at hMk2 I
      refine lv_iconst (v := nI 0) hx hb dX1_mark_26 (by decide) ?_
      refine lv_istore_n (lv' := [(2, .int (nI 0)), (0, .ref (h 0)), (1, .int (nI j))]) hx hb dX1_mark_27 rfl hl (by decide) rfl (fun ls hl => ?_)
      refine lv_iconst (v := nI 0) hx hb dX1_mark_28 (by decide) ?_
      refine lv_istore_n (lv' := [(3, .int (nI 0)), (2, .int (nI 0)), (0, .ref (h 0)), (1, .int (nI j))]) hx hb dX1_mark_29 rfl hl (by decide) rfl (fun ls hl => ?_)
      have lp : ∀ (nn : Nat) (i : Nat) (H : Heap) (locs : List Loc) (ls : Array Slot), 4096 + 1 ≤ i + nn → (i ≤ 4096) → IW D A s.heap (wM h d (nI n) gK gA gB gN gM2 T F E) H locs → lv_has ls 4 [(0, .ref (h 0)), (1, .int (nI j)), (2, .int (nI (sumN (fun q => b1 (mkS n G mk j q)) i))), (3, .int (nI i))] → W p l e (rk 2) s m ar bl me c H locs 0 0 Q (F0 m 30 ls []) := by
        intro nn
        induction nn with
        | zero => intro i H locs ls hme hi; exact absurd hme (by omega)
        | succ nn ih =>
          intro i H locs ls hme hi I hl
          refine lv_iload_n hx hb dX1_mark_30 rfl (lv_at hl 3 rfl) ?_
          refine lv_sipush (v := nI 4096) hx hb dX1_mark_31 (by decide) ?_
          refine n_ge (tgt := 60) hx hb dX1_mark_34 (by decide) (by omega) (by omega) (fun c_34 => ?_) (fun c_34 => ?_)
          · skip
            have hi2 : i = 4096 := by omega
            refine lv_iload_n hx hb dX1_mark_60 rfl (lv_at hl 2 rfl) ?_
            exact hret (nI (sumN (fun q => b1 (mkS n G mk j q)) i)) _ _ _ _ _ rfl I (⟨QR.t hj (by omega) (by rw [hi2]), fun q => by (rw [hv] at q; cases q), fun j' hj' e => by (obtain rfl := (nI_eq (by omega) (by omega)).mp e; exact ⟨_, _, _, _, _, _, _, _, _, ⟨rfl, hG, hP, hMk2⟩, rfl⟩)⟩) dX1_mark_61
          · refine lv_aload_n hx hb dX1_mark_37 rfl (lv_at hl 0 rfl) ?_
            refine m_get C I rfl 5 (by decide) q221 rfl dX1_mark_38 ?_
            refine lv_iload_n hx hb dX1_mark_41 rfl (lv_at hl 3 rfl) ?_
            refine i_zld C I 5 rfl (by omega) dX1_mark_42 ?_
            refine lv_topi (fun z_4 ez_4 => ?_)
            obtain rfl : z_4 = bI (mkS n G mk j i) := ez_4.trans (hMk2 i (by omega))
            refine lv_if_eq (tgt := 52) hx hb dX1_mark_43 (by decide) (fun c_43 => ?_) (fun c_43 => ?_)
            · refine lv_iload_n hx hb dX1_mark_52 rfl (lv_at hl 2 rfl) ?_
              refine lv_topi (fun z_5 ez_5 => ?_)
              obtain rfl : z_5 = nI (sumN (fun q => b1 (mkS n G mk j q)) (i + 1)) := ez_5.trans (by show _ = nI (sumN (fun q => b1 (mkS n G mk j q)) i + b1 (mkS n G mk j i)); rw [show (mkS n G mk j i) = false from bI_0.mp c_43]; rfl)
              refine lv_istore_n (lv' := [(2, .int (nI (sumN (fun q => b1 (mkS n G mk j q)) (i + 1)))), (0, .ref (h 0)), (1, .int (nI j)), (3, .int (nI i))]) hx hb dX1_mark_53 rfl hl (by decide) rfl (fun ls hl => ?_)
              refine lv_iinc (v := (nI (i + 1))) (lv' := [(3, .int (nI (i + 1))), (2, .int (nI (sumN (fun q => b1 (mkS n G mk j q)) (i + 1)))), (0, .ref (h 0)), (1, .int (nI j))]) hx hb dX1_mark_54 hl (k := 3) rfl (n_inc _) (by decide) rfl (fun ls hl => ?_)
              refine lv_goto (tgt := 30) hx hb dX1_mark_57 (by decide) ?_
              exact ih (i + 1) _ _ _ (by omega) (by omega) I (lv_sub hl [2, 3, 1, 0] rfl)
            · refine lv_iload_n hx hb dX1_mark_46 rfl (lv_at hl 2 rfl) ?_
              refine lv_iconst (v := nI 1) hx hb dX1_mark_47 (by decide) ?_
              refine n_add hx hb dX1_mark_48 ?_
              refine lv_goto (tgt := 53) hx hb dX1_mark_49 (by decide) ?_
              refine lv_topi (fun z_6 ez_6 => ?_)
              obtain rfl : z_6 = nI (sumN (fun q => b1 (mkS n G mk j q)) (i + 1)) := ez_6.trans (by show _ = nI (sumN (fun q => b1 (mkS n G mk j q)) i + b1 (mkS n G mk j i)); rw [show (mkS n G mk j i) = true from by cases hz : mkS n G mk j i; rw [hz] at c_43; exact absurd rfl c_43; rfl]; rfl)
              refine lv_istore_n (lv' := [(2, .int (nI (sumN (fun q => b1 (mkS n G mk j q)) (i + 1)))), (0, .ref (h 0)), (1, .int (nI j)), (3, .int (nI i))]) hx hb dX1_mark_53 rfl hl (by decide) rfl (fun ls hl => ?_)
              refine lv_iinc (v := (nI (i + 1))) (lv' := [(3, .int (nI (i + 1))), (2, .int (nI (sumN (fun q => b1 (mkS n G mk j q)) (i + 1)))), (0, .ref (h 0)), (1, .int (nI j))]) hx hb dX1_mark_54 hl (k := 3) rfl (n_inc _) (by decide) rfl (fun ls hl => ?_)
              refine lv_goto (tgt := 30) hx hb dX1_mark_57 (by decide) ?_
              exact ih (i + 1) _ _ _ (by omega) (by omega) I (lv_sub hl [2, 3, 1, 0] rfl)
      exact lp 4097 0 _ _ _ (by omega) (by omega) I (lv_sub hl [2, 3, 1, 0] rfl)
    · skip
      exact absurd c_5 (by simp)
set_option maxHeartbeats 4000000 in
set_option maxRecDepth 100000 in
/-- unmarked() -/
theorem kM_unmarked (l : Launch) (D : va_G) (d : Nat → ClassId) (h : Nat → Nat) (n : Nat) (G : Pg) (mk : Nat → Bool) (sz : Int32) (gK gA gB gN gM gT gF gE : Nat → Int32) (hM : MI n G mk sz gK gA gB gN gM)  : CT l yX1_unmarked (ws_ yX1_unmarked cX1_unmarked 2 (some .int)) (rk 2) D d [.ref (h 0)] (wM h d sz gK gA gB gN gM gT gF gE) (fun r w' => Fnd (fun i => mk (pt n G i) = false) r ∧ MW n G mk h d w') := by
  have hMI := hM
  obtain ⟨rfl, hG, hP, hMk⟩ := hM
  have hn12 := hG.1
  refine ct_in (cc := cX1_unmarked) (nL := 2) (ty := .int) (by decide) rfl (Nat.le_of_ble_eq_true rfl) ?_
  intro p e s m ar bl me c A Q ls C I hl hret
  have hx := C.1.1
  have hb := C.1.2.1
  have hl : lv_has ls 2 [(0, .ref (h 0))] := hl
  refine lv_aload_n hx hb dX1_unmarked_0 rfl (lv_at hl 0 rfl) ?_
  refine cv_call (As := []) (rest := []) C I (kM_work l D d h n G mk (nI n) gK gA gB gN gM gT gF gE hMI) (cwV 0 C.1.2.2.2.2 (lw_V q268 q270 qs15 q22 q271) rfl rfl rfl (by decide +kernel) ⟨Nat.le_of_ble_eq_true rfl, Nat.le_of_ble_eq_true rfl⟩) rfl rfl rfl hl.1 rfl (Nat.le_of_ble_eq_true rfl) dX1_unmarked_1 ⟨Nat.zero_le _, Nat.zero_le _⟩ (fun w' H locs hpo I => ?_)
  obtain ⟨T, F, E, hKN, rfl⟩ := hpo
  refine lv_iconst (v := nI 0) hx hb dX1_unmarked_4 (by decide) ?_
  refine lv_istore_n (lv' := [(1, .int (nI 0)), (0, .ref (h 0))]) hx hb dX1_unmarked_5 rfl hl (by decide) rfl (fun ls hl => ?_)
  have lp : ∀ (nn : Nat) (i : Nat) (H : Heap) (locs : List Loc) (ls : Array Slot), 256 + 1 ≤ i + nn → (i ≤ 256) → (∀ k, k < i → ¬ (fun i => mk (pt n G i) = false) k) → IW D A s.heap (wM h d (nI n) gK gA gB gN gM T F E) H locs → lv_has ls 2 [(0, .ref (h 0)), (1, .int (nI i))] → W p l e (rk 2) s m ar bl me c H locs 0 0 Q (F0 m 6 ls []) := by
    intro nn
    induction nn with
    | zero => intro i H locs ls hme hi hL; exact absurd hme (by omega)
    | succ nn ih =>
      intro i H locs ls hme hi hL I hl
      refine lv_iload_n hx hb dX1_unmarked_6 rfl (lv_at hl 1 rfl) ?_
      refine lv_sipush (v := nI 256) hx hb dX1_unmarked_7 (by decide) ?_
      refine n_ge (tgt := 35) hx hb dX1_unmarked_10 (by decide) (by omega) (by omega) (fun c_10 => ?_) (fun c_10 => ?_)
      · refine lv_iconst (v := -1) hx hb dX1_unmarked_35 (by decide) ?_
        exact hret (-1) _ _ _ _ _ rfl I (⟨Or.inr ⟨fun k hk => hL k (by omega), rfl⟩, ⟨_, _, _, _, _, _, _, _, _, hMI, rfl⟩⟩) dX1_unmarked_36
      · refine lv_aload_n hx hb dX1_unmarked_13 rfl (lv_at hl 0 rfl) ?_
        refine m_get C I rfl 5 (by decide) q221 rfl dX1_unmarked_14 ?_
        refine lv_aload_n hx hb dX1_unmarked_17 rfl (lv_at hl 0 rfl) ?_
        refine m_get C I rfl 6 (by decide) q222 rfl dX1_unmarked_18 ?_
        refine lv_iload_n hx hb dX1_unmarked_21 rfl (lv_at hl 1 rfl) ?_
        refine i_ild C I 6 rfl (by omega) dX1_unmarked_22 ?_
        refine lv_topi (fun z_1 ez_1 => ?_)
        obtain rfl : z_1 = nI (pt n G i) := ez_1.trans ((hKN i (by omega)).1)
        refine i_zld C I 5 rfl (pt_lt hG i) dX1_unmarked_23 ?_
        refine lv_topi (fun z_2 ez_2 => ?_)
        obtain rfl : z_2 = bI (mk (pt n G i)) := ez_2.trans (hMk _ (pt_lt hG i))
        refine lv_if_ne (tgt := 29) hx hb dX1_unmarked_24 (by decide) (fun c_24 => ?_) (fun c_24 => ?_)
        · refine lv_iinc (v := (nI (i + 1))) (lv' := [(1, .int (nI (i + 1))), (0, .ref (h 0))]) hx hb dX1_unmarked_29 hl (k := 1) rfl (n_inc _) (by decide) rfl (fun ls hl => ?_)
          refine lv_goto (tgt := 6) hx hb dX1_unmarked_32 (by decide) ?_
          exact ih (i + 1) _ _ _ (by omega) (by omega) (fun k hk => by rcases Nat.lt_or_eq_of_le (Nat.le_of_lt_succ hk) with q | q; exact hL k q; rw [q]; exact (fun q => c_24 (bI_0.mpr q))) I (lv_sub hl [1, 0] rfl)
        · refine lv_iload_n hx hb dX1_unmarked_27 rfl (lv_at hl 1 rfl) ?_
          exact hret (nI i) _ _ _ _ _ rfl I (⟨Or.inl ⟨i, by omega, bI_0.mp c_24, hL, rfl⟩, ⟨_, _, _, _, _, _, _, _, _, hMI, rfl⟩⟩) dX1_unmarked_28
  exact lp 257 0 _ _ _ (by omega) (by omega) (fun _ h => absurd h (by omega)) I (lv_sub hl [1, 0] rfl)
set_option maxHeartbeats 4000000 in
set_option maxRecDepth 100000 in
/-- steps(input) -/
theorem kM_steps (l : Launch) (D : va_G) (d : Nat → ClassId) (h : Nat → Nat) (n : Nat) (G : Pg) (mk : Nat → Bool) (sz : Int32) (gK gA gB gN gM gT gF gE : Nat → Int32) (hM : MI n G mk sz gK gA gB gN gM) (x1 : Int32) : CT l yX1_steps (ws_ yX1_steps cX1_steps 4 (some .int)) (rk 2) D d [.ref (h 0), .int x1] (wM h d sz gK gA gB gN gM gT gF gE) (fun r w' => (QR x1 256 (-1) (fun j r => r = nI (sumN (fun p => pt n G j / 2 ^ p % 2) 12)) r) ∧ MW n G mk h d w') := by
  have hMI := hM
  obtain ⟨rfl, hG, hP, hMk⟩ := hM
  have hn12 := hG.1
  refine ct_in (cc := cX1_steps) (nL := 4) (ty := .int) (by decide) rfl (Nat.le_of_ble_eq_true rfl) ?_
  intro p e s m ar bl me c A Q ls C I hl hret
  have hx := C.1.1
  have hb := C.1.2.1
  have hl : lv_has ls 4 [(0, .ref (h 0)), (1, .int x1)] := hl
  cases hv : inR x1 256
  · refine lv_aload_n hx hb dX1_steps_0 rfl (lv_at hl 0 rfl) ?_
    refine cv_call (As := []) (rest := []) C I (kM_work l D d h n G mk (nI n) gK gA gB gN gM gT gF gE hMI) (cwV 0 C.1.2.2.2.2 (lw_V q268 q270 qs15 q22 q271) rfl rfl rfl (by decide +kernel) ⟨Nat.le_of_ble_eq_true rfl, Nat.le_of_ble_eq_true rfl⟩) rfl rfl rfl hl.1 rfl (Nat.le_of_ble_eq_true rfl) dX1_steps_1 ⟨Nat.zero_le _, Nat.zero_le _⟩ (fun w' H locs hpo I => ?_)
    obtain ⟨T, F, E, hKN, rfl⟩ := hpo
    refine lv_iconst (v := nI 0) hx hb dX1_steps_4 (by decide) ?_
    refine lv_istore_n (lv' := [(2, .int (nI 0)), (0, .ref (h 0)), (1, .int x1)]) hx hb dX1_steps_5 rfl hl (by decide) rfl (fun ls hl => ?_)
    refine lv_iconst (v := nI 0) hx hb dX1_steps_6 (by decide) ?_
    refine lv_istore_n (lv' := [(3, .int (nI 0)), (2, .int (nI 0)), (0, .ref (h 0)), (1, .int x1)]) hx hb dX1_steps_7 rfl hl (by decide) rfl (fun ls hl => ?_)
    refine lv_iload_n hx hb dX1_steps_8 rfl (lv_at hl 0 rfl) ?_
    refine lv_bipush (v := nI 12) hx hb dX1_steps_9 (by decide) ?_
    refine n_ge (tgt := 41) hx hb dX1_steps_11 (by decide) (by omega) (by omega) (fun c_11 => ?_) (fun c_11 => ?_)
    · skip
      exact absurd c_11 (by omega)
    · refine lv_aload_n hx hb dX1_steps_14 rfl (lv_at hl 2 rfl) ?_
      refine lv_iload_n hx hb dX1_steps_15 rfl (lv_at hl 3 rfl) ?_
      refine ct_call (As := [.int x1]) (rest := []) C I (kM_isInput l D d h (nI n) gK gA gB gN gM T F E x1) (cwV 1 C.1.2.2.2.2 (lw_V q304 q306 qs19 q22 q307) rfl rfl rfl (by decide +kernel) ⟨Nat.le_of_ble_eq_true rfl, Nat.le_of_ble_eq_true rfl⟩) rfl rfl rfl hl.1 rfl (Nat.le_of_ble_eq_true rfl) dX1_steps_16 ⟨Nat.zero_le _, Nat.zero_le _⟩ (fun r w' H locs hpo I => ?_)
      obtain ⟨rfl, rfl⟩ := hpo
      refine lv_topi (fun z_1 ez_1 => ?_)
      obtain rfl : z_1 = nI 0 := ez_1.trans (by rw [hv]; rfl)
      refine n_ifeq (tgt := 41) hx hb dX1_steps_19 (by decide) (by omega) (fun c_19 => ?_) (fun c_19 => ?_)
      · refine lv_aload_n hx hb dX1_steps_41 rfl (lv_at hl 2 rfl) ?_
        refine lv_iload_n hx hb dX1_steps_42 rfl (lv_at hl 3 rfl) ?_
        refine ct_call (As := [.int x1]) (rest := []) C I (kM_isInput l D d h (nI n) gK gA gB gN gM T F E x1) (cwV 1 C.1.2.2.2.2 (lw_V q304 q306 qs19 q22 q307) rfl rfl rfl (by decide +kernel) ⟨Nat.le_of_ble_eq_true rfl, Nat.le_of_ble_eq_true rfl⟩) rfl rfl rfl hl.1 rfl (Nat.le_of_ble_eq_true rfl) dX1_steps_43 ⟨Nat.zero_le _, Nat.zero_le _⟩ (fun r w' H locs hpo I => ?_)
        obtain ⟨rfl, rfl⟩ := hpo
        refine lv_topi (fun z_2 ez_2 => ?_)
        obtain rfl : z_2 = nI 0 := ez_2.trans (by rw [hv]; rfl)
        refine n_ifeq (tgt := 53) hx hb dX1_steps_46 (by decide) (by omega) (fun c_46 => ?_) (fun c_46 => ?_)
        · refine lv_iconst (v := -1) hx hb dX1_steps_53 (by decide) ?_
          exact hret (-1) _ _ _ _ _ rfl I (⟨QR.f (by omega) hv, ⟨_, _, _, _, _, _, _, _, _, hMI, rfl⟩⟩) dX1_steps_54
        · skip
          exact absurd c_46 (by simp)
      · skip
        exact absurd c_19 (by simp)
  · obtain ⟨j, hj, rfl⟩ := inR_t (n := 256) hv
    refine lv_aload_n hx hb dX1_steps_0 rfl (lv_at hl 0 rfl) ?_
    refine cv_call (As := []) (rest := []) C I (kM_work l D d h n G mk (nI n) gK gA gB gN gM gT gF gE hMI) (cwV 0 C.1.2.2.2.2 (lw_V q268 q270 qs15 q22 q271) rfl rfl rfl (by decide +kernel) ⟨Nat.le_of_ble_eq_true rfl, Nat.le_of_ble_eq_true rfl⟩) rfl rfl rfl hl.1 rfl (Nat.le_of_ble_eq_true rfl) dX1_steps_1 ⟨Nat.zero_le _, Nat.zero_le _⟩ (fun w' H locs hpo I => ?_)
    obtain ⟨T, F, E, hKN, rfl⟩ := hpo
    refine lv_iconst (v := nI 0) hx hb dX1_steps_4 (by decide) ?_
    refine lv_istore_n (lv' := [(2, .int (nI 0)), (0, .ref (h 0)), (1, .int (nI j))]) hx hb dX1_steps_5 rfl hl (by decide) rfl (fun ls hl => ?_)
    refine lv_iconst (v := nI 0) hx hb dX1_steps_6 (by decide) ?_
    refine lv_istore_n (lv' := [(3, .int (nI 0)), (2, .int (nI 0)), (0, .ref (h 0)), (1, .int (nI j))]) hx hb dX1_steps_7 rfl hl (by decide) rfl (fun ls hl => ?_)
    have lp : ∀ (nn : Nat) (i : Nat) (H : Heap) (locs : List Loc) (ls : Array Slot), 12 + 1 ≤ i + nn → (i ≤ 12) → IW D A s.heap (wM h d (nI n) gK gA gB gN gM T F E) H locs → lv_has ls 4 [(0, .ref (h 0)), (1, .int (nI j)), (2, .int (nI (sumN (fun p => pt n G j / 2 ^ p % 2) i))), (3, .int (nI i))] → W p l e (rk 2) s m ar bl me c H locs 0 0 Q (F0 m 8 ls []) := by
      intro nn
      induction nn with
      | zero => intro i H locs ls hme hi; exact absurd hme (by omega)
      | succ nn ih =>
        intro i H locs ls hme hi I hl
        refine lv_iload_n hx hb dX1_steps_8 rfl (lv_at hl 3 rfl) ?_
        refine lv_bipush (v := nI 12) hx hb dX1_steps_9 (by decide) ?_
        refine n_ge (tgt := 41) hx hb dX1_steps_11 (by decide) (by omega) (by omega) (fun c_11 => ?_) (fun c_11 => ?_)
        · skip
          have hi2 : i = 12 := by omega
          refine lv_aload_n hx hb dX1_steps_41 rfl (lv_at hl 0 rfl) ?_
          refine lv_iload_n hx hb dX1_steps_42 rfl (lv_at hl 1 rfl) ?_
          refine ct_call (As := [.int (nI j)]) (rest := []) C I (kM_isInput l D d h (nI n) gK gA gB gN gM T F E (nI j)) (cwV 1 C.1.2.2.2.2 (lw_V q304 q306 qs19 q22 q307) rfl rfl rfl (by decide +kernel) ⟨Nat.le_of_ble_eq_true rfl, Nat.le_of_ble_eq_true rfl⟩) rfl rfl rfl hl.1 rfl (Nat.le_of_ble_eq_true rfl) dX1_steps_43 ⟨Nat.zero_le _, Nat.zero_le _⟩ (fun r w' H locs hpo I => ?_)
          obtain ⟨rfl, rfl⟩ := hpo
          refine lv_topi (fun z_3 ez_3 => ?_)
          obtain rfl : z_3 = nI 1 := ez_3.trans (by rw [hv]; rfl)
          refine n_ifeq (tgt := 53) hx hb dX1_steps_46 (by decide) (by omega) (fun c_46 => ?_) (fun c_46 => ?_)
          · skip
            exact absurd c_46 (by simp)
          · refine lv_iload_n hx hb dX1_steps_49 rfl (lv_at hl 2 rfl) ?_
            refine lv_goto (tgt := 54) hx hb dX1_steps_50 (by decide) ?_
            exact hret (nI (sumN (fun p => pt n G j / 2 ^ p % 2) i)) _ _ _ _ _ rfl I (⟨QR.t hj (by omega) (by rw [hi2]), ⟨_, _, _, _, _, _, _, _, _, hMI, rfl⟩⟩) dX1_steps_54
        · refine lv_aload_n hx hb dX1_steps_14 rfl (lv_at hl 0 rfl) ?_
          refine lv_iload_n hx hb dX1_steps_15 rfl (lv_at hl 1 rfl) ?_
          refine ct_call (As := [.int (nI j)]) (rest := []) C I (kM_isInput l D d h (nI n) gK gA gB gN gM T F E (nI j)) (cwV 1 C.1.2.2.2.2 (lw_V q304 q306 qs19 q22 q307) rfl rfl rfl (by decide +kernel) ⟨Nat.le_of_ble_eq_true rfl, Nat.le_of_ble_eq_true rfl⟩) rfl rfl rfl hl.1 rfl (Nat.le_of_ble_eq_true rfl) dX1_steps_16 ⟨Nat.zero_le _, Nat.zero_le _⟩ (fun r w' H locs hpo I => ?_)
          obtain ⟨rfl, rfl⟩ := hpo
          refine lv_topi (fun z_4 ez_4 => ?_)
          obtain rfl : z_4 = nI 1 := ez_4.trans (by rw [hv]; rfl)
          refine n_ifeq (tgt := 41) hx hb dX1_steps_19 (by decide) (by omega) (fun c_19 => ?_) (fun c_19 => ?_)
          · skip
            exact absurd c_19 (by simp)
          · refine lv_iload_n hx hb dX1_steps_22 rfl (lv_at hl 2 rfl) ?_
            refine lv_aload_n hx hb dX1_steps_23 rfl (lv_at hl 0 rfl) ?_
            refine m_get C I rfl 6 (by decide) q222 rfl dX1_steps_24 ?_
            refine lv_iload_n hx hb dX1_steps_27 rfl (lv_at hl 1 rfl) ?_
            refine i_ild C I 6 rfl (by omega) dX1_steps_28 ?_
            refine lv_iload_n hx hb dX1_steps_29 rfl (lv_at hl 3 rfl) ?_
            refine lv_ishr hx hb dX1_steps_30 ?_
            refine lv_iconst (v := nI 1) hx hb dX1_steps_31 (by decide) ?_
            refine lv_iand hx hb dX1_steps_32 ?_
            refine lv_topi (fun z_5 ez_5 => ?_)
            obtain rfl : z_5 = nI (pt n G j / 2 ^ i % 2) := ez_5.trans (by rw [(hKN j hj).1]; exact n_bit (Nat.lt_trans (pt_lt hG j) (by decide)) (by omega))
            refine n_add hx hb dX1_steps_33 ?_
            refine lv_istore_n (lv' := [(2, .int (nI (sumN (fun p => pt n G j / 2 ^ p % 2) i + (pt n G j / 2 ^ i % 2)))), (0, .ref (h 0)), (1, .int (nI j)), (3, .int (nI i))]) hx hb dX1_steps_34 rfl hl (by decide) rfl (fun ls hl => ?_)
            refine lv_iinc (v := (nI (i + 1))) (lv' := [(3, .int (nI (i + 1))), (2, .int (nI (sumN (fun p => pt n G j / 2 ^ p % 2) i + (pt n G j / 2 ^ i % 2)))), (0, .ref (h 0)), (1, .int (nI j))]) hx hb dX1_steps_35 hl (k := 3) rfl (n_inc _) (by decide) rfl (fun ls hl => ?_)
            refine lv_goto (tgt := 8) hx hb dX1_steps_38 (by decide) ?_
            exact ih (i + 1) _ _ _ (by omega) (by omega) I (lv_sub hl [2, 3, 1, 0] rfl)
    exact lp 13 0 _ _ _ (by omega) (by omega) I (lv_sub hl [2, 3, 1, 0] rfl)
end
section
set_option maxHeartbeats 4000000 in
set_option maxRecDepth 100000 in
/-- ending(r, v) -/
theorem kM_ending (l : Launch) (D : va_G) (d : Nat → ClassId) (h : Nat → Nat) (n : Nat) (G : Pg) (mk : Nat → Bool) (sz : Int32) (gK gA gB gN gM gT gF gE : Nat → Int32) (hM : MI n G mk sz gK gA gB gN gM) (x1 x2 : Int32) : CT l yX1_ending (ws_ yX1_ending cX1_ending 5 (some .int)) (rk 2) D d [.ref (h 0), .int x1, .int x2] (wM h d sz gK gA gB gN gM gT gF gE) (fun r w' => (QR x1 4 0 (fun j r => r = nI (sumN (fun i => b1 (!fl n G i && decide (en n G i j = x2))) 256)) r) ∧ MW n G mk h d w') := by
  have hMI := hM
  obtain ⟨rfl, hG, hP, hMk⟩ := hM
  have hn12 := hG.1
  refine ct_in (cc := cX1_ending) (nL := 5) (ty := .int) (by decide) rfl (Nat.le_of_ble_eq_true rfl) ?_
  intro p e s m ar bl me c A Q ls C I hl hret
  have hx := C.1.1
  have hb := C.1.2.1
  have hl : lv_has ls 5 [(0, .ref (h 0)), (1, .int x1), (2, .int x2)] := hl
  cases hv : inR x1 4
  · refine lv_aload_n hx hb dX1_ending_0 rfl (lv_at hl 0 rfl) ?_
    refine cv_call (As := []) (rest := []) C I (kM_work l D d h n G mk (nI n) gK gA gB gN gM gT gF gE hMI) (cwV 0 C.1.2.2.2.2 (lw_V q268 q270 qs15 q22 q271) rfl rfl rfl (by decide +kernel) ⟨Nat.le_of_ble_eq_true rfl, Nat.le_of_ble_eq_true rfl⟩) rfl rfl rfl hl.1 rfl (Nat.le_of_ble_eq_true rfl) dX1_ending_1 ⟨Nat.zero_le _, Nat.zero_le _⟩ (fun w' H locs hpo I => ?_)
    obtain ⟨T, F, E, hKN, rfl⟩ := hpo
    refine lv_iconst (v := nI 0) hx hb dX1_ending_4 (by decide) ?_
    refine lv_istore_n (lv' := [(3, .int (nI 0)), (0, .ref (h 0)), (1, .int x1), (2, .int x2)]) hx hb dX1_ending_5 rfl hl (by decide) rfl (fun ls hl => ?_)
    refine lv_iconst (v := nI 0) hx hb dX1_ending_6 (by decide) ?_
    refine lv_istore (lv' := [(4, .int (nI 0)), (3, .int (nI 0)), (0, .ref (h 0)), (1, .int x1), (2, .int x2)]) hx hb dX1_ending_7 hl (by decide) rfl (fun ls hl => ?_)
    refine lv_iload hx hb dX1_ending_9 (lv_at hl 0 rfl) ?_
    refine lv_sipush (v := nI 256) hx hb dX1_ending_11 (by decide) ?_
    refine n_ge (tgt := 65) hx hb dX1_ending_14 (by decide) (by omega) (by omega) (fun c_14 => ?_) (fun c_14 => ?_)
    · skip
      exact absurd c_14 (by omega)
    · refine lv_iload_n hx hb dX1_ending_17 rfl (lv_at hl 3 rfl) ?_
      refine lv_if_lt (tgt := 65) hx hb dX1_ending_18 (by decide) (fun c_18 => ?_) (fun c_18 => ?_)
      · refine lv_iload_n hx hb dX1_ending_65 rfl (lv_at hl 1 rfl) ?_
        exact hret (nI 0) _ _ _ _ _ rfl I (⟨QR.f (by omega) hv, ⟨_, _, _, _, _, _, _, _, _, hMI, rfl⟩⟩) dX1_ending_66
      · refine lv_iload_n hx hb dX1_ending_21 rfl (lv_at hl 3 rfl) ?_
        refine lv_iconst (v := nI 3) hx hb dX1_ending_22 (by decide) ?_
        refine lv_icmp_gt (tgt := 65) hx hb dX1_ending_23 (by decide) (fun c_23 => ?_) (fun c_23 => ?_)
        · refine lv_iload_n hx hb dX1_ending_65 rfl (lv_at hl 1 rfl) ?_
          exact hret (nI 0) _ _ _ _ _ rfl I (⟨QR.f (by omega) hv, ⟨_, _, _, _, _, _, _, _, _, hMI, rfl⟩⟩) dX1_ending_66
        · skip
          exact absurd hv (by rw [inR, decide_eq_true (by simp only [Int32.lt_iff_toInt_lt, Int32.le_iff_toInt_le, ← Int32.toInt_inj, i_m20, i_m3, i_0, ti_0, ti_1, ti_2, ti_3, ti_4, ti_5, ti_6, ti_7, ti_12, ti_15, ti_16, ti_20, ti_255, ti_256] at c_18 c_23; omega)]; decide)
  · obtain ⟨j, hj, rfl⟩ := inR_t (n := 4) hv
    refine lv_aload_n hx hb dX1_ending_0 rfl (lv_at hl 0 rfl) ?_
    refine cv_call (As := []) (rest := []) C I (kM_work l D d h n G mk (nI n) gK gA gB gN gM gT gF gE hMI) (cwV 0 C.1.2.2.2.2 (lw_V q268 q270 qs15 q22 q271) rfl rfl rfl (by decide +kernel) ⟨Nat.le_of_ble_eq_true rfl, Nat.le_of_ble_eq_true rfl⟩) rfl rfl rfl hl.1 rfl (Nat.le_of_ble_eq_true rfl) dX1_ending_1 ⟨Nat.zero_le _, Nat.zero_le _⟩ (fun w' H locs hpo I => ?_)
    obtain ⟨T, F, E, hKN, rfl⟩ := hpo
    refine lv_iconst (v := nI 0) hx hb dX1_ending_4 (by decide) ?_
    refine lv_istore_n (lv' := [(3, .int (nI 0)), (0, .ref (h 0)), (1, .int (nI j)), (2, .int x2)]) hx hb dX1_ending_5 rfl hl (by decide) rfl (fun ls hl => ?_)
    refine lv_iconst (v := nI 0) hx hb dX1_ending_6 (by decide) ?_
    refine lv_istore (lv' := [(4, .int (nI 0)), (3, .int (nI 0)), (0, .ref (h 0)), (1, .int (nI j)), (2, .int x2)]) hx hb dX1_ending_7 hl (by decide) rfl (fun ls hl => ?_)
    have lp : ∀ (nn : Nat) (i : Nat) (H : Heap) (locs : List Loc) (ls : Array Slot), 256 + 1 ≤ i + nn → (i ≤ 256) → IW D A s.heap (wM h d (nI n) gK gA gB gN gM T F E) H locs → lv_has ls 5 [(0, .ref (h 0)), (1, .int (nI j)), (2, .int x2), (3, .int (nI (sumN (fun i => b1 (!fl n G i && decide (en n G i j = x2))) i))), (4, .int (nI i))] → W p l e (rk 2) s m ar bl me c H locs 0 0 Q (F0 m 9 ls []) := by
      intro nn
      induction nn with
      | zero => intro i H locs ls hme hi; exact absurd hme (by omega)
      | succ nn ih =>
        intro i H locs ls hme hi I hl
        refine lv_iload hx hb dX1_ending_9 (lv_at hl 4 rfl) ?_
        refine lv_sipush (v := nI 256) hx hb dX1_ending_11 (by decide) ?_
        refine n_ge (tgt := 65) hx hb dX1_ending_14 (by decide) (by omega) (by omega) (fun c_14 => ?_) (fun c_14 => ?_)
        · skip
          have hi2 : i = 256 := by omega
          refine lv_iload_n hx hb dX1_ending_65 rfl (lv_at hl 3 rfl) ?_
          exact hret (nI (sumN (fun i => b1 (!fl n G i && decide (en n G i j = x2))) i)) _ _ _ _ _ rfl I (⟨QR.t hj (by omega) (by rw [hi2]), ⟨_, _, _, _, _, _, _, _, _, hMI, rfl⟩⟩) dX1_ending_66
        · refine lv_iload_n hx hb dX1_ending_17 rfl (lv_at hl 1 rfl) ?_
          refine lv_if_lt (tgt := 65) hx hb dX1_ending_18 (by decide) (fun c_18 => ?_) (fun c_18 => ?_)
          · skip
            exact absurd c_18 (nI_pos (by omega))
          · refine lv_iload_n hx hb dX1_ending_21 rfl (lv_at hl 1 rfl) ?_
            refine lv_iconst (v := nI 3) hx hb dX1_ending_22 (by decide) ?_
            refine n_gt (tgt := 65) hx hb dX1_ending_23 (by decide) (by omega) (by omega) (fun c_23 => ?_) (fun c_23 => ?_)
            · skip
              exact absurd c_23 (by omega)
            · refine lv_aload_n hx hb dX1_ending_26 rfl (lv_at hl 0 rfl) ?_
              refine m_get C I rfl 7 (by decide) q223 rfl dX1_ending_27 ?_
              refine lv_iload hx hb dX1_ending_30 (lv_at hl 4 rfl) ?_
              refine i_zld C I 7 rfl (by omega) dX1_ending_32 ?_
              refine lv_topi (fun z_1 ez_1 => ?_)
              obtain rfl : z_1 = bI (fl n G i) := ez_1.trans ((hKN i (by omega)).2.1)
              refine lv_if_ne (tgt := 57) hx hb dX1_ending_33 (by decide) (fun c_33 => ?_) (fun c_33 => ?_)
              · refine lv_iload_n hx hb dX1_ending_57 rfl (lv_at hl 3 rfl) ?_
                refine lv_topi (fun z_2 ez_2 => ?_)
                obtain rfl : z_2 = nI (sumN (fun i => b1 (!fl n G i && decide (en n G i j = x2))) (i + 1)) := ez_2.trans (by show _ = nI (sumN (fun i => b1 (!fl n G i && decide (en n G i j = x2))) i + b1 (!fl n G i && decide (en n G i j = x2))); rw [show (!fl n G i && decide (en n G i j = x2)) = false from by first | (rw [decide_eq_false c_48, Bool.and_false]) | (rw [bI_n c_33]; rfl)]; rfl)
                refine lv_istore_n (lv' := [(3, .int (nI (sumN (fun i => b1 (!fl n G i && decide (en n G i j = x2))) (i + 1)))), (0, .ref (h 0)), (1, .int (nI j)), (2, .int x2), (4, .int (nI i))]) hx hb dX1_ending_58 rfl hl (by decide) rfl (fun ls hl => ?_)
                refine lv_iinc (v := (nI (i + 1))) (lv' := [(4, .int (nI (i + 1))), (3, .int (nI (sumN (fun i => b1 (!fl n G i && decide (en n G i j = x2))) (i + 1)))), (0, .ref (h 0)), (1, .int (nI j)), (2, .int x2)]) hx hb dX1_ending_59 hl (k := 4) rfl (n_inc _) (by decide) rfl (fun ls hl => ?_)
                refine lv_goto (tgt := 9) hx hb dX1_ending_62 (by decide) ?_
                exact ih (i + 1) _ _ _ (by omega) (by omega) I (lv_sub hl [2, 3, 4, 1, 0] rfl)
              · refine lv_aload_n hx hb dX1_ending_36 rfl (lv_at hl 0 rfl) ?_
                refine m_get C I rfl 8 (by decide) q224 rfl dX1_ending_37 ?_
                refine lv_iconst (v := nI 4) hx hb dX1_ending_40 (by decide) ?_
                refine lv_iload hx hb dX1_ending_41 (lv_at hl 4 rfl) ?_
                refine n_mul hx hb dX1_ending_43 ?_
                refine lv_iload_n hx hb dX1_ending_44 rfl (lv_at hl 1 rfl) ?_
                refine n_add hx hb dX1_ending_45 ?_
                refine i_ild C I 8 rfl (by omega) dX1_ending_46 ?_
                refine lv_topi (fun z_3 ez_3 => ?_)
                obtain rfl : z_3 = en n G i j := ez_3.trans ((hKN i (by omega)).2.2 j (by omega))
                refine lv_iload_n hx hb dX1_ending_47 rfl (lv_at hl 2 rfl) ?_
                refine lv_icmp_ne (tgt := 57) hx hb dX1_ending_48 (by decide) (fun c_48 => ?_) (fun c_48 => ?_)
                · refine lv_iload_n hx hb dX1_ending_57 rfl (lv_at hl 3 rfl) ?_
                  refine lv_topi (fun z_4 ez_4 => ?_)
                  obtain rfl : z_4 = nI (sumN (fun i => b1 (!fl n G i && decide (en n G i j = x2))) (i + 1)) := ez_4.trans (by show _ = nI (sumN (fun i => b1 (!fl n G i && decide (en n G i j = x2))) i + b1 (!fl n G i && decide (en n G i j = x2))); rw [show (!fl n G i && decide (en n G i j = x2)) = false from by first | (rw [decide_eq_false c_48, Bool.and_false]) | (rw [bI_n c_33]; rfl)]; rfl)
                  refine lv_istore_n (lv' := [(3, .int (nI (sumN (fun i => b1 (!fl n G i && decide (en n G i j = x2))) (i + 1)))), (0, .ref (h 0)), (1, .int (nI j)), (2, .int x2), (4, .int (nI i))]) hx hb dX1_ending_58 rfl hl (by decide) rfl (fun ls hl => ?_)
                  refine lv_iinc (v := (nI (i + 1))) (lv' := [(4, .int (nI (i + 1))), (3, .int (nI (sumN (fun i => b1 (!fl n G i && decide (en n G i j = x2))) (i + 1)))), (0, .ref (h 0)), (1, .int (nI j)), (2, .int x2)]) hx hb dX1_ending_59 hl (k := 4) rfl (n_inc _) (by decide) rfl (fun ls hl => ?_)
                  refine lv_goto (tgt := 9) hx hb dX1_ending_62 (by decide) ?_
                  exact ih (i + 1) _ _ _ (by omega) (by omega) I (lv_sub hl [2, 3, 4, 1, 0] rfl)
                · refine lv_iload_n hx hb dX1_ending_51 rfl (lv_at hl 3 rfl) ?_
                  refine lv_iconst (v := nI 1) hx hb dX1_ending_52 (by decide) ?_
                  refine n_add hx hb dX1_ending_53 ?_
                  refine lv_goto (tgt := 58) hx hb dX1_ending_54 (by decide) ?_
                  refine lv_topi (fun z_5 ez_5 => ?_)
                  obtain rfl : z_5 = nI (sumN (fun i => b1 (!fl n G i && decide (en n G i j = x2))) (i + 1)) := ez_5.trans (by show _ = nI (sumN (fun i => b1 (!fl n G i && decide (en n G i j = x2))) i + b1 (!fl n G i && decide (en n G i j = x2))); rw [show (!fl n G i && decide (en n G i j = x2)) = true from by rw [bI_0.mp c_33, decide_eq_true c_48]; rfl]; rfl)
                  refine lv_istore_n (lv' := [(3, .int (nI (sumN (fun i => b1 (!fl n G i && decide (en n G i j = x2))) (i + 1)))), (0, .ref (h 0)), (1, .int (nI j)), (2, .int x2), (4, .int (nI i))]) hx hb dX1_ending_58 rfl hl (by decide) rfl (fun ls hl => ?_)
                  refine lv_iinc (v := (nI (i + 1))) (lv' := [(4, .int (nI (i + 1))), (3, .int (nI (sumN (fun i => b1 (!fl n G i && decide (en n G i j = x2))) (i + 1)))), (0, .ref (h 0)), (1, .int (nI j)), (2, .int x2)]) hx hb dX1_ending_59 hl (k := 4) rfl (n_inc _) (by decide) rfl (fun ls hl => ?_)
                  refine lv_goto (tgt := 9) hx hb dX1_ending_62 (by decide) ?_
                  exact ih (i + 1) _ _ _ (by omega) (by omega) I (lv_sub hl [2, 3, 4, 1, 0] rfl)
    exact lp 257 0 _ _ _ (by omega) (by omega) I (lv_sub hl [2, 3, 4, 1, 0] rfl)
set_option maxHeartbeats 4000000 in
set_option maxRecDepth 100000 in
/-- extreme(r, what) -/
theorem kM_extreme (l : Launch) (D : va_G) (d : Nat → ClassId) (h : Nat → Nat) (n : Nat) (G : Pg) (mk : Nat → Bool) (sz : Int32) (gK gA gB gN gM gT gF gE : Nat → Int32) (hM : MI n G mk sz gK gA gB gN gM) (x1 x2 : Int32) : CT l yX1_extreme (ws_ yX1_extreme cX1_extreme 8 (some .int)) (rk 2) D d [.ref (h 0), .int x1, .int x2] (wM h d sz gK gA gB gN gM gT gF gE) (fun r w' => (if x2 = 0 ∨ x2 = 1 then QR x1 4 (-1000000000) (fun j r => r = (exS n G j x2 256).getD (-1000000000)) r else r = -1000000000) ∧ MW n G mk h d w') := by
  have hMI := hM
  obtain ⟨rfl, hG, hP, hMk⟩ := hM
  have hn12 := hG.1
  refine ct_in (cc := cX1_extreme) (nL := 8) (ty := .int) (by decide) rfl (Nat.le_of_ble_eq_true rfl) ?_
  intro p e s m ar bl me c A Q ls C I hl hret
  have hx := C.1.1
  have hb := C.1.2.1
  have hl : lv_has ls 8 [(0, .ref (h 0)), (1, .int x1), (2, .int x2)] := hl
  by_cases hw : x2 = 0 ∨ x2 = 1
  · cases hv : inR x1 4
    · refine lv_aload_n hx hb dX1_extreme_0 rfl (lv_at hl 0 rfl) ?_
      refine cv_call (As := []) (rest := []) C I (kM_work l D d h n G mk (nI n) gK gA gB gN gM gT gF gE hMI) (cwV 0 C.1.2.2.2.2 (lw_V q268 q270 qs15 q22 q271) rfl rfl rfl (by decide +kernel) ⟨Nat.le_of_ble_eq_true rfl, Nat.le_of_ble_eq_true rfl⟩) rfl rfl rfl hl.1 rfl (Nat.le_of_ble_eq_true rfl) dX1_extreme_1 ⟨Nat.zero_le _, Nat.zero_le _⟩ (fun w' H locs hpo I => ?_)
      obtain ⟨T, F, E, hKN, rfl⟩ := hpo
      refine lv_ldc (v := -1000000000) hx hb C.1.2.2.2.1 (C.1.2.2.2.2 _ q324) dX1_extreme_4 ?_
      refine lv_istore_n (lv' := [(3, .int (-1000000000)), (0, .ref (h 0)), (1, .int x1), (2, .int x2)]) hx hb dX1_extreme_6 rfl hl (by decide) rfl (fun ls hl => ?_)
      refine lv_iconst (v := nI 0) hx hb dX1_extreme_7 (by decide) ?_
      refine lv_istore (lv' := [(4, .int (nI 0)), (3, .int (-1000000000)), (0, .ref (h 0)), (1, .int x1), (2, .int x2)]) hx hb dX1_extreme_8 hl (by decide) rfl (fun ls hl => ?_)
      refine lv_iconst (v := nI 0) hx hb dX1_extreme_10 (by decide) ?_
      refine lv_istore (lv' := [(5, .int (nI 0)), (4, .int (nI 0)), (3, .int (-1000000000)), (0, .ref (h 0)), (1, .int x1), (2, .int x2)]) hx hb dX1_extreme_11 hl (by decide) rfl (fun ls hl => ?_)
      refine lv_iload hx hb dX1_extreme_13 (lv_at hl 0 rfl) ?_
      refine lv_sipush (v := nI 256) hx hb dX1_extreme_15 (by decide) ?_
      refine n_ge (tgt := 133) hx hb dX1_extreme_18 (by decide) (by omega) (by omega) (fun c_18 => ?_) (fun c_18 => ?_)
      · skip
        exact absurd c_18 (by omega)
      · refine lv_iload_n hx hb dX1_extreme_21 rfl (lv_at hl 4 rfl) ?_
        refine lv_if_lt (tgt := 133) hx hb dX1_extreme_22 (by decide) (fun c_22 => ?_) (fun c_22 => ?_)
        · refine lv_iload_n hx hb dX1_extreme_133 rfl (lv_at hl 2 rfl) ?_
          exact hret (-1000000000) _ _ _ _ _ rfl I (⟨by rw [if_pos hw]; exact QR.f (by omega) hv, ⟨_, _, _, _, _, _, _, _, _, hMI, rfl⟩⟩) dX1_extreme_134
        · refine lv_iload_n hx hb dX1_extreme_25 rfl (lv_at hl 4 rfl) ?_
          refine lv_iconst (v := nI 3) hx hb dX1_extreme_26 (by decide) ?_
          refine lv_icmp_gt (tgt := 133) hx hb dX1_extreme_27 (by decide) (fun c_27 => ?_) (fun c_27 => ?_)
          · refine lv_iload_n hx hb dX1_extreme_133 rfl (lv_at hl 2 rfl) ?_
            exact hret (-1000000000) _ _ _ _ _ rfl I (⟨by rw [if_pos hw]; exact QR.f (by omega) hv, ⟨_, _, _, _, _, _, _, _, _, hMI, rfl⟩⟩) dX1_extreme_134
          · skip
            exact absurd hv (by rw [inR, decide_eq_true (by simp only [Int32.lt_iff_toInt_lt, Int32.le_iff_toInt_le, ← Int32.toInt_inj, i_m20, i_m3, i_0, ti_0, ti_1, ti_2, ti_3, ti_4, ti_5, ti_6, ti_7, ti_12, ti_15, ti_16, ti_20, ti_255, ti_256] at c_22 c_27; omega)]; decide)
    · obtain ⟨j, hj, rfl⟩ := inR_t (n := 4) hv
      refine lv_aload_n hx hb dX1_extreme_0 rfl (lv_at hl 0 rfl) ?_
      refine cv_call (As := []) (rest := []) C I (kM_work l D d h n G mk (nI n) gK gA gB gN gM gT gF gE hMI) (cwV 0 C.1.2.2.2.2 (lw_V q268 q270 qs15 q22 q271) rfl rfl rfl (by decide +kernel) ⟨Nat.le_of_ble_eq_true rfl, Nat.le_of_ble_eq_true rfl⟩) rfl rfl rfl hl.1 rfl (Nat.le_of_ble_eq_true rfl) dX1_extreme_1 ⟨Nat.zero_le _, Nat.zero_le _⟩ (fun w' H locs hpo I => ?_)
      obtain ⟨T, F, E, hKN, rfl⟩ := hpo
      refine lv_ldc (v := -1000000000) hx hb C.1.2.2.2.1 (C.1.2.2.2.2 _ q324) dX1_extreme_4 ?_
      refine lv_istore_n (lv' := [(3, .int (-1000000000)), (0, .ref (h 0)), (1, .int (nI j)), (2, .int x2)]) hx hb dX1_extreme_6 rfl hl (by decide) rfl (fun ls hl => ?_)
      refine lv_iconst (v := nI 0) hx hb dX1_extreme_7 (by decide) ?_
      refine lv_istore (lv' := [(4, .int (nI 0)), (3, .int (-1000000000)), (0, .ref (h 0)), (1, .int (nI j)), (2, .int x2)]) hx hb dX1_extreme_8 hl (by decide) rfl (fun ls hl => ?_)
      refine lv_iconst (v := nI 0) hx hb dX1_extreme_10 (by decide) ?_
      refine lv_istore (lv' := [(5, .int (nI 0)), (4, .int (nI 0)), (3, .int (-1000000000)), (0, .ref (h 0)), (1, .int (nI j)), (2, .int x2)]) hx hb dX1_extreme_11 hl (by decide) rfl (fun ls hl => ?_)
      have lp : ∀ (nn : Nat) (i : Nat) (H : Heap) (locs : List Loc) (ls : Array Slot), 256 + 1 ≤ i + nn → (i ≤ 256) → IW D A s.heap (wM h d (nI n) gK gA gB gN gM T F E) H locs → lv_has ls 8 [(0, .ref (h 0)), (1, .int (nI j)), (2, .int x2), (3, .int ((exS n G j x2 i).getD (-1000000000))), (4, .int (bI (exS n G j x2 i).isSome)), (5, .int (nI i))] → W p l e (rk 2) s m ar bl me c H locs 0 0 Q (F0 m 13 ls []) := by
        intro nn
        induction nn with
        | zero => intro i H locs ls hme hi; exact absurd hme (by omega)
        | succ nn ih =>
          intro i H locs ls hme hi I hl
          refine lv_iload hx hb dX1_extreme_13 (lv_at hl 5 rfl) ?_
          refine lv_sipush (v := nI 256) hx hb dX1_extreme_15 (by decide) ?_
          refine n_ge (tgt := 133) hx hb dX1_extreme_18 (by decide) (by omega) (by omega) (fun c_18 => ?_) (fun c_18 => ?_)
          · skip
            have hi2 : i = 256 := by omega
            refine lv_iload_n hx hb dX1_extreme_133 rfl (lv_at hl 3 rfl) ?_
            exact hret ((exS n G j x2 i).getD (-1000000000)) _ _ _ _ _ rfl I (⟨by rw [if_pos hw]; exact QR.t hj (by omega) (by rw [hi2]), ⟨_, _, _, _, _, _, _, _, _, hMI, rfl⟩⟩) dX1_extreme_134
          · refine lv_iload_n hx hb dX1_extreme_21 rfl (lv_at hl 1 rfl) ?_
            refine lv_if_lt (tgt := 133) hx hb dX1_extreme_22 (by decide) (fun c_22 => ?_) (fun c_22 => ?_)
            · skip
              exact absurd c_22 (nI_pos (by omega))
            · refine lv_iload_n hx hb dX1_extreme_25 rfl (lv_at hl 1 rfl) ?_
              refine lv_iconst (v := nI 3) hx hb dX1_extreme_26 (by decide) ?_
              refine n_gt (tgt := 133) hx hb dX1_extreme_27 (by decide) (by omega) (by omega) (fun c_27 => ?_) (fun c_27 => ?_)
              · skip
                exact absurd c_27 (by omega)
              · refine lv_iload_n hx hb dX1_extreme_30 rfl (lv_at hl 2 rfl) ?_
                refine lv_if_eq (tgt := 39) hx hb dX1_extreme_31 (by decide) (fun c_31 => ?_) (fun c_31 => ?_)
                · refine lv_aload_n hx hb dX1_extreme_39 rfl (lv_at hl 0 rfl) ?_
                  refine m_get C I rfl 8 (by decide) q224 rfl dX1_extreme_40 ?_
                  refine lv_iconst (v := nI 4) hx hb dX1_extreme_43 (by decide) ?_
                  refine lv_iload hx hb dX1_extreme_44 (lv_at hl 5 rfl) ?_
                  refine n_mul hx hb dX1_extreme_46 ?_
                  refine lv_iload_n hx hb dX1_extreme_47 rfl (lv_at hl 1 rfl) ?_
                  refine n_add hx hb dX1_extreme_48 ?_
                  refine i_ild C I 8 rfl (by omega) dX1_extreme_49 ?_
                  refine lv_topi (fun z_1 ez_1 => ?_)
                  obtain rfl : z_1 = en n G i j := ez_1.trans ((hKN i (by omega)).2.2 j (by omega))
                  refine lv_istore (lv' := [(6, .int (en n G i j)), (0, .ref (h 0)), (1, .int (nI j)), (2, .int x2), (3, .int ((exS n G j x2 i).getD (-1000000000))), (4, .int (bI (exS n G j x2 i).isSome)), (5, .int (nI i))]) hx hb dX1_extreme_50 hl (by decide) rfl (fun ls hl => ?_)
                  refine w_join 91 ((bI (exB n G j x2 i))) [] (fun z ez => ?_) (fun hj => ?_)
                  · subst ez
                    refine lv_istore (lv' := [(7, .int (bI (exB n G j x2 i))), (6, .int (en n G i j)), (0, .ref (h 0)), (1, .int (nI j)), (2, .int x2), (3, .int ((exS n G j x2 i).getD (-1000000000))), (4, .int (bI (exS n G j x2 i).isSome)), (5, .int (nI i))]) hx hb dX1_extreme_91 hl (by decide) rfl (fun ls hl => ?_)
                    refine w_join 104 (((exS n G j x2 (i + 1)).getD (-1000000000))) [] (fun z ez => ?_) (fun hj => ?_)
                    · subst ez
                      refine lv_istore_n (lv' := [(3, .int ((exS n G j x2 (i + 1)).getD (-1000000000))), (7, .int (bI (exB n G j x2 i))), (6, .int (en n G i j)), (0, .ref (h 0)), (1, .int (nI j)), (2, .int x2), (4, .int (bI (exS n G j x2 i).isSome)), (5, .int (nI i))]) hx hb dX1_extreme_104 rfl hl (by decide) rfl (fun ls hl => ?_)
                      refine w_join 125 ((bI (exS n G j x2 (i + 1)).isSome)) [] (fun z ez => ?_) (fun hj => ?_)
                      · subst ez
                        refine lv_istore (lv' := [(4, .int (bI (exS n G j x2 (i + 1)).isSome)), (3, .int ((exS n G j x2 (i + 1)).getD (-1000000000))), (7, .int (bI (exB n G j x2 i))), (6, .int (en n G i j)), (0, .ref (h 0)), (1, .int (nI j)), (2, .int x2), (5, .int (nI i))]) hx hb dX1_extreme_125 hl (by decide) rfl (fun ls hl => ?_)
                        refine lv_iinc (v := (nI (i + 1))) (lv' := [(5, .int (nI (i + 1))), (4, .int (bI (exS n G j x2 (i + 1)).isSome)), (3, .int ((exS n G j x2 (i + 1)).getD (-1000000000))), (7, .int (bI (exB n G j x2 i))), (6, .int (en n G i j)), (0, .ref (h 0)), (1, .int (nI j)), (2, .int x2)]) hx hb dX1_extreme_127 hl (k := 7) rfl (n_inc _) (by decide) rfl (fun ls hl => ?_)
                        refine lv_goto (tgt := 13) hx hb dX1_extreme_130 (by decide) ?_
                        exact ih (i + 1) _ _ _ (by omega) (by omega) I (lv_sub hl [5, 6, 7, 2, 1, 0] rfl)
                      · refine lv_iload hx hb dX1_extreme_105 (lv_at hl 6 rfl) ?_
                        refine lv_if_ne (tgt := 120) hx hb dX1_extreme_107 (by decide) (fun c_107 => ?_) (fun c_107 => ?_)
                        · refine lv_iconst (v := nI 1) hx hb dX1_extreme_120 (by decide) ?_
                          refine lv_goto (tgt := 125) hx hb dX1_extreme_121 (by decide) ?_
                          exact hj _ (bI_t (by first | exact exI_a (bI_n c_107) | exact exI_b (bI_0.mp c_117)))
                        · refine lv_aload_n hx hb dX1_extreme_110 rfl (lv_at hl 3 rfl) ?_
                          refine m_get C I rfl 7 (by decide) q223 rfl dX1_extreme_111 ?_
                          refine lv_iload hx hb dX1_extreme_114 (lv_at hl 7 rfl) ?_
                          refine i_zld C I 7 rfl (by omega) dX1_extreme_116 ?_
                          refine lv_topi (fun z_2 ez_2 => ?_)
                          obtain rfl : z_2 = bI (fl n G i) := ez_2.trans ((hKN i (by omega)).2.1)
                          refine lv_if_ne (tgt := 124) hx hb dX1_extreme_117 (by decide) (fun c_117 => ?_) (fun c_117 => ?_)
                          · refine lv_iconst (v := nI 0) hx hb dX1_extreme_124 (by decide) ?_
                            exact hj _ (bI_f (exI_c (bI_0.mp c_107) (bI_n c_117)))
                          · refine lv_iconst (v := nI 1) hx hb dX1_extreme_120 (by decide) ?_
                            refine lv_goto (tgt := 125) hx hb dX1_extreme_121 (by decide) ?_
                            exact hj _ (bI_t (by first | exact exI_a (bI_n c_107) | exact exI_b (bI_0.mp c_117)))
                    · refine lv_iload hx hb dX1_extreme_93 (lv_at hl 0 rfl) ?_
                      refine lv_if_eq (tgt := 103) hx hb dX1_extreme_95 (by decide) (fun c_95 => ?_) (fun c_95 => ?_)
                      · refine lv_iload_n hx hb dX1_extreme_103 rfl (lv_at hl 5 rfl) ?_
                        exact hj _ (by first | exact exV_t (bI_n c_95) | exact exV_f (bI_0.mp c_95))
                      · refine lv_iload hx hb dX1_extreme_98 (lv_at hl 1 rfl) ?_
                        refine lv_goto (tgt := 104) hx hb dX1_extreme_100 (by decide) ?_
                        exact hj _ (by first | exact exV_t (bI_n c_95) | exact exV_f (bI_0.mp c_95))
                  · refine lv_aload_n hx hb dX1_extreme_52 rfl (lv_at hl 1 rfl) ?_
                    refine m_get C I rfl 7 (by decide) q223 rfl dX1_extreme_53 ?_
                    refine lv_iload hx hb dX1_extreme_56 (lv_at hl 6 rfl) ?_
                    refine i_zld C I 7 rfl (by omega) dX1_extreme_58 ?_
                    refine lv_topi (fun z_3 ez_3 => ?_)
                    obtain rfl : z_3 = bI (fl n G i) := ez_3.trans ((hKN i (by omega)).2.1)
                    refine lv_if_ne (tgt := 90) hx hb dX1_extreme_59 (by decide) (fun c_59 => ?_) (fun c_59 => ?_)
                    · refine lv_iconst (v := nI 0) hx hb dX1_extreme_90 (by decide) ?_
                      exact hj _ (exB_f (by first | exact Or.inl (bI_n c_59) | exact Or.inr ⟨bI_n c_64, by rw [if_pos c_68]; exact Int32.not_lt.mpr c_74⟩ | exact Or.inr ⟨bI_n c_64, by rw [if_neg c_68]; exact Int32.not_lt.mpr c_83⟩))
                    · refine lv_iload hx hb dX1_extreme_62 (lv_at hl 5 rfl) ?_
                      refine lv_if_eq (tgt := 86) hx hb dX1_extreme_64 (by decide) (fun c_64 => ?_) (fun c_64 => ?_)
                      · refine lv_iconst (v := nI 1) hx hb dX1_extreme_86 (by decide) ?_
                        refine lv_goto (tgt := 91) hx hb dX1_extreme_87 (by decide) ?_
                        exact hj _ (exB_t (by first | exact ⟨bI_0.mp c_59, Or.inl (bI_0.mp c_64)⟩ | exact ⟨bI_0.mp c_59, Or.inr ⟨bI_n c_64, by rw [if_pos c_68]; exact Int32.not_le.mp c_74⟩⟩ | exact ⟨bI_0.mp c_59, Or.inr ⟨bI_n c_64, by rw [if_neg c_68]; exact Int32.not_le.mp c_83⟩⟩))
                      · refine lv_iload_n hx hb dX1_extreme_67 rfl (lv_at hl 3 rfl) ?_
                        refine lv_if_ne (tgt := 80) hx hb dX1_extreme_68 (by decide) (fun c_68 => ?_) (fun c_68 => ?_)
                        · refine lv_iload hx hb dX1_extreme_80 (lv_at hl 0 rfl) ?_
                          refine lv_iload_n hx hb dX1_extreme_82 rfl (lv_at hl 4 rfl) ?_
                          refine lv_icmp_le (tgt := 90) hx hb dX1_extreme_83 (by decide) (fun c_83 => ?_) (fun c_83 => ?_)
                          · refine lv_iconst (v := nI 0) hx hb dX1_extreme_90 (by decide) ?_
                            exact hj _ (exB_f (by first | exact Or.inl (bI_n c_59) | exact Or.inr ⟨bI_n c_64, by rw [if_pos c_68]; exact Int32.not_lt.mpr c_74⟩ | exact Or.inr ⟨bI_n c_64, by rw [if_neg c_68]; exact Int32.not_lt.mpr c_83⟩))
                          · refine lv_iconst (v := nI 1) hx hb dX1_extreme_86 (by decide) ?_
                            refine lv_goto (tgt := 91) hx hb dX1_extreme_87 (by decide) ?_
                            exact hj _ (exB_t (by first | exact ⟨bI_0.mp c_59, Or.inl (bI_0.mp c_64)⟩ | exact ⟨bI_0.mp c_59, Or.inr ⟨bI_n c_64, by rw [if_pos c_68]; exact Int32.not_le.mp c_74⟩⟩ | exact ⟨bI_0.mp c_59, Or.inr ⟨bI_n c_64, by rw [if_neg c_68]; exact Int32.not_le.mp c_83⟩⟩))
                        · refine lv_iload hx hb dX1_extreme_71 (lv_at hl 0 rfl) ?_
                          refine lv_iload_n hx hb dX1_extreme_73 rfl (lv_at hl 4 rfl) ?_
                          refine lv_icmp_ge (tgt := 90) hx hb dX1_extreme_74 (by decide) (fun c_74 => ?_) (fun c_74 => ?_)
                          · refine lv_iconst (v := nI 0) hx hb dX1_extreme_90 (by decide) ?_
                            exact hj _ (exB_f (by first | exact Or.inl (bI_n c_59) | exact Or.inr ⟨bI_n c_64, by rw [if_pos c_68]; exact Int32.not_lt.mpr c_74⟩ | exact Or.inr ⟨bI_n c_64, by rw [if_neg c_68]; exact Int32.not_lt.mpr c_83⟩))
                          · refine lv_goto (tgt := 86) hx hb dX1_extreme_77 (by decide) ?_
                            refine lv_iconst (v := nI 1) hx hb dX1_extreme_86 (by decide) ?_
                            refine lv_goto (tgt := 91) hx hb dX1_extreme_87 (by decide) ?_
                            exact hj _ (exB_t (by first | exact ⟨bI_0.mp c_59, Or.inl (bI_0.mp c_64)⟩ | exact ⟨bI_0.mp c_59, Or.inr ⟨bI_n c_64, by rw [if_pos c_68]; exact Int32.not_le.mp c_74⟩⟩ | exact ⟨bI_0.mp c_59, Or.inr ⟨bI_n c_64, by rw [if_neg c_68]; exact Int32.not_le.mp c_83⟩⟩))
                · refine lv_iload_n hx hb dX1_extreme_34 rfl (lv_at hl 2 rfl) ?_
                  refine lv_iconst (v := nI 1) hx hb dX1_extreme_35 (by decide) ?_
                  refine lv_icmp_ne (tgt := 133) hx hb dX1_extreme_36 (by decide) (fun c_36 => ?_) (fun c_36 => ?_)
                  · skip
                    exact absurd (hw.resolve_left c_31) c_36
                  · refine lv_aload_n hx hb dX1_extreme_39 rfl (lv_at hl 0 rfl) ?_
                    refine m_get C I rfl 8 (by decide) q224 rfl dX1_extreme_40 ?_
                    refine lv_iconst (v := nI 4) hx hb dX1_extreme_43 (by decide) ?_
                    refine lv_iload hx hb dX1_extreme_44 (lv_at hl 5 rfl) ?_
                    refine n_mul hx hb dX1_extreme_46 ?_
                    refine lv_iload_n hx hb dX1_extreme_47 rfl (lv_at hl 1 rfl) ?_
                    refine n_add hx hb dX1_extreme_48 ?_
                    refine i_ild C I 8 rfl (by omega) dX1_extreme_49 ?_
                    refine lv_topi (fun z_4 ez_4 => ?_)
                    obtain rfl : z_4 = en n G i j := ez_4.trans ((hKN i (by omega)).2.2 j (by omega))
                    refine lv_istore (lv' := [(6, .int (en n G i j)), (0, .ref (h 0)), (1, .int (nI j)), (2, .int x2), (3, .int ((exS n G j x2 i).getD (-1000000000))), (4, .int (bI (exS n G j x2 i).isSome)), (5, .int (nI i))]) hx hb dX1_extreme_50 hl (by decide) rfl (fun ls hl => ?_)
                    refine w_join 91 ((bI (exB n G j x2 i))) [] (fun z ez => ?_) (fun hj => ?_)
                    · subst ez
                      refine lv_istore (lv' := [(7, .int (bI (exB n G j x2 i))), (6, .int (en n G i j)), (0, .ref (h 0)), (1, .int (nI j)), (2, .int x2), (3, .int ((exS n G j x2 i).getD (-1000000000))), (4, .int (bI (exS n G j x2 i).isSome)), (5, .int (nI i))]) hx hb dX1_extreme_91 hl (by decide) rfl (fun ls hl => ?_)
                      refine w_join 104 (((exS n G j x2 (i + 1)).getD (-1000000000))) [] (fun z ez => ?_) (fun hj => ?_)
                      · subst ez
                        refine lv_istore_n (lv' := [(3, .int ((exS n G j x2 (i + 1)).getD (-1000000000))), (7, .int (bI (exB n G j x2 i))), (6, .int (en n G i j)), (0, .ref (h 0)), (1, .int (nI j)), (2, .int x2), (4, .int (bI (exS n G j x2 i).isSome)), (5, .int (nI i))]) hx hb dX1_extreme_104 rfl hl (by decide) rfl (fun ls hl => ?_)
                        refine w_join 125 ((bI (exS n G j x2 (i + 1)).isSome)) [] (fun z ez => ?_) (fun hj => ?_)
                        · subst ez
                          refine lv_istore (lv' := [(4, .int (bI (exS n G j x2 (i + 1)).isSome)), (3, .int ((exS n G j x2 (i + 1)).getD (-1000000000))), (7, .int (bI (exB n G j x2 i))), (6, .int (en n G i j)), (0, .ref (h 0)), (1, .int (nI j)), (2, .int x2), (5, .int (nI i))]) hx hb dX1_extreme_125 hl (by decide) rfl (fun ls hl => ?_)
                          refine lv_iinc (v := (nI (i + 1))) (lv' := [(5, .int (nI (i + 1))), (4, .int (bI (exS n G j x2 (i + 1)).isSome)), (3, .int ((exS n G j x2 (i + 1)).getD (-1000000000))), (7, .int (bI (exB n G j x2 i))), (6, .int (en n G i j)), (0, .ref (h 0)), (1, .int (nI j)), (2, .int x2)]) hx hb dX1_extreme_127 hl (k := 7) rfl (n_inc _) (by decide) rfl (fun ls hl => ?_)
                          refine lv_goto (tgt := 13) hx hb dX1_extreme_130 (by decide) ?_
                          exact ih (i + 1) _ _ _ (by omega) (by omega) I (lv_sub hl [5, 6, 7, 2, 1, 0] rfl)
                        · refine lv_iload hx hb dX1_extreme_105 (lv_at hl 6 rfl) ?_
                          refine lv_if_ne (tgt := 120) hx hb dX1_extreme_107 (by decide) (fun c_107 => ?_) (fun c_107 => ?_)
                          · refine lv_iconst (v := nI 1) hx hb dX1_extreme_120 (by decide) ?_
                            refine lv_goto (tgt := 125) hx hb dX1_extreme_121 (by decide) ?_
                            exact hj _ (bI_t (by first | exact exI_a (bI_n c_107) | exact exI_b (bI_0.mp c_117)))
                          · refine lv_aload_n hx hb dX1_extreme_110 rfl (lv_at hl 3 rfl) ?_
                            refine m_get C I rfl 7 (by decide) q223 rfl dX1_extreme_111 ?_
                            refine lv_iload hx hb dX1_extreme_114 (lv_at hl 7 rfl) ?_
                            refine i_zld C I 7 rfl (by omega) dX1_extreme_116 ?_
                            refine lv_topi (fun z_5 ez_5 => ?_)
                            obtain rfl : z_5 = bI (fl n G i) := ez_5.trans ((hKN i (by omega)).2.1)
                            refine lv_if_ne (tgt := 124) hx hb dX1_extreme_117 (by decide) (fun c_117 => ?_) (fun c_117 => ?_)
                            · refine lv_iconst (v := nI 0) hx hb dX1_extreme_124 (by decide) ?_
                              exact hj _ (bI_f (exI_c (bI_0.mp c_107) (bI_n c_117)))
                            · refine lv_iconst (v := nI 1) hx hb dX1_extreme_120 (by decide) ?_
                              refine lv_goto (tgt := 125) hx hb dX1_extreme_121 (by decide) ?_
                              exact hj _ (bI_t (by first | exact exI_a (bI_n c_107) | exact exI_b (bI_0.mp c_117)))
                      · refine lv_iload hx hb dX1_extreme_93 (lv_at hl 0 rfl) ?_
                        refine lv_if_eq (tgt := 103) hx hb dX1_extreme_95 (by decide) (fun c_95 => ?_) (fun c_95 => ?_)
                        · refine lv_iload_n hx hb dX1_extreme_103 rfl (lv_at hl 5 rfl) ?_
                          exact hj _ (by first | exact exV_t (bI_n c_95) | exact exV_f (bI_0.mp c_95))
                        · refine lv_iload hx hb dX1_extreme_98 (lv_at hl 1 rfl) ?_
                          refine lv_goto (tgt := 104) hx hb dX1_extreme_100 (by decide) ?_
                          exact hj _ (by first | exact exV_t (bI_n c_95) | exact exV_f (bI_0.mp c_95))
                    · refine lv_aload_n hx hb dX1_extreme_52 rfl (lv_at hl 1 rfl) ?_
                      refine m_get C I rfl 7 (by decide) q223 rfl dX1_extreme_53 ?_
                      refine lv_iload hx hb dX1_extreme_56 (lv_at hl 6 rfl) ?_
                      refine i_zld C I 7 rfl (by omega) dX1_extreme_58 ?_
                      refine lv_topi (fun z_6 ez_6 => ?_)
                      obtain rfl : z_6 = bI (fl n G i) := ez_6.trans ((hKN i (by omega)).2.1)
                      refine lv_if_ne (tgt := 90) hx hb dX1_extreme_59 (by decide) (fun c_59 => ?_) (fun c_59 => ?_)
                      · refine lv_iconst (v := nI 0) hx hb dX1_extreme_90 (by decide) ?_
                        exact hj _ (exB_f (by first | exact Or.inl (bI_n c_59) | exact Or.inr ⟨bI_n c_64, by rw [if_pos c_68]; exact Int32.not_lt.mpr c_74⟩ | exact Or.inr ⟨bI_n c_64, by rw [if_neg c_68]; exact Int32.not_lt.mpr c_83⟩))
                      · refine lv_iload hx hb dX1_extreme_62 (lv_at hl 5 rfl) ?_
                        refine lv_if_eq (tgt := 86) hx hb dX1_extreme_64 (by decide) (fun c_64 => ?_) (fun c_64 => ?_)
                        · refine lv_iconst (v := nI 1) hx hb dX1_extreme_86 (by decide) ?_
                          refine lv_goto (tgt := 91) hx hb dX1_extreme_87 (by decide) ?_
                          exact hj _ (exB_t (by first | exact ⟨bI_0.mp c_59, Or.inl (bI_0.mp c_64)⟩ | exact ⟨bI_0.mp c_59, Or.inr ⟨bI_n c_64, by rw [if_pos c_68]; exact Int32.not_le.mp c_74⟩⟩ | exact ⟨bI_0.mp c_59, Or.inr ⟨bI_n c_64, by rw [if_neg c_68]; exact Int32.not_le.mp c_83⟩⟩))
                        · refine lv_iload_n hx hb dX1_extreme_67 rfl (lv_at hl 3 rfl) ?_
                          refine lv_if_ne (tgt := 80) hx hb dX1_extreme_68 (by decide) (fun c_68 => ?_) (fun c_68 => ?_)
                          · refine lv_iload hx hb dX1_extreme_80 (lv_at hl 0 rfl) ?_
                            refine lv_iload_n hx hb dX1_extreme_82 rfl (lv_at hl 4 rfl) ?_
                            refine lv_icmp_le (tgt := 90) hx hb dX1_extreme_83 (by decide) (fun c_83 => ?_) (fun c_83 => ?_)
                            · refine lv_iconst (v := nI 0) hx hb dX1_extreme_90 (by decide) ?_
                              exact hj _ (exB_f (by first | exact Or.inl (bI_n c_59) | exact Or.inr ⟨bI_n c_64, by rw [if_pos c_68]; exact Int32.not_lt.mpr c_74⟩ | exact Or.inr ⟨bI_n c_64, by rw [if_neg c_68]; exact Int32.not_lt.mpr c_83⟩))
                            · refine lv_iconst (v := nI 1) hx hb dX1_extreme_86 (by decide) ?_
                              refine lv_goto (tgt := 91) hx hb dX1_extreme_87 (by decide) ?_
                              exact hj _ (exB_t (by first | exact ⟨bI_0.mp c_59, Or.inl (bI_0.mp c_64)⟩ | exact ⟨bI_0.mp c_59, Or.inr ⟨bI_n c_64, by rw [if_pos c_68]; exact Int32.not_le.mp c_74⟩⟩ | exact ⟨bI_0.mp c_59, Or.inr ⟨bI_n c_64, by rw [if_neg c_68]; exact Int32.not_le.mp c_83⟩⟩))
                          · refine lv_iload hx hb dX1_extreme_71 (lv_at hl 0 rfl) ?_
                            refine lv_iload_n hx hb dX1_extreme_73 rfl (lv_at hl 4 rfl) ?_
                            refine lv_icmp_ge (tgt := 90) hx hb dX1_extreme_74 (by decide) (fun c_74 => ?_) (fun c_74 => ?_)
                            · refine lv_iconst (v := nI 0) hx hb dX1_extreme_90 (by decide) ?_
                              exact hj _ (exB_f (by first | exact Or.inl (bI_n c_59) | exact Or.inr ⟨bI_n c_64, by rw [if_pos c_68]; exact Int32.not_lt.mpr c_74⟩ | exact Or.inr ⟨bI_n c_64, by rw [if_neg c_68]; exact Int32.not_lt.mpr c_83⟩))
                            · refine lv_goto (tgt := 86) hx hb dX1_extreme_77 (by decide) ?_
                              refine lv_iconst (v := nI 1) hx hb dX1_extreme_86 (by decide) ?_
                              refine lv_goto (tgt := 91) hx hb dX1_extreme_87 (by decide) ?_
                              exact hj _ (exB_t (by first | exact ⟨bI_0.mp c_59, Or.inl (bI_0.mp c_64)⟩ | exact ⟨bI_0.mp c_59, Or.inr ⟨bI_n c_64, by rw [if_pos c_68]; exact Int32.not_le.mp c_74⟩⟩ | exact ⟨bI_0.mp c_59, Or.inr ⟨bI_n c_64, by rw [if_neg c_68]; exact Int32.not_le.mp c_83⟩⟩))
      exact lp 257 0 _ _ _ (by omega) (by omega) I (lv_sub hl [3, 4, 5, 2, 1, 0] rfl)
  · refine lv_aload_n hx hb dX1_extreme_0 rfl (lv_at hl 0 rfl) ?_
    refine cv_call (As := []) (rest := []) C I (kM_work l D d h n G mk (nI n) gK gA gB gN gM gT gF gE hMI) (cwV 0 C.1.2.2.2.2 (lw_V q268 q270 qs15 q22 q271) rfl rfl rfl (by decide +kernel) ⟨Nat.le_of_ble_eq_true rfl, Nat.le_of_ble_eq_true rfl⟩) rfl rfl rfl hl.1 rfl (Nat.le_of_ble_eq_true rfl) dX1_extreme_1 ⟨Nat.zero_le _, Nat.zero_le _⟩ (fun w' H locs hpo I => ?_)
    obtain ⟨T, F, E, hKN, rfl⟩ := hpo
    refine lv_ldc (v := -1000000000) hx hb C.1.2.2.2.1 (C.1.2.2.2.2 _ q324) dX1_extreme_4 ?_
    refine lv_istore_n (lv' := [(3, .int (-1000000000)), (0, .ref (h 0)), (1, .int x1), (2, .int x2)]) hx hb dX1_extreme_6 rfl hl (by decide) rfl (fun ls hl => ?_)
    refine lv_iconst (v := nI 0) hx hb dX1_extreme_7 (by decide) ?_
    refine lv_istore (lv' := [(4, .int (nI 0)), (3, .int (-1000000000)), (0, .ref (h 0)), (1, .int x1), (2, .int x2)]) hx hb dX1_extreme_8 hl (by decide) rfl (fun ls hl => ?_)
    refine lv_iconst (v := nI 0) hx hb dX1_extreme_10 (by decide) ?_
    refine lv_istore (lv' := [(5, .int (nI 0)), (4, .int (nI 0)), (3, .int (-1000000000)), (0, .ref (h 0)), (1, .int x1), (2, .int x2)]) hx hb dX1_extreme_11 hl (by decide) rfl (fun ls hl => ?_)
    refine lv_iload hx hb dX1_extreme_13 (lv_at hl 0 rfl) ?_
    refine lv_sipush (v := nI 256) hx hb dX1_extreme_15 (by decide) ?_
    refine n_ge (tgt := 133) hx hb dX1_extreme_18 (by decide) (by omega) (by omega) (fun c_18 => ?_) (fun c_18 => ?_)
    · skip
      exact absurd c_18 (by omega)
    · refine lv_iload_n hx hb dX1_extreme_21 rfl (lv_at hl 4 rfl) ?_
      refine lv_if_lt (tgt := 133) hx hb dX1_extreme_22 (by decide) (fun c_22 => ?_) (fun c_22 => ?_)
      · refine lv_iload_n hx hb dX1_extreme_133 rfl (lv_at hl 2 rfl) ?_
        exact hret (-1000000000) _ _ _ _ _ rfl I (⟨by rw [if_neg hw], ⟨_, _, _, _, _, _, _, _, _, hMI, rfl⟩⟩) dX1_extreme_134
      · refine lv_iload_n hx hb dX1_extreme_25 rfl (lv_at hl 4 rfl) ?_
        refine lv_iconst (v := nI 3) hx hb dX1_extreme_26 (by decide) ?_
        refine lv_icmp_gt (tgt := 133) hx hb dX1_extreme_27 (by decide) (fun c_27 => ?_) (fun c_27 => ?_)
        · refine lv_iload_n hx hb dX1_extreme_133 rfl (lv_at hl 2 rfl) ?_
          exact hret (-1000000000) _ _ _ _ _ rfl I (⟨by rw [if_neg hw], ⟨_, _, _, _, _, _, _, _, _, hMI, rfl⟩⟩) dX1_extreme_134
        · refine lv_iload_n hx hb dX1_extreme_30 rfl (lv_at hl 5 rfl) ?_
          refine lv_if_eq (tgt := 39) hx hb dX1_extreme_31 (by decide) (fun c_31 => ?_) (fun c_31 => ?_)
          · skip
            exact absurd (Or.inl c_31) hw
          · refine lv_iload_n hx hb dX1_extreme_34 rfl (lv_at hl 5 rfl) ?_
            refine lv_iconst (v := nI 1) hx hb dX1_extreme_35 (by decide) ?_
            refine lv_icmp_ne (tgt := 133) hx hb dX1_extreme_36 (by decide) (fun c_36 => ?_) (fun c_36 => ?_)
            · refine lv_iload_n hx hb dX1_extreme_133 rfl (lv_at hl 2 rfl) ?_
              exact hret (-1000000000) _ _ _ _ _ rfl I (⟨by rw [if_neg hw], ⟨_, _, _, _, _, _, _, _, _, hMI, rfl⟩⟩) dX1_extreme_134
            · skip
              exact absurd (Or.inr c_36) hw
end
section
/-! step and drop, in our words -/
def stO (n : Nat) (x1 x2 x3 : Int32) : Bool := decide (0 ≤ x1.toInt ∧ x1.toInt ≤ 7 ∧ 0 ≤ x2.toInt ∧ x2.toInt ≤ 15) && okN x1.toInt x3.toInt n
def stA (n : Nat) (x1 x2 x3 : Int32) : Int32 := if stO n x1 x2 x3 then (if n < 12 then nI n else -2) else -1
def stC (n : Nat) (x1 x2 x3 : Int32) : Bool := stO n x1 x2 x3 && decide (n < 12)
def gA (n : Nat) (G : Pg) (k ab : Nat) (x3 : Int32) : Pg := fun p => if p = n then (k, ab % 4, ab / 4, x3) else G p
def stN (n : Nat) (x1 x2 x3 : Int32) : Nat := if stC n x1 x2 x3 then n + 1 else n
def stG (n : Nat) (G : Pg) (x1 x2 x3 : Int32) : Pg := if stC n x1 x2 x3 then gA n G x1.toNatClampNeg x2.toNatClampNeg x3 else G
def stM (n : Nat) (mk : Nat → Bool) (x1 x2 x3 : Int32) : Nat → Bool := if stC n x1 x2 x3 then (fun _ => false) else mk
theorem stO_f {n : Nat} {x1 x2 x3 : Int32} (h : ¬ (0 ≤ x1.toInt ∧ x1.toInt ≤ 7 ∧ 0 ≤ x2.toInt ∧ x2.toInt ≤ 15) ∨ okN x1.toInt x3.toInt (nI n).toInt = false) (hn : n < 2 ^ 31) : stO n x1 x2 x3 = false := by
  unfold stO
  rw [nI_toInt hn] at h
  rcases h with q | q
  · rw [decide_eq_false q]; rfl
  · rw [q, Bool.and_false]
theorem stO_t {n : Nat} {x1 x2 x3 : Int32} (h : 0 ≤ x1.toInt ∧ x1.toInt ≤ 7 ∧ 0 ≤ x2.toInt ∧ x2.toInt ≤ 15) (h2 : okN x1.toInt x3.toInt (nI n).toInt = true) (hn : n < 2 ^ 31) : stO n x1 x2 x3 = true := by
  unfold stO
  rw [nI_toInt hn] at h2
  rw [decide_eq_true h, h2]; rfl
theorem stA_f {n : Nat} {x1 x2 x3 : Int32} (h : stO n x1 x2 x3 = false) : (-1 : Int32) = stA n x1 x2 x3 := by rw [stA, h]; rfl
theorem stA_2 {n : Nat} {x1 x2 x3 : Int32} (h : stO n x1 x2 x3 = true) (hn : 12 ≤ n) : (-2 : Int32) = stA n x1 x2 x3 := by rw [stA, if_pos h, if_neg (by omega)]
theorem stA_n {n : Nat} {x1 x2 x3 : Int32} (h : stO n x1 x2 x3 = true) (hn : n < 12) : nI n = stA n x1 x2 x3 := by rw [stA, if_pos h, if_pos hn]
theorem stC_f {n : Nat} {x1 x2 x3 : Int32} (h : stO n x1 x2 x3 = false ∨ 12 ≤ n) : stC n x1 x2 x3 = false := by
  unfold stC
  rcases h with q | q
  · rw [q]; rfl
  · rw [decide_eq_false (by omega), Bool.and_false]
theorem stC_t {n : Nat} {x1 x2 x3 : Int32} (h : stO n x1 x2 x3 = true) (hn : n < 12) : stC n x1 x2 x3 = true := by
  rw [stC, h, decide_eq_true hn]; rfl
theorem st_nat {n : Nat} {x1 x2 x3 : Int32} (h : stO n x1 x2 x3 = true) : ∃ k ab, k ≤ 7 ∧ ab ≤ 15 ∧ x1 = nI k ∧ x2 = nI ab ∧ okN k x3.toInt n = true := by
  unfold stO at h
  rw [Bool.and_eq_true] at h
  have h1 := of_decide_eq_true h.1
  have z1 : ¬ x1 < 0 := by rw [Int32.lt_iff_toInt_lt, i_0]; omega
  have z2 : ¬ x2 < 0 := by rw [Int32.lt_iff_toInt_lt, i_0]; omega
  obtain ⟨k, hk, rfl⟩ := nI_of z1
  obtain ⟨ab, hab, rfl⟩ := nI_of z2
  rw [nI_toInt hk, nI_toInt hab] at h1
  have h2 := h.2
  rw [nI_toInt hk] at h2
  exact ⟨k, ab, by omega, by omega, rfl, rfl, h2⟩
theorem ps_new {n k ab : Nat} {x3 : Int32} (hk : k ≤ 7) (hab : ab ≤ 15) (h : okN k x3.toInt n = true) : PS n (k, ab % 4, ab / 4, x3) := by
  have h := of_decide_eq_true h
  refine ⟨hk, by show ab % 4 ≤ 3; omega, by show ab / 4 ≤ 3; omega, fun q => ?_, fun q => ?_, fun q1 q2 => ?_⟩
  · have q : k = 0 := q
    exact h.1 (by omega)
  · have q : k = 3 := q
    exact h.2.1 (by omega)
  · have q1 : 4 ≤ k := q1
    have q2 : k ≤ 6 := q2
    have h3 := h.2.2 (by omega) (by omega)
    have z : ¬ x3 < 0 := by rw [Int32.lt_iff_toInt_lt, i_0]; omega
    obtain ⟨j, hj, rfl⟩ := nI_of z
    rw [nI_toInt hj] at h3
    exact ⟨j, by omega, by omega, rfl⟩
theorem pw_add {n k ab : Nat} {G : Pg} {x3 : Int32} (hG : PW n G) (hn : n < 12) (h : PS n (k, ab % 4, ab / 4, x3)) : PW (n + 1) (gA n G k ab x3) := by
  refine ⟨by omega, fun p hp => ?_⟩
  unfold gA
  by_cases e : p = n
  · subst e; rw [if_pos rfl]; exact h
  · rw [if_neg e]; exact hG.2 p (by omega)
theorem pw_sub {n : Nat} {G : Pg} (hG : PW n G) : PW (n - 1) G := ⟨Nat.le_trans (Nat.sub_le _ _) hG.1, fun p hp => hG.2 p (by omega)⟩
theorem mw_same {n : Nat} {G : Pg} {mk : Nat → Bool} {h : Nat → Nat} {d : Nat → ClassId} {w : va_W} {x1 x2 x3 : Int32} (hc : stC n x1 x2 x3 = false) (hm : MW n G mk h d w) : MW (stN n x1 x2 x3) (stG n G x1 x2 x3) (stM n mk x1 x2 x3) h d w := by
  unfold stN stG stM
  rw [hc]
  exact hm
theorem xw_same {n : Nat} {G : Pg} {mk : Nat → Bool} {h : Nat → Nat} {d : Nat → ClassId} {w : va_W} {x1 x2 x3 : Int32} (hc : stC n x1 x2 x3 = false) (hm : XW n G mk h d w) : XW (stN n x1 x2 x3) (stG n G x1 x2 x3) (stM n mk x1 x2 x3) h d w := by
  unfold stN stG stM
  rw [hc]
  exact hm
theorem mw_step {n k ab : Nat} {G : Pg} {mk : Nat → Bool} {h : Nat → Nat} {d : Nat → ClassId} {w : va_W} {x3 : Int32} (hc : stC n (nI k) (nI ab) x3 = true) (hk : k ≤ 7) (hab : ab ≤ 15) (hm : MW (n + 1) (gA n G k ab x3) (fun _ => false) h d w) : MW (stN n (nI k) (nI ab) x3) (stG n G (nI k) (nI ab) x3) (stM n mk (nI k) (nI ab) x3) h d w := by
  unfold stN stG stM
  rw [hc, nI_clamp (by omega), nI_clamp (by omega)]
  exact hm
theorem xw_step {n k ab : Nat} {G : Pg} {mk : Nat → Bool} {h : Nat → Nat} {d : Nat → ClassId} {w : va_W} {x3 : Int32} (hc : stC n (nI k) (nI ab) x3 = true) (hk : k ≤ 7) (hab : ab ≤ 15) (hm : XW (n + 1) (gA n G k ab x3) (fun _ => false) h d w) : XW (stN n (nI k) (nI ab) x3) (stG n G (nI k) (nI ab) x3) (stM n mk (nI k) (nI ab) x3) h d w := by
  unfold stN stG stM
  rw [hc, nI_clamp (by omega), nI_clamp (by omega)]
  exact hm
theorem mi_add {n k ab : Nat} {G : Pg} {x3 : Int32} {gK gA' gB gN gM : Nat → Int32} (hG : PW n G) (hn : n < 12) (hs : PS n (k, ab % 4, ab / 4, x3)) (hP : ∀ p, p < n → gK p = nI (G p).1 ∧ gA' p = nI (G p).2.1 ∧ gB p = nI (G p).2.2.1 ∧ gN p = (G p).2.2.2) (hM : ∀ q, q < 4096 → gM q = 0) : MI (n + 1) (gA n G k ab x3) (fun _ => false) (nI (n + 1)) (upd gK n (nI k)) (upd gA' n (nI (ab % 4))) (upd gB n (nI (ab / 4))) (upd gN n x3) gM := by
  refine ⟨rfl, pw_add hG hn hs, fun p hp => ?_, hM⟩
  unfold gA
  by_cases e : p = n
  · subst e; rw [if_pos rfl, upd_s, upd_s, upd_s, upd_s]; exact ⟨rfl, rfl, rfl, rfl⟩
  · rw [if_neg e, upd_n e, upd_n e, upd_n e, upd_n e]; exact hP p (by omega)
def drA (n : Nat) : Int32 := if n = 0 then -1 else nI (n - 1)
def drM (n : Nat) (mk : Nat → Bool) : Nat → Bool := if n = 0 then mk else fun _ => false
theorem nI_z {n : Nat} (h : n < 2 ^ 31) (e : nI n = 0) : n = 0 := (nI_eq h (by decide)).mp (e.trans nI_0.symm)
end
section
set_option maxHeartbeats 4000000 in
set_option maxRecDepth 100000 in
/-- step(kind, ab, n) -/
theorem kM_step (l : Launch) (D : va_G) (d : Nat → ClassId) (h : Nat → Nat) (n : Nat) (G : Pg) (mk : Nat → Bool) (sz : Int32) (gK gA gB gN gM gT gF gE : Nat → Int32) (hM : MI n G mk sz gK gA gB gN gM) (x1 x2 x3 : Int32) : CT l yX1_step (ws_ yX1_step cX1_step 4 (some .int)) (rk 2) D d [.ref (h 0), .int x1, .int x2, .int x3] (wM h d sz gK gA gB gN gM gT gF gE) (fun r w' => r = stA n x1 x2 x3 ∧ MW (stN n x1 x2 x3) (stG n G x1 x2 x3) (stM n mk x1 x2 x3) h d w') := by
  have hMI := hM
  obtain ⟨rfl, hG, hP, hMk⟩ := hM
  have hn12 := hG.1
  refine ct_in (cc := cX1_step) (nL := 4) (ty := .int) (by decide) rfl (Nat.le_of_ble_eq_true rfl) ?_
  intro p e s m ar bl me c A Q ls C I hl hret
  have hx := C.1.1
  have hb := C.1.2.1
  have hl : lv_has ls 4 [(0, .ref (h 0)), (1, .int x1), (2, .int x2), (3, .int x3)] := hl
  refine lv_iload_n hx hb dX1_step_0 rfl (lv_at hl 1 rfl) ?_
  refine lv_if_lt (tgt := 29) hx hb dX1_step_1 (by decide) (fun c_1 => ?_) (fun c_1 => ?_)
  · refine lv_iconst (v := -1) hx hb dX1_step_29 (by decide) ?_
    exact hret (-1) _ _ _ _ _ rfl I (⟨stA_f (stO_f (by first | exact Or.inl (by simp only [Int32.lt_iff_toInt_lt, Int32.le_iff_toInt_le, ← Int32.toInt_inj, i_m20, i_m3, i_0, ti_0, ti_1, ti_2, ti_3, ti_4, ti_5, ti_6, ti_7, ti_12, ti_15, ti_16, ti_20, ti_255, ti_256] at c_1; omega) | exact Or.inr (bI_0.mp c_26)) (by omega)), mw_same (stC_f (Or.inl (stO_f (by first | exact Or.inl (by simp only [Int32.lt_iff_toInt_lt, Int32.le_iff_toInt_le, ← Int32.toInt_inj, i_m20, i_m3, i_0, ti_0, ti_1, ti_2, ti_3, ti_4, ti_5, ti_6, ti_7, ti_12, ti_15, ti_16, ti_20, ti_255, ti_256] at c_1; omega) | exact Or.inr (bI_0.mp c_26)) (by omega)))) ⟨_, _, _, _, _, _, _, _, _, hMI, rfl⟩⟩) dX1_step_30
  · refine lv_iload_n hx hb dX1_step_4 rfl (lv_at hl 1 rfl) ?_
    refine lv_bipush (v := nI 7) hx hb dX1_step_5 (by decide) ?_
    refine lv_icmp_gt (tgt := 29) hx hb dX1_step_7 (by decide) (fun c_7 => ?_) (fun c_7 => ?_)
    · refine lv_iconst (v := -1) hx hb dX1_step_29 (by decide) ?_
      exact hret (-1) _ _ _ _ _ rfl I (⟨stA_f (stO_f (by first | exact Or.inl (by simp only [Int32.lt_iff_toInt_lt, Int32.le_iff_toInt_le, ← Int32.toInt_inj, i_m20, i_m3, i_0, ti_0, ti_1, ti_2, ti_3, ti_4, ti_5, ti_6, ti_7, ti_12, ti_15, ti_16, ti_20, ti_255, ti_256] at c_1 c_7; omega) | exact Or.inr (bI_0.mp c_26)) (by omega)), mw_same (stC_f (Or.inl (stO_f (by first | exact Or.inl (by simp only [Int32.lt_iff_toInt_lt, Int32.le_iff_toInt_le, ← Int32.toInt_inj, i_m20, i_m3, i_0, ti_0, ti_1, ti_2, ti_3, ti_4, ti_5, ti_6, ti_7, ti_12, ti_15, ti_16, ti_20, ti_255, ti_256] at c_1 c_7; omega) | exact Or.inr (bI_0.mp c_26)) (by omega)))) ⟨_, _, _, _, _, _, _, _, _, hMI, rfl⟩⟩) dX1_step_30
    · refine lv_iload_n hx hb dX1_step_10 rfl (lv_at hl 2 rfl) ?_
      refine lv_if_lt (tgt := 29) hx hb dX1_step_11 (by decide) (fun c_11 => ?_) (fun c_11 => ?_)
      · refine lv_iconst (v := -1) hx hb dX1_step_29 (by decide) ?_
        exact hret (-1) _ _ _ _ _ rfl I (⟨stA_f (stO_f (by first | exact Or.inl (by simp only [Int32.lt_iff_toInt_lt, Int32.le_iff_toInt_le, ← Int32.toInt_inj, i_m20, i_m3, i_0, ti_0, ti_1, ti_2, ti_3, ti_4, ti_5, ti_6, ti_7, ti_12, ti_15, ti_16, ti_20, ti_255, ti_256] at c_1 c_7 c_11; omega) | exact Or.inr (bI_0.mp c_26)) (by omega)), mw_same (stC_f (Or.inl (stO_f (by first | exact Or.inl (by simp only [Int32.lt_iff_toInt_lt, Int32.le_iff_toInt_le, ← Int32.toInt_inj, i_m20, i_m3, i_0, ti_0, ti_1, ti_2, ti_3, ti_4, ti_5, ti_6, ti_7, ti_12, ti_15, ti_16, ti_20, ti_255, ti_256] at c_1 c_7 c_11; omega) | exact Or.inr (bI_0.mp c_26)) (by omega)))) ⟨_, _, _, _, _, _, _, _, _, hMI, rfl⟩⟩) dX1_step_30
      · refine lv_iload_n hx hb dX1_step_14 rfl (lv_at hl 2 rfl) ?_
        refine lv_bipush (v := nI 15) hx hb dX1_step_15 (by decide) ?_
        refine lv_icmp_gt (tgt := 29) hx hb dX1_step_17 (by decide) (fun c_17 => ?_) (fun c_17 => ?_)
        · refine lv_iconst (v := -1) hx hb dX1_step_29 (by decide) ?_
          exact hret (-1) _ _ _ _ _ rfl I (⟨stA_f (stO_f (by first | exact Or.inl (by simp only [Int32.lt_iff_toInt_lt, Int32.le_iff_toInt_le, ← Int32.toInt_inj, i_m20, i_m3, i_0, ti_0, ti_1, ti_2, ti_3, ti_4, ti_5, ti_6, ti_7, ti_12, ti_15, ti_16, ti_20, ti_255, ti_256] at c_1 c_7 c_11 c_17; omega) | exact Or.inr (bI_0.mp c_26)) (by omega)), mw_same (stC_f (Or.inl (stO_f (by first | exact Or.inl (by simp only [Int32.lt_iff_toInt_lt, Int32.le_iff_toInt_le, ← Int32.toInt_inj, i_m20, i_m3, i_0, ti_0, ti_1, ti_2, ti_3, ti_4, ti_5, ti_6, ti_7, ti_12, ti_15, ti_16, ti_20, ti_255, ti_256] at c_1 c_7 c_11 c_17; omega) | exact Or.inr (bI_0.mp c_26)) (by omega)))) ⟨_, _, _, _, _, _, _, _, _, hMI, rfl⟩⟩) dX1_step_30
        · refine lv_aload_n hx hb dX1_step_20 rfl (lv_at hl 0 rfl) ?_
          refine lv_iload_n hx hb dX1_step_21 rfl (lv_at hl 1 rfl) ?_
          refine lv_iload_n hx hb dX1_step_22 rfl (lv_at hl 3 rfl) ?_
          refine ct_call (As := [.int x1, .int x3]) (rest := []) C I (kM_fits l D d h (nI n) gK gA gB gN gM gT gF gE x1 x3) (cwV 2 C.1.2.2.2.2 (lw_V q248 q250 qs13 q22 q251) rfl rfl rfl (by decide +kernel) ⟨Nat.le_of_ble_eq_true rfl, Nat.le_of_ble_eq_true rfl⟩) rfl rfl rfl hl.1 rfl (Nat.le_of_ble_eq_true rfl) dX1_step_23 ⟨Nat.zero_le _, Nat.zero_le _⟩ (fun r w' H locs hpo I => ?_)
          obtain ⟨rfl, rfl⟩ := hpo
          refine lv_if_ne (tgt := 31) hx hb dX1_step_26 (by decide) (fun c_26 => ?_) (fun c_26 => ?_)
          · have hO : stO n x1 x2 x3 = true := stO_t (by simp only [Int32.lt_iff_toInt_lt, Int32.le_iff_toInt_le, ← Int32.toInt_inj, i_m20, i_m3, i_0, ti_0, ti_1, ti_2, ti_3, ti_4, ti_5, ti_6, ti_7, ti_12, ti_15, ti_16, ti_20, ti_255, ti_256] at c_1 c_7 c_11 c_17; omega) (bI_n c_26) (by omega)
            obtain ⟨k, ab, hk, hab, rfl, rfl, hok⟩ := st_nat hO
            refine lv_aload_n hx hb dX1_step_31 rfl (lv_at hl 0 rfl) ?_
            refine m_get C I rfl 0 (by decide) q216 rfl dX1_step_32 ?_
            refine lv_bipush (v := nI 12) hx hb dX1_step_35 (by decide) ?_
            refine n_lt (tgt := 43) hx hb dX1_step_37 (by decide) (by omega) (by omega) (fun c_37 => ?_) (fun c_37 => ?_)
            · refine lv_aload_n hx hb dX1_step_43 rfl (lv_at hl 0 rfl) ?_
              refine cv_call (As := []) (rest := []) C I (kM_forget l D d h (nI n) gK gA gB gN gM gT gF gE) (cwV 0 C.1.2.2.2.2 (lw_V q252 q254 qs14 q22 q255) rfl rfl rfl (by decide +kernel) ⟨Nat.le_of_ble_eq_true rfl, Nat.le_of_ble_eq_true rfl⟩) rfl rfl rfl hl.1 rfl (Nat.le_of_ble_eq_true rfl) dX1_step_44 ⟨Nat.zero_le _, Nat.zero_le _⟩ (fun w' H locs hpo I => ?_)
              obtain ⟨gM', hgM', rfl⟩ := hpo
              refine lv_aload_n hx hb dX1_step_47 rfl (lv_at hl 0 rfl) ?_
              refine m_get C I rfl 1 (by decide) q217 rfl dX1_step_48 ?_
              refine lv_aload_n hx hb dX1_step_51 rfl (lv_at hl 0 rfl) ?_
              refine m_get C I rfl 0 (by decide) q216 rfl dX1_step_52 ?_
              refine lv_iload_n hx hb dX1_step_55 rfl (lv_at hl 1 rfl) ?_
              refine i_ist (ws' := wM h d (nI n) (upd gK n (nI k)) gA gB gN gM' gT gF gE) C I 1 rfl (by omega) rfl dX1_step_56 (fun H locs I => ?_)
              refine lv_aload_n hx hb dX1_step_57 rfl (lv_at hl 0 rfl) ?_
              refine m_get C I rfl 2 (by decide) q218 rfl dX1_step_58 ?_
              refine lv_aload_n hx hb dX1_step_61 rfl (lv_at hl 0 rfl) ?_
              refine m_get C I rfl 0 (by decide) q216 rfl dX1_step_62 ?_
              refine lv_iload_n hx hb dX1_step_65 rfl (lv_at hl 2 rfl) ?_
              refine lv_iconst (v := nI 3) hx hb dX1_step_66 (by decide) ?_
              refine lv_iand hx hb dX1_step_67 ?_
              refine lv_topi (fun z_1 ez_1 => ?_)
              obtain rfl : z_1 = nI (ab % 4) := ez_1.trans (n_and3 (by omega))
              refine i_ist (ws' := wM h d (nI n) (upd gK n (nI k)) (upd gA n (nI (ab % 4))) gB gN gM' gT gF gE) C I 2 rfl (by omega) rfl dX1_step_68 (fun H locs I => ?_)
              refine lv_aload_n hx hb dX1_step_69 rfl (lv_at hl 0 rfl) ?_
              refine m_get C I rfl 3 (by decide) q219 rfl dX1_step_70 ?_
              refine lv_aload_n hx hb dX1_step_73 rfl (lv_at hl 0 rfl) ?_
              refine m_get C I rfl 0 (by decide) q216 rfl dX1_step_74 ?_
              refine lv_iload_n hx hb dX1_step_77 rfl (lv_at hl 2 rfl) ?_
              refine lv_iconst (v := nI 2) hx hb dX1_step_78 (by decide) ?_
              refine lv_ishr hx hb dX1_step_79 ?_
              refine lv_topi (fun z_2 ez_2 => ?_)
              obtain rfl : z_2 = nI (ab / 4) := ez_2.trans (n_shr2 (by omega))
              refine i_ist (ws' := wM h d (nI n) (upd gK n (nI k)) (upd gA n (nI (ab % 4))) (upd gB n (nI (ab / 4))) gN gM' gT gF gE) C I 3 rfl (by omega) rfl dX1_step_80 (fun H locs I => ?_)
              refine lv_aload_n hx hb dX1_step_81 rfl (lv_at hl 0 rfl) ?_
              refine m_get C I rfl 4 (by decide) q220 rfl dX1_step_82 ?_
              refine lv_aload_n hx hb dX1_step_85 rfl (lv_at hl 0 rfl) ?_
              refine m_get C I rfl 0 (by decide) q216 rfl dX1_step_86 ?_
              refine lv_iload_n hx hb dX1_step_89 rfl (lv_at hl 3 rfl) ?_
              refine i_ist (ws' := wM h d (nI n) (upd gK n (nI k)) (upd gA n (nI (ab % 4))) (upd gB n (nI (ab / 4))) (upd gN n x3) gM' gT gF gE) C I 4 rfl (by omega) rfl dX1_step_90 (fun H locs I => ?_)
              refine lv_aload_n hx hb dX1_step_91 rfl (lv_at hl 0 rfl) ?_
              refine lv_dup hx hb dX1_step_92 rfl ?_
              refine m_get C I rfl 0 (by decide) q216 rfl dX1_step_93 ?_
              refine lv_iconst (v := nI 1) hx hb dX1_step_96 (by decide) ?_
              refine n_add hx hb dX1_step_97 ?_
              refine m_put (ws' := wM h d (nI (n + 1)) (upd gK n (nI k)) (upd gA n (nI (ab % 4))) (upd gB n (nI (ab / 4))) (upd gN n x3) gM' gT gF gE) (ty := .int) C I rfl 0 (by decide) q216 rfl (by decide +kernel) rfl rfl (Nat.le_of_ble_eq_true rfl) rfl dX1_step_98 (fun H locs I => ?_)
              refine lv_aload_n hx hb dX1_step_101 rfl (lv_at hl 0 rfl) ?_
              refine m_get C I rfl 0 (by decide) q216 rfl dX1_step_102 ?_
              refine lv_iconst (v := nI 1) hx hb dX1_step_105 (by decide) ?_
              refine n_sub hx hb dX1_step_106 (by omega) ?_
              exact hret (nI ((n + 1) - 1)) _ _ _ _ _ rfl I (⟨stA_n hO c_37, mw_step (stC_t hO c_37) hk hab ⟨_, _, _, _, _, _, _, _, _, mi_add hG c_37 (ps_new hk hab hok) hP hgM', rfl⟩⟩) dX1_step_107
            · refine lv_bipush (v := -2) hx hb dX1_step_40 (by decide) ?_
              exact hret (-2) _ _ _ _ _ rfl I (⟨stA_2 hO c_37, mw_same (stC_f (Or.inr c_37)) ⟨_, _, _, _, _, _, _, _, _, hMI, rfl⟩⟩) dX1_step_42
          · refine lv_iconst (v := -1) hx hb dX1_step_29 (by decide) ?_
            exact hret (-1) _ _ _ _ _ rfl I (⟨stA_f (stO_f (by first | exact Or.inl (by simp only [Int32.lt_iff_toInt_lt, Int32.le_iff_toInt_le, ← Int32.toInt_inj, i_m20, i_m3, i_0, ti_0, ti_1, ti_2, ti_3, ti_4, ti_5, ti_6, ti_7, ti_12, ti_15, ti_16, ti_20, ti_255, ti_256] at c_1; omega) | exact Or.inr (bI_0.mp c_26)) (by omega)), mw_same (stC_f (Or.inl (stO_f (by first | exact Or.inl (by simp only [Int32.lt_iff_toInt_lt, Int32.le_iff_toInt_le, ← Int32.toInt_inj, i_m20, i_m3, i_0, ti_0, ti_1, ti_2, ti_3, ti_4, ti_5, ti_6, ti_7, ti_12, ti_15, ti_16, ti_20, ti_255, ti_256] at c_1; omega) | exact Or.inr (bI_0.mp c_26)) (by omega)))) ⟨_, _, _, _, _, _, _, _, _, hMI, rfl⟩⟩) dX1_step_30
set_option maxHeartbeats 4000000 in
set_option maxRecDepth 100000 in
/-- drop() -/
theorem kM_drop (l : Launch) (D : va_G) (d : Nat → ClassId) (h : Nat → Nat) (n : Nat) (G : Pg) (mk : Nat → Bool) (sz : Int32) (gK gA gB gN gM gT gF gE : Nat → Int32) (hM : MI n G mk sz gK gA gB gN gM)  : CT l yX1_drop (ws_ yX1_drop cX1_drop 1 (some .int)) (rk 2) D d [.ref (h 0)] (wM h d sz gK gA gB gN gM gT gF gE) (fun r w' => r = drA n ∧ MW (n - 1) G (drM n mk) h d w') := by
  have hMI := hM
  obtain ⟨rfl, hG, hP, hMk⟩ := hM
  have hn12 := hG.1
  refine ct_in (cc := cX1_drop) (nL := 1) (ty := .int) (by decide) rfl (Nat.le_of_ble_eq_true rfl) ?_
  intro p e s m ar bl me c A Q ls C I hl hret
  have hx := C.1.1
  have hb := C.1.2.1
  have hl : lv_has ls 1 [(0, .ref (h 0))] := hl
  refine lv_aload_n hx hb dX1_drop_0 rfl (lv_at hl 0 rfl) ?_
  refine m_get C I rfl 0 (by decide) q216 rfl dX1_drop_1 ?_
  refine n_ifne (tgt := 9) hx hb dX1_drop_4 (by decide) (by omega) (fun c_4 => ?_) (fun c_4 => ?_)
  · refine lv_aload_n hx hb dX1_drop_9 rfl (lv_at hl 0 rfl) ?_
    refine cv_call (As := []) (rest := []) C I (kM_forget l D d h (nI n) gK gA gB gN gM gT gF gE) (cwV 0 C.1.2.2.2.2 (lw_V q252 q254 qs14 q22 q255) rfl rfl rfl (by decide +kernel) ⟨Nat.le_of_ble_eq_true rfl, Nat.le_of_ble_eq_true rfl⟩) rfl rfl rfl hl.1 rfl (Nat.le_of_ble_eq_true rfl) dX1_drop_10 ⟨Nat.zero_le _, Nat.zero_le _⟩ (fun w' H locs hpo I => ?_)
    obtain ⟨gM', hgM', rfl⟩ := hpo
    refine lv_aload_n hx hb dX1_drop_13 rfl (lv_at hl 0 rfl) ?_
    refine lv_dup hx hb dX1_drop_14 rfl ?_
    refine m_get C I rfl 0 (by decide) q216 rfl dX1_drop_15 ?_
    refine lv_iconst (v := nI 1) hx hb dX1_drop_18 (by decide) ?_
    refine n_sub hx hb dX1_drop_19 (by omega) ?_
    refine m_put (ws' := wM h d (nI (n - 1)) gK gA gB gN gM' gT gF gE) (ty := .int) C I rfl 0 (by decide) q216 rfl (by decide +kernel) rfl rfl (Nat.le_of_ble_eq_true rfl) rfl dX1_drop_20 (fun H locs I => ?_)
    refine lv_aload_n hx hb dX1_drop_23 rfl (lv_at hl 0 rfl) ?_
    refine m_get C I rfl 0 (by decide) q216 rfl dX1_drop_24 ?_
    exact hret (nI (n - 1)) _ _ _ _ _ rfl I (⟨by rw [drA, if_neg c_4], by rw [drM, if_neg c_4]; exact ⟨_, _, _, _, _, _, _, _, _, ⟨rfl, pw_sub hG, fun p hp => hP p (by omega), hgM'⟩, rfl⟩⟩) dX1_drop_27
  · refine lv_iconst (v := -1) hx hb dX1_drop_7 (by decide) ?_
    exact hret (-1) _ _ _ _ _ rfl I (⟨by rw [c_4]; rfl, by rw [c_4] at hMI ⊢; exact ⟨_, _, _, _, _, _, _, _, _, hMI, rfl⟩⟩) dX1_drop_8
end
section
/-! the machine's ints as whole numbers -/
theorem bm32 {x : Int} (h1 : -2147483648 ≤ x) (h2 : x ≤ 2147483647) : x.bmod (2 ^ 32) = x := by
  have e : ((2 ^ 32 : Nat) : Int) = 4294967296 := rfl
  exact Int.bmod_eq_of_le (by rw [e]; omega) (by rw [e]; omega)
theorem tI_add {a b : Int32} (h1 : -2147483648 ≤ a.toInt + b.toInt) (h2 : a.toInt + b.toInt ≤ 2147483647) : (a + b).toInt = a.toInt + b.toInt := by rw [Int32.toInt_add, bm32 h1 h2]
theorem tI_sub {a b : Int32} (h1 : -2147483648 ≤ a.toInt - b.toInt) (h2 : a.toInt - b.toInt ≤ 2147483647) : (a - b).toInt = a.toInt - b.toInt := by rw [Int32.toInt_sub, bm32 h1 h2]
theorem tI_mul {a b : Int32} (h1 : -2147483648 ≤ a.toInt * b.toInt) (h2 : a.toInt * b.toInt ≤ 2147483647) : (a * b).toInt = a.toInt * b.toInt := by rw [Int32.toInt_mul, bm32 h1 h2]
theorem tI_neg {a : Int32} (h1 : -2147483647 ≤ a.toInt) : (-a).toInt = -a.toInt := by
  have h2 := a.toInt_lt
  have h3 := a.le_toInt
  rw [Int32.toInt_neg, bm32 (by omega) (by omega)]
theorem tI_div {a b : Int32} (h1 : -2000000000 ≤ a.toInt) (h2 : a.toInt ≤ 2000000000) : (a / b).toInt = a.toInt.tdiv b.toInt ∧ -2000000000 ≤ a.toInt.tdiv b.toInt ∧ a.toInt.tdiv b.toInt ≤ 2000000000 := by
  have h := Int.natAbs_tdiv_le_natAbs a.toInt b.toInt
  have h3 : -2000000000 ≤ a.toInt.tdiv b.toInt ∧ a.toInt.tdiv b.toInt ≤ 2000000000 := by omega
  exact ⟨by rw [Int32.toInt_div, bm32 (by omega) (by omega)], h3⟩
theorem floor_a {a b : Int32} (hb : 0 < b.toInt) (hb2 : b.toInt ≤ 1000000000) (h1 : -1000000000 ≤ a.toInt) (h2 : a.toInt ≤ 1000000000) : ∃ t m : Int, (a / b).toInt = t ∧ (a / b * b).toInt = t * b.toInt ∧ t * b.toInt + m = a.toInt ∧ -b.toInt < m ∧ m < b.toInt ∧ -1000000000 ≤ t := by
  obtain ⟨e, e1, e2⟩ := tI_div (a := a) (b := b) (by omega) (by omega)
  have h3 := Int.mul_tdiv_add_tmod a.toInt b.toInt
  have h4 := Int.tmod_lt_of_pos a.toInt hb
  have h5 := Int.lt_tmod_of_pos a.toInt hb
  have h6 := Int.natAbs_tdiv_le_natAbs a.toInt b.toInt
  rw [Int.mul_comm] at h3
  refine ⟨_, _, e, ?_, h3, h5, h4, by omega⟩
  rw [tI_mul (by rw [e]; omega) (by rw [e]; omega), e]
theorem floor_le {a b : Int32} (hb : 0 < b.toInt) (hb2 : b.toInt ≤ 1000000000) (h1 : -1000000000 ≤ a.toInt) (h2 : a.toInt ≤ 1000000000) (c : a / b * b ≤ a) : (a / b).toInt * b.toInt ≤ a.toInt ∧ a.toInt < ((a / b).toInt + 1) * b.toInt := by
  obtain ⟨t, m, e1, e2, e3, e4, e5, e6⟩ := floor_a hb hb2 h1 h2
  rw [Int32.le_iff_toInt_le, e2] at c
  rw [e1, Int.add_mul]
  omega
theorem floor_gt {a b : Int32} (hb : 0 < b.toInt) (hb2 : b.toInt ≤ 1000000000) (h1 : -1000000000 ≤ a.toInt) (h2 : a.toInt ≤ 1000000000) (c : ¬ a / b * b ≤ a) : (a / b - nI 1).toInt * b.toInt ≤ a.toInt ∧ a.toInt < ((a / b - nI 1).toInt + 1) * b.toInt := by
  obtain ⟨t, m, e1, e2, e3, e4, e5, e6⟩ := floor_a hb hb2 h1 h2
  obtain ⟨-, f1, f2⟩ := tI_div (a := a) (b := b) (by omega) (by omega)
  rw [Int32.le_iff_toInt_le, e2] at c
  have e7 : (a / b - nI 1).toInt = t - 1 := by
    have h9 := (a / b).toInt_lt
    rw [e1] at h9
    rw [tI_sub (by rw [e1, ti_1]; omega) (by rw [e1, ti_1]; omega), e1, ti_1]
  rw [e7, Int.sub_mul, Int.add_mul, Int.sub_mul]
  omega
/-- the y up to a last one -/
theorem up_neg {a : Int32} (c : ¬ 0 ≤ a) : ∀ y : Nat, y < 16 → bt (nI 0) y = decide ((y : Int) ≤ a.toInt) := by
  intro y hy
  rw [Int32.le_iff_toInt_le, i_0] at c
  rw [decide_eq_false (by omega)]
  exact b_0 y
theorem up_all {a : Int32} (c : ¬ a < nI 15) : ∀ y : Nat, y < 16 → bt 65535 y = decide ((y : Int) ≤ a.toInt) := by
  intro y hy
  rw [Int32.lt_iff_toInt_lt, ti_15] at c
  rw [decide_eq_true (by omega), b_65535, decide_eq_true hy]
theorem up_tab : ∀ k, k < 15 → ∀ y, y < 16 → bt ((nI 1) <<< ((nI k + nI 1) &&& 31) - nI 1) y = decide (y ≤ k) := by decide +kernel
theorem up_mid {a : Int32} (c : 0 ≤ a) (c2 : a < nI 15) : ∀ y : Nat, y < 16 → bt ((nI 1) <<< ((a + nI 1) &&& 31) - nI 1) y = decide ((y : Int) ≤ a.toInt) := by
  intro y hy
  obtain ⟨k, hk, rfl⟩ := nI_of (x := a) (Int32.not_lt.mpr c)
  have h2 := (nI_ltI hk (by decide)).mp c2
  rw [up_tab k h2 y hy, nI_toInt hk]
  exact decide_eq_decide.mpr (by omega)
/-- below: factor above 0 -/
theorem bel_pos {c f last : Int} {y : Nat} (hf : 0 < f) (h1 : last * f ≤ -c - 1) (h2 : -c - 1 < (last + 1) * f) : decide ((y : Int) ≤ last) = decide (c + f * y < 0) := by
  refine decide_eq_decide.mpr ⟨fun h => ?_, fun h => ?_⟩
  · have h3 := Int.mul_le_mul_of_nonneg_right h (Int.le_of_lt hf)
    rw [Int.mul_comm (y : Int) f] at h3
    omega
  · refine Int.not_lt.mp fun q => ?_
    have h3 := Int.mul_le_mul_of_nonneg_right (show last + 1 ≤ (y : Int) by omega) (Int.le_of_lt hf)
    rw [Int.mul_comm (y : Int) f] at h3
    omega
/-- below: factor under 0 -/
theorem bel_neg {c f last : Int} {y : Nat} (hf : f < 0) (h1 : last * (-f) ≤ c) (h2 : c < (last + 1) * (-f)) : decide ((y : Int) ≤ last) = !decide (c + f * y < 0) := by
  rw [← decide_not]
  refine decide_eq_decide.mpr ⟨fun h => ?_, fun h => ?_⟩
  · have h3 := Int.mul_le_mul_of_nonneg_right h (show 0 ≤ -f by omega)
    rw [Int.mul_comm (y : Int) (-f), Int.neg_mul] at h3
    omega
  · refine Int.not_lt.mp fun q => ?_
    have h3 := Int.mul_le_mul_of_nonneg_right (show last + 1 ≤ (y : Int) by omega) (show 0 ≤ -f by omega)
    rw [Int.mul_comm (y : Int) (-f), Int.neg_mul] at h3
    omega
theorem one_tab : ∀ k, k < 16 → ∀ y, y < 16 → bt ((nI 1) <<< (nI k &&& 31)) y = decide (y = k) := by decide +kernel
/-- zero: the exact one -/
theorem zer_t {c f q : Int32} (hf : f.toInt ≠ 0) (hc1 : -1000000000 ≤ c.toInt) (hc2 : c.toInt ≤ 1000000000) (hq : q = -c / f) (hb : -1000000000 ≤ f.toInt ∧ f.toInt ≤ 1000000000) (e : q * f = -c) (h0 : ¬ q < 0) (h1 : ¬ nI 16 ≤ q) : ∀ y : Nat, y < 16 → bt ((nI 1) <<< (q &&& 31)) y = decide (c.toInt + f.toInt * y = 0) := by
  intro y hy
  obtain ⟨k, hk, rfl⟩ := nI_of h0
  have hk2 : k < 16 := Nat.lt_of_not_le fun z => h1 (nI_le z hk)
  rw [one_tab k hk2 y hy]
  have e2 : (nI k * f).toInt = k * f.toInt := by
    have : -16000000000 ≤ (k : Int) * f.toInt := by
      have h3 := Int.mul_le_mul_of_nonneg_left hb.1 (show (0 : Int) ≤ k by omega)
      omega
    have e3 := congrArg Int32.toInt hq
    obtain ⟨e4, -⟩ := tI_div (a := -c) (b := f) (by rw [tI_neg (by omega)]; omega) (by rw [tI_neg (by omega)]; omega)
    rw [e4, nI_toInt hk, tI_neg (by omega)] at e3
    have h5 := Int.mul_tdiv_add_tmod (-c.toInt) f.toInt
    rw [← e3] at h5
    have h6 : ((-c.toInt).tmod f.toInt).natAbs ≤ (-c.toInt).natAbs := by
      rw [Int.natAbs_tmod]
      exact Nat.mod_le _ _
    rw [Int.mul_comm] at h5
    rw [tI_mul (by rw [nI_toInt hk]; omega) (by rw [nI_toInt hk]; omega), nI_toInt hk]
  have e3 := congrArg Int32.toInt e
  rw [e2, tI_neg (by omega)] at e3
  refine decide_eq_decide.mpr ⟨fun h => ?_, fun h => ?_⟩
  · rw [h, Int.mul_comm]; omega
  · have h4 : f.toInt * (y : Int) = f.toInt * (k : Int) := by rw [Int.mul_comm f.toInt k]; omega
    have h5 := Int.eq_of_mul_eq_mul_left hf h4
    omega
theorem zer_f {c f q : Int32} (hf : f.toInt ≠ 0) (hc1 : -1000000000 ≤ c.toInt) (hc2 : c.toInt ≤ 1000000000) (hq : q = -c / f) (h : ¬ (q * f = -c) ∨ q < 0 ∨ nI 16 ≤ q) : ∀ y : Nat, y < 16 → bt (nI 0) y = decide (c.toInt + f.toInt * y = 0) := by
  intro y hy
  rw [show bt (nI 0) y = false from b_0 y]
  symm
  refine decide_eq_false fun z => ?_
  obtain ⟨e4, -⟩ := tI_div (a := -c) (b := f) (by rw [tI_neg (by omega)]; omega) (by rw [tI_neg (by omega)]; omega)
  have e5 : q.toInt = y := by
    rw [hq, e4, tI_neg (by omega), show -c.toInt = f.toInt * y by omega, Int.mul_tdiv_cancel_left _ hf]
  rcases h with q1 | q1 | q1
  · refine q1 (Int32.toInt_inj.mp ?_)
    rw [tI_mul (by rw [e5, Int.mul_comm]; omega) (by rw [e5, Int.mul_comm]; omega), e5, tI_neg (by omega), Int.mul_comm]
    omega
  · rw [Int32.lt_iff_toInt_lt, i_0] at q1; omega
  · rw [Int32.le_iff_toInt_le, ti_16] at q1; omega
end
section
set_option maxHeartbeats 4000000 in
set_option maxRecDepth 100000 in
/-- floor(a, b), b above 0 -/
theorem kX_floor (l : Launch) (x0 x1 : Int32) (hb0 : 0 < x1.toInt) (hb2 : x1.toInt ≤ 1000000000) (h1 : -1000000000 ≤ x0.toInt) (h2 : x0.toInt ≤ 1000000000) : CS l yX0_floor (ws_ yX0_floor cX0_floor 3 (some .int)) (rk 0) [.int x0, .int x1] (fun r => r.toInt * x1.toInt ≤ x0.toInt ∧ x0.toInt < (r.toInt + 1) * x1.toInt) := by
  refine cs_in (cc := cX0_floor) (nL := 3) (ty := .int) (by decide) rfl (Nat.le_of_ble_eq_true rfl) ?_
  intro p e s m ar bl me c H Q ls C hl hret
  have hx := C.1
  have hb := C.2.1
  have hl : lv_has ls 3 [(0, .int x0), (1, .int x1)] := hl
  refine lv_iload_n hx hb dX0_floor_0 rfl (lv_at hl 1 rfl) ?_
  refine lv_if_le (tgt := 10) hx hb dX0_floor_1 (by decide) (fun c_1 => ?_) (fun c_1 => ?_)
  · skip
    exact absurd c_1 (by rw [Int32.le_iff_toInt_le, i_0]; omega)
  · refine lv_iload_n hx hb dX0_floor_4 rfl (lv_at hl 0 rfl) ?_
    refine lv_iload_n hx hb dX0_floor_5 rfl (lv_at hl 1 rfl) ?_
    refine lv_idiv hx hb dX0_floor_6 (by intro q; rw [q, i_0] at hb0; omega) ?_
    refine lv_goto (tgt := 11) hx hb dX0_floor_7 (by decide) ?_
    refine lv_istore_n (lv' := [(2, .int (x0 / x1)), (0, .int x0), (1, .int x1)]) hx hb dX0_floor_11 rfl hl (by decide) rfl (fun ls hl => ?_)
    refine lv_iload_n hx hb dX0_floor_12 rfl (lv_at hl 0 rfl) ?_
    refine lv_iload_n hx hb dX0_floor_13 rfl (lv_at hl 2 rfl) ?_
    refine lv_imul hx hb dX0_floor_14 ?_
    refine lv_iload_n hx hb dX0_floor_15 rfl (lv_at hl 1 rfl) ?_
    refine lv_icmp_le (tgt := 25) hx hb dX0_floor_16 (by decide) (fun c_16 => ?_) (fun c_16 => ?_)
    · refine lv_iload_n hx hb dX0_floor_25 rfl (lv_at hl 0 rfl) ?_
      exact hret (x0 / x1) _ _ rfl (floor_le hb0 hb2 h1 h2 c_16) dX0_floor_26
    · refine lv_iload_n hx hb dX0_floor_19 rfl (lv_at hl 0 rfl) ?_
      refine lv_iconst (v := nI 1) hx hb dX0_floor_20 (by decide) ?_
      refine lv_isub hx hb dX0_floor_21 ?_
      refine lv_goto (tgt := 26) hx hb dX0_floor_22 (by decide) ?_
      exact hret ((x0 / x1) - (nI 1)) _ _ rfl (floor_gt hb0 hb2 h1 h2 c_16) dX0_floor_26
set_option maxHeartbeats 4000000 in
set_option maxRecDepth 100000 in
/-- upTo(last) -/
theorem kX_upTo (l : Launch) (x0 : Int32) : CS l yX0_upTo (ws_ yX0_upTo cX0_upTo 1 (some .int)) (rk 0) [.int x0] (fun r => ∀ y : Nat, y < 16 → bt r y = decide ((y : Int) ≤ x0.toInt)) := by
  refine cs_in (cc := cX0_upTo) (nL := 1) (ty := .int) (by decide) rfl (Nat.le_of_ble_eq_true rfl) ?_
  intro p e s m ar bl me c H Q ls C hl hret
  have hx := C.1
  have hb := C.2.1
  have hl : lv_has ls 1 [(0, .int x0)] := hl
  refine lv_iload_n hx hb dX0_upTo_0 rfl (lv_at hl 0 rfl) ?_
  refine lv_if_ge (tgt := 6) hx hb dX0_upTo_1 (by decide) (fun c_1 => ?_) (fun c_1 => ?_)
  · refine lv_iload_n hx hb dX0_upTo_6 rfl (lv_at hl 0 rfl) ?_
    refine lv_bipush (v := nI 15) hx hb dX0_upTo_7 (by decide) ?_
    refine lv_icmp_lt (tgt := 17) hx hb dX0_upTo_9 (by decide) (fun c_9 => ?_) (fun c_9 => ?_)
    · refine lv_iconst (v := nI 1) hx hb dX0_upTo_17 (by decide) ?_
      refine lv_iload_n hx hb dX0_upTo_18 rfl (lv_at hl 0 rfl) ?_
      refine lv_iconst (v := nI 1) hx hb dX0_upTo_19 (by decide) ?_
      refine lv_iadd hx hb dX0_upTo_20 ?_
      refine lv_ishl hx hb dX0_upTo_21 ?_
      refine lv_iconst (v := nI 1) hx hb dX0_upTo_22 (by decide) ?_
      refine lv_isub hx hb dX0_upTo_23 ?_
      exact hret (((nI 1) <<< ((x0 + (nI 1)) &&& 31)) - (nI 1)) _ _ rfl (up_mid c_1 c_9) dX0_upTo_24
    · refine lv_ldc (v := 65535) hx hb C.2.2.2.1 (C.2.2.2.2 _ q113) dX0_upTo_12 ?_
      refine lv_goto (tgt := 24) hx hb dX0_upTo_14 (by decide) ?_
      exact hret 65535 _ _ rfl (up_all c_9) dX0_upTo_24
  · refine lv_iconst (v := nI 0) hx hb dX0_upTo_4 (by decide) ?_
    exact hret (nI 0) _ _ rfl (up_neg c_1) dX0_upTo_5
set_option maxHeartbeats 4000000 in
set_option maxRecDepth 100000 in
/-- below(constant, factor) -/
theorem kX_below (l : Launch) (x0 x1 : Int32) (hc : -500000000 ≤ x0.toInt ∧ x0.toInt ≤ 500000000) (hf : -500000000 ≤ x1.toInt ∧ x1.toInt ≤ 500000000) : CS l yX0_below (ws_ yX0_below cX0_below 3 (some .int)) (rk 1) [.int x0, .int x1] (fun r => ∀ y : Nat, y < 16 → bt r y = decide (x0.toInt + x1.toInt * y < 0)) := by
  refine cs_in (cc := cX0_below) (nL := 3) (ty := .int) (by decide) rfl (Nat.le_of_ble_eq_true rfl) ?_
  intro p e s m ar bl me c H Q ls C hl hret
  have hx := C.1
  have hb := C.2.1
  have hl : lv_has ls 3 [(0, .int x0), (1, .int x1)] := hl
  refine lv_iload_n hx hb dX0_below_0 rfl (lv_at hl 1 rfl) ?_
  refine lv_if_ne (tgt := 15) hx hb dX0_below_1 (by decide) (fun c_1 => ?_) (fun c_1 => ?_)
  · have hn1 : (-x0).toInt = -x0.toInt := tI_neg (by omega)
    have hn2 : (-x0 - nI 1).toInt = -x0.toInt - 1 := by rw [tI_sub (by rw [hn1, ti_1]; omega) (by rw [hn1, ti_1]; omega), hn1, ti_1]
    have hn3 : (-x1).toInt = -x1.toInt := tI_neg (by omega)
    have hz : x1.toInt ≠ 0 := fun q => c_1 (Int32.toInt_inj.mp (by rw [q, i_0]))
    refine lv_iload_n hx hb dX0_below_15 rfl (lv_at hl 1 rfl) ?_
    refine lv_if_le (tgt := 33) hx hb dX0_below_16 (by decide) (fun c_16 => ?_) (fun c_16 => ?_)
    · refine lv_iload_n hx hb dX0_below_33 rfl (lv_at hl 0 rfl) ?_
      refine lv_iload_n hx hb dX0_below_34 rfl (lv_at hl 1 rfl) ?_
      refine lv_ineg hx hb dX0_below_35 ?_
      have hp : x1.toInt < 0 := by rw [Int32.le_iff_toInt_le, i_0] at c_16; omega
      refine cs_call (As := [.int x0, .int (-x1)]) (rest := []) C (kX_floor l x0 (-x1) (by omega) (by omega) (by omega) (by omega)) (va_cwS 2 C.2.2.2.2 (lw_S q140 q141 q21 q142) rfl rfl rfl (by decide +kernel) ⟨Nat.le_of_ble_eq_true rfl, Nat.le_of_ble_eq_true rfl⟩) rfl hl.1 rfl (Nat.le_of_ble_eq_true rfl) dX0_below_36 ⟨Nat.zero_le _, Nat.zero_le _⟩ (fun r1 hpo => ?_)
      rw [hn3] at hpo
      have hfl := hpo
      refine lv_istore_n (lv' := [(2, .int r1), (0, .int x0), (1, .int x1)]) hx hb dX0_below_39 rfl hl (by decide) rfl (fun ls hl => ?_)
      refine lv_ldc (v := 65535) hx hb C.2.2.2.1 (C.2.2.2.2 _ q113) dX0_below_40 ?_
      refine lv_iload_n hx hb dX0_below_42 rfl (lv_at hl 0 rfl) ?_
      refine cs_call (As := [.int r1]) (rest := [.int 65535]) C (kX_upTo l r1) (va_cwS 1 C.2.2.2.2 (lw_S q143 q144 q21 q145) rfl rfl rfl (by decide +kernel) ⟨Nat.le_of_ble_eq_true rfl, Nat.le_of_ble_eq_true rfl⟩) rfl hl.1 rfl (Nat.le_of_ble_eq_true rfl) dX0_below_43 ⟨Nat.zero_le _, Nat.zero_le _⟩ (fun r2 hpo => ?_)
      refine lv_iconst (v := -1) hx hb dX0_below_46 (by decide) ?_
      refine lv_ixor hx hb dX0_below_47 ?_
      refine lv_iand hx hb dX0_below_48 ?_
      exact hret (65535 &&& (r2 ^^^ (-1))) _ _ rfl (by intro y hy; rw [b_and, b_65535, decide_eq_true hy, b_not _ (by omega), hpo y hy, bel_neg hp hfl.1 hfl.2]; simp) dX0_below_49
    · refine lv_iload_n hx hb dX0_below_19 rfl (lv_at hl 0 rfl) ?_
      refine lv_ineg hx hb dX0_below_20 ?_
      refine lv_iconst (v := nI 1) hx hb dX0_below_21 (by decide) ?_
      refine lv_isub hx hb dX0_below_22 ?_
      refine lv_iload_n hx hb dX0_below_23 rfl (lv_at hl 1 rfl) ?_
      have hp : 0 < x1.toInt := by rw [Int32.le_iff_toInt_le, i_0] at c_16; omega
      refine cs_call (As := [.int ((-x0) - (nI 1)), .int x1]) (rest := []) C (kX_floor l (-x0 - nI 1) x1 hp (by omega) (by omega) (by omega)) (va_cwS 2 C.2.2.2.2 (lw_S q140 q141 q21 q142) rfl rfl rfl (by decide +kernel) ⟨Nat.le_of_ble_eq_true rfl, Nat.le_of_ble_eq_true rfl⟩) rfl hl.1 rfl (Nat.le_of_ble_eq_true rfl) dX0_below_24 ⟨Nat.zero_le _, Nat.zero_le _⟩ (fun r1 hpo => ?_)
      rw [hn2] at hpo
      have hfl := hpo
      refine lv_istore_n (lv' := [(2, .int r1), (0, .int x0), (1, .int x1)]) hx hb dX0_below_27 rfl hl (by decide) rfl (fun ls hl => ?_)
      refine lv_iload_n hx hb dX0_below_28 rfl (lv_at hl 0 rfl) ?_
      refine cs_call (As := [.int r1]) (rest := []) C (kX_upTo l r1) (va_cwS 1 C.2.2.2.2 (lw_S q143 q144 q21 q145) rfl rfl rfl (by decide +kernel) ⟨Nat.le_of_ble_eq_true rfl, Nat.le_of_ble_eq_true rfl⟩) rfl hl.1 rfl (Nat.le_of_ble_eq_true rfl) dX0_below_29 ⟨Nat.zero_le _, Nat.zero_le _⟩ (fun r2 hpo => ?_)
      exact hret r2 _ _ rfl (fun y hy => (hpo y hy).trans (bel_pos hp hfl.1 hfl.2)) dX0_below_32
  · refine lv_iload_n hx hb dX0_below_4 rfl (lv_at hl 0 rfl) ?_
    refine lv_if_ge (tgt := 13) hx hb dX0_below_5 (by decide) (fun c_5 => ?_) (fun c_5 => ?_)
    · refine lv_iconst (v := nI 0) hx hb dX0_below_13 (by decide) ?_
      exact hret (nI 0) _ _ rfl (by intro y hy; have h0 : x1.toInt = 0 := (by rw [c_1, i_0]); rw [Int32.le_iff_toInt_le, i_0] at c_5; rw [h0, show bt (nI 0) y = false from b_0 y, decide_eq_false (by omega)]) dX0_below_14
    · refine lv_ldc (v := 65535) hx hb C.2.2.2.1 (C.2.2.2.2 _ q113) dX0_below_8 ?_
      refine lv_goto (tgt := 14) hx hb dX0_below_10 (by decide) ?_
      exact hret 65535 _ _ rfl (by intro y hy; have h0 : x1.toInt = 0 := (by rw [c_1, i_0]); rw [Int32.le_iff_toInt_le, i_0] at c_5; rw [h0, b_65535, decide_eq_true hy, decide_eq_true (by omega)]) dX0_below_14
set_option maxHeartbeats 4000000 in
set_option maxRecDepth 100000 in
/-- zero(constant, factor) -/
theorem kX_zero (l : Launch) (x0 x1 : Int32) (hc : -500000000 ≤ x0.toInt ∧ x0.toInt ≤ 500000000) (hf : -500000000 ≤ x1.toInt ∧ x1.toInt ≤ 500000000) : CS l yX0_zero (ws_ yX0_zero cX0_zero 4 (some .int)) (rk 0) [.int x0, .int x1] (fun r => ∀ y : Nat, y < 16 → bt r y = decide (x0.toInt + x1.toInt * y = 0)) := by
  refine cs_in (cc := cX0_zero) (nL := 4) (ty := .int) (by decide) rfl (Nat.le_of_ble_eq_true rfl) ?_
  intro p e s m ar bl me c H Q ls C hl hret
  have hx := C.1
  have hb := C.2.1
  have hl : lv_has ls 4 [(0, .int x0), (1, .int x1)] := hl
  refine lv_iload_n hx hb dX0_zero_0 rfl (lv_at hl 1 rfl) ?_
  refine lv_if_ne (tgt := 15) hx hb dX0_zero_1 (by decide) (fun c_1 => ?_) (fun c_1 => ?_)
  · have hz : x1.toInt ≠ 0 := fun q => c_1 (Int32.toInt_inj.mp (by rw [q, i_0]))
    refine lv_iload_n hx hb dX0_zero_15 rfl (lv_at hl 0 rfl) ?_
    refine lv_ineg hx hb dX0_zero_16 ?_
    refine lv_iload_n hx hb dX0_zero_17 rfl (lv_at hl 1 rfl) ?_
    refine lv_idiv hx hb dX0_zero_18 (c_1) ?_
    refine lv_istore_n (lv' := [(2, .int ((-x0) / x1)), (0, .int x0), (1, .int x1)]) hx hb dX0_zero_19 rfl hl (by decide) rfl (fun ls hl => ?_)
    refine lv_iload_n hx hb dX0_zero_20 rfl (lv_at hl 0 rfl) ?_
    refine lv_iload_n hx hb dX0_zero_21 rfl (lv_at hl 2 rfl) ?_
    refine lv_imul hx hb dX0_zero_22 ?_
    refine lv_iload_n hx hb dX0_zero_23 rfl (lv_at hl 1 rfl) ?_
    refine lv_ineg hx hb dX0_zero_24 ?_
    refine lv_icmp_ne (tgt := 42) hx hb dX0_zero_25 (by decide) (fun c_25 => ?_) (fun c_25 => ?_)
    · refine lv_iconst (v := nI 0) hx hb dX0_zero_42 (by decide) ?_
      refine lv_istore_n (lv' := [(3, .int (nI 0)), (2, .int ((-x0) / x1)), (0, .int x0), (1, .int x1)]) hx hb dX0_zero_43 rfl hl (by decide) rfl (fun ls hl => ?_)
      refine lv_iload_n hx hb dX0_zero_44 rfl (lv_at hl 0 rfl) ?_
      refine n_ifeq (tgt := 54) hx hb dX0_zero_45 (by decide) (by decide) (fun _ => ?_) (fun q => absurd q (by decide))
      refine lv_iconst (v := nI 0) hx hb dX0_zero_54 (by decide) ?_
      exact hret (nI 0) _ _ rfl (zer_f hz (by omega) (by omega) rfl (by first | exact Or.inl c_25 | exact Or.inr (Or.inl c_29) | exact Or.inr (Or.inr c_35))) dX0_zero_55
    · refine lv_iload_n hx hb dX0_zero_28 rfl (lv_at hl 0 rfl) ?_
      refine lv_if_lt (tgt := 42) hx hb dX0_zero_29 (by decide) (fun c_29 => ?_) (fun c_29 => ?_)
      · refine lv_iconst (v := nI 0) hx hb dX0_zero_42 (by decide) ?_
        refine lv_istore_n (lv' := [(3, .int (nI 0)), (2, .int ((-x0) / x1)), (0, .int x0), (1, .int x1)]) hx hb dX0_zero_43 rfl hl (by decide) rfl (fun ls hl => ?_)
        refine lv_iload_n hx hb dX0_zero_44 rfl (lv_at hl 0 rfl) ?_
        refine n_ifeq (tgt := 54) hx hb dX0_zero_45 (by decide) (by decide) (fun _ => ?_) (fun q => absurd q (by decide))
        refine lv_iconst (v := nI 0) hx hb dX0_zero_54 (by decide) ?_
        exact hret (nI 0) _ _ rfl (zer_f hz (by omega) (by omega) rfl (by first | exact Or.inl c_25 | exact Or.inr (Or.inl c_29) | exact Or.inr (Or.inr c_35))) dX0_zero_55
      · refine lv_iload_n hx hb dX0_zero_32 rfl (lv_at hl 0 rfl) ?_
        refine lv_bipush (v := nI 16) hx hb dX0_zero_33 (by decide) ?_
        refine lv_icmp_ge (tgt := 42) hx hb dX0_zero_35 (by decide) (fun c_35 => ?_) (fun c_35 => ?_)
        · refine lv_iconst (v := nI 0) hx hb dX0_zero_42 (by decide) ?_
          refine lv_istore_n (lv' := [(3, .int (nI 0)), (2, .int ((-x0) / x1)), (0, .int x0), (1, .int x1)]) hx hb dX0_zero_43 rfl hl (by decide) rfl (fun ls hl => ?_)
          refine lv_iload_n hx hb dX0_zero_44 rfl (lv_at hl 0 rfl) ?_
          refine n_ifeq (tgt := 54) hx hb dX0_zero_45 (by decide) (by decide) (fun _ => ?_) (fun q => absurd q (by decide))
          refine lv_iconst (v := nI 0) hx hb dX0_zero_54 (by decide) ?_
          exact hret (nI 0) _ _ rfl (zer_f hz (by omega) (by omega) rfl (by first | exact Or.inl c_25 | exact Or.inr (Or.inl c_29) | exact Or.inr (Or.inr c_35))) dX0_zero_55
        · refine lv_iconst (v := nI 1) hx hb dX0_zero_38 (by decide) ?_
          refine lv_goto (tgt := 43) hx hb dX0_zero_39 (by decide) ?_
          refine lv_istore_n (lv' := [(3, .int (nI 1)), (2, .int ((-x0) / x1)), (0, .int x0), (1, .int x1)]) hx hb dX0_zero_43 rfl hl (by decide) rfl (fun ls hl => ?_)
          refine lv_iload_n hx hb dX0_zero_44 rfl (lv_at hl 0 rfl) ?_
          refine n_ifeq (tgt := 54) hx hb dX0_zero_45 (by decide) (by decide) (fun q => absurd q (by decide)) (fun _ => ?_)
          refine lv_iconst (v := nI 1) hx hb dX0_zero_48 (by decide) ?_
          refine lv_iload_n hx hb dX0_zero_49 rfl (lv_at hl 1 rfl) ?_
          refine lv_ishl hx hb dX0_zero_50 ?_
          refine lv_goto (tgt := 55) hx hb dX0_zero_51 (by decide) ?_
          exact hret ((nI 1) <<< (((-x0) / x1) &&& 31)) _ _ rfl (zer_t hz (by omega) (by omega) rfl (by omega) c_25 c_29 c_35) dX0_zero_55
  · refine lv_iload_n hx hb dX0_zero_4 rfl (lv_at hl 0 rfl) ?_
    refine lv_if_ne (tgt := 13) hx hb dX0_zero_5 (by decide) (fun c_5 => ?_) (fun c_5 => ?_)
    · refine lv_iconst (v := nI 0) hx hb dX0_zero_13 (by decide) ?_
      exact hret (nI 0) _ _ rfl (by intro y hy; have h0 : x1.toInt = 0 := (by rw [c_1, i_0]); have h5 : x0.toInt ≠ 0 := fun q => c_5 (Int32.toInt_inj.mp (by rw [q, i_0])); rw [h0, show bt (nI 0) y = false from b_0 y, decide_eq_false (by omega)]) dX0_zero_14
    · refine lv_ldc (v := 65535) hx hb C.2.2.2.1 (C.2.2.2.2 _ q113) dX0_zero_8 ?_
      refine lv_goto (tgt := 14) hx hb dX0_zero_10 (by decide) ?_
      exact hret 65535 _ _ rfl (by intro y hy; have h0 : x1.toInt = 0 := (by rw [c_1, i_0]); rw [h0, b_65535, decide_eq_true hy, c_5, i_0, decide_eq_true (by omega)]) dX0_zero_14
set_option maxHeartbeats 4000000 in
set_option maxRecDepth 100000 in
/-- isInput(input) -/
theorem kX_isInput (l : Launch) (x0 : Int32) : CS l yX0_isInput (ws_ yX0_isInput cX0_isInput 1 (some .boolean)) (rk 0) [.int x0] (fun r => r = bI (inR x0 256)) := by
  refine cs_in (cc := cX0_isInput) (nL := 1) (ty := .boolean) (by decide) rfl (Nat.le_of_ble_eq_true rfl) ?_
  intro p e s m ar bl me c H Q ls C hl hret
  have hx := C.1
  have hb := C.2.1
  have hl : lv_has ls 1 [(0, .int x0)] := hl
  refine lv_iload_n hx hb dX0_isInput_0 rfl (lv_at hl 0 rfl) ?_
  refine lv_if_lt (tgt := 15) hx hb dX0_isInput_1 (by decide) (fun c_1 => ?_) (fun c_1 => ?_)
  · refine lv_iconst (v := nI 0) hx hb dX0_isInput_15 (by decide) ?_
    exact hret (nI 0) _ _ rfl (bI_f (decide_eq_false (by simp only [Int32.lt_iff_toInt_lt, Int32.le_iff_toInt_le, ← Int32.toInt_inj, i_m20, i_m3, i_0, ti_0, ti_1, ti_2, ti_3, ti_4, ti_5, ti_6, ti_7, ti_12, ti_15, ti_16, ti_20, ti_255, ti_256] at c_1; omega))) dX0_isInput_16
  · refine lv_iload_n hx hb dX0_isInput_4 rfl (lv_at hl 0 rfl) ?_
    refine lv_sipush (v := nI 256) hx hb dX0_isInput_5 (by decide) ?_
    refine lv_icmp_ge (tgt := 15) hx hb dX0_isInput_8 (by decide) (fun c_8 => ?_) (fun c_8 => ?_)
    · refine lv_iconst (v := nI 0) hx hb dX0_isInput_15 (by decide) ?_
      exact hret (nI 0) _ _ rfl (bI_f (decide_eq_false (by simp only [Int32.lt_iff_toInt_lt, Int32.le_iff_toInt_le, ← Int32.toInt_inj, i_m20, i_m3, i_0, ti_0, ti_1, ti_2, ti_3, ti_4, ti_5, ti_6, ti_7, ti_12, ti_15, ti_16, ti_20, ti_255, ti_256] at c_1 c_8; omega))) dX0_isInput_16
    · refine lv_iconst (v := nI 1) hx hb dX0_isInput_11 (by decide) ?_
      refine lv_goto (tgt := 16) hx hb dX0_isInput_12 (by decide) ?_
      exact hret (nI 1) _ _ rfl (bI_t (decide_eq_true (by simp only [Int32.lt_iff_toInt_lt, Int32.le_iff_toInt_le, ← Int32.toInt_inj, i_m20, i_m3, i_0, ti_0, ti_1, ti_2, ti_3, ti_4, ti_5, ti_6, ti_7, ti_12, ti_15, ti_16, ti_20, ti_255, ti_256] at c_1 c_8; omega))) dX0_isInput_16
end
section
/-! the class's ways, in our words -/
theorem i8 {k : Nat} (h : k < 128) : (nI k).toInt8.toInt32 = nI k := (by decide +kernel : ∀ k, k < 128 → (nI k).toInt8.toInt32 = nI k) k h
theorem i16 {k : Nat} (h : k < 4096) : (nI k).toInt16.toInt32 = nI k := by
  apply Int32.toInt_inj.mp
  rw [Int16.toInt_toInt32, Int32.toInt_toInt16, nI_toInt (by omega)]
  have e : ((2 ^ 16 : Nat) : Int) = 65536 := rfl
  exact Int.bmod_eq_of_le (by rw [e]; omega) (by rw [e]; omega)
theorem xi_add {n k ab : Nat} {G : Pg} {x3 : Int32} {fK fP fN fT fF fE fM : Nat → Int32} (hG : PW n G) (hn : n < 12) (hs : PS n (k, ab % 4, ab / 4, x3)) (hP : ∀ p, p < n → fK p = nI (G p).1 ∧ fP p = nI ((G p).2.1 + 4 * (G p).2.2.1) ∧ fN p = (G p).2.2.2.toInt8.toInt32) (hM : ∀ i, i < 256 → fM i = 0) : XI (n + 1) (gA n G k ab x3) (fun _ => false) (nI (n + 1)) 0 (upd fK n (nI k)) (upd fP n (nI ab)) (upd fN n x3.toInt8.toInt32) fT fF fE fM := by
  refine ⟨rfl, pw_add hG hn hs, fun p hp => ?_, Or.inl rfl, hM⟩
  unfold gA
  by_cases e : p = n
  · subst e
    rw [if_pos rfl, upd_s, upd_s, upd_s]
    refine ⟨rfl, ?_, rfl⟩
    show nI ab = nI (ab % 4 + 4 * (ab / 4))
    rw [Nat.mod_add_div]
  · rw [if_neg e, upd_n e, upd_n e, upd_n e]; exact hP p (by omega)
/-- a way's registers at an input -/
def evw (fR : Nat → Int32) (w i : Nat) : Nat → Int32 := fun r => if r < 4 then fR (w * 12 + 3 * r) * nI (i % 16) + fR (w * 12 + 3 * r + 1) * nI (i / 16) + fR (w * 12 + 3 * r + 2) else 0
/-- is the input in the way? -/
def inB (fI : Nat → Int32) (w i : Nat) : Bool := bt (fI (w * 16 + i % 16)) (i / 16)
/-- what solve asks of a difference -/
def hc (eq : Int32) (v : Int) : Bool := if eq = 0 then decide (v < 0) else decide (v = 0)
abbrev MB : Int := 10628820
def RB (fR : Nat → Int32) (w : Nat) (M : Int) : Prop := ∀ j, j < 12 → -M ≤ (fR (w * 12 + j)).toInt ∧ (fR (w * 12 + j)).toInt ≤ M
theorem mul_bd {a M : Int} {x : Nat} (h : -M ≤ a ∧ a ≤ M) (hx : x < 16) (hM : 0 ≤ M) : -(M * 15) ≤ a * x ∧ a * x ≤ M * 15 := by
  have h1 : M * (x : Int) ≤ M * 15 := Int.mul_le_mul_of_nonneg_left (by omega) hM
  have h2 := Int.mul_le_mul_of_nonneg_right h.1 (show (0 : Int) ≤ x by omega)
  have h3 := Int.mul_le_mul_of_nonneg_right h.2 (show (0 : Int) ≤ x by omega)
  rw [Int.neg_mul] at h2
  omega
theorem mul_nI {a : Int32} {M : Int} {x : Nat} (h : -M ≤ a.toInt ∧ a.toInt ≤ M) (hx : x < 16) (hM : 0 ≤ M) (hM2 : M ≤ 100000000) : (a * nI x).toInt = a.toInt * x := by
  have h1 := mul_bd h hx hM
  rw [tI_mul (by rw [nI_toInt (by omega)]; omega) (by rw [nI_toInt (by omega)]; omega), nI_toInt (by omega)]
theorem solve_c {dX dA : Int32} {x : Nat} (hX : -21257640 ≤ dX.toInt ∧ dX.toInt ≤ 21257640) (hA : -21257640 ≤ dA.toInt ∧ dA.toInt ≤ 21257640) (hx : x < 16) : (dX * nI x + dA).toInt = dX.toInt * x + dA.toInt ∧ -500000000 ≤ (dX * nI x + dA).toInt ∧ (dX * nI x + dA).toInt ≤ 500000000 := by
  have h1 := mul_bd hX hx (by omega)
  have h2 := mul_nI hX hx (by omega) (by omega)
  have h3 : (dX * nI x + dA).toInt = dX.toInt * x + dA.toInt := by rw [tI_add (by rw [h2]; omega) (by rw [h2]; omega), h2]
  exact ⟨h3, by rw [h3]; omega, by rw [h3]; omega⟩
theorem rb_sub {fR : Nat → Int32} {w a b t : Nat} (h : RB fR w MB) (ha : a ≤ 3) (hb : b ≤ 3) (ht : t < 3) : (fR (w * 12 + 3 * a + t) - fR (w * 12 + 3 * b + t)).toInt = (fR (w * 12 + 3 * a + t)).toInt - (fR (w * 12 + 3 * b + t)).toInt ∧ -21257640 ≤ (fR (w * 12 + 3 * a + t) - fR (w * 12 + 3 * b + t)).toInt ∧ (fR (w * 12 + 3 * a + t) - fR (w * 12 + 3 * b + t)).toInt ≤ 21257640 := by
  have h1 := h (3 * a + t) (by omega)
  have h2 := h (3 * b + t) (by omega)
  rw [← Nat.add_assoc] at h1 h2
  unfold MB at h1 h2
  have h3 : (fR (w * 12 + 3 * a + t) - fR (w * 12 + 3 * b + t)).toInt = (fR (w * 12 + 3 * a + t)).toInt - (fR (w * 12 + 3 * b + t)).toInt := tI_sub (by omega) (by omega)
  exact ⟨h3, by rw [h3]; omega, by rw [h3]; omega⟩
/-- a register at an input, as a whole number -/
theorem ev_int {fR : Nat → Int32} {w i r : Nat} (h : RB fR w MB) (hi : i < 256) (hr : r < 4) : (evw fR w i r).toInt = (fR (w * 12 + 3 * r)).toInt * (i % 16 : Nat) + (fR (w * 12 + 3 * r + 1)).toInt * (i / 16 : Nat) + (fR (w * 12 + 3 * r + 2)).toInt ∧ -1000000000 < (evw fR w i r).toInt ∧ (evw fR w i r).toInt < 1000000000 := by
  have h0 := h (3 * r) (by omega)
  have h1 := h (3 * r + 1) (by omega)
  have h2 := h (3 * r + 2) (by omega)
  rw [← Nat.add_assoc] at h1 h2
  have k0 := mul_bd h0 (show i % 16 < 16 by omega) (by decide)
  have k1 := mul_bd h1 (show i / 16 < 16 by omega) (by decide)
  have m0 := mul_nI h0 (show i % 16 < 16 by omega) (by decide) (by decide)
  have m1 := mul_nI h1 (show i / 16 < 16 by omega) (by decide) (by decide)
  unfold MB at k0 k1 h2
  have e : (evw fR w i r).toInt = (fR (w * 12 + 3 * r)).toInt * (i % 16 : Nat) + (fR (w * 12 + 3 * r + 1)).toInt * (i / 16 : Nat) + (fR (w * 12 + 3 * r + 2)).toInt := by
    unfold evw
    rw [if_pos hr]
    have a1 : (fR (w * 12 + 3 * r) * nI (i % 16) + fR (w * 12 + 3 * r + 1) * nI (i / 16)).toInt = (fR (w * 12 + 3 * r)).toInt * (i % 16 : Nat) + (fR (w * 12 + 3 * r + 1)).toInt * (i / 16 : Nat) := by
      rw [tI_add (by rw [m0, m1]; omega) (by rw [m0, m1]; omega), m0, m1]
    rw [tI_add (by rw [a1]; omega) (by rw [a1]; omega), a1]
  exact ⟨e, by rw [e]; omega, by rw [e]; omega⟩
/-- solve's answer is the comparison of the two registers -/
def cnd (eq : Int32) (fR : Nat → Int32) (w a b i : Nat) : Bool := if eq = 0 then decide (evw fR w i a < evw fR w i b) else decide (evw fR w i a = evw fR w i b)
theorem solve_end {eq : Int32} {fR fH : Nat → Int32} {w a b : Nat} {dX dY dA : Int32} (h : RB fR w MB) (ha : a ≤ 3) (hb : b ≤ 3) (eX : dX = fR (w * 12 + 3 * a) - fR (w * 12 + 3 * b)) (eY : dY = fR (w * 12 + 3 * a + 1) - fR (w * 12 + 3 * b + 1)) (eA : dA = fR (w * 12 + 3 * a + 2) - fR (w * 12 + 3 * b + 2))
    (hH : ∀ x, x < 16 → ∀ y : Nat, y < 16 → bt (fH x) y = hc eq (dX.toInt * x + dA.toInt + dY.toInt * y)) : ∀ i, i < 256 → bt (fH (i % 16)) (i / 16) = cnd eq fR w a b i := by
  intro i hi
  rw [hH (i % 16) (by omega) (i / 16) (by omega)]
  have x1 := (rb_sub (t := 0) h ha hb (by omega)).1
  have x2 := (rb_sub (t := 1) h ha hb (by omega)).1
  have x3 := (rb_sub (t := 2) h ha hb (by omega)).1
  rw [Nat.add_zero, Nat.add_zero, ← eX] at x1
  rw [← eY] at x2
  rw [← eA] at x3
  have ea := (ev_int h hi (show a < 4 by omega)).1
  have eb := (ev_int h hi (show b < 4 by omega)).1
  have key : dX.toInt * (i % 16 : Nat) + dA.toInt + dY.toInt * (i / 16 : Nat) = (evw fR w i a).toInt - (evw fR w i b).toInt := by
    rw [ea, eb, x1, x2, x3, Int.sub_mul, Int.sub_mul]
    omega
  rw [key]
  unfold hc cnd
  split
  · exact decide_eq_decide.mpr (by rw [Int32.lt_iff_toInt_lt]; omega)
  · exact decide_eq_decide.mpr (by rw [← Int32.toInt_inj]; omega)
/-- a way's block copied -/
def cpP (k : Nat) (f : Nat → Int32) (a b x : Nat) : Nat → Int32 := fun j => if b * k ≤ j ∧ j < b * k + x then f (a * k + (j - b * k)) else f j
theorem cpP_0 {k : Nat} {f : Nat → Int32} {a b : Nat} : f = cpP k f a b 0 := by
  funext j
  unfold cpP
  rw [if_neg (by omega)]
theorem cpP_s {k : Nat} {f : Nat → Int32} {a b x : Nat} (hx : x < k) : upd (cpP k f a b x) (b * k + x) (cpP k f a b x (a * k + x)) = cpP k f a b (x + 1) := by
  have hs : cpP k f a b x (a * k + x) = f (a * k + x) := by
    unfold cpP
    by_cases q : b * k ≤ a * k + x ∧ a * k + x < b * k + x
    · exfalso
      rcases Nat.lt_trichotomy a b with z | z | z
      · have := Nat.mul_le_mul_right k (show a + 1 ≤ b from z)
        rw [Nat.succ_mul] at this
        omega
      · subst z; omega
      · have := Nat.mul_le_mul_right k (show b + 1 ≤ a from z)
        rw [Nat.succ_mul] at this
        omega
    · rw [if_neg q]
  rw [hs]
  funext j
  by_cases e : j = b * k + x
  · subst e
    rw [upd_s]
    unfold cpP
    rw [if_pos (by omega), show b * k + x - b * k = x by omega]
  · rw [upd_n e]
    unfold cpP
    by_cases q : b * k ≤ j ∧ j < b * k + x
    · rw [if_pos q, if_pos (by omega)]
    · rw [if_neg q, if_neg (by omega)]
/-- a way's inputs cut down -/
def kpP (f g : Nat → Int32) (w : Nat) (ho : Int32) (x : Nat) : Nat → Int32 := fun j => if w * 16 ≤ j ∧ j < w * 16 + x then f j &&& (if ho = 0 then g (j - w * 16) ^^^ (-1) else g (j - w * 16)) else f j
theorem kpP_0 {f g : Nat → Int32} {w : Nat} {ho : Int32} : f = kpP f g w ho 0 := by
  funext j
  unfold kpP
  rw [if_neg (by omega)]
theorem kpP_at {f g : Nat → Int32} {w : Nat} {ho : Int32} {x : Nat} : kpP f g w ho x (w * 16 + x) = f (w * 16 + x) := by
  unfold kpP
  rw [if_neg (by omega)]
theorem kpP_s {f g : Nat → Int32} {w : Nat} {ho : Int32} {x : Nat} {z : Int32} (hz : z = f (w * 16 + x) &&& (if ho = 0 then g x ^^^ (-1) else g x)) : upd (kpP f g w ho x) (w * 16 + x) z = kpP f g w ho (x + 1) := by
  funext j
  by_cases e : j = w * 16 + x
  · subst e
    have h1 : kpP f g w ho (x + 1) (w * 16 + x) = f (w * 16 + x) &&& (if ho = 0 then g (w * 16 + x - w * 16) ^^^ (-1) else g (w * 16 + x - w * 16)) := if_pos (by omega)
    rw [upd_s, hz, h1, show w * 16 + x - w * 16 = x by omega]
  · rw [upd_n e]
    by_cases q : w * 16 ≤ j ∧ j < w * 16 + x
    · exact (if_pos q).trans (if_pos (by omega)).symm
    · exact (if_neg q).trans (if_neg (by omega)).symm
theorem kpP_lo {f g : Nat → Int32} {w : Nat} {ho : Int32} {x y : Nat} (h : y < x) (hx : x ≤ 16) : kpP f g w ho x (w * 16 + y) = kpP f g w ho 16 (w * 16 + y) := by
  exact (if_pos (by omega)).trans (if_pos (by omega)).symm
theorem or_b1 (b : Bool) : bI b ||| nI 1 = bI true := by cases b <;> decide
theorem or_b0 (b : Bool) : bI b ||| nI 0 = bI b := by cases b <;> decide
/-- a step of calculation on one cell -/
def cal (k : Nat) (v x y : Int32) (t : Nat) : Int32 := if k = 0 then (if t = 2 then v else 0) else if k = 3 then x * v else if k = 1 then x + y else x + -y
def calP (f : Nat → Int32) (w k a b : Nat) (v : Int32) (i : Nat) : Nat → Int32 := fun j => if w * 12 + 3 * a ≤ j ∧ j < w * 12 + 3 * a + i then cal k v (f j) (f (w * 12 + 3 * b + (j - (w * 12 + 3 * a)))) (j - (w * 12 + 3 * a)) else f j
theorem calP_0 {f : Nat → Int32} {w k a b : Nat} {v : Int32} : f = calP f w k a b v 0 := by
  funext j
  unfold calP
  rw [if_neg (by omega)]
theorem calP_at {f : Nat → Int32} {w k a b : Nat} {v : Int32} {i : Nat} : calP f w k a b v i (w * 12 + 3 * a + i) = f (w * 12 + 3 * a + i) := by
  unfold calP
  rw [if_neg (by omega)]
theorem calP_ot {f : Nat → Int32} {w k a b : Nat} {v : Int32} {i : Nat} (hi : i < 3) : calP f w k a b v i (w * 12 + 3 * b + i) = f (w * 12 + 3 * b + i) := by
  unfold calP
  rw [if_neg (by omega)]
theorem calP_s {f : Nat → Int32} {w k a b : Nat} {v : Int32} {i : Nat} {z : Int32} (hz : z = cal k v (f (w * 12 + 3 * a + i)) (f (w * 12 + 3 * b + i)) i) : upd (calP f w k a b v i) (w * 12 + 3 * a + i) z = calP f w k a b v (i + 1) := by
  funext j
  by_cases e : j = w * 12 + 3 * a + i
  · subst e
    rw [upd_s, hz]
    unfold calP
    rw [if_pos (by omega), show w * 12 + 3 * a + i - (w * 12 + 3 * a) = i by omega]
  · rw [upd_n e]
    unfold calP
    by_cases q : w * 12 + 3 * a ≤ j ∧ j < w * 12 + 3 * a + i
    · rw [if_pos q, if_pos (by omega)]
    · rw [if_neg q, if_neg (by omega)]
end
section
set_option maxHeartbeats 4000000 in
set_option maxRecDepth 100000 in
/-- change(): not known, no mark -/
theorem kX_change (l : Launch) (D : va_G) (d : Nat → ClassId) (h : Nat → Nat) (sz wy kn : Int32) (fK fP fN fO fD fI fR fH fT fF fE fM : Nat → Int32) : CV l yX0_change (ws_ yX0_change cX0_change 2 none) (rk 0) D d [.ref (h 0)] (wX h d sz wy kn fK fP fN fO fD fI fR fH fT fF fE fM) (fun w' => ∃ fM', (∀ i, i < 256 → fM' i = 0) ∧ w' = wX h d sz wy 0 fK fP fN fO fD fI fR fH fT fF fE fM') := by
  refine cv_in (cc := cX0_change) (nL := 2) (by decide) rfl (Nat.le_of_ble_eq_true rfl) ?_
  intro p e s m ar bl me c A Q ls C I hl hret
  have hx := C.1.1
  have hb := C.1.2.1
  have hl : lv_has ls 2 [(0, .ref (h 0))] := hl
  refine lv_aload_n hx hb dX0_change_0 rfl (lv_at hl 0 rfl) ?_
  refine lv_iconst (v := nI 0) hx hb dX0_change_1 (by decide) ?_
  refine x_put (ws' := wX h d sz wy (nI 0) fK fP fN fO fD fI fR fH fT fF fE fM) (ty := .boolean) C I rfl 10 (by decide) q41 rfl (by decide +kernel) rfl rfl (Nat.le_of_ble_eq_true rfl) rfl dX0_change_2 (fun H locs I => ?_)
  refine lv_iconst (v := nI 0) hx hb dX0_change_5 (by decide) ?_
  refine lv_istore_n (lv' := [(1, .int (nI 0)), (0, .ref (h 0))]) hx hb dX0_change_6 rfl hl (by decide) rfl (fun ls hl => ?_)
  have lp : ∀ (nn : Nat) (i : Nat) (f : Nat → Int32) (H : Heap) (locs : List Loc) (ls : Array Slot), 256 + 1 ≤ i + nn → (i ≤ 256) → (∀ j, j < i → f j = 0) → IW D A s.heap (wX h d sz wy (nI 0) fK fP fN fO fD fI fR fH fT fF fE f) H locs → lv_has ls 2 [(0, .ref (h 0)), (1, .int (nI i))] → W p l e (rk 0) s m ar bl me c H locs 0 0 Q (F0 m 7 ls []) := by
    intro nn
    induction nn with
    | zero => intro i f H locs ls hme hi hf; exact absurd hme (by omega)
    | succ nn ih =>
      intro i f H locs ls hme hi hf I hl
      refine lv_iload_n hx hb dX0_change_7 rfl (lv_at hl 1 rfl) ?_
      refine lv_sipush (v := nI 256) hx hb dX0_change_8 (by decide) ?_
      refine n_ge (tgt := 27) hx hb dX0_change_11 (by decide) (by omega) (by omega) (fun c_11 => ?_) (fun c_11 => ?_)
      · exact hret _ _ _ _ _ I (⟨f, fun i' hi' => hf i' (by omega), rfl⟩) dX0_change_27
      · refine lv_aload_n hx hb dX0_change_14 rfl (lv_at hl 0 rfl) ?_
        refine x_get C I rfl 14 (by decide) q45 rfl dX0_change_15 ?_
        refine lv_iload_n hx hb dX0_change_18 rfl (lv_at hl 1 rfl) ?_
        refine lv_iconst (v := nI 0) hx hb dX0_change_19 (by decide) ?_
        refine i_zst (ws' := wX h d sz wy (nI 0) fK fP fN fO fD fI fR fH fT fF fE (upd f i (nI 0))) (v := (nI 0)) C I 12 rfl (by omega) (rfl) rfl dX0_change_20 (fun H locs I => ?_)
        refine lv_iinc (v := (nI (i + 1))) (lv' := [(1, .int (nI (i + 1))), (0, .ref (h 0))]) hx hb dX0_change_21 hl (k := 1) rfl (n_inc _) (by decide) rfl (fun ls hl => ?_)
        refine lv_goto (tgt := 7) hx hb dX0_change_24 (by decide) ?_
        exact ih (i + 1) (upd f i (nI 0)) _ _ _ (by omega) (by omega) (lt_upd (P := fun _ z => z = 0) hf rfl) I (lv_sub hl [1, 0] rfl)
  exact lp 257 0 fM _ _ _ (by omega) (by omega) (fun _ h => absurd h (by omega)) I (lv_sub hl [1, 0] rfl)
set_option maxHeartbeats 4000000 in
set_option maxRecDepth 100000 in
/-- numberOk(kind, n) -/
theorem kX_numberOk (l : Launch) (D : va_G) (d : Nat → ClassId) (h : Nat → Nat) (sz wy kn : Int32) (fK fP fN fO fD fI fR fH fT fF fE fM : Nat → Int32) (x1 x2 : Int32) : CT l yX0_numberOk (ws_ yX0_numberOk cX0_numberOk 3 (some .boolean)) (rk 0) D d [.ref (h 0), .int x1, .int x2] (wX h d sz wy kn fK fP fN fO fD fI fR fH fT fF fE fM) (fun r w' => r = bI (okN x1.toInt x2.toInt sz.toInt) ∧ w' = wX h d sz wy kn fK fP fN fO fD fI fR fH fT fF fE fM) := by
  refine ct_in (cc := cX0_numberOk) (nL := 3) (ty := .boolean) (by decide) rfl (Nat.le_of_ble_eq_true rfl) ?_
  intro p e s m ar bl me c A Q ls C I hl hret
  have hx := C.1.1
  have hb := C.1.2.1
  have hl : lv_has ls 3 [(0, .ref (h 0)), (1, .int x1), (2, .int x2)] := hl
  refine lv_iload_n hx hb dX0_numberOk_0 rfl (lv_at hl 1 rfl) ?_
  refine lv_if_ne (tgt := 22) hx hb dX0_numberOk_1 (by decide) (fun c_1 => ?_) (fun c_1 => ?_)
  · refine lv_iload_n hx hb dX0_numberOk_22 rfl (lv_at hl 1 rfl) ?_
    refine lv_iconst (v := nI 3) hx hb dX0_numberOk_23 (by decide) ?_
    refine lv_icmp_ne (tgt := 44) hx hb dX0_numberOk_24 (by decide) (fun c_24 => ?_) (fun c_24 => ?_)
    · refine lv_iload_n hx hb dX0_numberOk_44 rfl (lv_at hl 1 rfl) ?_
      refine lv_iconst (v := nI 4) hx hb dX0_numberOk_45 (by decide) ?_
      refine lv_icmp_lt (tgt := 69) hx hb dX0_numberOk_46 (by decide) (fun c_46 => ?_) (fun c_46 => ?_)
      · refine lv_iconst (v := nI 1) hx hb dX0_numberOk_69 (by decide) ?_
        refine lv_goto (tgt := 74) hx hb dX0_numberOk_70 (by decide) ?_
        exact hret (nI 1) _ _ _ _ _ rfl I (⟨bI_t (decide_eq_true (by simp only [Int32.lt_iff_toInt_lt, Int32.le_iff_toInt_le, ← Int32.toInt_inj, i_m20, i_m3, i_0, ti_0, ti_1, ti_2, ti_3, ti_4, ti_5, ti_6, ti_7, ti_12, ti_15, ti_16, ti_20, ti_255, ti_256] at c_1 c_24 c_46; omega)), rfl⟩) dX0_numberOk_74
      · refine lv_iload_n hx hb dX0_numberOk_49 rfl (lv_at hl 1 rfl) ?_
        refine lv_bipush (v := nI 7) hx hb dX0_numberOk_50 (by decide) ?_
        refine lv_icmp_eq (tgt := 69) hx hb dX0_numberOk_52 (by decide) (fun c_52 => ?_) (fun c_52 => ?_)
        · refine lv_iconst (v := nI 1) hx hb dX0_numberOk_69 (by decide) ?_
          refine lv_goto (tgt := 74) hx hb dX0_numberOk_70 (by decide) ?_
          exact hret (nI 1) _ _ _ _ _ rfl I (⟨bI_t (decide_eq_true (by simp only [Int32.lt_iff_toInt_lt, Int32.le_iff_toInt_le, ← Int32.toInt_inj, i_m20, i_m3, i_0, ti_0, ti_1, ti_2, ti_3, ti_4, ti_5, ti_6, ti_7, ti_12, ti_15, ti_16, ti_20, ti_255, ti_256] at c_1 c_24 c_46 c_52; omega)), rfl⟩) dX0_numberOk_74
        · refine lv_iload_n hx hb dX0_numberOk_55 rfl (lv_at hl 2 rfl) ?_
          refine lv_aload_n hx hb dX0_numberOk_56 rfl (lv_at hl 0 rfl) ?_
          refine x_get C I rfl 3 (by decide) q34 rfl dX0_numberOk_57 ?_
          refine lv_icmp_le (tgt := 73) hx hb dX0_numberOk_60 (by decide) (fun c_60 => ?_) (fun c_60 => ?_)
          · refine lv_iconst (v := nI 0) hx hb dX0_numberOk_73 (by decide) ?_
            exact hret (nI 0) _ _ _ _ _ rfl I (⟨bI_f (decide_eq_false (by simp only [Int32.lt_iff_toInt_lt, Int32.le_iff_toInt_le, ← Int32.toInt_inj, i_m20, i_m3, i_0, ti_0, ti_1, ti_2, ti_3, ti_4, ti_5, ti_6, ti_7, ti_12, ti_15, ti_16, ti_20, ti_255, ti_256] at c_1 c_24 c_46 c_52 c_60; omega)), rfl⟩) dX0_numberOk_74
          · refine lv_iload_n hx hb dX0_numberOk_63 rfl (lv_at hl 2 rfl) ?_
            refine lv_bipush (v := nI 12) hx hb dX0_numberOk_64 (by decide) ?_
            refine lv_icmp_gt (tgt := 73) hx hb dX0_numberOk_66 (by decide) (fun c_66 => ?_) (fun c_66 => ?_)
            · refine lv_iconst (v := nI 0) hx hb dX0_numberOk_73 (by decide) ?_
              exact hret (nI 0) _ _ _ _ _ rfl I (⟨bI_f (decide_eq_false (by simp only [Int32.lt_iff_toInt_lt, Int32.le_iff_toInt_le, ← Int32.toInt_inj, i_m20, i_m3, i_0, ti_0, ti_1, ti_2, ti_3, ti_4, ti_5, ti_6, ti_7, ti_12, ti_15, ti_16, ti_20, ti_255, ti_256] at c_1 c_24 c_46 c_52 c_60 c_66; omega)), rfl⟩) dX0_numberOk_74
            · refine lv_iconst (v := nI 1) hx hb dX0_numberOk_69 (by decide) ?_
              refine lv_goto (tgt := 74) hx hb dX0_numberOk_70 (by decide) ?_
              exact hret (nI 1) _ _ _ _ _ rfl I (⟨bI_t (decide_eq_true (by simp only [Int32.lt_iff_toInt_lt, Int32.le_iff_toInt_le, ← Int32.toInt_inj, i_m20, i_m3, i_0, ti_0, ti_1, ti_2, ti_3, ti_4, ti_5, ti_6, ti_7, ti_12, ti_15, ti_16, ti_20, ti_255, ti_256] at c_1 c_24 c_46 c_52 c_60 c_66; omega)), rfl⟩) dX0_numberOk_74
    · refine lv_iload_n hx hb dX0_numberOk_27 rfl (lv_at hl 2 rfl) ?_
      refine lv_bipush (v := -3) hx hb dX0_numberOk_28 (by decide) ?_
      refine lv_icmp_lt (tgt := 42) hx hb dX0_numberOk_30 (by decide) (fun c_30 => ?_) (fun c_30 => ?_)
      · refine lv_iconst (v := nI 0) hx hb dX0_numberOk_42 (by decide) ?_
        exact hret (nI 0) _ _ _ _ _ rfl I (⟨bI_f (decide_eq_false (by simp only [Int32.lt_iff_toInt_lt, Int32.le_iff_toInt_le, ← Int32.toInt_inj, i_m20, i_m3, i_0, ti_0, ti_1, ti_2, ti_3, ti_4, ti_5, ti_6, ti_7, ti_12, ti_15, ti_16, ti_20, ti_255, ti_256] at c_1 c_24 c_30; omega)), rfl⟩) dX0_numberOk_43
      · refine lv_iload_n hx hb dX0_numberOk_33 rfl (lv_at hl 2 rfl) ?_
        refine lv_iconst (v := nI 3) hx hb dX0_numberOk_34 (by decide) ?_
        refine lv_icmp_gt (tgt := 42) hx hb dX0_numberOk_35 (by decide) (fun c_35 => ?_) (fun c_35 => ?_)
        · refine lv_iconst (v := nI 0) hx hb dX0_numberOk_42 (by decide) ?_
          exact hret (nI 0) _ _ _ _ _ rfl I (⟨bI_f (decide_eq_false (by simp only [Int32.lt_iff_toInt_lt, Int32.le_iff_toInt_le, ← Int32.toInt_inj, i_m20, i_m3, i_0, ti_0, ti_1, ti_2, ti_3, ti_4, ti_5, ti_6, ti_7, ti_12, ti_15, ti_16, ti_20, ti_255, ti_256] at c_1 c_24 c_30 c_35; omega)), rfl⟩) dX0_numberOk_43
        · refine lv_iconst (v := nI 1) hx hb dX0_numberOk_38 (by decide) ?_
          refine lv_goto (tgt := 43) hx hb dX0_numberOk_39 (by decide) ?_
          exact hret (nI 1) _ _ _ _ _ rfl I (⟨bI_t (decide_eq_true (by simp only [Int32.lt_iff_toInt_lt, Int32.le_iff_toInt_le, ← Int32.toInt_inj, i_m20, i_m3, i_0, ti_0, ti_1, ti_2, ti_3, ti_4, ti_5, ti_6, ti_7, ti_12, ti_15, ti_16, ti_20, ti_255, ti_256] at c_1 c_24 c_30 c_35; omega)), rfl⟩) dX0_numberOk_43
  · refine lv_iload_n hx hb dX0_numberOk_4 rfl (lv_at hl 2 rfl) ?_
    refine lv_bipush (v := -20) hx hb dX0_numberOk_5 (by decide) ?_
    refine lv_icmp_lt (tgt := 20) hx hb dX0_numberOk_7 (by decide) (fun c_7 => ?_) (fun c_7 => ?_)
    · refine lv_iconst (v := nI 0) hx hb dX0_numberOk_20 (by decide) ?_
      exact hret (nI 0) _ _ _ _ _ rfl I (⟨bI_f (decide_eq_false (by simp only [Int32.lt_iff_toInt_lt, Int32.le_iff_toInt_le, ← Int32.toInt_inj, i_m20, i_m3, i_0, ti_0, ti_1, ti_2, ti_3, ti_4, ti_5, ti_6, ti_7, ti_12, ti_15, ti_16, ti_20, ti_255, ti_256] at c_1 c_7; omega)), rfl⟩) dX0_numberOk_21
    · refine lv_iload_n hx hb dX0_numberOk_10 rfl (lv_at hl 2 rfl) ?_
      refine lv_bipush (v := nI 20) hx hb dX0_numberOk_11 (by decide) ?_
      refine lv_icmp_gt (tgt := 20) hx hb dX0_numberOk_13 (by decide) (fun c_13 => ?_) (fun c_13 => ?_)
      · refine lv_iconst (v := nI 0) hx hb dX0_numberOk_20 (by decide) ?_
        exact hret (nI 0) _ _ _ _ _ rfl I (⟨bI_f (decide_eq_false (by simp only [Int32.lt_iff_toInt_lt, Int32.le_iff_toInt_le, ← Int32.toInt_inj, i_m20, i_m3, i_0, ti_0, ti_1, ti_2, ti_3, ti_4, ti_5, ti_6, ti_7, ti_12, ti_15, ti_16, ti_20, ti_255, ti_256] at c_1 c_7 c_13; omega)), rfl⟩) dX0_numberOk_21
      · refine lv_iconst (v := nI 1) hx hb dX0_numberOk_16 (by decide) ?_
        refine lv_goto (tgt := 21) hx hb dX0_numberOk_17 (by decide) ?_
        exact hret (nI 1) _ _ _ _ _ rfl I (⟨bI_t (decide_eq_true (by simp only [Int32.lt_iff_toInt_lt, Int32.le_iff_toInt_le, ← Int32.toInt_inj, i_m20, i_m3, i_0, ti_0, ti_1, ti_2, ti_3, ti_4, ti_5, ti_6, ti_7, ti_12, ti_15, ti_16, ti_20, ti_255, ti_256] at c_1 c_7 c_13; omega)), rfl⟩) dX0_numberOk_21
set_option maxHeartbeats 4000000 in
set_option maxRecDepth 100000 in
/-- isStep(p) -/
theorem kX_isStep (l : Launch) (D : va_G) (d : Nat → ClassId) (h : Nat → Nat) (sz wy kn : Int32) (fK fP fN fO fD fI fR fH fT fF fE fM : Nat → Int32) (x1 : Int32) : CT l yX0_isStep (ws_ yX0_isStep cX0_isStep 2 (some .boolean)) (rk 0) D d [.ref (h 0), .int x1] (wX h d sz wy kn fK fP fN fO fD fI fR fH fT fF fE fM) (fun r w' => r = bI (inR x1 sz.toInt) ∧ w' = wX h d sz wy kn fK fP fN fO fD fI fR fH fT fF fE fM) := by
  refine ct_in (cc := cX0_isStep) (nL := 2) (ty := .boolean) (by decide) rfl (Nat.le_of_ble_eq_true rfl) ?_
  intro p e s m ar bl me c A Q ls C I hl hret
  have hx := C.1.1
  have hb := C.1.2.1
  have hl : lv_has ls 2 [(0, .ref (h 0)), (1, .int x1)] := hl
  refine lv_iload_n hx hb dX0_isStep_0 rfl (lv_at hl 1 rfl) ?_
  refine lv_if_lt (tgt := 16) hx hb dX0_isStep_1 (by decide) (fun c_1 => ?_) (fun c_1 => ?_)
  · refine lv_iconst (v := nI 0) hx hb dX0_isStep_16 (by decide) ?_
    exact hret (nI 0) _ _ _ _ _ rfl I (⟨bI_f (decide_eq_false (by simp only [Int32.lt_iff_toInt_lt, Int32.le_iff_toInt_le, ← Int32.toInt_inj, i_m20, i_m3, i_0, ti_0, ti_1, ti_2, ti_3, ti_4, ti_5, ti_6, ti_7, ti_12, ti_15, ti_16, ti_20, ti_255, ti_256] at c_1; omega)), rfl⟩) dX0_isStep_17
  · refine lv_iload_n hx hb dX0_isStep_4 rfl (lv_at hl 1 rfl) ?_
    refine lv_aload_n hx hb dX0_isStep_5 rfl (lv_at hl 0 rfl) ?_
    refine x_get C I rfl 3 (by decide) q34 rfl dX0_isStep_6 ?_
    refine lv_icmp_ge (tgt := 16) hx hb dX0_isStep_9 (by decide) (fun c_9 => ?_) (fun c_9 => ?_)
    · refine lv_iconst (v := nI 0) hx hb dX0_isStep_16 (by decide) ?_
      exact hret (nI 0) _ _ _ _ _ rfl I (⟨bI_f (decide_eq_false (by simp only [Int32.lt_iff_toInt_lt, Int32.le_iff_toInt_le, ← Int32.toInt_inj, i_m20, i_m3, i_0, ti_0, ti_1, ti_2, ti_3, ti_4, ti_5, ti_6, ti_7, ti_12, ti_15, ti_16, ti_20, ti_255, ti_256] at c_1 c_9; omega)), rfl⟩) dX0_isStep_17
    · refine lv_iconst (v := nI 1) hx hb dX0_isStep_12 (by decide) ?_
      refine lv_goto (tgt := 17) hx hb dX0_isStep_13 (by decide) ?_
      exact hret (nI 1) _ _ _ _ _ rfl I (⟨bI_t (decide_eq_true (by simp only [Int32.lt_iff_toInt_lt, Int32.le_iff_toInt_le, ← Int32.toInt_inj, i_m20, i_m3, i_0, ti_0, ti_1, ti_2, ti_3, ti_4, ti_5, ti_6, ti_7, ti_12, ti_15, ti_16, ti_20, ti_255, ti_256] at c_1 c_9; omega)), rfl⟩) dX0_isStep_17
set_option maxHeartbeats 4000000 in
set_option maxRecDepth 100000 in
/-- length() -/
theorem kX_length (l : Launch) (D : va_G) (d : Nat → ClassId) (h : Nat → Nat) (sz wy kn : Int32) (fK fP fN fO fD fI fR fH fT fF fE fM : Nat → Int32) : CT l yX0_length (ws_ yX0_length cX0_length 1 (some .int)) (rk 6) D d [.ref (h 0)] (wX h d sz wy kn fK fP fN fO fD fI fR fH fT fF fE fM) (fun r w' => r = sz ∧ w' = wX h d sz wy kn fK fP fN fO fD fI fR fH fT fF fE fM) := by
  refine ct_in (cc := cX0_length) (nL := 1) (ty := .int) (by decide) rfl (Nat.le_of_ble_eq_true rfl) ?_
  intro p e s m ar bl me c A Q ls C I hl hret
  have hx := C.1.1
  have hb := C.1.2.1
  have hl : lv_has ls 1 [(0, .ref (h 0))] := hl
  refine lv_aload_n hx hb dX0_length_0 rfl (lv_at hl 0 rfl) ?_
  refine x_get C I rfl 3 (by decide) q34 rfl dX0_length_1 ?_
  exact hret sz _ _ _ _ _ rfl I (⟨rfl, rfl⟩) dX0_length_4
set_option maxHeartbeats 4000000 in
set_option maxRecDepth 100000 in
/-- step(kind, ab, n) -/
theorem kX_step (l : Launch) (D : va_G) (d : Nat → ClassId) (h : Nat → Nat) (n : Nat) (G : Pg) (mk : Nat → Bool) (sz wy kn : Int32) (fK fP fN fO fD fI fR fH fT fF fE fM : Nat → Int32) (hX : XI n G mk sz kn fK fP fN fT fF fE fM) (x1 x2 x3 : Int32) : CT l yX0_step (ws_ yX0_step cX0_step 4 (some .int)) (rk 6) D d [.ref (h 0), .int x1, .int x2, .int x3] (wX h d sz wy kn fK fP fN fO fD fI fR fH fT fF fE fM) (fun r w' => r = stA n x1 x2 x3 ∧ XW (stN n x1 x2 x3) (stG n G x1 x2 x3) (stM n mk x1 x2 x3) h d w') := by
  have hXI := hX
  obtain ⟨rfl, hG, hP, hKn, hMk⟩ := hX
  have hn12 := hG.1
  refine ct_in (cc := cX0_step) (nL := 4) (ty := .int) (by decide) rfl (Nat.le_of_ble_eq_true rfl) ?_
  intro p e s m ar bl me c A Q ls C I hl hret
  have hx := C.1.1
  have hb := C.1.2.1
  have hl : lv_has ls 4 [(0, .ref (h 0)), (1, .int x1), (2, .int x2), (3, .int x3)] := hl
  refine lv_iload_n hx hb dX0_step_0 rfl (lv_at hl 1 rfl) ?_
  refine lv_if_lt (tgt := 29) hx hb dX0_step_1 (by decide) (fun c_1 => ?_) (fun c_1 => ?_)
  · refine lv_iconst (v := -1) hx hb dX0_step_29 (by decide) ?_
    exact hret (-1) _ _ _ _ _ rfl I (⟨stA_f (stO_f (by first | exact Or.inl (by simp only [Int32.lt_iff_toInt_lt, Int32.le_iff_toInt_le, ← Int32.toInt_inj, i_m20, i_m3, i_0, ti_0, ti_1, ti_2, ti_3, ti_4, ti_5, ti_6, ti_7, ti_12, ti_15, ti_16, ti_20, ti_255, ti_256] at c_1; omega) | exact Or.inr (bI_0.mp c_26)) (by omega)), xw_same (stC_f (Or.inl (stO_f (by first | exact Or.inl (by simp only [Int32.lt_iff_toInt_lt, Int32.le_iff_toInt_le, ← Int32.toInt_inj, i_m20, i_m3, i_0, ti_0, ti_1, ti_2, ti_3, ti_4, ti_5, ti_6, ti_7, ti_12, ti_15, ti_16, ti_20, ti_255, ti_256] at c_1; omega) | exact Or.inr (bI_0.mp c_26)) (by omega)))) ⟨_, _, _, _, _, _, _, _, _, _, _, _, _, _, _, hXI, rfl⟩⟩) dX0_step_30
  · refine lv_iload_n hx hb dX0_step_4 rfl (lv_at hl 1 rfl) ?_
    refine lv_bipush (v := nI 7) hx hb dX0_step_5 (by decide) ?_
    refine lv_icmp_gt (tgt := 29) hx hb dX0_step_7 (by decide) (fun c_7 => ?_) (fun c_7 => ?_)
    · refine lv_iconst (v := -1) hx hb dX0_step_29 (by decide) ?_
      exact hret (-1) _ _ _ _ _ rfl I (⟨stA_f (stO_f (by first | exact Or.inl (by simp only [Int32.lt_iff_toInt_lt, Int32.le_iff_toInt_le, ← Int32.toInt_inj, i_m20, i_m3, i_0, ti_0, ti_1, ti_2, ti_3, ti_4, ti_5, ti_6, ti_7, ti_12, ti_15, ti_16, ti_20, ti_255, ti_256] at c_1 c_7; omega) | exact Or.inr (bI_0.mp c_26)) (by omega)), xw_same (stC_f (Or.inl (stO_f (by first | exact Or.inl (by simp only [Int32.lt_iff_toInt_lt, Int32.le_iff_toInt_le, ← Int32.toInt_inj, i_m20, i_m3, i_0, ti_0, ti_1, ti_2, ti_3, ti_4, ti_5, ti_6, ti_7, ti_12, ti_15, ti_16, ti_20, ti_255, ti_256] at c_1 c_7; omega) | exact Or.inr (bI_0.mp c_26)) (by omega)))) ⟨_, _, _, _, _, _, _, _, _, _, _, _, _, _, _, hXI, rfl⟩⟩) dX0_step_30
    · refine lv_iload_n hx hb dX0_step_10 rfl (lv_at hl 2 rfl) ?_
      refine lv_if_lt (tgt := 29) hx hb dX0_step_11 (by decide) (fun c_11 => ?_) (fun c_11 => ?_)
      · refine lv_iconst (v := -1) hx hb dX0_step_29 (by decide) ?_
        exact hret (-1) _ _ _ _ _ rfl I (⟨stA_f (stO_f (by first | exact Or.inl (by simp only [Int32.lt_iff_toInt_lt, Int32.le_iff_toInt_le, ← Int32.toInt_inj, i_m20, i_m3, i_0, ti_0, ti_1, ti_2, ti_3, ti_4, ti_5, ti_6, ti_7, ti_12, ti_15, ti_16, ti_20, ti_255, ti_256] at c_1 c_7 c_11; omega) | exact Or.inr (bI_0.mp c_26)) (by omega)), xw_same (stC_f (Or.inl (stO_f (by first | exact Or.inl (by simp only [Int32.lt_iff_toInt_lt, Int32.le_iff_toInt_le, ← Int32.toInt_inj, i_m20, i_m3, i_0, ti_0, ti_1, ti_2, ti_3, ti_4, ti_5, ti_6, ti_7, ti_12, ti_15, ti_16, ti_20, ti_255, ti_256] at c_1 c_7 c_11; omega) | exact Or.inr (bI_0.mp c_26)) (by omega)))) ⟨_, _, _, _, _, _, _, _, _, _, _, _, _, _, _, hXI, rfl⟩⟩) dX0_step_30
      · refine lv_iload_n hx hb dX0_step_14 rfl (lv_at hl 2 rfl) ?_
        refine lv_bipush (v := nI 15) hx hb dX0_step_15 (by decide) ?_
        refine lv_icmp_gt (tgt := 29) hx hb dX0_step_17 (by decide) (fun c_17 => ?_) (fun c_17 => ?_)
        · refine lv_iconst (v := -1) hx hb dX0_step_29 (by decide) ?_
          exact hret (-1) _ _ _ _ _ rfl I (⟨stA_f (stO_f (by first | exact Or.inl (by simp only [Int32.lt_iff_toInt_lt, Int32.le_iff_toInt_le, ← Int32.toInt_inj, i_m20, i_m3, i_0, ti_0, ti_1, ti_2, ti_3, ti_4, ti_5, ti_6, ti_7, ti_12, ti_15, ti_16, ti_20, ti_255, ti_256] at c_1 c_7 c_11 c_17; omega) | exact Or.inr (bI_0.mp c_26)) (by omega)), xw_same (stC_f (Or.inl (stO_f (by first | exact Or.inl (by simp only [Int32.lt_iff_toInt_lt, Int32.le_iff_toInt_le, ← Int32.toInt_inj, i_m20, i_m3, i_0, ti_0, ti_1, ti_2, ti_3, ti_4, ti_5, ti_6, ti_7, ti_12, ti_15, ti_16, ti_20, ti_255, ti_256] at c_1 c_7 c_11 c_17; omega) | exact Or.inr (bI_0.mp c_26)) (by omega)))) ⟨_, _, _, _, _, _, _, _, _, _, _, _, _, _, _, hXI, rfl⟩⟩) dX0_step_30
        · refine lv_aload_n hx hb dX0_step_20 rfl (lv_at hl 0 rfl) ?_
          refine lv_iload_n hx hb dX0_step_21 rfl (lv_at hl 1 rfl) ?_
          refine lv_iload_n hx hb dX0_step_22 rfl (lv_at hl 3 rfl) ?_
          refine ct_call (As := [.int x1, .int x3]) (rest := []) C I (kX_numberOk l D d h (nI n) wy kn fK fP fN fO fD fI fR fH fT fF fE fM x1 x3) (cwV 2 C.1.2.2.2.2 (lw_V q85 q87 qs0 q21 q88) rfl rfl rfl (by decide +kernel) ⟨Nat.le_of_ble_eq_true rfl, Nat.le_of_ble_eq_true rfl⟩) rfl rfl rfl hl.1 rfl (Nat.le_of_ble_eq_true rfl) dX0_step_23 ⟨Nat.zero_le _, Nat.zero_le _⟩ (fun r w' H locs hpo I => ?_)
          obtain ⟨rfl, rfl⟩ := hpo
          refine lv_if_ne (tgt := 31) hx hb dX0_step_26 (by decide) (fun c_26 => ?_) (fun c_26 => ?_)
          · have hO : stO n x1 x2 x3 = true := stO_t (by simp only [Int32.lt_iff_toInt_lt, Int32.le_iff_toInt_le, ← Int32.toInt_inj, i_m20, i_m3, i_0, ti_0, ti_1, ti_2, ti_3, ti_4, ti_5, ti_6, ti_7, ti_12, ti_15, ti_16, ti_20, ti_255, ti_256] at c_1 c_7 c_11 c_17; omega) (bI_n c_26) (by omega)
            obtain ⟨k, ab, hk, hab, rfl, rfl, hok⟩ := st_nat hO
            refine lv_aload_n hx hb dX0_step_31 rfl (lv_at hl 0 rfl) ?_
            refine x_get C I rfl 3 (by decide) q34 rfl dX0_step_32 ?_
            refine lv_bipush (v := nI 12) hx hb dX0_step_35 (by decide) ?_
            refine n_lt (tgt := 43) hx hb dX0_step_37 (by decide) (by omega) (by omega) (fun c_37 => ?_) (fun c_37 => ?_)
            · refine lv_aload_n hx hb dX0_step_43 rfl (lv_at hl 0 rfl) ?_
              refine x_get C I rfl 0 (by decide) q31 rfl dX0_step_44 ?_
              refine lv_aload_n hx hb dX0_step_47 rfl (lv_at hl 0 rfl) ?_
              refine x_get C I rfl 3 (by decide) q34 rfl dX0_step_48 ?_
              refine lv_iload_n hx hb dX0_step_51 rfl (lv_at hl 1 rfl) ?_
              refine lv_i2b (v := (nI k)) hx hb dX0_step_52 (i8 (by omega)) ?_
              refine i_bst (ws' := wX h d (nI n) wy kn (upd fK n (nI k)) fP fN fO fD fI fR fH fT fF fE fM) (v := (nI k)) C I 1 rfl (by omega) (i8 (by omega)) rfl dX0_step_53 (fun H locs I => ?_)
              refine lv_aload_n hx hb dX0_step_54 rfl (lv_at hl 0 rfl) ?_
              refine x_get C I rfl 1 (by decide) q32 rfl dX0_step_55 ?_
              refine lv_aload_n hx hb dX0_step_58 rfl (lv_at hl 0 rfl) ?_
              refine x_get C I rfl 3 (by decide) q34 rfl dX0_step_59 ?_
              refine lv_iload_n hx hb dX0_step_62 rfl (lv_at hl 2 rfl) ?_
              refine lv_i2b (v := (nI ab)) hx hb dX0_step_63 (i8 (by omega)) ?_
              refine i_bst (ws' := wX h d (nI n) wy kn (upd fK n (nI k)) (upd fP n (nI ab)) fN fO fD fI fR fH fT fF fE fM) (v := (nI ab)) C I 2 rfl (by omega) (i8 (by omega)) rfl dX0_step_64 (fun H locs I => ?_)
              refine lv_aload_n hx hb dX0_step_65 rfl (lv_at hl 0 rfl) ?_
              refine x_get C I rfl 2 (by decide) q33 rfl dX0_step_66 ?_
              refine lv_aload_n hx hb dX0_step_69 rfl (lv_at hl 0 rfl) ?_
              refine x_get C I rfl 3 (by decide) q34 rfl dX0_step_70 ?_
              refine lv_iload_n hx hb dX0_step_73 rfl (lv_at hl 3 rfl) ?_
              refine lv_i2b (v := (x3.toInt8.toInt32)) hx hb dX0_step_74 (rfl) ?_
              refine i_bst (ws' := wX h d (nI n) wy kn (upd fK n (nI k)) (upd fP n (nI ab)) (upd fN n (x3.toInt8.toInt32)) fO fD fI fR fH fT fF fE fM) (v := (x3.toInt8.toInt32)) C I 3 rfl (by omega) (pk_vb _) rfl dX0_step_75 (fun H locs I => ?_)
              refine lv_aload_n hx hb dX0_step_76 rfl (lv_at hl 0 rfl) ?_
              refine lv_dup hx hb dX0_step_77 rfl ?_
              refine x_get C I rfl 3 (by decide) q34 rfl dX0_step_78 ?_
              refine lv_iconst (v := nI 1) hx hb dX0_step_81 (by decide) ?_
              refine n_add hx hb dX0_step_82 ?_
              refine x_put (ws' := wX h d (nI (n + 1)) wy kn (upd fK n (nI k)) (upd fP n (nI ab)) (upd fN n (x3.toInt8.toInt32)) fO fD fI fR fH fT fF fE fM) (ty := .int) C I rfl 3 (by decide) q34 rfl (by decide +kernel) rfl rfl (Nat.le_of_ble_eq_true rfl) rfl dX0_step_83 (fun H locs I => ?_)
              refine lv_aload_n hx hb dX0_step_86 rfl (lv_at hl 0 rfl) ?_
              refine cv_call (As := []) (rest := []) C I (kX_change l D d h (nI (n + 1)) wy kn (upd fK n (nI k)) (upd fP n (nI ab)) (upd fN n (x3.toInt8.toInt32)) fO fD fI fR fH fT fF fE fM) (cwV 0 C.1.2.2.2.2 (lw_V q89 q91 qs1 q21 q92) rfl rfl rfl (by decide +kernel) ⟨Nat.le_of_ble_eq_true rfl, Nat.le_of_ble_eq_true rfl⟩) rfl rfl rfl hl.1 rfl (Nat.le_of_ble_eq_true rfl) dX0_step_87 ⟨Nat.zero_le _, Nat.zero_le _⟩ (fun w' H locs hpo I => ?_)
              obtain ⟨fM', hfM', rfl⟩ := hpo
              refine lv_aload_n hx hb dX0_step_90 rfl (lv_at hl 0 rfl) ?_
              refine x_get C I rfl 3 (by decide) q34 rfl dX0_step_91 ?_
              refine lv_iconst (v := nI 1) hx hb dX0_step_94 (by decide) ?_
              refine n_sub hx hb dX0_step_95 (by omega) ?_
              exact hret (nI ((n + 1) - 1)) _ _ _ _ _ rfl I (⟨stA_n hO c_37, xw_step (stC_t hO c_37) hk hab ⟨_, _, _, _, _, _, _, _, _, _, _, _, _, _, _, xi_add hG c_37 (ps_new hk hab hok) hP hfM', rfl⟩⟩) dX0_step_96
            · refine lv_bipush (v := -2) hx hb dX0_step_40 (by decide) ?_
              exact hret (-2) _ _ _ _ _ rfl I (⟨stA_2 hO c_37, xw_same (stC_f (Or.inr c_37)) ⟨_, _, _, _, _, _, _, _, _, _, _, _, _, _, _, hXI, rfl⟩⟩) dX0_step_42
          · refine lv_iconst (v := -1) hx hb dX0_step_29 (by decide) ?_
            exact hret (-1) _ _ _ _ _ rfl I (⟨stA_f (stO_f (by first | exact Or.inl (by simp only [Int32.lt_iff_toInt_lt, Int32.le_iff_toInt_le, ← Int32.toInt_inj, i_m20, i_m3, i_0, ti_0, ti_1, ti_2, ti_3, ti_4, ti_5, ti_6, ti_7, ti_12, ti_15, ti_16, ti_20, ti_255, ti_256] at c_1; omega) | exact Or.inr (bI_0.mp c_26)) (by omega)), xw_same (stC_f (Or.inl (stO_f (by first | exact Or.inl (by simp only [Int32.lt_iff_toInt_lt, Int32.le_iff_toInt_le, ← Int32.toInt_inj, i_m20, i_m3, i_0, ti_0, ti_1, ti_2, ti_3, ti_4, ti_5, ti_6, ti_7, ti_12, ti_15, ti_16, ti_20, ti_255, ti_256] at c_1; omega) | exact Or.inr (bI_0.mp c_26)) (by omega)))) ⟨_, _, _, _, _, _, _, _, _, _, _, _, _, _, _, hXI, rfl⟩⟩) dX0_step_30
set_option maxHeartbeats 4000000 in
set_option maxRecDepth 100000 in
/-- drop() -/
theorem kX_drop (l : Launch) (D : va_G) (d : Nat → ClassId) (h : Nat → Nat) (n : Nat) (G : Pg) (mk : Nat → Bool) (sz wy kn : Int32) (fK fP fN fO fD fI fR fH fT fF fE fM : Nat → Int32) (hX : XI n G mk sz kn fK fP fN fT fF fE fM)  : CT l yX0_drop (ws_ yX0_drop cX0_drop 1 (some .int)) (rk 6) D d [.ref (h 0)] (wX h d sz wy kn fK fP fN fO fD fI fR fH fT fF fE fM) (fun r w' => r = drA n ∧ XW (n - 1) G (drM n mk) h d w') := by
  have hXI := hX
  obtain ⟨rfl, hG, hP, hKn, hMk⟩ := hX
  have hn12 := hG.1
  refine ct_in (cc := cX0_drop) (nL := 1) (ty := .int) (by decide) rfl (Nat.le_of_ble_eq_true rfl) ?_
  intro p e s m ar bl me c A Q ls C I hl hret
  have hx := C.1.1
  have hb := C.1.2.1
  have hl : lv_has ls 1 [(0, .ref (h 0))] := hl
  refine lv_aload_n hx hb dX0_drop_0 rfl (lv_at hl 0 rfl) ?_
  refine x_get C I rfl 3 (by decide) q34 rfl dX0_drop_1 ?_
  refine n_ifne (tgt := 9) hx hb dX0_drop_4 (by decide) (by omega) (fun c_4 => ?_) (fun c_4 => ?_)
  · refine lv_aload_n hx hb dX0_drop_9 rfl (lv_at hl 0 rfl) ?_
    refine lv_dup hx hb dX0_drop_10 rfl ?_
    refine x_get C I rfl 3 (by decide) q34 rfl dX0_drop_11 ?_
    refine lv_iconst (v := nI 1) hx hb dX0_drop_14 (by decide) ?_
    refine n_sub hx hb dX0_drop_15 (by omega) ?_
    refine x_put (ws' := wX h d (nI (n - 1)) wy kn fK fP fN fO fD fI fR fH fT fF fE fM) (ty := .int) C I rfl 3 (by decide) q34 rfl (by decide +kernel) rfl rfl (Nat.le_of_ble_eq_true rfl) rfl dX0_drop_16 (fun H locs I => ?_)
    refine lv_aload_n hx hb dX0_drop_19 rfl (lv_at hl 0 rfl) ?_
    refine cv_call (As := []) (rest := []) C I (kX_change l D d h (nI (n - 1)) wy kn fK fP fN fO fD fI fR fH fT fF fE fM) (cwV 0 C.1.2.2.2.2 (lw_V q89 q91 qs1 q21 q92) rfl rfl rfl (by decide +kernel) ⟨Nat.le_of_ble_eq_true rfl, Nat.le_of_ble_eq_true rfl⟩) rfl rfl rfl hl.1 rfl (Nat.le_of_ble_eq_true rfl) dX0_drop_20 ⟨Nat.zero_le _, Nat.zero_le _⟩ (fun w' H locs hpo I => ?_)
    obtain ⟨fM', hfM', rfl⟩ := hpo
    refine lv_aload_n hx hb dX0_drop_23 rfl (lv_at hl 0 rfl) ?_
    refine x_get C I rfl 3 (by decide) q34 rfl dX0_drop_24 ?_
    exact hret (nI (n - 1)) _ _ _ _ _ rfl I (⟨by rw [drA, if_neg c_4], by rw [drM, if_neg c_4]; exact ⟨_, _, _, _, _, _, _, _, _, _, _, _, _, _, _, ⟨rfl, pw_sub hG, fun p hp => hP p (by omega), Or.inl rfl, hfM'⟩, rfl⟩⟩) dX0_drop_27
  · refine lv_iconst (v := -1) hx hb dX0_drop_7 (by decide) ?_
    exact hret (-1) _ _ _ _ _ rfl I (⟨by rw [c_4]; rfl, by rw [c_4] at hXI ⊢; exact ⟨_, _, _, _, _, _, _, _, _, _, _, _, _, _, _, hXI, rfl⟩⟩) dX0_drop_8
end
section
set_option maxHeartbeats 4000000 in
set_option maxRecDepth 100000 in
/-- solve(w, a, b, equal) -/
theorem kX_solve (l : Launch) (D : va_G) (d : Nat → ClassId) (h : Nat → Nat) (sz wy kn : Int32) (fK fP fN fO fD fI fR fH fT fF fE fM : Nat → Int32) (w a b : Nat) (eq : Int32) (hw : w < 16) (ha : a ≤ 3) (hb3 : b ≤ 3) (hB : RB fR w MB) : CV l yX0_solve (ws_ yX0_solve cX0_solve 12 none) (rk 2) D d [.ref (h 0), .int (nI w), .int (nI a), .int (nI b), .int eq] (wX h d sz wy kn fK fP fN fO fD fI fR fH fT fF fE fM) (fun w' => ∃ fH', (∀ i, i < 256 → bt (fH' (i % 16)) (i / 16) = cnd eq fR w a b i) ∧ w' = wX h d sz wy kn fK fP fN fO fD fI fR fH' fT fF fE fM) := by
  refine cv_in (cc := cX0_solve) (nL := 12) (by decide) rfl (Nat.le_of_ble_eq_true rfl) ?_
  intro p e s m ar bl me c A Q ls C I hl hret
  have hx := C.1.1
  have hb := C.1.2.1
  have hl : lv_has ls 12 [(0, .ref (h 0)), (1, .int (nI w)), (2, .int (nI a)), (3, .int (nI b)), (4, .int eq)] := hl
  refine lv_iload_n hx hb dX0_solve_0 rfl (lv_at hl 1 rfl) ?_
  refine lv_bipush (v := nI 12) hx hb dX0_solve_1 (by decide) ?_
  refine n_mul hx hb dX0_solve_3 ?_
  refine lv_iconst (v := nI 3) hx hb dX0_solve_4 (by decide) ?_
  refine lv_iload_n hx hb dX0_solve_5 rfl (lv_at hl 2 rfl) ?_
  refine n_mul hx hb dX0_solve_6 ?_
  refine n_add hx hb dX0_solve_7 ?_
  refine lv_istore (lv' := [(5, .int (nI (w * 12 + (3 * a)))), (0, .ref (h 0)), (1, .int (nI w)), (2, .int (nI a)), (3, .int (nI b)), (4, .int eq)]) hx hb dX0_solve_8 hl (by decide) rfl (fun ls hl => ?_)
  refine lv_iload_n hx hb dX0_solve_10 rfl (lv_at hl 2 rfl) ?_
  refine lv_bipush (v := nI 12) hx hb dX0_solve_11 (by decide) ?_
  refine n_mul hx hb dX0_solve_13 ?_
  refine lv_iconst (v := nI 3) hx hb dX0_solve_14 (by decide) ?_
  refine lv_iload_n hx hb dX0_solve_15 rfl (lv_at hl 4 rfl) ?_
  refine n_mul hx hb dX0_solve_16 ?_
  refine n_add hx hb dX0_solve_17 ?_
  refine lv_istore (lv' := [(6, .int (nI (w * 12 + (3 * b)))), (5, .int (nI (w * 12 + (3 * a)))), (0, .ref (h 0)), (1, .int (nI w)), (2, .int (nI a)), (3, .int (nI b)), (4, .int eq)]) hx hb dX0_solve_18 hl (by decide) rfl (fun ls hl => ?_)
  refine lv_aload_n hx hb dX0_solve_20 rfl (lv_at hl 2 rfl) ?_
  refine x_get C I rfl 8 (by decide) q39 rfl dX0_solve_21 ?_
  refine lv_iload hx hb dX0_solve_24 (lv_at hl 1 rfl) ?_
  refine i_ild C I 7 rfl (by omega) dX0_solve_26 ?_
  refine lv_aload_n hx hb dX0_solve_27 rfl (lv_at hl 2 rfl) ?_
  refine x_get C I rfl 8 (by decide) q39 rfl dX0_solve_28 ?_
  refine lv_iload hx hb dX0_solve_31 (lv_at hl 0 rfl) ?_
  refine i_ild C I 7 rfl (by omega) dX0_solve_33 ?_
  refine lv_isub hx hb dX0_solve_34 ?_
  refine lv_topi (fun dX edX => ?_)
  refine lv_istore (lv' := [(7, .int dX), (6, .int (nI (w * 12 + (3 * b)))), (5, .int (nI (w * 12 + (3 * a)))), (0, .ref (h 0)), (1, .int (nI w)), (2, .int (nI a)), (3, .int (nI b)), (4, .int eq)]) hx hb dX0_solve_35 hl (by decide) rfl (fun ls hl => ?_)
  refine lv_aload_n hx hb dX0_solve_37 rfl (lv_at hl 3 rfl) ?_
  refine x_get C I rfl 8 (by decide) q39 rfl dX0_solve_38 ?_
  refine lv_iload hx hb dX0_solve_41 (lv_at hl 2 rfl) ?_
  refine lv_iconst (v := nI 1) hx hb dX0_solve_43 (by decide) ?_
  refine n_add hx hb dX0_solve_44 ?_
  refine i_ild C I 7 rfl (by omega) dX0_solve_45 ?_
  refine lv_aload_n hx hb dX0_solve_46 rfl (lv_at hl 3 rfl) ?_
  refine x_get C I rfl 8 (by decide) q39 rfl dX0_solve_47 ?_
  refine lv_iload hx hb dX0_solve_50 (lv_at hl 1 rfl) ?_
  refine lv_iconst (v := nI 1) hx hb dX0_solve_52 (by decide) ?_
  refine n_add hx hb dX0_solve_53 ?_
  refine i_ild C I 7 rfl (by omega) dX0_solve_54 ?_
  refine lv_isub hx hb dX0_solve_55 ?_
  refine lv_topi (fun dY edY => ?_)
  refine lv_istore (lv' := [(8, .int dY), (7, .int dX), (6, .int (nI (w * 12 + (3 * b)))), (5, .int (nI (w * 12 + (3 * a)))), (0, .ref (h 0)), (1, .int (nI w)), (2, .int (nI a)), (3, .int (nI b)), (4, .int eq)]) hx hb dX0_solve_56 hl (by decide) rfl (fun ls hl => ?_)
  refine lv_aload_n hx hb dX0_solve_58 rfl (lv_at hl 4 rfl) ?_
  refine x_get C I rfl 8 (by decide) q39 rfl dX0_solve_59 ?_
  refine lv_iload hx hb dX0_solve_62 (lv_at hl 3 rfl) ?_
  refine lv_iconst (v := nI 2) hx hb dX0_solve_64 (by decide) ?_
  refine n_add hx hb dX0_solve_65 ?_
  refine i_ild C I 7 rfl (by omega) dX0_solve_66 ?_
  refine lv_aload_n hx hb dX0_solve_67 rfl (lv_at hl 4 rfl) ?_
  refine x_get C I rfl 8 (by decide) q39 rfl dX0_solve_68 ?_
  refine lv_iload hx hb dX0_solve_71 (lv_at hl 2 rfl) ?_
  refine lv_iconst (v := nI 2) hx hb dX0_solve_73 (by decide) ?_
  refine n_add hx hb dX0_solve_74 ?_
  refine i_ild C I 7 rfl (by omega) dX0_solve_75 ?_
  refine lv_isub hx hb dX0_solve_76 ?_
  refine lv_topi (fun dA edA => ?_)
  refine lv_istore (lv' := [(9, .int dA), (8, .int dY), (7, .int dX), (6, .int (nI (w * 12 + (3 * b)))), (5, .int (nI (w * 12 + (3 * a)))), (0, .ref (h 0)), (1, .int (nI w)), (2, .int (nI a)), (3, .int (nI b)), (4, .int eq)]) hx hb dX0_solve_77 hl (by decide) rfl (fun ls hl => ?_)
  refine lv_iconst (v := nI 0) hx hb dX0_solve_79 (by decide) ?_
  refine lv_istore (lv' := [(10, .int (nI 0)), (9, .int dA), (8, .int dY), (7, .int dX), (6, .int (nI (w * 12 + (3 * b)))), (5, .int (nI (w * 12 + (3 * a)))), (0, .ref (h 0)), (1, .int (nI w)), (2, .int (nI a)), (3, .int (nI b)), (4, .int eq)]) hx hb dX0_solve_80 hl (by decide) rfl (fun ls hl => ?_)
  have bX : -21257640 ≤ dX.toInt ∧ dX.toInt ≤ 21257640 := by rw [edX]; exact (rb_sub (t := 0) hB ha hb3 (by omega)).2
  have bY : -21257640 ≤ dY.toInt ∧ dY.toInt ≤ 21257640 := by rw [edY]; exact (rb_sub (t := 1) hB ha hb3 (by omega)).2
  have bA : -21257640 ≤ dA.toInt ∧ dA.toInt ≤ 21257640 := by rw [edA]; exact (rb_sub (t := 2) hB ha hb3 (by omega)).2
  have lp : ∀ (nn : Nat) (x : Nat) (f : Nat → Int32) (H : Heap) (locs : List Loc) (ls : Array Slot), 16 + 1 ≤ x + nn → (x ≤ 16) → (∀ x', x' < x → ∀ y : Nat, y < 16 → bt (f x') y = hc eq (dX.toInt * x' + dA.toInt + dY.toInt * y)) → IW D A s.heap (wX h d sz wy kn fK fP fN fO fD fI fR f fT fF fE fM) H locs → lv_has ls 12 [(0, .ref (h 0)), (4, .int eq), (7, .int dX), (8, .int dY), (9, .int dA), (10, .int (nI x))] → W p l e (rk 2) s m ar bl me c H locs 0 0 Q (F0 m 82 ls []) := by
    intro nn
    induction nn with
    | zero => intro x f H locs ls hme hi hf; exact absurd hme (by omega)
    | succ nn ih =>
      intro x f H locs ls hme hi hf I hl
      refine lv_iload hx hb dX0_solve_82 (lv_at hl 5 rfl) ?_
      refine lv_bipush (v := nI 16) hx hb dX0_solve_84 (by decide) ?_
      refine n_ge (tgt := 134) hx hb dX0_solve_86 (by decide) (by omega) (by omega) (fun c_86 => ?_) (fun c_86 => ?_)
      · exact hret _ _ _ _ _ I (⟨f, solve_end hB ha hb3 edX edY edA (fun x' hx' => hf x' (by omega)), rfl⟩) dX0_solve_134
      · have hsc := solve_c bX bA (show x < 16 by omega)
        refine lv_iload hx hb dX0_solve_89 (lv_at hl 2 rfl) ?_
        refine lv_iload hx hb dX0_solve_91 (lv_at hl 5 rfl) ?_
        refine lv_imul hx hb dX0_solve_93 ?_
        refine lv_iload hx hb dX0_solve_94 (lv_at hl 4 rfl) ?_
        refine lv_iadd hx hb dX0_solve_96 ?_
        refine lv_istore (lv' := [(11, .int ((dX * (nI x)) + dA)), (0, .ref (h 0)), (4, .int eq), (7, .int dX), (8, .int dY), (9, .int dA), (10, .int (nI x))]) hx hb dX0_solve_97 hl (by decide) rfl (fun ls hl => ?_)
        refine lv_aload_n hx hb dX0_solve_99 rfl (lv_at hl 1 rfl) ?_
        refine x_get C I rfl 9 (by decide) q40 rfl dX0_solve_100 ?_
        refine lv_iload hx hb dX0_solve_103 (lv_at hl 6 rfl) ?_
        refine lv_iload hx hb dX0_solve_105 (lv_at hl 2 rfl) ?_
        refine lv_if_eq (tgt := 120) hx hb dX0_solve_107 (by decide) (fun c_107 => ?_) (fun c_107 => ?_)
        · skip
          refine lv_iload hx hb dX0_solve_120 (lv_at hl 0 rfl) ?_
          refine lv_iload hx hb dX0_solve_122 (lv_at hl 4 rfl) ?_
          refine cs_call (As := [.int ((dX * (nI x)) + dA), .int dY]) (rest := [.int (nI x), .ref (h 8)]) C.1 (kX_below l (dX * nI x + dA) dY hsc.2 (by omega)) (va_cwS 2 C.1.2.2.2.2 (lw_S q137 q138 q21 q139) rfl rfl rfl (by decide +kernel) ⟨Nat.le_of_ble_eq_true rfl, Nat.le_of_ble_eq_true rfl⟩) rfl hl.1 rfl (Nat.le_of_ble_eq_true rfl) dX0_solve_124 ⟨Nat.zero_le _, Nat.zero_le _⟩ (fun r hpo => ?_)
          refine i_ist (ws' := wX h d sz wy kn fK fP fN fO fD fI fR (upd f x r) fT fF fE fM) C I 8 rfl (by omega) rfl dX0_solve_127 (fun H locs I => ?_)
          refine lv_iinc (v := (nI (x + 1))) (lv' := [(10, .int (nI (x + 1))), (11, .int ((dX * (nI x)) + dA)), (0, .ref (h 0)), (4, .int eq), (7, .int dX), (8, .int dY), (9, .int dA)]) hx hb dX0_solve_128 hl (k := 6) rfl (n_inc _) (by decide) rfl (fun ls hl => ?_)
          refine lv_goto (tgt := 82) hx hb dX0_solve_131 (by decide) ?_
          exact ih (x + 1) (upd f x r) _ _ _ (by omega) (by omega) (lt_upd (P := fun (x : Nat) z => ∀ y : Nat, y < 16 → bt z y = hc eq (dX.toInt * x + dA.toInt + dY.toInt * y)) hf (fun y hy => by rw [hpo y hy, hsc.1, hc, if_pos c_107])) I (lv_sub hl [2, 3, 4, 5, 6, 0] rfl)
        · skip
          refine lv_iload hx hb dX0_solve_110 (lv_at hl 0 rfl) ?_
          refine lv_iload hx hb dX0_solve_112 (lv_at hl 4 rfl) ?_
          refine cs_call (As := [.int ((dX * (nI x)) + dA), .int dY]) (rest := [.int (nI x), .ref (h 8)]) C.1 (kX_zero l (dX * nI x + dA) dY hsc.2 (by omega)) (va_cwS 2 C.1.2.2.2.2 (lw_S q134 q135 q21 q136) rfl rfl rfl (by decide +kernel) ⟨Nat.le_of_ble_eq_true rfl, Nat.le_of_ble_eq_true rfl⟩) rfl hl.1 rfl (Nat.le_of_ble_eq_true rfl) dX0_solve_114 ⟨Nat.zero_le _, Nat.zero_le _⟩ (fun r hpo => ?_)
          refine lv_goto (tgt := 127) hx hb dX0_solve_117 (by decide) ?_
          refine i_ist (ws' := wX h d sz wy kn fK fP fN fO fD fI fR (upd f x r) fT fF fE fM) C I 8 rfl (by omega) rfl dX0_solve_127 (fun H locs I => ?_)
          refine lv_iinc (v := (nI (x + 1))) (lv' := [(10, .int (nI (x + 1))), (11, .int ((dX * (nI x)) + dA)), (0, .ref (h 0)), (4, .int eq), (7, .int dX), (8, .int dY), (9, .int dA)]) hx hb dX0_solve_128 hl (k := 6) rfl (n_inc _) (by decide) rfl (fun ls hl => ?_)
          refine lv_goto (tgt := 82) hx hb dX0_solve_131 (by decide) ?_
          exact ih (x + 1) (upd f x r) _ _ _ (by omega) (by omega) (lt_upd (P := fun (x : Nat) z => ∀ y : Nat, y < 16 → bt z y = hc eq (dX.toInt * x + dA.toInt + dY.toInt * y)) hf (fun y hy => by rw [hpo y hy, hsc.1, hc, if_neg c_107])) I (lv_sub hl [2, 3, 4, 5, 6, 0] rfl)
  exact lp 17 0 fH _ _ _ (by omega) (by omega) (fun _ h => absurd h (by omega)) I (lv_sub hl [6, 10, 3, 2, 1, 0] rfl)
set_option maxHeartbeats 4000000 in
set_option maxRecDepth 100000 in
/-- copyWay(from, to) -/
theorem kX_copyWay (l : Launch) (D : va_G) (d : Nat → ClassId) (h : Nat → Nat) (sz wy kn : Int32) (fK fP fN fO fD fI fR fH fT fF fE fM : Nat → Int32) (a b p0 q0 : Nat) (ha : a < 16) (hb3 : b < 16) (hp : fO a = nI p0) (hp2 : p0 < 128) (hq : fD a = nI q0) (hq2 : q0 < 4096) : CV l yX0_copyWay (ws_ yX0_copyWay cX0_copyWay 4 none) (rk 0) D d [.ref (h 0), .int (nI a), .int (nI b)] (wX h d sz wy kn fK fP fN fO fD fI fR fH fT fF fE fM) (fun w' => w' = wX h d sz wy kn fK fP fN (upd fO b (nI p0)) (upd fD b (nI q0)) (cpP 16 fI a b 16) (cpP 12 fR a b 12) fH fT fF fE fM) := by
  refine cv_in (cc := cX0_copyWay) (nL := 4) (by decide) rfl (Nat.le_of_ble_eq_true rfl) ?_
  intro p e s m ar bl me c A Q ls C I hl hret
  have hx := C.1.1
  have hb := C.1.2.1
  have hl : lv_has ls 4 [(0, .ref (h 0)), (1, .int (nI a)), (2, .int (nI b))] := hl
  refine lv_aload_n hx hb dX0_copyWay_0 rfl (lv_at hl 0 rfl) ?_
  refine x_get C I rfl 5 (by decide) q36 rfl dX0_copyWay_1 ?_
  refine lv_iload_n hx hb dX0_copyWay_4 rfl (lv_at hl 2 rfl) ?_
  refine lv_aload_n hx hb dX0_copyWay_5 rfl (lv_at hl 0 rfl) ?_
  refine x_get C I rfl 5 (by decide) q36 rfl dX0_copyWay_6 ?_
  refine lv_iload_n hx hb dX0_copyWay_9 rfl (lv_at hl 1 rfl) ?_
  refine i_bld C I 4 rfl (by omega) dX0_copyWay_10 ?_
  refine lv_topi (fun z_1 ez_1 => ?_)
  obtain rfl : z_1 = nI p0 := ez_1.trans (hp)
  refine i_bst (ws' := wX h d sz wy kn fK fP fN (upd fO b (nI p0)) fD fI fR fH fT fF fE fM) (v := (nI p0)) C I 4 rfl (by omega) (i8 hp2) rfl dX0_copyWay_11 (fun H locs I => ?_)
  refine lv_aload_n hx hb dX0_copyWay_12 rfl (lv_at hl 0 rfl) ?_
  refine x_get C I rfl 6 (by decide) q37 rfl dX0_copyWay_13 ?_
  refine lv_iload_n hx hb dX0_copyWay_16 rfl (lv_at hl 2 rfl) ?_
  refine lv_aload_n hx hb dX0_copyWay_17 rfl (lv_at hl 0 rfl) ?_
  refine x_get C I rfl 6 (by decide) q37 rfl dX0_copyWay_18 ?_
  refine lv_iload_n hx hb dX0_copyWay_21 rfl (lv_at hl 1 rfl) ?_
  refine i_sld C I 5 rfl (by omega) dX0_copyWay_22 ?_
  refine lv_topi (fun z_2 ez_2 => ?_)
  obtain rfl : z_2 = nI q0 := ez_2.trans (hq)
  refine i_sst (ws' := wX h d sz wy kn fK fP fN (upd fO b (nI p0)) (upd fD b (nI q0)) fI fR fH fT fF fE fM) (v := (nI q0)) C I 5 rfl (by omega) (i16 hq2) rfl dX0_copyWay_23 (fun H locs I => ?_)
  refine lv_iconst (v := nI 0) hx hb dX0_copyWay_24 (by decide) ?_
  refine lv_istore_n (lv' := [(3, .int (nI 0)), (0, .ref (h 0)), (1, .int (nI a)), (2, .int (nI b))]) hx hb dX0_copyWay_25 rfl hl (by decide) rfl (fun ls hl => ?_)
  have lp : ∀ (nn : Nat) (x : Nat) (f : Nat → Int32) (H : Heap) (locs : List Loc) (ls : Array Slot), 16 + 1 ≤ x + nn → (x ≤ 16) → (f = cpP 16 fI a b x) → IW D A s.heap (wX h d sz wy kn fK fP fN (upd fO b (nI p0)) (upd fD b (nI q0)) f fR fH fT fF fE fM) H locs → lv_has ls 4 [(0, .ref (h 0)), (1, .int (nI a)), (2, .int (nI b)), (3, .int (nI x))] → W p l e (rk 0) s m ar bl me c H locs 0 0 Q (F0 m 26 ls []) := by
    intro nn
    induction nn with
    | zero => intro x f H locs ls hme hi hf; exact absurd hme (by omega)
    | succ nn ih =>
      intro x f H locs ls hme hi hf I hl
      refine lv_iload_n hx hb dX0_copyWay_26 rfl (lv_at hl 3 rfl) ?_
      refine lv_bipush (v := nI 16) hx hb dX0_copyWay_27 (by decide) ?_
      refine n_ge (tgt := 60) hx hb dX0_copyWay_29 (by decide) (by omega) (by omega) (fun c_29 => ?_) (fun c_29 => ?_)
      · skip
        obtain rfl : x = 16 := by omega
        subst hf
        refine lv_iconst (v := nI 0) hx hb dX0_copyWay_60 (by decide) ?_
        refine lv_istore_n (lv' := [(3, .int (nI 0)), (0, .ref (h 0)), (1, .int (nI a)), (2, .int (nI b))]) hx hb dX0_copyWay_61 rfl hl (by decide) rfl (fun ls hl => ?_)
        have lp2 : ∀ (nn : Nat) (x : Nat) (g : Nat → Int32) (H : Heap) (locs : List Loc) (ls : Array Slot), 12 + 1 ≤ x + nn → (x ≤ 12) → (g = cpP 12 fR a b x) → IW D A s.heap (wX h d sz wy kn fK fP fN (upd fO b (nI p0)) (upd fD b (nI q0)) (cpP 16 fI a b 16) g fH fT fF fE fM) H locs → lv_has ls 4 [(0, .ref (h 0)), (1, .int (nI a)), (2, .int (nI b)), (3, .int (nI x))] → W p l e (rk 0) s m ar bl me c H locs 0 0 Q (F0 m 62 ls []) := by
          intro nn
          induction nn with
          | zero => intro x g H locs ls hme hi hg; exact absurd hme (by omega)
          | succ nn ih =>
            intro x g H locs ls hme hi hg I hl
            refine lv_iload_n hx hb dX0_copyWay_62 rfl (lv_at hl 3 rfl) ?_
            refine lv_bipush (v := nI 12) hx hb dX0_copyWay_63 (by decide) ?_
            refine n_ge (tgt := 96) hx hb dX0_copyWay_65 (by decide) (by omega) (by omega) (fun c_65 => ?_) (fun c_65 => ?_)
            · skip
              obtain rfl : x = 12 := by omega
              subst hg
              exact hret _ _ _ _ _ I (rfl) dX0_copyWay_96
            · refine lv_aload_n hx hb dX0_copyWay_68 rfl (lv_at hl 0 rfl) ?_
              refine x_get C I rfl 8 (by decide) q39 rfl dX0_copyWay_69 ?_
              refine lv_iload_n hx hb dX0_copyWay_72 rfl (lv_at hl 2 rfl) ?_
              refine lv_bipush (v := nI 12) hx hb dX0_copyWay_73 (by decide) ?_
              refine n_mul hx hb dX0_copyWay_75 ?_
              refine lv_iload_n hx hb dX0_copyWay_76 rfl (lv_at hl 3 rfl) ?_
              refine n_add hx hb dX0_copyWay_77 ?_
              refine lv_aload_n hx hb dX0_copyWay_78 rfl (lv_at hl 0 rfl) ?_
              refine x_get C I rfl 8 (by decide) q39 rfl dX0_copyWay_79 ?_
              refine lv_iload_n hx hb dX0_copyWay_82 rfl (lv_at hl 1 rfl) ?_
              refine lv_bipush (v := nI 12) hx hb dX0_copyWay_83 (by decide) ?_
              refine n_mul hx hb dX0_copyWay_85 ?_
              refine lv_iload_n hx hb dX0_copyWay_86 rfl (lv_at hl 3 rfl) ?_
              refine n_add hx hb dX0_copyWay_87 ?_
              refine i_ild C I 7 rfl (by omega) dX0_copyWay_88 ?_
              refine i_ist (ws' := wX h d sz wy kn fK fP fN (upd fO b (nI p0)) (upd fD b (nI q0)) (cpP 16 fI a b 16) (upd g (b * 12 + x) (g (a * 12 + x))) fH fT fF fE fM) C I 7 rfl (by omega) rfl dX0_copyWay_89 (fun H locs I => ?_)
              refine lv_iinc (v := (nI (x + 1))) (lv' := [(3, .int (nI (x + 1))), (0, .ref (h 0)), (1, .int (nI a)), (2, .int (nI b))]) hx hb dX0_copyWay_90 hl (k := 3) rfl (n_inc _) (by decide) rfl (fun ls hl => ?_)
              refine lv_goto (tgt := 62) hx hb dX0_copyWay_93 (by decide) ?_
              exact ih (x + 1) (upd g (b * 12 + x) (g (a * 12 + x))) _ _ _ (by omega) (by omega) (by rw [hg]; exact cpP_s (by omega)) I (lv_sub hl [1, 2, 3, 0] rfl)
        exact lp2 13 0 fR _ _ _ (by omega) (by omega) (cpP_0) I (lv_sub hl [1, 2, 3, 0] rfl)
      · refine lv_aload_n hx hb dX0_copyWay_32 rfl (lv_at hl 0 rfl) ?_
        refine x_get C I rfl 7 (by decide) q38 rfl dX0_copyWay_33 ?_
        refine lv_iload_n hx hb dX0_copyWay_36 rfl (lv_at hl 2 rfl) ?_
        refine lv_bipush (v := nI 16) hx hb dX0_copyWay_37 (by decide) ?_
        refine n_mul hx hb dX0_copyWay_39 ?_
        refine lv_iload_n hx hb dX0_copyWay_40 rfl (lv_at hl 3 rfl) ?_
        refine n_add hx hb dX0_copyWay_41 ?_
        refine lv_aload_n hx hb dX0_copyWay_42 rfl (lv_at hl 0 rfl) ?_
        refine x_get C I rfl 7 (by decide) q38 rfl dX0_copyWay_43 ?_
        refine lv_iload_n hx hb dX0_copyWay_46 rfl (lv_at hl 1 rfl) ?_
        refine lv_bipush (v := nI 16) hx hb dX0_copyWay_47 (by decide) ?_
        refine n_mul hx hb dX0_copyWay_49 ?_
        refine lv_iload_n hx hb dX0_copyWay_50 rfl (lv_at hl 3 rfl) ?_
        refine n_add hx hb dX0_copyWay_51 ?_
        refine i_ild C I 6 rfl (by omega) dX0_copyWay_52 ?_
        refine i_ist (ws' := wX h d sz wy kn fK fP fN (upd fO b (nI p0)) (upd fD b (nI q0)) (upd f (b * 16 + x) (f (a * 16 + x))) fR fH fT fF fE fM) C I 6 rfl (by omega) rfl dX0_copyWay_53 (fun H locs I => ?_)
        refine lv_iinc (v := (nI (x + 1))) (lv' := [(3, .int (nI (x + 1))), (0, .ref (h 0)), (1, .int (nI a)), (2, .int (nI b))]) hx hb dX0_copyWay_54 hl (k := 3) rfl (n_inc _) (by decide) rfl (fun ls hl => ?_)
        refine lv_goto (tgt := 26) hx hb dX0_copyWay_57 (by decide) ?_
        exact ih (x + 1) (upd f (b * 16 + x) (f (a * 16 + x))) _ _ _ (by omega) (by omega) (by rw [hf]; exact cpP_s (by omega)) I (lv_sub hl [1, 2, 3, 0] rfl)
  exact lp 17 0 fI _ _ _ (by omega) (by omega) (cpP_0) I (lv_sub hl [1, 2, 3, 0] rfl)
set_option maxHeartbeats 4000000 in
set_option maxRecDepth 100000 in
/-- keep(w, holds) -/
theorem kX_keep (l : Launch) (D : va_G) (d : Nat → ClassId) (h : Nat → Nat) (sz wy kn : Int32) (fK fP fN fO fD fI fR fH fT fF fE fM : Nat → Int32) (w : Nat) (ho : Int32) (hw : w < 16) : CT l yX0_keep (ws_ yX0_keep cX0_keep 5 (some .boolean)) (rk 0) D d [.ref (h 0), .int (nI w), .int ho] (wX h d sz wy kn fK fP fN fO fD fI fR fH fT fF fE fM) (fun r w' => ∃ b : Bool, r = bI b ∧ (b = true ↔ ∃ x, x < 16 ∧ kpP fI fH w ho 16 (w * 16 + x) ≠ 0) ∧ w' = wX h d sz wy kn fK fP fN fO fD (kpP fI fH w ho 16) fR fH fT fF fE fM) := by
  refine ct_in (cc := cX0_keep) (nL := 5) (ty := .boolean) (by decide) rfl (Nat.le_of_ble_eq_true rfl) ?_
  intro p e s m ar bl me c A Q ls C I hl hret
  have hx := C.1.1
  have hb := C.1.2.1
  have hl : lv_has ls 5 [(0, .ref (h 0)), (1, .int (nI w)), (2, .int ho)] := hl
  refine lv_iconst (v := nI 0) hx hb dX0_keep_0 (by decide) ?_
  refine lv_istore_n (lv' := [(3, .int (nI 0)), (0, .ref (h 0)), (1, .int (nI w)), (2, .int ho)]) hx hb dX0_keep_1 rfl hl (by decide) rfl (fun ls hl => ?_)
  refine lv_iconst (v := nI 0) hx hb dX0_keep_2 (by decide) ?_
  refine lv_istore (lv' := [(4, .int (nI 0)), (3, .int (nI 0)), (0, .ref (h 0)), (1, .int (nI w)), (2, .int ho)]) hx hb dX0_keep_3 hl (by decide) rfl (fun ls hl => ?_)
  have lp : ∀ (nn : Nat) (x : Nat) (b : Bool) (f : Nat → Int32) (H : Heap) (locs : List Loc) (ls : Array Slot), 16 + 1 ≤ x + nn → (x ≤ 16) → (b = true ↔ ∃ x', x' < x ∧ kpP fI fH w ho 16 (w * 16 + x') ≠ 0) → (f = kpP fI fH w ho x) → IW D A s.heap (wX h d sz wy kn fK fP fN fO fD f fR fH fT fF fE fM) H locs → lv_has ls 5 [(0, .ref (h 0)), (1, .int (nI w)), (2, .int ho), (3, .int (bI b)), (4, .int (nI x))] → W p l e (rk 0) s m ar bl me c H locs 0 0 Q (F0 m 5 ls []) := by
    intro nn
    induction nn with
    | zero => intro x b f H locs ls hme hi hbb hf; exact absurd hme (by omega)
    | succ nn ih =>
      intro x b f H locs ls hme hi hbb hf I hl
      refine lv_iload hx hb dX0_keep_5 (lv_at hl 4 rfl) ?_
      refine lv_bipush (v := nI 16) hx hb dX0_keep_7 (by decide) ?_
      refine n_ge (tgt := 79) hx hb dX0_keep_9 (by decide) (by omega) (by omega) (fun c_9 => ?_) (fun c_9 => ?_)
      · skip
        obtain rfl : x = 16 := by omega
        subst hf
        refine lv_iload_n hx hb dX0_keep_79 rfl (lv_at hl 3 rfl) ?_
        exact hret (bI b) _ _ _ _ _ (bI_nar b) I (⟨b, rfl, hbb, rfl⟩) dX0_keep_80
      · refine lv_aload_n hx hb dX0_keep_12 rfl (lv_at hl 0 rfl) ?_
        refine x_get C I rfl 7 (by decide) q38 rfl dX0_keep_13 ?_
        refine lv_iload_n hx hb dX0_keep_16 rfl (lv_at hl 1 rfl) ?_
        refine lv_bipush (v := nI 16) hx hb dX0_keep_17 (by decide) ?_
        refine n_mul hx hb dX0_keep_19 ?_
        refine lv_iload hx hb dX0_keep_20 (lv_at hl 4 rfl) ?_
        refine n_add hx hb dX0_keep_22 ?_
        refine lv_dup2_11 hx hb dX0_keep_23 rfl rfl ?_
        refine i_ild C I 6 rfl (by omega) dX0_keep_24 ?_
        refine lv_iload_n hx hb dX0_keep_25 rfl (lv_at hl 2 rfl) ?_
        refine lv_if_eq (tgt := 39) hx hb dX0_keep_26 (by decide) (fun c_26 => ?_) (fun c_26 => ?_)
        · skip
          refine lv_aload_n hx hb dX0_keep_39 rfl (lv_at hl 0 rfl) ?_
          refine x_get C I rfl 9 (by decide) q40 rfl dX0_keep_40 ?_
          refine lv_iload hx hb dX0_keep_43 (lv_at hl 4 rfl) ?_
          refine i_ild C I 8 rfl (by omega) dX0_keep_45 ?_
          refine lv_iconst (v := -1) hx hb dX0_keep_46 (by decide) ?_
          refine lv_ixor hx hb dX0_keep_47 ?_
          refine lv_topi (fun z_1 ez_1 => ?_)
          obtain rfl : z_1 = if ho = 0 then fH x ^^^ (-1) else fH x := ez_1.trans (by rw [if_pos c_26])
          refine lv_iand hx hb dX0_keep_48 ?_
          refine i_ist (ws' := wX h d sz wy kn fK fP fN fO fD (upd f (w * 16 + x) ((f (w * 16 + x)) &&& (if ho = 0 then fH x ^^^ (-1) else fH x))) fR fH fT fF fE fM) C I 6 rfl (by omega) rfl dX0_keep_49 (fun H locs I => ?_)
          have hf2 : upd f (w * 16 + x) (f (w * 16 + x) &&& (if ho = 0 then fH x ^^^ (-1) else fH x)) = kpP fI fH w ho (x + 1) := by rw [hf, kpP_at]; exact kpP_s rfl
          rw [hf2] at I
          refine lv_iload_n hx hb dX0_keep_50 rfl (lv_at hl 3 rfl) ?_
          refine lv_aload_n hx hb dX0_keep_51 rfl (lv_at hl 0 rfl) ?_
          refine x_get C I rfl 7 (by decide) q38 rfl dX0_keep_52 ?_
          refine lv_iload_n hx hb dX0_keep_55 rfl (lv_at hl 1 rfl) ?_
          refine lv_bipush (v := nI 16) hx hb dX0_keep_56 (by decide) ?_
          refine n_mul hx hb dX0_keep_58 ?_
          refine lv_iload hx hb dX0_keep_59 (lv_at hl 4 rfl) ?_
          refine n_add hx hb dX0_keep_61 ?_
          refine i_ild C I 6 rfl (by omega) dX0_keep_62 ?_
          refine lv_if_eq (tgt := 70) hx hb dX0_keep_63 (by decide) (fun c_63 => ?_) (fun c_63 => ?_)
          · skip
            refine lv_iconst (v := nI 0) hx hb dX0_keep_70 (by decide) ?_
            refine lv_ior hx hb dX0_keep_71 ?_
            refine lv_topi (fun z_2 ez_2 => ?_)
            obtain rfl : z_2 = bI b := ez_2.trans (or_b0 b)
            refine lv_istore_n (lv' := [(3, .int (bI b)), (0, .ref (h 0)), (1, .int (nI w)), (2, .int ho), (4, .int (nI x))]) hx hb dX0_keep_72 rfl hl (by decide) rfl (fun ls hl => ?_)
            refine lv_iinc (v := (nI (x + 1))) (lv' := [(4, .int (nI (x + 1))), (3, .int (bI b)), (0, .ref (h 0)), (1, .int (nI w)), (2, .int ho)]) hx hb dX0_keep_73 hl (k := 4) rfl (n_inc _) (by decide) rfl (fun ls hl => ?_)
            refine lv_goto (tgt := 5) hx hb dX0_keep_76 (by decide) ?_
            have hlo : kpP fI fH w ho (x + 1) (w * 16 + x) = kpP fI fH w ho 16 (w * 16 + x) := kpP_lo (by omega) (by omega)
            exact ih (x + 1) b (kpP fI fH w ho (x + 1)) _ _ _ (by omega) (by omega) (⟨fun q => by obtain ⟨x', h1, h2⟩ := hbb.mp q; exact ⟨x', by omega, h2⟩, fun ⟨x', h1, h2⟩ => by rcases Nat.lt_or_eq_of_le (Nat.le_of_lt_succ h1) with q | q; exact hbb.mpr ⟨x', q, h2⟩; rw [q, ← hlo] at h2; exact absurd c_63 h2⟩) (rfl) I (lv_sub hl [2, 3, 4, 1, 0] rfl)
          · refine lv_iconst (v := nI 1) hx hb dX0_keep_66 (by decide) ?_
            refine lv_goto (tgt := 71) hx hb dX0_keep_67 (by decide) ?_
            refine lv_ior hx hb dX0_keep_71 ?_
            refine lv_topi (fun z_3 ez_3 => ?_)
            obtain rfl : z_3 = bI true := ez_3.trans (or_b1 b)
            refine lv_istore_n (lv' := [(3, .int (bI true)), (0, .ref (h 0)), (1, .int (nI w)), (2, .int ho), (4, .int (nI x))]) hx hb dX0_keep_72 rfl hl (by decide) rfl (fun ls hl => ?_)
            refine lv_iinc (v := (nI (x + 1))) (lv' := [(4, .int (nI (x + 1))), (3, .int (bI true)), (0, .ref (h 0)), (1, .int (nI w)), (2, .int ho)]) hx hb dX0_keep_73 hl (k := 4) rfl (n_inc _) (by decide) rfl (fun ls hl => ?_)
            refine lv_goto (tgt := 5) hx hb dX0_keep_76 (by decide) ?_
            have hlo : kpP fI fH w ho (x + 1) (w * 16 + x) = kpP fI fH w ho 16 (w * 16 + x) := kpP_lo (by omega) (by omega)
            exact ih (x + 1) true (kpP fI fH w ho (x + 1)) _ _ _ (by omega) (by omega) (⟨fun _ => ⟨x, by omega, by rw [← hlo]; exact c_63⟩, fun _ => rfl⟩) (rfl) I (lv_sub hl [2, 3, 4, 1, 0] rfl)
        · skip
          refine lv_aload_n hx hb dX0_keep_29 rfl (lv_at hl 0 rfl) ?_
          refine x_get C I rfl 9 (by decide) q40 rfl dX0_keep_30 ?_
          refine lv_iload hx hb dX0_keep_33 (lv_at hl 4 rfl) ?_
          refine i_ild C I 8 rfl (by omega) dX0_keep_35 ?_
          refine lv_goto (tgt := 48) hx hb dX0_keep_36 (by decide) ?_
          refine lv_topi (fun z_4 ez_4 => ?_)
          obtain rfl : z_4 = if ho = 0 then fH x ^^^ (-1) else fH x := ez_4.trans (by rw [if_neg c_26])
          refine lv_iand hx hb dX0_keep_48 ?_
          refine i_ist (ws' := wX h d sz wy kn fK fP fN fO fD (upd f (w * 16 + x) ((f (w * 16 + x)) &&& (if ho = 0 then fH x ^^^ (-1) else fH x))) fR fH fT fF fE fM) C I 6 rfl (by omega) rfl dX0_keep_49 (fun H locs I => ?_)
          have hf2 : upd f (w * 16 + x) (f (w * 16 + x) &&& (if ho = 0 then fH x ^^^ (-1) else fH x)) = kpP fI fH w ho (x + 1) := by rw [hf, kpP_at]; exact kpP_s rfl
          rw [hf2] at I
          refine lv_iload_n hx hb dX0_keep_50 rfl (lv_at hl 3 rfl) ?_
          refine lv_aload_n hx hb dX0_keep_51 rfl (lv_at hl 0 rfl) ?_
          refine x_get C I rfl 7 (by decide) q38 rfl dX0_keep_52 ?_
          refine lv_iload_n hx hb dX0_keep_55 rfl (lv_at hl 1 rfl) ?_
          refine lv_bipush (v := nI 16) hx hb dX0_keep_56 (by decide) ?_
          refine n_mul hx hb dX0_keep_58 ?_
          refine lv_iload hx hb dX0_keep_59 (lv_at hl 4 rfl) ?_
          refine n_add hx hb dX0_keep_61 ?_
          refine i_ild C I 6 rfl (by omega) dX0_keep_62 ?_
          refine lv_if_eq (tgt := 70) hx hb dX0_keep_63 (by decide) (fun c_63 => ?_) (fun c_63 => ?_)
          · skip
            refine lv_iconst (v := nI 0) hx hb dX0_keep_70 (by decide) ?_
            refine lv_ior hx hb dX0_keep_71 ?_
            refine lv_topi (fun z_5 ez_5 => ?_)
            obtain rfl : z_5 = bI b := ez_5.trans (or_b0 b)
            refine lv_istore_n (lv' := [(3, .int (bI b)), (0, .ref (h 0)), (1, .int (nI w)), (2, .int ho), (4, .int (nI x))]) hx hb dX0_keep_72 rfl hl (by decide) rfl (fun ls hl => ?_)
            refine lv_iinc (v := (nI (x + 1))) (lv' := [(4, .int (nI (x + 1))), (3, .int (bI b)), (0, .ref (h 0)), (1, .int (nI w)), (2, .int ho)]) hx hb dX0_keep_73 hl (k := 4) rfl (n_inc _) (by decide) rfl (fun ls hl => ?_)
            refine lv_goto (tgt := 5) hx hb dX0_keep_76 (by decide) ?_
            have hlo : kpP fI fH w ho (x + 1) (w * 16 + x) = kpP fI fH w ho 16 (w * 16 + x) := kpP_lo (by omega) (by omega)
            exact ih (x + 1) b (kpP fI fH w ho (x + 1)) _ _ _ (by omega) (by omega) (⟨fun q => by obtain ⟨x', h1, h2⟩ := hbb.mp q; exact ⟨x', by omega, h2⟩, fun ⟨x', h1, h2⟩ => by rcases Nat.lt_or_eq_of_le (Nat.le_of_lt_succ h1) with q | q; exact hbb.mpr ⟨x', q, h2⟩; rw [q, ← hlo] at h2; exact absurd c_63 h2⟩) (rfl) I (lv_sub hl [2, 3, 4, 1, 0] rfl)
          · refine lv_iconst (v := nI 1) hx hb dX0_keep_66 (by decide) ?_
            refine lv_goto (tgt := 71) hx hb dX0_keep_67 (by decide) ?_
            refine lv_ior hx hb dX0_keep_71 ?_
            refine lv_topi (fun z_6 ez_6 => ?_)
            obtain rfl : z_6 = bI true := ez_6.trans (or_b1 b)
            refine lv_istore_n (lv' := [(3, .int (bI true)), (0, .ref (h 0)), (1, .int (nI w)), (2, .int ho), (4, .int (nI x))]) hx hb dX0_keep_72 rfl hl (by decide) rfl (fun ls hl => ?_)
            refine lv_iinc (v := (nI (x + 1))) (lv' := [(4, .int (nI (x + 1))), (3, .int (bI true)), (0, .ref (h 0)), (1, .int (nI w)), (2, .int ho)]) hx hb dX0_keep_73 hl (k := 4) rfl (n_inc _) (by decide) rfl (fun ls hl => ?_)
            refine lv_goto (tgt := 5) hx hb dX0_keep_76 (by decide) ?_
            have hlo : kpP fI fH w ho (x + 1) (w * 16 + x) = kpP fI fH w ho 16 (w * 16 + x) := kpP_lo (by omega) (by omega)
            exact ih (x + 1) true (kpP fI fH w ho (x + 1)) _ _ _ (by omega) (by omega) (⟨fun _ => ⟨x, by omega, by rw [← hlo]; exact c_63⟩, fun _ => rfl⟩) (rfl) I (lv_sub hl [2, 3, 4, 1, 0] rfl)
  exact lp 17 0 false fI _ _ _ (by omega) (by omega) (⟨fun q => (by cases q), fun ⟨x', h1, _⟩ => absurd h1 (by omega)⟩) (kpP_0) I (lv_sub hl [2, 3, 4, 1, 0] rfl)
set_option maxHeartbeats 4000000 in
set_option maxRecDepth 100000 in
/-- calculate(w, kind, a, b, n) -/
theorem kX_calculate (l : Launch) (D : va_G) (d : Nat → ClassId) (h : Nat → Nat) (sz wy kn : Int32) (fK fP fN fO fD fI fR fH fT fF fE fM : Nat → Int32) (w k a b : Nat) (v : Int32) (hw : w < 16) (hk : k ≤ 3) (ha : a ≤ 3) (hb3 : b ≤ 3) : CV l yX0_calculate (ws_ yX0_calculate cX0_calculate 9 none) (rk 0) D d [.ref (h 0), .int (nI w), .int (nI k), .int (nI a), .int (nI b), .int v] (wX h d sz wy kn fK fP fN fO fD fI fR fH fT fF fE fM) (fun w' => w' = wX h d sz wy kn fK fP fN fO fD fI (calP fR w k a b v 3) fH fT fF fE fM) := by
  refine cv_in (cc := cX0_calculate) (nL := 9) (by decide) rfl (Nat.le_of_ble_eq_true rfl) ?_
  intro p e s m ar bl me c A Q ls C I hl hret
  have hx := C.1.1
  have hb := C.1.2.1
  have hl : lv_has ls 9 [(0, .ref (h 0)), (1, .int (nI w)), (2, .int (nI k)), (3, .int (nI a)), (4, .int (nI b)), (5, .int v)] := hl
  refine lv_iconst (v := nI 0) hx hb dX0_calculate_0 (by decide) ?_
  refine lv_istore (lv' := [(6, .int (nI 0)), (0, .ref (h 0)), (1, .int (nI w)), (2, .int (nI k)), (3, .int (nI a)), (4, .int (nI b)), (5, .int v)]) hx hb dX0_calculate_1 hl (by decide) rfl (fun ls hl => ?_)
  have lp : ∀ (nn : Nat) (i : Nat) (f : Nat → Int32) (H : Heap) (locs : List Loc) (ls : Array Slot), 3 + 1 ≤ i + nn → (i ≤ 3) → (f = calP fR w k a b v i) → IW D A s.heap (wX h d sz wy kn fK fP fN fO fD fI f fH fT fF fE fM) H locs → lv_has ls 9 [(0, .ref (h 0)), (1, .int (nI w)), (2, .int (nI k)), (3, .int (nI a)), (4, .int (nI b)), (5, .int v), (6, .int (nI i))] → W p l e (rk 0) s m ar bl me c H locs 0 0 Q (F0 m 3 ls []) := by
    intro nn
    induction nn with
    | zero => intro i f H locs ls hme hi hf; exact absurd hme (by omega)
    | succ nn ih =>
      intro i f H locs ls hme hi hf I hl
      refine lv_iload hx hb dX0_calculate_3 (lv_at hl 6 rfl) ?_
      refine lv_iconst (v := nI 3) hx hb dX0_calculate_5 (by decide) ?_
      refine n_ge (tgt := 116) hx hb dX0_calculate_6 (by decide) (by omega) (by omega) (fun c_6 => ?_) (fun c_6 => ?_)
      · skip
        obtain rfl : i = 3 := by omega
        subst hf
        exact hret _ _ _ _ _ I (rfl) dX0_calculate_116
      · refine lv_iload_n hx hb dX0_calculate_9 rfl (lv_at hl 1 rfl) ?_
        refine lv_bipush (v := nI 12) hx hb dX0_calculate_10 (by decide) ?_
        refine n_mul hx hb dX0_calculate_12 ?_
        refine lv_iconst (v := nI 3) hx hb dX0_calculate_13 (by decide) ?_
        refine lv_iload_n hx hb dX0_calculate_14 rfl (lv_at hl 3 rfl) ?_
        refine n_mul hx hb dX0_calculate_15 ?_
        refine n_add hx hb dX0_calculate_16 ?_
        refine lv_iload hx hb dX0_calculate_17 (lv_at hl 6 rfl) ?_
        refine n_add hx hb dX0_calculate_19 ?_
        refine lv_istore (lv' := [(7, .int (nI (w * 12 + (3 * a) + i))), (0, .ref (h 0)), (1, .int (nI w)), (2, .int (nI k)), (3, .int (nI a)), (4, .int (nI b)), (5, .int v), (6, .int (nI i))]) hx hb dX0_calculate_20 hl (by decide) rfl (fun ls hl => ?_)
        refine lv_aload_n hx hb dX0_calculate_22 rfl (lv_at hl 1 rfl) ?_
        refine x_get C I rfl 8 (by decide) q39 rfl dX0_calculate_23 ?_
        refine lv_iload_n hx hb dX0_calculate_26 rfl (lv_at hl 2 rfl) ?_
        refine lv_bipush (v := nI 12) hx hb dX0_calculate_27 (by decide) ?_
        refine n_mul hx hb dX0_calculate_29 ?_
        refine lv_iconst (v := nI 3) hx hb dX0_calculate_30 (by decide) ?_
        refine lv_iload hx hb dX0_calculate_31 (lv_at hl 5 rfl) ?_
        refine n_mul hx hb dX0_calculate_33 ?_
        refine n_add hx hb dX0_calculate_34 ?_
        refine lv_iload hx hb dX0_calculate_35 (lv_at hl 7 rfl) ?_
        refine n_add hx hb dX0_calculate_37 ?_
        refine i_ild C I 7 rfl (by omega) dX0_calculate_38 ?_
        refine lv_topi (fun z_1 ez_1 => ?_)
        obtain rfl : z_1 = fR (w * 12 + 3 * b + i) := ez_1.trans (by rw [hf]; exact calP_ot (by omega))
        refine lv_istore (lv' := [(8, .int (fR (w * 12 + 3 * b + i))), (7, .int (nI (w * 12 + (3 * a) + i))), (0, .ref (h 0)), (1, .int (nI w)), (2, .int (nI k)), (3, .int (nI a)), (4, .int (nI b)), (5, .int v), (6, .int (nI i))]) hx hb dX0_calculate_39 hl (by decide) rfl (fun ls hl => ?_)
        refine lv_iload_n hx hb dX0_calculate_41 rfl (lv_at hl 4 rfl) ?_
        refine n_ifne (tgt := 67) hx hb dX0_calculate_42 (by decide) (by omega) (fun c_42 => ?_) (fun c_42 => ?_)
        · refine lv_iload_n hx hb dX0_calculate_67 rfl (lv_at hl 4 rfl) ?_
          refine lv_iconst (v := nI 3) hx hb dX0_calculate_68 (by decide) ?_
          refine n_ne (tgt := 87) hx hb dX0_calculate_69 (by decide) (by omega) (by omega) (fun c_69 => ?_) (fun c_69 => ?_)
          · refine lv_aload_n hx hb dX0_calculate_87 rfl (lv_at hl 2 rfl) ?_
            refine x_get C I rfl 8 (by decide) q39 rfl dX0_calculate_88 ?_
            refine lv_iload hx hb dX0_calculate_91 (lv_at hl 1 rfl) ?_
            refine lv_dup2_11 hx hb dX0_calculate_93 rfl rfl ?_
            refine i_ild C I 7 rfl (by omega) dX0_calculate_94 ?_
            refine lv_topi (fun z_2 ez_2 => ?_)
            obtain rfl : z_2 = fR (w * 12 + 3 * a + i) := ez_2.trans (by rw [hf]; exact calP_at)
            refine lv_iload_n hx hb dX0_calculate_95 rfl (lv_at hl 4 rfl) ?_
            refine lv_iconst (v := nI 1) hx hb dX0_calculate_96 (by decide) ?_
            refine n_ne (tgt := 105) hx hb dX0_calculate_97 (by decide) (by omega) (by omega) (fun c_97 => ?_) (fun c_97 => ?_)
            · refine lv_iload hx hb dX0_calculate_105 (lv_at hl 0 rfl) ?_
              refine lv_ineg hx hb dX0_calculate_107 ?_
              refine lv_iadd hx hb dX0_calculate_108 ?_
              refine i_ist (ws' := wX h d sz wy kn fK fP fN fO fD fI (upd f (w * 12 + (3 * a) + i) ((fR (w * 12 + 3 * a + i)) + (-(fR (w * 12 + 3 * b + i))))) fH fT fF fE fM) C I 7 rfl (by omega) rfl dX0_calculate_109 (fun H locs I => ?_)
              refine lv_iinc (v := (nI (i + 1))) (lv' := [(6, .int (nI (i + 1))), (8, .int (fR (w * 12 + 3 * b + i))), (7, .int (nI (w * 12 + (3 * a) + i))), (0, .ref (h 0)), (1, .int (nI w)), (2, .int (nI k)), (3, .int (nI a)), (4, .int (nI b)), (5, .int v)]) hx hb dX0_calculate_110 hl (k := 8) rfl (n_inc _) (by decide) rfl (fun ls hl => ?_)
              refine lv_goto (tgt := 3) hx hb dX0_calculate_113 (by decide) ?_
              exact ih (i + 1) (upd f (w * 12 + (3 * a) + i) ((fR (w * 12 + 3 * a + i)) + (-(fR (w * 12 + 3 * b + i))))) _ _ _ (by omega) (by omega) (by rw [hf]; exact calP_s (by unfold cal; first | (rw [if_pos c_42, if_pos c_54]) | (rw [if_pos c_42, if_neg c_54]; rfl) | (rw [if_neg c_42, if_pos c_69]) | (rw [if_neg c_42, if_neg c_69, if_pos c_97]) | (rw [if_neg c_42, if_neg c_69, if_neg c_97]))) I (lv_sub hl [3, 4, 5, 6, 7, 8, 0] rfl)
            · refine lv_iload hx hb dX0_calculate_100 (lv_at hl 0 rfl) ?_
              refine lv_goto (tgt := 108) hx hb dX0_calculate_102 (by decide) ?_
              refine lv_iadd hx hb dX0_calculate_108 ?_
              refine i_ist (ws' := wX h d sz wy kn fK fP fN fO fD fI (upd f (w * 12 + (3 * a) + i) ((fR (w * 12 + 3 * a + i)) + (fR (w * 12 + 3 * b + i)))) fH fT fF fE fM) C I 7 rfl (by omega) rfl dX0_calculate_109 (fun H locs I => ?_)
              refine lv_iinc (v := (nI (i + 1))) (lv' := [(6, .int (nI (i + 1))), (8, .int (fR (w * 12 + 3 * b + i))), (7, .int (nI (w * 12 + (3 * a) + i))), (0, .ref (h 0)), (1, .int (nI w)), (2, .int (nI k)), (3, .int (nI a)), (4, .int (nI b)), (5, .int v)]) hx hb dX0_calculate_110 hl (k := 8) rfl (n_inc _) (by decide) rfl (fun ls hl => ?_)
              refine lv_goto (tgt := 3) hx hb dX0_calculate_113 (by decide) ?_
              exact ih (i + 1) (upd f (w * 12 + (3 * a) + i) ((fR (w * 12 + 3 * a + i)) + (fR (w * 12 + 3 * b + i)))) _ _ _ (by omega) (by omega) (by rw [hf]; exact calP_s (by unfold cal; first | (rw [if_pos c_42, if_pos c_54]) | (rw [if_pos c_42, if_neg c_54]; rfl) | (rw [if_neg c_42, if_pos c_69]) | (rw [if_neg c_42, if_neg c_69, if_pos c_97]) | (rw [if_neg c_42, if_neg c_69, if_neg c_97]))) I (lv_sub hl [3, 4, 5, 6, 7, 8, 0] rfl)
          · refine lv_aload_n hx hb dX0_calculate_72 rfl (lv_at hl 2 rfl) ?_
            refine x_get C I rfl 8 (by decide) q39 rfl dX0_calculate_73 ?_
            refine lv_iload hx hb dX0_calculate_76 (lv_at hl 1 rfl) ?_
            refine lv_dup2_11 hx hb dX0_calculate_78 rfl rfl ?_
            refine i_ild C I 7 rfl (by omega) dX0_calculate_79 ?_
            refine lv_topi (fun z_3 ez_3 => ?_)
            obtain rfl : z_3 = fR (w * 12 + 3 * a + i) := ez_3.trans (by rw [hf]; exact calP_at)
            refine lv_iload hx hb dX0_calculate_80 (lv_at hl 7 rfl) ?_
            refine lv_imul hx hb dX0_calculate_82 ?_
            refine i_ist (ws' := wX h d sz wy kn fK fP fN fO fD fI (upd f (w * 12 + (3 * a) + i) ((fR (w * 12 + 3 * a + i)) * v)) fH fT fF fE fM) C I 7 rfl (by omega) rfl dX0_calculate_83 (fun H locs I => ?_)
            refine lv_goto (tgt := 110) hx hb dX0_calculate_84 (by decide) ?_
            refine lv_iinc (v := (nI (i + 1))) (lv' := [(6, .int (nI (i + 1))), (8, .int (fR (w * 12 + 3 * b + i))), (7, .int (nI (w * 12 + (3 * a) + i))), (0, .ref (h 0)), (1, .int (nI w)), (2, .int (nI k)), (3, .int (nI a)), (4, .int (nI b)), (5, .int v)]) hx hb dX0_calculate_110 hl (k := 8) rfl (n_inc _) (by decide) rfl (fun ls hl => ?_)
            refine lv_goto (tgt := 3) hx hb dX0_calculate_113 (by decide) ?_
            exact ih (i + 1) (upd f (w * 12 + (3 * a) + i) ((fR (w * 12 + 3 * a + i)) * v)) _ _ _ (by omega) (by omega) (by rw [hf]; exact calP_s (by unfold cal; first | (rw [if_pos c_42, if_pos c_54]) | (rw [if_pos c_42, if_neg c_54]; rfl) | (rw [if_neg c_42, if_pos c_69]) | (rw [if_neg c_42, if_neg c_69, if_pos c_97]) | (rw [if_neg c_42, if_neg c_69, if_neg c_97]))) I (lv_sub hl [3, 4, 5, 6, 7, 8, 0] rfl)
        · refine lv_aload_n hx hb dX0_calculate_45 rfl (lv_at hl 2 rfl) ?_
          refine x_get C I rfl 8 (by decide) q39 rfl dX0_calculate_46 ?_
          refine lv_iload hx hb dX0_calculate_49 (lv_at hl 1 rfl) ?_
          refine lv_iload hx hb dX0_calculate_51 (lv_at hl 8 rfl) ?_
          refine lv_iconst (v := nI 2) hx hb dX0_calculate_53 (by decide) ?_
          refine n_ne (tgt := 62) hx hb dX0_calculate_54 (by decide) (by omega) (by omega) (fun c_54 => ?_) (fun c_54 => ?_)
          · refine lv_iconst (v := nI 0) hx hb dX0_calculate_62 (by decide) ?_
            refine i_ist (ws' := wX h d sz wy kn fK fP fN fO fD fI (upd f (w * 12 + (3 * a) + i) (nI 0)) fH fT fF fE fM) C I 7 rfl (by omega) rfl dX0_calculate_63 (fun H locs I => ?_)
            refine lv_goto (tgt := 110) hx hb dX0_calculate_64 (by decide) ?_
            refine lv_iinc (v := (nI (i + 1))) (lv' := [(6, .int (nI (i + 1))), (8, .int (fR (w * 12 + 3 * b + i))), (7, .int (nI (w * 12 + (3 * a) + i))), (0, .ref (h 0)), (1, .int (nI w)), (2, .int (nI k)), (3, .int (nI a)), (4, .int (nI b)), (5, .int v)]) hx hb dX0_calculate_110 hl (k := 8) rfl (n_inc _) (by decide) rfl (fun ls hl => ?_)
            refine lv_goto (tgt := 3) hx hb dX0_calculate_113 (by decide) ?_
            exact ih (i + 1) (upd f (w * 12 + (3 * a) + i) (nI 0)) _ _ _ (by omega) (by omega) (by rw [hf]; exact calP_s (by unfold cal; first | (rw [if_pos c_42, if_pos c_54]) | (rw [if_pos c_42, if_neg c_54]; rfl) | (rw [if_neg c_42, if_pos c_69]) | (rw [if_neg c_42, if_neg c_69, if_pos c_97]) | (rw [if_neg c_42, if_neg c_69, if_neg c_97]))) I (lv_sub hl [3, 4, 5, 6, 7, 8, 0] rfl)
          · refine lv_iload hx hb dX0_calculate_57 (lv_at hl 7 rfl) ?_
            refine lv_goto (tgt := 63) hx hb dX0_calculate_59 (by decide) ?_
            refine i_ist (ws' := wX h d sz wy kn fK fP fN fO fD fI (upd f (w * 12 + (3 * a) + i) v) fH fT fF fE fM) C I 7 rfl (by omega) rfl dX0_calculate_63 (fun H locs I => ?_)
            refine lv_goto (tgt := 110) hx hb dX0_calculate_64 (by decide) ?_
            refine lv_iinc (v := (nI (i + 1))) (lv' := [(6, .int (nI (i + 1))), (8, .int (fR (w * 12 + 3 * b + i))), (7, .int (nI (w * 12 + (3 * a) + i))), (0, .ref (h 0)), (1, .int (nI w)), (2, .int (nI k)), (3, .int (nI a)), (4, .int (nI b)), (5, .int v)]) hx hb dX0_calculate_110 hl (k := 8) rfl (n_inc _) (by decide) rfl (fun ls hl => ?_)
            refine lv_goto (tgt := 3) hx hb dX0_calculate_113 (by decide) ?_
            exact ih (i + 1) (upd f (w * 12 + (3 * a) + i) v) _ _ _ (by omega) (by omega) (by rw [hf]; exact calP_s (by unfold cal; first | (rw [if_pos c_42, if_pos c_54]) | (rw [if_pos c_42, if_neg c_54]; rfl) | (rw [if_neg c_42, if_pos c_69]) | (rw [if_neg c_42, if_neg c_69, if_pos c_97]) | (rw [if_neg c_42, if_neg c_69, if_neg c_97]))) I (lv_sub hl [3, 4, 5, 6, 7, 8, 0] rfl)
  exact lp 4 0 fR _ _ _ (by omega) (by omega) (calP_0) I (lv_sub hl [1, 2, 3, 4, 5, 6, 0] rfl)
end
section
/-! finish, in our words -/
def FinAt (fI fR : Nat → Int32) (w q : Nat) (fb : Bool) (T F E T' F' E' : Nat → Int32) (i : Nat) : Prop := if inB fI w i = true then T' i = nI q ∧ F' i = bI fb ∧ ∀ r, r < 4 → E' (4 * i + r) = evw fR w i r else KeepAt i T F E T' F' E'
theorem evw_in {fR : Nat → Int32} {w i r : Nat} (hr : r < 4) : fR (w * 12 + 3 * r) * nI (i % 16) + fR (w * 12 + 3 * r + 1) * nI (i / 16) + fR (w * 12 + 3 * r + 2) = evw fR w i r := (if_pos hr).symm
theorem FinAt.off {fI fR : Nat → Int32} {w q : Nat} {fb : Bool} {T F E T' F' E' : Nat → Int32} {i : Nat} (h : inB fI w i = false) (k : KeepAt i T F E T' F' E') : FinAt fI fR w q fb T F E T' F' E' i := by
  unfold FinAt
  rw [if_neg (by rw [h]; decide)]
  exact k
theorem FinAt.on {fI fR : Nat → Int32} {w q : Nat} {fb : Bool} {T F E T' F' E' : Nat → Int32} {i : Nat} (h : inB fI w i = true) (k : T' i = nI q ∧ F' i = bI fb ∧ ∀ r, r < 4 → E' (4 * i + r) = evw fR w i r) : FinAt fI fR w q fb T F E T' F' E' i := by
  unfold FinAt
  rw [if_pos h]
  exact k
theorem FinAt.keep {fI fR : Nat → Int32} {w q : Nat} {fb : Bool} {T F E T' F' E' T2 F2 E2 : Nat → Int32} {i : Nat} (h : FinAt fI fR w q fb T F E T' F' E' i) (k : KeepAt i T' F' E' T2 F2 E2) : FinAt fI fR w q fb T F E T2 F2 E2 i := by
  unfold FinAt at h ⊢
  split at h
  · rename_i hh
    rw [if_pos hh]
    exact ⟨k.1.trans h.1, k.2.1.trans h.2.1, fun r hr => (k.2.2 r hr).trans (h.2.2 r hr)⟩
  · rename_i hh
    rw [if_neg hh]
    exact h.tr k
end
section
set_option maxHeartbeats 4000000 in
set_option maxRecDepth 100000 in
/-- finish(w, failed) -/
theorem kX_finish (l : Launch) (D : va_G) (d : Nat → ClassId) (h : Nat → Nat) (sz wy kn : Int32) (fK fP fN fO fD fI fR fH fT fF fE fM : Nat → Int32) (w q : Nat) (fb : Bool) (hw : w < 16) (hq : fD w = nI q) (hq2 : q < 4096) : CV l yX0_finish (ws_ yX0_finish cX0_finish 8 none) (rk 0) D d [.ref (h 0), .int (nI w), .int (bI fb)] (wX h d sz wy kn fK fP fN fO fD fI fR fH fT fF fE fM) (fun w' => ∃ fT' fF' fE', (∀ i, i < 256 → FinAt fI fR w q fb fT fF fE fT' fF' fE' i) ∧ w' = wX h d sz wy kn fK fP fN fO fD fI fR fH fT' fF' fE' fM) := by
  refine cv_in (cc := cX0_finish) (nL := 8) (by decide) rfl (Nat.le_of_ble_eq_true rfl) ?_
  intro p e s m ar bl me c A Q ls C I hl hret
  have hx := C.1.1
  have hb := C.1.2.1
  have hl : lv_has ls 8 [(0, .ref (h 0)), (1, .int (nI w)), (2, .int (bI fb))] := hl
  refine lv_iconst (v := nI 0) hx hb dX0_finish_0 (by decide) ?_
  refine lv_istore_n (lv' := [(3, .int (nI 0)), (0, .ref (h 0)), (1, .int (nI w)), (2, .int (bI fb))]) hx hb dX0_finish_1 rfl hl (by decide) rfl (fun ls hl => ?_)
  have lp : ∀ (nn : Nat) (i : Nat) (T : Nat → Int32) (F : Nat → Int32) (E : Nat → Int32) (H : Heap) (locs : List Loc) (ls : Array Slot), 256 + 1 ≤ i + nn → (i ≤ 256) → (∀ j, j < i → FinAt fI fR w q fb fT fF fE T F E j) → (∀ j, i ≤ j → j < 256 → KeepAt j fT fF fE T F E) → IW D A s.heap (wX h d sz wy kn fK fP fN fO fD fI fR fH T F E fM) H locs → lv_has ls 8 [(0, .ref (h 0)), (1, .int (nI w)), (2, .int (bI fb)), (3, .int (nI i))] → W p l e (rk 0) s m ar bl me c H locs 0 0 Q (F0 m 2 ls []) := by
    intro nn
    induction nn with
    | zero => intro i T F E H locs ls hme hi hd hk; exact absurd hme (by omega)
    | succ nn ih =>
      intro i T F E H locs ls hme hi hd hk I hl
      refine lv_iload_n hx hb dX0_finish_2 rfl (lv_at hl 3 rfl) ?_
      refine lv_sipush (v := nI 256) hx hb dX0_finish_3 (by decide) ?_
      refine n_ge (tgt := 135) hx hb dX0_finish_6 (by decide) (by omega) (by omega) (fun c_6 => ?_) (fun c_6 => ?_)
      · exact hret _ _ _ _ _ I (⟨T, F, E, fun j hj => hd j (by omega), rfl⟩) dX0_finish_135
      · refine lv_iload_n hx hb dX0_finish_9 rfl (lv_at hl 3 rfl) ?_
        refine lv_bipush (v := nI 15) hx hb dX0_finish_10 (by decide) ?_
        refine lv_iand hx hb dX0_finish_12 ?_
        refine lv_topi (fun z_1 ez_1 => ?_)
        obtain rfl : z_1 = nI (i % 16) := ez_1.trans (n_and15 (by omega))
        refine lv_istore (lv' := [(4, .int (nI (i % 16))), (0, .ref (h 0)), (1, .int (nI w)), (2, .int (bI fb)), (3, .int (nI i))]) hx hb dX0_finish_13 hl (by decide) rfl (fun ls hl => ?_)
        refine lv_iload_n hx hb dX0_finish_15 rfl (lv_at hl 4 rfl) ?_
        refine lv_iconst (v := nI 4) hx hb dX0_finish_16 (by decide) ?_
        refine lv_ishr hx hb dX0_finish_17 ?_
        refine lv_topi (fun z_2 ez_2 => ?_)
        obtain rfl : z_2 = nI (i / 16) := ez_2.trans (n_shr4 (by omega))
        refine lv_istore (lv' := [(5, .int (nI (i / 16))), (4, .int (nI (i % 16))), (0, .ref (h 0)), (1, .int (nI w)), (2, .int (bI fb)), (3, .int (nI i))]) hx hb dX0_finish_18 hl (by decide) rfl (fun ls hl => ?_)
        refine lv_aload_n hx hb dX0_finish_20 rfl (lv_at hl 2 rfl) ?_
        refine x_get C I rfl 7 (by decide) q38 rfl dX0_finish_21 ?_
        refine lv_iload_n hx hb dX0_finish_24 rfl (lv_at hl 3 rfl) ?_
        refine lv_bipush (v := nI 16) hx hb dX0_finish_25 (by decide) ?_
        refine n_mul hx hb dX0_finish_27 ?_
        refine lv_iload hx hb dX0_finish_28 (lv_at hl 1 rfl) ?_
        refine n_add hx hb dX0_finish_30 ?_
        refine i_ild C I 6 rfl (by omega) dX0_finish_31 ?_
        refine lv_iload hx hb dX0_finish_32 (lv_at hl 0 rfl) ?_
        refine lv_ishr hx hb dX0_finish_34 ?_
        refine lv_iconst (v := nI 1) hx hb dX0_finish_35 (by decide) ?_
        refine lv_iand hx hb dX0_finish_36 ?_
        refine lv_if_eq (tgt := 129) hx hb dX0_finish_37 (by decide) (fun c_37 => ?_) (fun c_37 => ?_)
        · skip
          have hbt : inB fI w i = false := (b_ask _ (by omega)).mp c_37
          refine lv_iinc (v := (nI (i + 1))) (lv' := [(3, .int (nI (i + 1))), (5, .int (nI (i / 16))), (4, .int (nI (i % 16))), (0, .ref (h 0)), (1, .int (nI w)), (2, .int (bI fb))]) hx hb dX0_finish_129 hl (k := 5) rfl (n_inc _) (by decide) rfl (fun ls hl => ?_)
          refine lv_goto (tgt := 2) hx hb dX0_finish_132 (by decide) ?_
          exact ih (i + 1) T F E _ _ _ (by omega) (by omega) (fun j hj => by rcases Nat.lt_or_eq_of_le (Nat.le_of_lt_succ hj) with z | z; exact hd j z; rw [z]; exact FinAt.off hbt (hk i (by omega) (by omega))) (fun j h1 h2 => hk j (by omega) h2) I (lv_sub hl [3, 4, 5, 0] rfl)
        · skip
          have hbt : inB fI w i = true := by cases hz : inB fI w i; exact absurd ((b_ask _ (by omega)).mpr hz) c_37; rfl
          refine lv_aload_n hx hb dX0_finish_40 rfl (lv_at hl 2 rfl) ?_
          refine x_get C I rfl 11 (by decide) q42 rfl dX0_finish_41 ?_
          refine lv_iload_n hx hb dX0_finish_44 rfl (lv_at hl 5 rfl) ?_
          refine lv_aload_n hx hb dX0_finish_45 rfl (lv_at hl 2 rfl) ?_
          refine x_get C I rfl 6 (by decide) q37 rfl dX0_finish_46 ?_
          refine lv_iload_n hx hb dX0_finish_49 rfl (lv_at hl 3 rfl) ?_
          refine i_sld C I 5 rfl (by omega) dX0_finish_50 ?_
          refine lv_topi (fun z_3 ez_3 => ?_)
          obtain rfl : z_3 = nI q := ez_3.trans (hq)
          refine i_sst (ws' := wX h d sz wy kn fK fP fN fO fD fI fR fH (upd T i (nI q)) F E fM) (v := (nI q)) C I 9 rfl (by omega) (i16 hq2) rfl dX0_finish_51 (fun H locs I => ?_)
          refine lv_aload_n hx hb dX0_finish_52 rfl (lv_at hl 2 rfl) ?_
          refine x_get C I rfl 12 (by decide) q43 rfl dX0_finish_53 ?_
          refine lv_iload_n hx hb dX0_finish_56 rfl (lv_at hl 5 rfl) ?_
          refine lv_iload_n hx hb dX0_finish_57 rfl (lv_at hl 4 rfl) ?_
          refine i_zst (ws' := wX h d sz wy kn fK fP fN fO fD fI fR fH (upd T i (nI q)) (upd F i (bI fb)) E fM) (v := (bI fb)) C I 10 rfl (by omega) (bI_z _) rfl dX0_finish_58 (fun H locs I => ?_)
          refine lv_iconst (v := nI 0) hx hb dX0_finish_59 (by decide) ?_
          refine lv_istore (lv' := [(6, .int (nI 0)), (5, .int (nI (i / 16))), (4, .int (nI (i % 16))), (0, .ref (h 0)), (1, .int (nI w)), (2, .int (bI fb)), (3, .int (nI i))]) hx hb dX0_finish_60 hl (by decide) rfl (fun ls hl => ?_)
          have lp2 : ∀ (nn : Nat) (r : Nat) (E2 : Nat → Int32) (H : Heap) (locs : List Loc) (ls : Array Slot), 4 + 1 ≤ r + nn → (r ≤ 4) → (∀ ρ, ρ < r → E2 (4 * i + ρ) = evw fR w i ρ) → (∀ j, j < 256 → j ≠ i → ∀ ρ, ρ < 4 → E2 (4 * j + ρ) = E (4 * j + ρ)) → IW D A s.heap (wX h d sz wy kn fK fP fN fO fD fI fR fH (upd T i (nI q)) (upd F i (bI fb)) E2 fM) H locs → lv_has ls 8 [(0, .ref (h 0)), (1, .int (nI w)), (2, .int (bI fb)), (3, .int (nI i)), (4, .int (nI (i % 16))), (5, .int (nI (i / 16))), (6, .int (nI r))] → W p l e (rk 0) s m ar bl me c H locs 0 0 Q (F0 m 62 ls []) := by
            intro nn
            induction nn with
            | zero => intro r E2 H locs ls hme hr h1 h2; exact absurd hme (by omega)
            | succ nn ih2 =>
              intro r E2 H locs ls hme hr h1 h2 I hl
              refine lv_iload hx hb dX0_finish_62 (lv_at hl 6 rfl) ?_
              refine lv_iconst (v := nI 4) hx hb dX0_finish_64 (by decide) ?_
              refine n_ge (tgt := 129) hx hb dX0_finish_65 (by decide) (by omega) (by omega) (fun c_65 => ?_) (fun c_65 => ?_)
              · refine lv_iinc (v := (nI (i + 1))) (lv' := [(3, .int (nI (i + 1))), (0, .ref (h 0)), (1, .int (nI w)), (2, .int (bI fb)), (4, .int (nI (i % 16))), (5, .int (nI (i / 16))), (6, .int (nI r))]) hx hb dX0_finish_129 hl (k := 3) rfl (n_inc _) (by decide) rfl (fun ls hl => ?_)
                refine lv_goto (tgt := 2) hx hb dX0_finish_132 (by decide) ?_
                have hK2 : ∀ j, j < 256 → j ≠ i → KeepAt j T F E (upd T i (nI q)) (upd F i (bI fb)) E2 := fun j hj hj2 => ⟨upd_n hj2, upd_n hj2, h2 j hj hj2⟩
                exact ih (i + 1) (upd T i (nI q)) (upd F i (bI fb)) E2 _ _ _ (by omega) (by omega) (fun j hj => by rcases Nat.lt_or_eq_of_le (Nat.le_of_lt_succ hj) with z | z; exact (hd j z).keep (hK2 j (by omega) (by omega)); rw [z]; exact FinAt.on hbt ⟨upd_s, upd_s, fun r hr => h1 r (by omega)⟩) (fun j hj1 hj2 => (hk j (by omega) hj2).tr (hK2 j hj2 (by omega))) I (lv_sub hl [1, 2, 3, 0] rfl)
              · refine lv_iload_n hx hb dX0_finish_68 rfl (lv_at hl 1 rfl) ?_
                refine lv_bipush (v := nI 12) hx hb dX0_finish_69 (by decide) ?_
                refine n_mul hx hb dX0_finish_71 ?_
                refine lv_iconst (v := nI 3) hx hb dX0_finish_72 (by decide) ?_
                refine lv_iload hx hb dX0_finish_73 (lv_at hl 6 rfl) ?_
                refine n_mul hx hb dX0_finish_75 ?_
                refine n_add hx hb dX0_finish_76 ?_
                refine lv_istore (lv' := [(7, .int (nI (w * 12 + (3 * r)))), (0, .ref (h 0)), (1, .int (nI w)), (2, .int (bI fb)), (3, .int (nI i)), (4, .int (nI (i % 16))), (5, .int (nI (i / 16))), (6, .int (nI r))]) hx hb dX0_finish_77 hl (by decide) rfl (fun ls hl => ?_)
                refine lv_aload_n hx hb dX0_finish_79 rfl (lv_at hl 1 rfl) ?_
                refine x_get C I rfl 13 (by decide) q44 rfl dX0_finish_80 ?_
                refine lv_iconst (v := nI 4) hx hb dX0_finish_83 (by decide) ?_
                refine lv_iload_n hx hb dX0_finish_84 rfl (lv_at hl 4 rfl) ?_
                refine n_mul hx hb dX0_finish_85 ?_
                refine lv_iload hx hb dX0_finish_86 (lv_at hl 7 rfl) ?_
                refine n_add hx hb dX0_finish_88 ?_
                refine lv_aload_n hx hb dX0_finish_89 rfl (lv_at hl 1 rfl) ?_
                refine x_get C I rfl 8 (by decide) q39 rfl dX0_finish_90 ?_
                refine lv_iload hx hb dX0_finish_93 (lv_at hl 0 rfl) ?_
                refine i_ild C I 7 rfl (by omega) dX0_finish_95 ?_
                refine lv_iload hx hb dX0_finish_96 (lv_at hl 5 rfl) ?_
                refine lv_imul hx hb dX0_finish_98 ?_
                refine lv_aload_n hx hb dX0_finish_99 rfl (lv_at hl 1 rfl) ?_
                refine x_get C I rfl 8 (by decide) q39 rfl dX0_finish_100 ?_
                refine lv_iload hx hb dX0_finish_103 (lv_at hl 0 rfl) ?_
                refine lv_iconst (v := nI 1) hx hb dX0_finish_105 (by decide) ?_
                refine n_add hx hb dX0_finish_106 ?_
                refine i_ild C I 7 rfl (by omega) dX0_finish_107 ?_
                refine lv_iload hx hb dX0_finish_108 (lv_at hl 6 rfl) ?_
                refine lv_imul hx hb dX0_finish_110 ?_
                refine lv_iadd hx hb dX0_finish_111 ?_
                refine lv_aload_n hx hb dX0_finish_112 rfl (lv_at hl 1 rfl) ?_
                refine x_get C I rfl 8 (by decide) q39 rfl dX0_finish_113 ?_
                refine lv_iload hx hb dX0_finish_116 (lv_at hl 0 rfl) ?_
                refine lv_iconst (v := nI 2) hx hb dX0_finish_118 (by decide) ?_
                refine n_add hx hb dX0_finish_119 ?_
                refine i_ild C I 7 rfl (by omega) dX0_finish_120 ?_
                refine lv_iadd hx hb dX0_finish_121 ?_
                refine lv_topi (fun z_4 ez_4 => ?_)
                obtain rfl : z_4 = evw fR w i r := ez_4.trans (evw_in (by omega))
                refine i_ist (ws' := wX h d sz wy kn fK fP fN fO fD fI fR fH (upd T i (nI q)) (upd F i (bI fb)) (upd E2 (4 * i + r) (evw fR w i r)) fM) C I 11 rfl (by omega) rfl dX0_finish_122 (fun H locs I => ?_)
                refine lv_iinc (v := (nI (r + 1))) (lv' := [(6, .int (nI (r + 1))), (7, .int (nI (w * 12 + (3 * r)))), (0, .ref (h 0)), (1, .int (nI w)), (2, .int (bI fb)), (3, .int (nI i)), (4, .int (nI (i % 16))), (5, .int (nI (i / 16)))]) hx hb dX0_finish_123 hl (k := 7) rfl (n_inc _) (by decide) rfl (fun ls hl => ?_)
                refine lv_goto (tgt := 62) hx hb dX0_finish_126 (by decide) ?_
                exact ih2 (r + 1) (upd E2 (4 * i + r) (evw fR w i r)) _ _ _ (by omega) (by omega) (fun ρ hρ => by by_cases eρ : ρ = r; rw [eρ, upd_s]; rw [upd_n (by omega)]; exact h1 ρ (by omega)) (fun j hj hj2 ρ hρ => (upd_n (by omega)).trans (h2 j hj hj2 ρ hρ)) I (lv_sub hl [2, 3, 4, 5, 6, 7, 0] rfl)
          exact lp2 5 0 E _ _ _ (by omega) (by omega) (fun _ h => absurd h (by omega)) (fun _ _ _ _ _ => rfl) I (lv_sub hl [3, 4, 5, 6, 2, 1, 0] rfl)
  exact lp 257 0 fT fF fE _ _ _ (by omega) (by omega) (fun _ h => absurd h (by omega)) (fun _ _ _ => KeepAt.rf) I (lv_sub hl [1, 2, 3, 0] rfl)
end
section
/-! the invariant of learn's loop -/
def HB (fI : Nat → Int32) (v : Nat) : Prop := ∀ x, x < 16 → ∀ y, 16 ≤ y → bt (fI (v * 16 + x)) y = false
def NE (fI : Nat → Int32) (v : Nat) : Prop := ∃ i, i < 256 ∧ inB fI v i = true
def CO (n : Nat) (G : Pg) (p q : Nat) (fR fI : Nat → Int32) (v : Nat) : Prop := ∀ i, i < 256 → inB fI v i = true → rn n G 13 p (evw fR v i) q = Rs n G i
def B3 (p : Nat) : Int := ((20 * 3 ^ p : Nat) : Int)
def WOK (n : Nat) (G : Pg) (fO fD fI fR : Nat → Int32) (v p q : Nat) : Prop := fO v = nI p ∧ fD v = nI q ∧ p ≤ 12 ∧ v ≤ p ∧ q < 2 ^ p ∧ HB fI v ∧ NE fI v ∧ RB fR v (B3 p) ∧ CO n G p q fR fI v
def cnt (fI : Nat → Int32) (v : Nat) : Nat := sumN (fun i => b1 (inB fI v i)) 256
def trm (fO fI : Nat → Int32) (v : Nat) : Nat := cnt fI v * (13 - (fO v).toNatClampNeg)
def LI (n : Nat) (G : Pg) (wy : Nat) (fO fD fI fR fT fF fE : Nat → Int32) : Prop := (∀ v, v < wy → ∃ p q, WOK n G fO fD fI fR v p q) ∧ ∀ i, i < 256 → RunAt n G i fT fF fE ∨ ∃ v, v < wy ∧ inB fI v i = true
theorem B3_le {p : Nat} (h : p ≤ 12) : B3 p ≤ MB := by
  have h1 : 3 ^ p ≤ 3 ^ 12 := Nat.pow_le_pow_right (by omega) h
  have h2 : 3 ^ 12 = 531441 := by decide
  unfold B3 MB
  omega
theorem B3_s (p : Nat) : B3 (p + 1) = 3 * B3 p := by
  unfold B3
  rw [Nat.pow_succ]
  omega
theorem B3_20 (p : Nat) : 20 ≤ B3 p := by
  have h1 : 1 ≤ 3 ^ p := Nat.one_le_pow _ _ (by omega)
  unfold B3
  omega
theorem RB.mono {fR : Nat → Int32} {w : Nat} {M N : Int} (h : RB fR w M) (hm : M ≤ N) : RB fR w N := fun j hj => by
  have := h j hj
  omega
theorem B3_mono {p p1 : Nat} (h : p ≤ p1) : B3 p ≤ B3 p1 := by
  have h1 : 3 ^ p ≤ 3 ^ p1 := Nat.pow_le_pow_right (by omega) h
  unfold B3
  omega
/-- a way that stays as it is -/
def EqW (fO fD fI fR fO' fD' fI' fR' : Nat → Int32) (v : Nat) : Prop := fO' v = fO v ∧ fD' v = fD v ∧ (∀ x, x < 16 → fI' (v * 16 + x) = fI (v * 16 + x)) ∧ ∀ j, j < 12 → fR' (v * 12 + j) = fR (v * 12 + j)
theorem inB_congr {fI fI' : Nat → Int32} {v v' i : Nat} (h : ∀ x, x < 16 → fI' (v' * 16 + x) = fI (v * 16 + x)) : inB fI' v' i = inB fI v i := by
  unfold inB
  rw [h _ (by omega)]
theorem evw_congr {fR fR' : Nat → Int32} {v v' i : Nat} (h : ∀ j, j < 12 → fR' (v' * 12 + j) = fR (v * 12 + j)) : evw fR' v' i = evw fR v i := by
  funext r
  unfold evw
  split
  · rw [Nat.add_assoc, Nat.add_assoc, Nat.add_assoc, Nat.add_assoc, h _ (by omega), h _ (by omega), h _ (by omega)]
  · rfl
theorem HB.congr {fI fI' : Nat → Int32} {v v' : Nat} (h : ∀ x, x < 16 → fI' (v' * 16 + x) = fI (v * 16 + x)) (hb : HB fI v) : HB fI' v' := fun x hx y hy => by rw [h x hx]; exact hb x hx y hy
theorem RB.congr {fR fR' : Nat → Int32} {v v' : Nat} {M : Int} (h : ∀ j, j < 12 → fR' (v' * 12 + j) = fR (v * 12 + j)) (hb : RB fR v M) : RB fR' v' M := fun j hj => by rw [h j hj]; exact hb j hj
theorem CO.congr {n : Nat} {G : Pg} {p q : Nat} {fR fI fR' fI' : Nat → Int32} {v v' : Nat} (h : ∀ x, x < 16 → fI' (v' * 16 + x) = fI (v * 16 + x)) (h2 : ∀ j, j < 12 → fR' (v' * 12 + j) = fR (v * 12 + j)) (hc : CO n G p q fR fI v) : CO n G p q fR' fI' v' := fun i hi hb => by
  rw [evw_congr h2]
  rw [inB_congr h] at hb
  exact hc i hi hb
theorem EqW.wok {n : Nat} {G : Pg} {fO fD fI fR fO' fD' fI' fR' : Nat → Int32} {v p q : Nat} (e : EqW fO fD fI fR fO' fD' fI' fR' v) (h : WOK n G fO fD fI fR v p q) : WOK n G fO' fD' fI' fR' v p q := by
  obtain ⟨h1, h2, h3, h4, h5, h6, ⟨i, hi, hb⟩, h8, h9⟩ := h
  refine ⟨e.1.trans h1, e.2.1.trans h2, h3, h4, h5, h6.congr e.2.2.1, ⟨i, hi, by rw [inB_congr e.2.2.1]; exact hb⟩, h8.congr e.2.2.2, h9.congr e.2.2.1 e.2.2.2⟩
theorem cnt_congr {fI fI' : Nat → Int32} {v v' : Nat} (h : ∀ x, x < 16 → fI' (v' * 16 + x) = fI (v * 16 + x)) : cnt fI' v' = cnt fI v := sumN_congr 256 (fun i _ => by rw [inB_congr h])
theorem EqW.trme {fO fD fI fR fO' fD' fI' fR' : Nat → Int32} {v : Nat} (e : EqW fO fD fI fR fO' fD' fI' fR' v) : trm fO' fI' v = trm fO fI v := by
  unfold trm
  rw [cnt_congr e.2.2.1, e.1]
theorem sumN_pos {f : Nat → Nat} {i : Nat} (hf : 0 < f i) : ∀ k, i < k → 0 < sumN f k
  | 0, h => absurd h (by omega)
  | k + 1, h => by
    simp only [sumN]
    by_cases e : i = k
    · subst e; omega
    · have := sumN_pos hf k (by omega)
      omega
theorem cnt_pos {fI : Nat → Int32} {v : Nat} (h : NE fI v) : 0 < cnt fI v := by
  obtain ⟨i, hi, hb⟩ := h
  refine sumN_pos (i := i) ?_ 256 hi
  rw [hb]
  decide
theorem sumN_mono {f g : Nat → Nat} : ∀ k, (∀ i, i < k → f i ≤ g i) → sumN f k ≤ sumN g k
  | 0, _ => Nat.le_refl _
  | k + 1, h => by
    simp only [sumN]
    have := sumN_mono k (fun i hi => h i (by omega))
    have := h k (by omega)
    omega
theorem cnt_mono {fI fI' : Nat → Int32} {v v' : Nat} (h : ∀ i, i < 256 → inB fI' v' i = true → inB fI v i = true) : cnt fI' v' ≤ cnt fI v := by
  refine sumN_mono 256 (fun i hi => ?_)
  cases hb : inB fI' v' i
  · exact Nat.zero_le _
  · rw [h i hi hb]; exact Nat.le_refl _
/-- a step is about to be done on the top way w, from position p with path q -/
def SPre (n : Nat) (G : Pg) (w p q : Nat) (fO fD fI fR fT fF fE : Nat → Int32) : Prop := p < n ∧ w ≤ p ∧ q < 2 ^ p ∧ HB fI w ∧ NE fI w ∧ RB fR w (B3 p) ∧ CO n G p q fR fI w ∧ (∀ v, v < w → ∃ p q, WOK n G fO fD fI fR v p q) ∧ ∀ i, i < 256 → RunAt n G i fT fF fE ∨ ∃ v, v < w + 1 ∧ inB fI v i = true
/-- what a step leaves: the invariant, and less to do -/
def SPos (n : Nat) (G : Pg) (w p wy : Nat) (fO fI : Nat → Int32) (fO' fD' fI' fR' fT' fF' fE' : Nat → Int32) : Prop := LI n G wy fO' fD' fI' fR' fT' fF' fE' ∧ sumN (trm fO' fI') wy + 1 ≤ sumN (trm fO fI) w + cnt fI w * (13 - p)
theorem cov_keep {n : Nat} {G : Pg} {w i : Nat} {fI fI' fT fF fE fT' fF' fE' : Nat → Int32} (h : RunAt n G i fT fF fE ∨ ∃ v, v < w + 1 ∧ inB fI v i = true) (hT : RunAt n G i fT fF fE → RunAt n G i fT' fF' fE') (hv : ∀ v, v < w → inB fI' v i = inB fI v i) : RunAt n G i fT' fF' fE' ∨ (∃ v, v < w ∧ inB fI' v i = true) ∨ inB fI w i = true := by
  rcases h with q | ⟨v, h1, h2⟩
  · exact Or.inl (hT q)
  · by_cases e : v = w
    · subst e; exact Or.inr (Or.inr h2)
    · exact Or.inr (Or.inl ⟨v, by omega, by rw [hv v (by omega)]; exact h2⟩)
theorem step0 {n : Nat} {G : Pg} {w p q : Nat} {fO fD fI fR fT fF fE fO' fD' fI' fR' fT' fF' fE' : Nat → Int32} (hp : p ≤ 12) (hne : NE fI w) (hw : ∀ v, v < w → ∃ p q, WOK n G fO fD fI fR v p q) (hc : ∀ i, i < 256 → RunAt n G i fT fF fE ∨ ∃ v, v < w + 1 ∧ inB fI v i = true) (hE : ∀ v, v < w → EqW fO fD fI fR fO' fD' fI' fR' v) (hT : ∀ i, i < 256 → RunAt n G i fT fF fE → RunAt n G i fT' fF' fE') (hd : ∀ i, i < 256 → inB fI w i = true → RunAt n G i fT' fF' fE') : SPos n G w p w fO fI fO' fD' fI' fR' fT' fF' fE' := by
  refine ⟨⟨fun v hv => ?_, fun i hi => ?_⟩, ?_⟩
  · obtain ⟨p, q, h⟩ := hw v hv
    exact ⟨p, q, (hE v hv).wok h⟩
  · rcases cov_keep (hc i hi) (hT i hi) (fun v hv => inB_congr (hE v hv).2.2.1) with z | z | z
    · exact Or.inl z
    · exact Or.inr z
    · exact Or.inl (hd i hi z)
  · rw [sumN_congr w (fun v hv => (hE v hv).trme)]
    have h1 := cnt_pos hne
    have h2 : 0 < cnt fI w * (13 - p) := Nat.mul_pos h1 (by omega)
    omega
theorem step1 {n : Nat} {G : Pg} {w p q p1 q1 : Nat} {fO fD fI fR fT fF fE fO' fD' fI' fR' fT' fF' fE' : Nat → Int32} (hS : SPre n G w p q fO fD fI fR fT fF fE) (hE : ∀ v, v < w → EqW fO fD fI fR fO' fD' fI' fR' v) (hW : WOK n G fO' fD' fI' fR' w p1 q1) (hp : p < p1) (hs : ∀ i, i < 256 → inB fI' w i = true → inB fI w i = true) (hT : ∀ i, i < 256 → RunAt n G i fT fF fE → RunAt n G i fT' fF' fE') (hd : ∀ i, i < 256 → inB fI w i = true → inB fI' w i = true ∨ RunAt n G i fT' fF' fE') : SPos n G w p (w + 1) fO fI fO' fD' fI' fR' fT' fF' fE' := by
  obtain ⟨s1, s2, s3, s4, s5, s6, s7, s8, s9⟩ := hS
  refine ⟨⟨fun v hv => ?_, fun i hi => ?_⟩, ?_⟩
  · by_cases e : v = w
    · subst e; exact ⟨p1, q1, hW⟩
    · obtain ⟨p, q, h⟩ := s8 v (by omega)
      exact ⟨p, q, (hE v (by omega)).wok h⟩
  · rcases cov_keep (s9 i hi) (hT i hi) (fun v hv => inB_congr (hE v hv).2.2.1) with z | ⟨v, h1, h2⟩ | z
    · exact Or.inl z
    · exact Or.inr ⟨v, by omega, h2⟩
    · rcases hd i hi z with y | y
      · exact Or.inr ⟨w, by omega, y⟩
      · exact Or.inl y
  · have e1 : trm fO' fI' w = cnt fI' w * (13 - p1) := by
      have := hW.2.2.1
      unfold trm
      rw [hW.1, nI_clamp (by omega)]
    simp only [sumN]
    rw [sumN_congr w (fun v hv => (hE v hv).trme), e1]
    have h1 := cnt_pos s5
    have h2 := cnt_mono hs
    have h3 := Nat.mul_le_mul_right (13 - p1) h2
    have h4 : cnt fI w * (13 - p1) + cnt fI w * 1 ≤ cnt fI w * (13 - p) := by
      rw [← Nat.mul_add]
      exact Nat.mul_le_mul_left _ (by have := hW.2.2.1; omega)
    omega
theorem step2 {n : Nat} {G : Pg} {w p q p1 q1 p2 q2 : Nat} {fO fD fI fR fT fF fE fO' fD' fI' fR' : Nat → Int32} (hS : SPre n G w p q fO fD fI fR fT fF fE) (hE : ∀ v, v < w → EqW fO fD fI fR fO' fD' fI' fR' v) (hW : WOK n G fO' fD' fI' fR' w p1 q1) (hW2 : WOK n G fO' fD' fI' fR' (w + 1) p2 q2) (hp : p < p1) (hp2 : p < p2) (c : Nat → Bool) (hs : ∀ i, i < 256 → inB fI' w i = (inB fI w i && !c i)) (hs2 : ∀ i, i < 256 → inB fI' (w + 1) i = (inB fI w i && c i)) : SPos n G w p (w + 2) fO fI fO' fD' fI' fR' fT fF fE := by
  obtain ⟨s1, s2, s3, s4, s5, s6, s7, s8, s9⟩ := hS
  refine ⟨⟨fun v hv => ?_, fun i hi => ?_⟩, ?_⟩
  · by_cases e : v = w
    · subst e; exact ⟨p1, q1, hW⟩
    · by_cases e : v = w + 1
      · subst e; exact ⟨p2, q2, hW2⟩
      · obtain ⟨p, q, h⟩ := s8 v (by omega)
        exact ⟨p, q, (hE v (by omega)).wok h⟩
  · rcases cov_keep (s9 i hi) (fun h => h) (fun v hv => inB_congr (hE v hv).2.2.1) with z | ⟨v, h1, h2⟩ | z
    · exact Or.inl z
    · exact Or.inr ⟨v, by omega, h2⟩
    · cases hc : c i
      · exact Or.inr ⟨w, by omega, by rw [hs i hi, z, hc]; rfl⟩
      · exact Or.inr ⟨w + 1, by omega, by rw [hs2 i hi, z, hc]; rfl⟩
  · have e1 : trm fO' fI' w = cnt fI' w * (13 - p1) := by
      have := hW.2.2.1
      unfold trm
      rw [hW.1, nI_clamp (by omega)]
    have e2 : trm fO' fI' (w + 1) = cnt fI' (w + 1) * (13 - p2) := by
      have := hW2.2.2.1
      unfold trm
      rw [hW2.1, nI_clamp (by omega)]
    have e3 : cnt fI' w + cnt fI' (w + 1) = cnt fI w := by
      unfold cnt
      rw [← sumN_add]
      refine sumN_congr 256 (fun i hi => ?_)
      rw [hs i hi, hs2 i hi]
      cases inB fI w i <;> cases c i <;> rfl
    simp only [sumN]
    rw [sumN_congr w (fun v hv => (hE v hv).trme), e1, e2]
    have h1 := cnt_pos s5
    have g1 := hW.2.2.1
    have g2 := hW2.2.2.1
    have h3 : cnt fI' w * (13 - p1) ≤ cnt fI' w * (12 - p) := Nat.mul_le_mul_left _ (by omega)
    have h4 : cnt fI' (w + 1) * (13 - p2) ≤ cnt fI' (w + 1) * (12 - p) := Nat.mul_le_mul_left _ (by omega)
    have h5 : cnt fI w * (13 - p) = cnt fI w * (12 - p) + cnt fI w := by
      rw [show 13 - p = (12 - p) + 1 by omega, Nat.mul_succ]
    have h6 : cnt fI w * (12 - p) = cnt fI' w * (12 - p) + cnt fI' (w + 1) * (12 - p) := by rw [← e3, Nat.add_mul]
    omega
end
section
/-! blocks of ways, and one step of the run in them -/
theorem blk_ne {v b k j i : Nat} (hvb : v ≠ b) (hj : j < k) : ¬ (b * k ≤ v * k + j ∧ v * k + j < b * k + k) := by
  intro ⟨h1, h2⟩
  rcases Nat.lt_trichotomy v b with z | z | z
  · have := Nat.mul_le_mul_right k (show v + 1 ≤ b from z)
    rw [Nat.succ_mul] at this
    omega
  · exact hvb z
  · have := Nat.mul_le_mul_right k (show b + 1 ≤ v from z)
    rw [Nat.succ_mul] at this
    omega
theorem cpP_in {k : Nat} {f : Nat → Int32} {a b j : Nat} (hj : j < k) : cpP k f a b k (b * k + j) = f (a * k + j) := by
  unfold cpP
  rw [if_pos (by omega), show b * k + j - b * k = j by omega]
theorem cpP_out {k : Nat} {f : Nat → Int32} {a b v j : Nat} (hv : v ≠ b) (hj : j < k) : cpP k f a b k (v * k + j) = f (v * k + j) := if_neg (blk_ne (i := 0) hv hj)
theorem kpP_in {f g : Nat → Int32} {w : Nat} {ho : Int32} {x : Nat} (hx : x < 16) : kpP f g w ho 16 (w * 16 + x) = f (w * 16 + x) &&& (if ho = 0 then g x ^^^ (-1) else g x) := by
  have h1 : kpP f g w ho 16 (w * 16 + x) = f (w * 16 + x) &&& (if ho = 0 then g (w * 16 + x - w * 16) ^^^ (-1) else g (w * 16 + x - w * 16)) := if_pos (by omega)
  rw [h1, show w * 16 + x - w * 16 = x by omega]
theorem kpP_out {f g : Nat → Int32} {w : Nat} {ho : Int32} {v x : Nat} (hv : v ≠ w) (hx : x < 16) : kpP f g w ho 16 (v * 16 + x) = f (v * 16 + x) := if_neg (blk_ne (i := 0) hv hx)
theorem calP_out {f : Nat → Int32} {w k a b : Nat} {v : Int32} {u j : Nat} (hu : u ≠ w) (ha : a ≤ 3) (hj : j < 12) : calP f w k a b v 3 (u * 12 + j) = f (u * 12 + j) := by
  refine if_neg fun h => ?_
  exact blk_ne (i := 0) (b := w) (k := 12) hu hj (by omega)
theorem inB_kp {f g : Nat → Int32} {w : Nat} {ho : Int32} {i : Nat} (hi : i < 256) : inB (kpP f g w ho 16) w i = (inB f w i && if ho = 0 then !bt (g (i % 16)) (i / 16) else bt (g (i % 16)) (i / 16)) := by
  unfold inB
  rw [kpP_in (by omega), b_and]
  by_cases e : ho = 0
  · rw [if_pos e, if_pos e, b_not _ (by omega)]
  · rw [if_neg e, if_neg e]
theorem HB.kp {f g : Nat → Int32} {w : Nat} {ho : Int32} (h : HB f w) : HB (kpP f g w ho 16) w := fun x hx y hy => by
  rw [kpP_in hx, b_and, h x hx y hy, Bool.false_and]
theorem ne_iff {fI : Nat → Int32} {v : Nat} (h : HB fI v) : (∃ x, x < 16 ∧ fI (v * 16 + x) ≠ 0) ↔ NE fI v := by
  constructor
  · rintro ⟨x, hx, hne⟩
    obtain ⟨y, hy, hb⟩ := b_nz.mp hne
    have hy2 : y < 16 := Nat.lt_of_not_le fun z => by rw [h x hx y z] at hb; cases hb
    refine ⟨x + 16 * y, by omega, ?_⟩
    unfold inB
    rw [show (x + 16 * y) % 16 = x by omega, show (x + 16 * y) / 16 = y by omega]
    exact hb
  · rintro ⟨i, hi, hb⟩
    exact ⟨i % 16, by omega, b_nz.mpr ⟨i / 16, by omega, hb⟩⟩
theorem i8i {x : Int32} (h : -128 ≤ x.toInt ∧ x.toInt ≤ 127) : x.toInt8.toInt32 = x := by
  apply Int32.toInt_inj.mp
  rw [Int8.toInt_toInt32, Int32.toInt_toInt8]
  have e : ((2 ^ 8 : Nat) : Int) = 256 := rfl
  exact Int.bmod_eq_of_le (by rw [e]; omega) (by rw [e]; omega)
theorem upd_same {f : Nat → Int32} {k : Nat} : upd f k (f k) = f := by
  funext j
  by_cases e : j = k
  · subst e; rw [upd_s]
  · rw [upd_n e]
theorem calP_in {f : Nat → Int32} {w k a b : Nat} {v : Int32} {t : Nat} (ht : t < 3) : calP f w k a b v 3 (w * 12 + 3 * a + t) = cal k v (f (w * 12 + 3 * a + t)) (f (w * 12 + 3 * b + t)) t := by
  unfold calP
  rw [if_pos (by omega), show w * 12 + 3 * a + t - (w * 12 + 3 * a) = t by omega]
/-- calculation and reading commute -/
theorem ev_cal {fR : Nat → Int32} {w k a b : Nat} {v : Int32} {i : Nat} (hk : k ≤ 3) (ha : a ≤ 3) (hb : b ≤ 3) : evw (calP fR w k a b v 3) w i = upd (evw fR w i) a (st_made k v (evw fR w i a) (evw fR w i b)) := by
  funext r
  by_cases e : r = a
  · subst e
    rw [upd_s]
    have c0 : calP fR w k r b v 3 (w * 12 + 3 * r) = cal k v (fR (w * 12 + 3 * r)) (fR (w * 12 + 3 * b)) 0 := calP_in (t := 0) (by omega)
    have c1 : calP fR w k r b v 3 (w * 12 + 3 * r + 1) = cal k v (fR (w * 12 + 3 * r + 1)) (fR (w * 12 + 3 * b + 1)) 1 := calP_in (t := 1) (by omega)
    have c2 : calP fR w k r b v 3 (w * 12 + 3 * r + 2) = cal k v (fR (w * 12 + 3 * r + 2)) (fR (w * 12 + 3 * b + 2)) 2 := calP_in (t := 2) (by omega)
    have eb : evw fR w i b = fR (w * 12 + 3 * b) * nI (i % 16) + fR (w * 12 + 3 * b + 1) * nI (i / 16) + fR (w * 12 + 3 * b + 2) := if_pos (by omega)
    have er : evw fR w i r = fR (w * 12 + 3 * r) * nI (i % 16) + fR (w * 12 + 3 * r + 1) * nI (i / 16) + fR (w * 12 + 3 * r + 2) := if_pos (by omega)
    have el : evw (calP fR w k r b v 3) w i r = calP fR w k r b v 3 (w * 12 + 3 * r) * nI (i % 16) + calP fR w k r b v 3 (w * 12 + 3 * r + 1) * nI (i / 16) + calP fR w k r b v 3 (w * 12 + 3 * r + 2) := if_pos (by omega)
    rw [el, c0, c1, c2, er, eb]
    generalize fR (w * 12 + 3 * r) = x0
    generalize fR (w * 12 + 3 * r + 1) = x1
    generalize fR (w * 12 + 3 * r + 2) = x2
    generalize fR (w * 12 + 3 * b) = y0
    generalize fR (w * 12 + 3 * b + 1) = y1
    generalize fR (w * 12 + 3 * b + 2) = y2
    generalize nI (i % 16) = X
    generalize nI (i / 16) = Y
    match k, hk with
    | 0, _ => simp [cal, st_made]
    | 1, _ => simp [cal, st_made]; grind
    | 2, _ => simp [cal, st_made]; grind
    | 3, _ => simp [cal, st_made]; grind
  · rw [upd_n e]
    unfold evw
    split
    · rename_i hr
      have o : ∀ t, t < 3 → calP fR w k a b v 3 (w * 12 + 3 * r + t) = fR (w * 12 + 3 * r + t) := fun t ht => if_neg (by omega)
      have o0 := o 0 (by omega)
      rw [Nat.add_zero] at o0
      rw [o0, o 1 (by omega), o 2 (by omega)]
    · rfl
theorem rb_cal {fR : Nat → Int32} {w k a b p : Nat} {v : Int32} (h : RB fR w (B3 p)) (hp : p < 12) (hk : k ≤ 3) (ha : a ≤ 3) (hb : b ≤ 3) (h0 : k = 0 → -20 ≤ v.toInt ∧ v.toInt ≤ 20) (h3 : k = 3 → -3 ≤ v.toInt ∧ v.toInt ≤ 3) : RB (calP fR w k a b v 3) w (B3 (p + 1)) := by
  have hs := B3_s p
  have h20 := B3_20 p
  have hm := B3_le (show p + 1 ≤ 12 by omega)
  unfold MB at hm
  intro j hj
  by_cases hc : w * 12 + 3 * a ≤ w * 12 + j ∧ w * 12 + j < w * 12 + 3 * a + 3
  · have e : calP fR w k a b v 3 (w * 12 + j) = cal k v (fR (w * 12 + j)) (fR (w * 12 + 3 * b + (w * 12 + j - (w * 12 + 3 * a)))) (w * 12 + j - (w * 12 + 3 * a)) := if_pos hc
    rw [e]
    have g1 := h j hj
    have g2 := h (3 * b + (w * 12 + j - (w * 12 + 3 * a))) (by omega)
    rw [← Nat.add_assoc] at g2
    generalize fR (w * 12 + j) = x at g1 ⊢
    generalize fR (w * 12 + 3 * b + (w * 12 + j - (w * 12 + 3 * a))) = y at g2 ⊢
    generalize w * 12 + j - (w * 12 + 3 * a) = t
    have ny : (-y).toInt = -y.toInt := tI_neg (by omega)
    match k, hk with
    | 0, _ =>
      have := h0 rfl
      show -B3 (p + 1) ≤ (if t = 2 then v else 0).toInt ∧ (if t = 2 then v else 0).toInt ≤ B3 (p + 1)
      split
      · omega
      · rw [i_0]; omega
    | 1, _ =>
      show -B3 (p + 1) ≤ (x + y).toInt ∧ (x + y).toInt ≤ B3 (p + 1)
      rw [tI_add (by omega) (by omega)]
      omega
    | 2, _ =>
      show -B3 (p + 1) ≤ (x + -y).toInt ∧ (x + -y).toInt ≤ B3 (p + 1)
      rw [tI_add (by rw [ny]; omega) (by rw [ny]; omega), ny]
      omega
    | 3, _ =>
      have h5 := h3 rfl
      show -B3 (p + 1) ≤ (x * v).toInt ∧ (x * v).toInt ≤ B3 (p + 1)
      have h6 : -(3 * B3 p) ≤ x.toInt * v.toInt ∧ x.toInt * v.toInt ≤ 3 * B3 p := by
        generalize v.toInt = z at h5
        rcases (show z = -3 ∨ z = -2 ∨ z = -1 ∨ z = 0 ∨ z = 1 ∨ z = 2 ∨ z = 3 by omega) with rfl | rfl | rfl | rfl | rfl | rfl | rfl <;> omega
      rw [tI_mul (by omega) (by omega)]
      omega
  · have e : calP fR w k a b v 3 (w * 12 + j) = fR (w * 12 + j) := if_neg hc
    rw [e]
    have := h j hj
    omega
/-- the runs of a way's inputs, one step on -/
theorem co_step {n : Nat} {G : Pg} {p q : Nat} {fR fI : Nat → Int32} {w i : Nat} (hG : PW n G) (hp : p < n) (h : CO n G p q fR fI w) (hi : i < 256) (hb : inB fI w i = true) : Rs n G i = if st_fail (G p).1 (evw fR w i (G p).2.1) (evw fR w i (G p).2.2.1) then (upd (evw fR w i) (G p).2.1 (st_made (G p).1 (G p).2.2.2 (evw fR w i (G p).2.1) (evw fR w i (G p).2.2.1)), q ||| 2 ^ p, true) else rn n G 13 (nxt G p (evw fR w i)) (upd (evw fR w i) (G p).2.1 (st_made (G p).1 (G p).2.2.2 (evw fR w i (G p).2.1) (evw fR w i (G p).2.2.1))) (q ||| 2 ^ p) := by
  rw [← h i hi hb]
  exact rn_step hG hp
/-- kinds above 3 leave the registers -/
theorem made_hi {k : Nat} {v x y : Int32} (h : 4 ≤ k) : st_made k v x y = x := (made_4 (by omega) (by omega) (by omega) (by omega)).symm
theorem co_hi {n : Nat} {G : Pg} {p q : Nat} {fR fI : Nat → Int32} {w i : Nat} (hG : PW n G) (hp : p < n) (h : CO n G p q fR fI w) (hi : i < 256) (hb : inB fI w i = true) (hk : 4 ≤ (G p).1) : Rs n G i = if st_fail (G p).1 (evw fR w i (G p).2.1) (evw fR w i (G p).2.2.1) then (evw fR w i, q ||| 2 ^ p, true) else rn n G 13 (nxt G p (evw fR w i)) (evw fR w i) (q ||| 2 ^ p) := by
  have := co_step hG hp h hi hb
  rw [made_hi hk, upd_same] at this
  exact this
theorem st_fail_no {k : Nat} {x y : Int32} (h : k ≠ 7) : st_fail k x y = false := decide_eq_false fun q => h q.1
theorem st_goes_no {k : Nat} {x y : Int32} (h : ¬ (4 ≤ k ∧ k ≤ 6)) : st_goes k x y = false := by
  cases hz : st_goes k x y
  · rfl
  · exact absurd (st_goes_k hz) h
theorem nxt_no {G : Pg} {a : Nat} {r : Nat → Int32} (h : st_goes (G a).1 (r (G a).2.1) (r (G a).2.2.1) = false) : nxt G a r = a + 1 := by rw [nxt, if_neg (by rw [h]; decide)]
theorem nxt_go {G : Pg} {a j : Nat} {r : Nat → Int32} (h : st_goes (G a).1 (r (G a).2.1) (r (G a).2.2.1) = true) (hN : (G a).2.2.2 = nI j) (hj : j < 2 ^ 31) : nxt G a r = j := by rw [nxt, if_pos h, hN, nI_clamp hj]
/-- what a finished input shows -/
theorem run_fin {n : Nat} {G : Pg} {i q : Nat} {fb : Bool} {r T F E : Nat → Int32} (h : Rs n G i = (r, q, fb)) (hT : T i = nI q) (hF : F i = bI fb) (hE : ∀ ρ, ρ < 4 → E (4 * i + ρ) = r ρ) : RunAt n G i T F E := run_end h.symm hT hF hE
end
section
/-! what each kind of step leaves -/
theorem eqw_u {fO fD fI fR fI' fR' : Nat → Int32} {w v : Nat} {x y : Int32} (hv : v < w) (h1 : ∀ x, x < 16 → fI' (v * 16 + x) = fI (v * 16 + x)) (h2 : ∀ j, j < 12 → fR' (v * 12 + j) = fR (v * 12 + j)) : EqW fO fD fI fR (upd fO w x) (upd fD w y) fI' fR' v := ⟨upd_n (by omega), upd_n (by omega), h1, h2⟩
theorem made_v {k : Nat} {v v' x y : Int32} (h0 : ¬ k = 0) (h3 : ¬ k = 3) : st_made k v' x y = st_made k v x y := by
  unfold st_made
  simp [h0, h3]
theorem out_calc {n : Nat} {G : Pg} {w p q : Nat} {v : Int32} {fO fD fI fR fT fF fE : Nat → Int32} (hG : PW n G) (hS : SPre n G w p q fO fD fI fR fT fF fE) (hk : (G p).1 ≤ 3) (hv : (G p).1 = 0 ∨ (G p).1 = 3 → v = (G p).2.2.2) : SPos n G w p (w + 1) fO fI (upd fO w (nI (p + 1))) (upd fD w (nI (q ||| 2 ^ p))) fI (calP fR w (G p).1 (G p).2.1 (G p).2.2.1 v 3) fT fF fE := by
  obtain ⟨s1, s2, s3, s4, s5, s6, s7, s8, s9⟩ := id hS
  have hP := hG.2 p s1
  have hn := hG.1
  obtain ⟨g1, g2, g3, g4, g5, g6⟩ := hP
  refine step1 (p1 := p + 1) (q1 := q ||| 2 ^ p) hS (fun u hu => eqw_u hu (fun _ _ => rfl) (fun j hj => calP_out (by omega) g2 hj)) ⟨upd_s, upd_s, by omega, by omega, or_lt s3 (by omega), s4, s5, ?_, ?_⟩ (by omega) (fun _ _ h => h) (fun _ _ h => h) (fun _ _ h => Or.inl h)
  · exact rb_cal s6 (by omega) hk g2 g3 (fun e => by rw [hv (Or.inl e)]; exact g4 e) (fun e => by rw [hv (Or.inr e)]; exact g5 e)
  · intro i hi hb
    rw [co_step hG s1 s7 hi hb, if_neg (by rw [st_fail_no (by omega)]; decide), ev_cal hk g2 g3, nxt_no (st_goes_no (by omega))]
    congr 2
    by_cases e : (G p).1 = 0 ∨ (G p).1 = 3
    · rw [hv e]
    · exact made_v (fun z => e (Or.inl z)) (fun z => e (Or.inr z))
theorem out_goto {n : Nat} {G : Pg} {w p q T : Nat} {fO fD fI fR fT fF fE : Nat → Int32} (hG : PW n G) (hS : SPre n G w p q fO fD fI fR fT fF fE) (hk : (G p).1 = 6) (hN : (G p).2.2.2 = nI T) (hT : p < T) (hT2 : T ≤ 12) : SPos n G w p (w + 1) fO fI (upd fO w (nI T)) (upd fD w (nI (q ||| 2 ^ p))) fI fR fT fF fE := by
  obtain ⟨s1, s2, s3, s4, s5, s6, s7, s8, s9⟩ := id hS
  refine step1 (p1 := T) (q1 := q ||| 2 ^ p) hS (fun u hu => eqw_u hu (fun _ _ => rfl) (fun _ _ => rfl)) ⟨upd_s, upd_s, by omega, by omega, or_lt s3 hT, s4, s5, s6.mono (B3_mono (by omega)), ?_⟩ hT (fun _ _ h => h) (fun _ _ h => h) (fun _ _ h => Or.inl h)
  intro i hi hb
  rw [co_hi hG s1 s7 hi hb (by omega), if_neg (by rw [st_fail_no (by omega)]; decide), nxt_go (decide_eq_true (Or.inl hk)) hN (by omega)]
/-- the rest of a way whose inputs part: those that go on behind the step -/
theorem wok_stay {n : Nat} {G : Pg} {w p q : Nat} {c : Nat → Bool} {fO fD fI fR fT fF fE fO' fD' fI' fR' : Nat → Int32} (hG : PW n G) (hS : SPre n G w p q fO fD fI fR fT fF fE) (hk : 4 ≤ (G p).1) (hO : fO' w = nI (p + 1)) (hD : fD' w = nI (q ||| 2 ^ p)) (hR : ∀ j, j < 12 → fR' (w * 12 + j) = fR (w * 12 + j)) (hH : HB fI' w) (hI : ∀ i, i < 256 → inB fI' w i = (inB fI w i && !c i)) (hne : NE fI' w)
    (hc : ∀ i, i < 256 → c i = false → st_fail (G p).1 (evw fR w i (G p).2.1) (evw fR w i (G p).2.2.1) = false ∧ st_goes (G p).1 (evw fR w i (G p).2.1) (evw fR w i (G p).2.2.1) = false) : WOK n G fO' fD' fI' fR' w (p + 1) (q ||| 2 ^ p) := by
  obtain ⟨s1, s2, s3, s4, s5, s6, s7, s8, s9⟩ := hS
  have hn := hG.1
  refine ⟨hO, hD, by omega, by omega, or_lt s3 (by omega), hH, hne, (s6.mono (B3_mono (by omega))).congr hR, fun i hi hb => ?_⟩
  rw [hI i hi, Bool.and_eq_true] at hb
  have hc2 := hc i hi (by simpa using hb.2)
  rw [evw_congr hR, co_hi hG s1 s7 hi hb.1 hk, if_neg (by rw [hc2.1]; decide), nxt_no hc2.2]
/-- those that jump -/
theorem wok_jump {n : Nat} {G : Pg} {w u p q T : Nat} {c : Nat → Bool} {fO fD fI fR fT fF fE fO' fD' fI' fR' : Nat → Int32} (hG : PW n G) (hS : SPre n G w p q fO fD fI fR fT fF fE) (hk : 4 ≤ (G p).1) (hk7 : (G p).1 ≠ 7) (hu : u ≤ w + 1) (hN : (G p).2.2.2 = nI T) (hT : p < T) (hT2 : T ≤ 12) (hO : fO' u = nI T) (hD : fD' u = nI (q ||| 2 ^ p)) (hR : ∀ j, j < 12 → fR' (u * 12 + j) = fR (w * 12 + j)) (hH : HB fI' u) (hI : ∀ i, i < 256 → inB fI' u i = (inB fI w i && c i)) (hne : NE fI' u)
    (hc : ∀ i, i < 256 → c i = true → st_goes (G p).1 (evw fR w i (G p).2.1) (evw fR w i (G p).2.2.1) = true) : WOK n G fO' fD' fI' fR' u T (q ||| 2 ^ p) := by
  obtain ⟨s1, s2, s3, s4, s5, s6, s7, s8, s9⟩ := hS
  refine ⟨hO, hD, hT2, by omega, or_lt s3 hT, hH, hne, (s6.mono (B3_mono (by omega))).congr hR, fun i hi hb => ?_⟩
  rw [hI i hi, Bool.and_eq_true] at hb
  rw [evw_congr hR, co_hi hG s1 s7 hi hb.1 hk, if_neg (by rw [st_fail_no hk7]; decide), nxt_go (hc i hi hb.2) hN (by omega)]
theorem cnd_goes {G : Pg} {p : Nat} {eq : Int32} {fR : Nat → Int32} {w : Nat} (h : (G p).1 = 4 ∧ eq = 0 ∨ (G p).1 = 5 ∧ eq ≠ 0) (i : Nat) : st_goes (G p).1 (evw fR w i (G p).2.1) (evw fR w i (G p).2.2.1) = cnd eq fR w (G p).2.1 (G p).2.2.1 i := by
  unfold cnd st_goes
  rcases h with ⟨h1, h2⟩ | ⟨h1, h2⟩
  · rw [if_pos h2, h1]
    exact decide_eq_decide.mpr (by simp)
  · rw [if_neg h2, h1]
    exact decide_eq_decide.mpr (by simp)
theorem cnd_fail {G : Pg} {p : Nat} {fR : Nat → Int32} {w : Nat} (h : (G p).1 = 7) (i : Nat) : st_fail (G p).1 (evw fR w i (G p).2.1) (evw fR w i (G p).2.2.1) = cnd (nI 0) fR w (G p).2.2.1 (G p).2.1 i := by
  unfold cnd st_fail
  rw [if_pos nI_0, h]
  exact decide_eq_decide.mpr (by simp)
theorem out_check {n : Nat} {G : Pg} {w p q : Nat} {b2 : Bool} {fO fD fI fR fT fF fE fO' fD' fI' fR' fT' fF' fE' : Nat → Int32} (hG : PW n G) (hS : SPre n G w p q fO fD fI fR fT fF fE) (hk : (G p).1 = 7) (hE : ∀ v, v < w → EqW fO fD fI fR fO' fD' fI' fR' v) (hO : fO' w = nI (p + 1)) (hD : fD' w = nI (q ||| 2 ^ p)) (hR : ∀ j, j < 12 → fR' (w * 12 + j) = fR (w * 12 + j)) (hH : HB fI' w) (hI : ∀ i, i < 256 → inB fI' w i = (inB fI w i && !cnd (nI 0) fR w (G p).2.2.1 (G p).2.1 i)) (hT : ∀ i, i < 256 → RunAt n G i fT fF fE → RunAt n G i fT' fF' fE') (hF : ∀ i, i < 256 → inB fI w i = true → cnd (nI 0) fR w (G p).2.2.1 (G p).2.1 i = true → RunAt n G i fT' fF' fE') (hb2 : b2 = true ↔ NE fI' w) : SPos n G w p (if b2 then w + 1 else w) fO fI fO' fD' fI' fR' fT' fF' fE' := by
  obtain ⟨s1, s2, s3, s4, s5, s6, s7, s8, s9⟩ := id hS
  have hn := hG.1
  cases b2 with
  | true =>
    refine step1 (p1 := p + 1) (q1 := q ||| 2 ^ p) hS hE (wok_stay (c := cnd (nI 0) fR w (G p).2.2.1 (G p).2.1) hG hS (by omega) hO hD hR hH hI (hb2.mp rfl) (fun i hi hc => ⟨by rw [cnd_fail hk]; exact hc, st_goes_no (by omega)⟩)) (by omega) (fun i hi h => by rw [hI i hi, Bool.and_eq_true] at h; exact h.1) hT (fun i hi h => ?_)
    cases hc : cnd (nI 0) fR w (G p).2.2.1 (G p).2.1 i
    · exact Or.inl (by rw [hI i hi, h, hc]; rfl)
    · exact Or.inr (hF i hi h hc)
  | false =>
    refine step0 (p := p) (q := q) (by omega) s5 s8 s9 hE hT (fun i hi h => ?_)
    cases hc : cnd (nI 0) fR w (G p).2.2.1 (G p).2.1 i
    · exact absurd (hb2.mpr ⟨i, hi, by rw [hI i hi, h, hc]; rfl⟩) (by decide)
    · exact hF i hi h hc
/-- an input that fails at a check -/
theorem check_fin {n : Nat} {G : Pg} {w u p q i : Nat} {fO fD fI fR fT fF fE fI2 fR2 fT' fF' fE' : Nat → Int32} (hG : PW n G) (hS : SPre n G w p q fO fD fI fR fT fF fE) (hk : (G p).1 = 7) (hi : i < 256) (hR : ∀ j, j < 12 → fR2 (u * 12 + j) = fR (w * 12 + j)) (hb : inB fI w i = true) (hc : cnd (nI 0) fR w (G p).2.2.1 (G p).2.1 i = true) (hI : inB fI2 u i = true) (h : FinAt fI2 fR2 u (q ||| 2 ^ p) true fT fF fE fT' fF' fE' i) : RunAt n G i fT' fF' fE' := by
  obtain ⟨s1, s2, s3, s4, s5, s6, s7, s8, s9⟩ := hS
  unfold FinAt at h
  rw [if_pos hI, evw_congr hR] at h
  have e := co_hi hG s1 s7 hi hb (by omega)
  rw [cnd_fail hk, hc] at e
  exact run_fin e h.1 h.2.1 h.2.2
/-- a way at its end -/
theorem end_fin {n : Nat} {G : Pg} {u p q i : Nat} {fI fR fT fF fE fT' fF' fE' : Nat → Int32} (hp : n ≤ p) (hc : CO n G p q fR fI u) (hi : i < 256) (hI : inB fI u i = true) (h : FinAt fI fR u q false fT fF fE fT' fF' fE' i) : RunAt n G i fT' fF' fE' := by
  unfold FinAt at h
  rw [if_pos hI] at h
  have e := hc i hi hI
  rw [rn_end hp] at e
  exact run_fin e.symm h.1 h.2.1 h.2.2
theorem fin_keep {fI fR : Nat → Int32} {w q : Nat} {fb : Bool} {T F E T' F' E' : Nat → Int32} {i : Nat} (h : FinAt fI fR w q fb T F E T' F' E' i) (hn : inB fI w i = false) : KeepAt i T F E T' F' E' := by
  unfold FinAt at h
  rw [if_neg (by rw [hn]; decide)] at h
  exact h
end
section
/-! a way and its double, cut by a condition -/
abbrev I1_ (fI : Nat → Int32) (w : Nat) : Nat → Int32 := cpP 16 fI w (w + 1) 16
abbrev I2_ (fI fH : Nat → Int32) (w : Nat) : Nat → Int32 := kpP (cpP 16 fI w (w + 1) 16) fH (w + 1) (nI 1) 16
abbrev I3_ (fI fH : Nat → Int32) (w : Nat) : Nat → Int32 := kpP (kpP (cpP 16 fI w (w + 1) 16) fH (w + 1) (nI 1) 16) fH w (nI 0) 16
abbrev R1_ (fR : Nat → Int32) (w : Nat) : Nat → Int32 := cpP 12 fR w (w + 1) 12
theorem nI10 : ¬ nI 1 = 0 := by decide
theorem tw_I {fI fH : Nat → Int32} {w v x : Nat} (hv : v < w) (hx : x < 16) : I3_ fI fH w (v * 16 + x) = fI (v * 16 + x) := by
  unfold I3_
  rw [kpP_out (by omega) hx, kpP_out (by omega) hx, cpP_out (by omega) hx]
theorem tw_R {fR : Nat → Int32} {w v j : Nat} (hv : v ≤ w) (hj : j < 12) : R1_ fR w (v * 12 + j) = fR (v * 12 + j) := cpP_out (by omega) hj
theorem tw_R2 {fR : Nat → Int32} {w j : Nat} (hj : j < 12) : R1_ fR w ((w + 1) * 12 + j) = fR (w * 12 + j) := cpP_in hj
theorem tw_J2 {fI fH : Nat → Int32} {w : Nat} {c : Nat → Bool} (hH : ∀ i, i < 256 → bt (fH (i % 16)) (i / 16) = c i) : ∀ i, i < 256 → inB (I2_ fI fH w) (w + 1) i = (inB fI w i && c i) := by
  intro i hi
  unfold I2_
  rw [inB_kp hi, if_neg nI10, hH i hi, inB_congr (fI := fI) (v := w) (fun x hx => cpP_in hx)]
theorem tw_J3 {fI fH : Nat → Int32} {w : Nat} {c : Nat → Bool} (hH : ∀ i, i < 256 → bt (fH (i % 16)) (i / 16) = c i) : ∀ i, i < 256 → inB (I3_ fI fH w) w i = (inB fI w i && !c i) := by
  intro i hi
  unfold I3_
  rw [inB_kp hi, if_pos nI_0, hH i hi, inB_congr (fI := fI) (v := w) (fun x hx => by rw [kpP_out (by omega) hx, cpP_out (by omega) hx])]
theorem tw_J4 {fI fH : Nat → Int32} {w i : Nat} : inB (I3_ fI fH w) (w + 1) i = inB (I2_ fI fH w) (w + 1) i := inB_congr (fun x hx => kpP_out (by omega) hx)
theorem tw_H2 {fI fH : Nat → Int32} {w : Nat} (h : HB fI w) : HB (I2_ fI fH w) (w + 1) := HB.kp (h.congr (fun x hx => cpP_in hx))
theorem tw_H3 {fI fH : Nat → Int32} {w : Nat} (h : HB fI w) : HB (I3_ fI fH w) w := HB.kp (h.congr (fun x hx => by rw [kpP_out (by omega) hx, cpP_out (by omega) hx]))
theorem tw_H4 {fI fH : Nat → Int32} {w : Nat} (h : HB fI w) : HB (I3_ fI fH w) (w + 1) := (tw_H2 (fH := fH) h).congr (fun x hx => kpP_out (by omega) hx)
theorem tw_ne4 {fI fH : Nat → Int32} {w : Nat} : NE (I3_ fI fH w) (w + 1) ↔ NE (I2_ fI fH w) (w + 1) := by
  unfold NE
  constructor
  · rintro ⟨i, hi, h⟩; exact ⟨i, hi, by rw [← tw_J4]; exact h⟩
  · rintro ⟨i, hi, h⟩; exact ⟨i, hi, by rw [tw_J4]; exact h⟩
theorem tw_E {fO fD fI fR fH : Nat → Int32} {w v : Nat} {x y : Int32} (hv : v < w) : EqW fO fD fI fR (upd fO (w + 1) x) (upd fD (w + 1) y) (I3_ fI fH w) (R1_ fR w) v := ⟨upd_n (by omega), upd_n (by omega), fun _ hx => tw_I hv hx, fun _ hj => tw_R (by omega) hj⟩
theorem tw_E2 {fO fD fI fR fH : Nat → Int32} {w v : Nat} {x x' y : Int32} (hv : v < w) : EqW fO fD fI fR (upd (upd fO (w + 1) x) (w + 1) x') (upd fD (w + 1) y) (I3_ fI fH w) (R1_ fR w) v := ⟨by rw [upd_n (by omega), upd_n (by omega)], upd_n (by omega), fun _ hx => tw_I hv hx, fun _ hj => tw_R (by omega) hj⟩
/-- the other way copied back -/
theorem tw_E3 {fO fD fI fR fH : Nat → Int32} {w v : Nat} {x x' x2 y y2 : Int32} (hv : v < w) : EqW fO fD fI fR (upd (upd (upd fO (w + 1) x) (w + 1) x') w x2) (upd (upd fD (w + 1) y) w y2) (cpP 16 (I3_ fI fH w) (w + 1) w 16) (cpP 12 (R1_ fR w) (w + 1) w 12) v := ⟨by rw [upd_n (by omega), upd_n (by omega), upd_n (by omega)], by rw [upd_n (by omega), upd_n (by omega)], fun _ hx => by rw [cpP_out (by omega) hx]; exact tw_I hv hx, fun _ hj => by rw [cpP_out (by omega) hj]; exact tw_R (by omega) hj⟩
/-- the three ends of part -/
theorem part_1 {n : Nat} {G : Pg} {w p q T : Nat} {eq : Int32} {fO fD fI fR fH fT fF fE : Nat → Int32} (hG : PW n G) (hS : SPre n G w p q fO fD fI fR fT fF fE) (hk : (G p).1 = 4 ∧ eq = 0 ∨ (G p).1 = 5 ∧ eq ≠ 0) (hO : fO w = nI (p + 1)) (hD : fD w = nI (q ||| 2 ^ p)) (hH : ∀ i, i < 256 → bt (fH (i % 16)) (i / 16) = cnd eq fR w (G p).2.1 (G p).2.2.1 i) (hj : ¬ NE (I2_ fI fH w) (w + 1)) (hs : NE (I3_ fI fH w) w) : SPos n G w p (w + 1) fO fI (upd (upd fO (w + 1) (nI (p + 1))) (w + 1) (nI T)) (upd fD (w + 1) (nI (q ||| 2 ^ p))) (I3_ fI fH w) (R1_ fR w) fT fF fE := by
  have s4 := hS.2.2.2.1
  refine step1 (p1 := p + 1) (q1 := q ||| 2 ^ p) hS (fun v hv => tw_E2 hv) (wok_stay (c := cnd eq fR w (G p).2.1 (G p).2.2.1) hG hS (by omega) (by rw [upd_n (by omega), upd_n (by omega)]; exact hO) ((upd_n (by omega)).trans hD) (fun j hj => tw_R (by omega) hj) (tw_H3 s4) (tw_J3 hH) hs (fun i hi hc => ⟨st_fail_no (by omega), by rw [cnd_goes hk]; exact hc⟩)) (by omega) (fun i hi h => by rw [tw_J3 hH i hi, Bool.and_eq_true] at h; exact h.1) (fun _ _ h => h) (fun i hi h => ?_)
  cases hc : cnd eq fR w (G p).2.1 (G p).2.2.1 i
  · exact Or.inl (by rw [tw_J3 hH i hi, h, hc]; rfl)
  · exact absurd ⟨i, hi, by rw [tw_J2 hH i hi, h, hc]; rfl⟩ hj
theorem part_2 {n : Nat} {G : Pg} {w p q T : Nat} {eq : Int32} {fO fD fI fR fH fT fF fE : Nat → Int32} (hG : PW n G) (hS : SPre n G w p q fO fD fI fR fT fF fE) (hk : (G p).1 = 4 ∧ eq = 0 ∨ (G p).1 = 5 ∧ eq ≠ 0) (hN : (G p).2.2.2 = nI T) (hT : p < T) (hT2 : T ≤ 12) (hO : fO w = nI (p + 1)) (hD : fD w = nI (q ||| 2 ^ p)) (hH : ∀ i, i < 256 → bt (fH (i % 16)) (i / 16) = cnd eq fR w (G p).2.1 (G p).2.2.1 i) (hj : NE (I2_ fI fH w) (w + 1)) (hs : NE (I3_ fI fH w) w) : SPos n G w p (w + 2) fO fI (upd (upd fO (w + 1) (nI (p + 1))) (w + 1) (nI T)) (upd fD (w + 1) (nI (q ||| 2 ^ p))) (I3_ fI fH w) (R1_ fR w) fT fF fE := by
  have s4 := hS.2.2.2.1
  exact step2 (p1 := p + 1) (q1 := q ||| 2 ^ p) (p2 := T) (q2 := q ||| 2 ^ p) hS (fun v hv => tw_E2 hv) (wok_stay (c := cnd eq fR w (G p).2.1 (G p).2.2.1) hG hS (by omega) (by rw [upd_n (by omega), upd_n (by omega)]; exact hO) ((upd_n (by omega)).trans hD) (fun j hj => tw_R (by omega) hj) (tw_H3 s4) (tw_J3 hH) hs (fun i hi hc => ⟨st_fail_no (by omega), by rw [cnd_goes hk]; exact hc⟩)) (wok_jump (c := cnd eq fR w (G p).2.1 (G p).2.2.1) hG hS (by omega) (by omega) (by omega) hN hT hT2 upd_s upd_s (fun j hj => tw_R2 hj) (tw_H4 s4) (fun i hi => by rw [tw_J4]; exact tw_J2 hH i hi) (tw_ne4.mpr hj) (fun i hi hc => by rw [cnd_goes hk]; exact hc)) (by omega) hT (cnd eq fR w (G p).2.1 (G p).2.2.1) (tw_J3 hH) (fun i hi => by rw [tw_J4]; exact tw_J2 hH i hi)
theorem part_0 {n : Nat} {G : Pg} {w p q T : Nat} {eq : Int32} {fO fD fI fR fH fT fF fE : Nat → Int32} (hG : PW n G) (hS : SPre n G w p q fO fD fI fR fT fF fE) (hk : (G p).1 = 4 ∧ eq = 0 ∨ (G p).1 = 5 ∧ eq ≠ 0) (hN : (G p).2.2.2 = nI T) (hT : p < T) (hT2 : T ≤ 12) (hH : ∀ i, i < 256 → bt (fH (i % 16)) (i / 16) = cnd eq fR w (G p).2.1 (G p).2.2.1 i) (hs : ¬ NE (I3_ fI fH w) w) : SPos n G w p (w + 1) fO fI (upd (upd (upd fO (w + 1) (nI (p + 1))) (w + 1) (nI T)) w (nI T)) (upd (upd fD (w + 1) (nI (q ||| 2 ^ p))) w (nI (q ||| 2 ^ p))) (cpP 16 (I3_ fI fH w) (w + 1) w 16) (cpP 12 (R1_ fR w) (w + 1) w 12) fT fF fE := by
  have s4 := hS.2.2.2.1
  obtain ⟨i0, hi0, hb0⟩ := hS.2.2.2.2.1
  have hal : ∀ i, i < 256 → inB fI w i = true → cnd eq fR w (G p).2.1 (G p).2.2.1 i = true := by
    intro i hi h
    cases hc : cnd eq fR w (G p).2.1 (G p).2.2.1 i
    · exact absurd ⟨i, hi, by rw [tw_J3 hH i hi, h, hc]; rfl⟩ hs
    · rfl
  have hI : ∀ i, i < 256 → inB (cpP 16 (I3_ fI fH w) (w + 1) w 16) w i = (inB fI w i && cnd eq fR w (G p).2.1 (G p).2.2.1 i) := fun i hi => by
    rw [inB_congr (fI := I3_ fI fH w) (v := w + 1) (fun x hx => cpP_in hx), tw_J4]
    exact tw_J2 hH i hi
  refine step1 (p1 := T) (q1 := q ||| 2 ^ p) hS (fun v hv => tw_E3 hv) (wok_jump (c := cnd eq fR w (G p).2.1 (G p).2.2.1) hG hS (by omega) (by omega) (by omega) hN hT hT2 upd_s upd_s (fun j hj => by rw [cpP_in hj]; exact tw_R2 hj) ((tw_H4 (fH := fH) s4).congr (fun x hx => cpP_in hx)) hI ⟨i0, hi0, by rw [hI i0 hi0, hb0, hal i0 hi0 hb0]; rfl⟩ (fun i hi hc => by rw [cnd_goes hk]; exact hc)) hT (fun i hi h => by rw [hI i hi, Bool.and_eq_true] at h; exact h.1) (fun _ _ h => h) (fun i hi h => Or.inl ?_)
  rw [hI i hi, h, hal i hi h]; rfl
end
section
set_option maxHeartbeats 4000000 in
set_option maxRecDepth 100000 in
/-- check(w, a, b): one step on a way -/
theorem kX_check (l : Launch) (D : va_G) (d : Nat → ClassId) (h : Nat → Nat) (sz kn : Int32) (fK fP fN fO fD fI fR fH fT fF fE fM : Nat → Int32) (n : Nat) (G : Pg) (hG : PW n G) (w p q : Nat) (hS : SPre n G w p q fO fD fI fR fT fF fE) (hk : (G p).1 = 7) (hO : fO w = nI (p + 1)) (hD : fD w = nI (q ||| 2 ^ p)) : CV l yX0_check (ws_ yX0_check cX0_check 4 none) (rk 3) D d [.ref (h 0), .int (nI w), .int (nI (G p).2.1), .int (nI (G p).2.2.1)] (wX h d sz (nI (w + 1)) kn fK fP fN fO fD fI fR fH fT fF fE fM) (fun w' => ∃ (wy' : Nat) (fO' fD' fI' fR' fH' fT' fF' fE' : Nat → Int32), SPos n G w p wy' fO fI fO' fD' fI' fR' fT' fF' fE' ∧ w' = wX h d sz (nI wy') kn fK fP fN fO' fD' fI' fR' fH' fT' fF' fE' fM) := by
  obtain ⟨s1, s2, s3, s4, s5, s6, s7, s8, s9⟩ := id hS
  have hn12 := hG.1
  obtain ⟨g1, g2, g3, g4, g5, g6⟩ := hG.2 p s1
  have hq1 : q ||| 2 ^ p < 4096 := or_lt s3 (show p < 12 by omega)
  have hMB : RB fR w MB := s6.mono (B3_le (by omega))
  refine cv_in (cc := cX0_check) (nL := 4) (by decide) rfl (Nat.le_of_ble_eq_true rfl) ?_
  intro pg e s m ar bl me c A Q ls C I hl hret
  have hx := C.1.1
  have hb := C.1.2.1
  have hl : lv_has ls 4 [(0, .ref (h 0)), (1, .int (nI w)), (2, .int (nI ((G p).2.1))), (3, .int (nI ((G p).2.2.1)))] := hl
  refine lv_aload_n hx hb dX0_check_0 rfl (lv_at hl 0 rfl) ?_
  refine lv_iload_n hx hb dX0_check_1 rfl (lv_at hl 1 rfl) ?_
  refine lv_iload_n hx hb dX0_check_2 rfl (lv_at hl 3 rfl) ?_
  refine lv_iload_n hx hb dX0_check_3 rfl (lv_at hl 2 rfl) ?_
  refine lv_iconst (v := nI 0) hx hb dX0_check_4 (by decide) ?_
  refine cv_call (As := [.int (nI w), .int (nI ((G p).2.2.1)), .int (nI ((G p).2.1)), .int (nI 0)]) (rest := []) C I (kX_solve l D d h sz (nI (w + 1)) kn fK fP fN fO fD fI fR fH fT fF fE fM w (G p).2.2.1 (G p).2.1 (nI 0) (by omega) g3 g2 hMB) (cwV 4 C.1.2.2.2.2 (lw_V q130 q132 qs8 q21 q133) rfl rfl rfl (by decide +kernel) ⟨Nat.le_of_ble_eq_true rfl, Nat.le_of_ble_eq_true rfl⟩) rfl rfl rfl hl.1 rfl (Nat.le_of_ble_eq_true rfl) dX0_check_5 ⟨Nat.zero_le _, Nat.zero_le _⟩ (fun w' H locs hpo I => ?_)
  obtain ⟨fH1, hH1, rfl⟩ := hpo
  refine lv_aload_n hx hb dX0_check_8 rfl (lv_at hl 0 rfl) ?_
  refine lv_iload_n hx hb dX0_check_9 rfl (lv_at hl 1 rfl) ?_
  refine lv_iload_n hx hb dX0_check_10 rfl (lv_at hl 1 rfl) ?_
  refine lv_iconst (v := nI 1) hx hb dX0_check_11 (by decide) ?_
  refine n_add hx hb dX0_check_12 ?_
  refine cv_call (As := [.int (nI w), .int (nI (w + 1))]) (rest := []) C I (kX_copyWay l D d h sz (nI (w + 1)) kn fK fP fN fO fD fI fR fH1 fT fF fE fM w (w + 1) (p + 1) (q ||| 2 ^ p) (by omega) (by omega) (hO) (by omega) (hD) hq1) (cwV 2 C.1.2.2.2.2 (lw_V q146 q148 qs9 q21 q149) rfl rfl rfl (by decide +kernel) ⟨Nat.le_of_ble_eq_true rfl, Nat.le_of_ble_eq_true rfl⟩) rfl rfl rfl hl.1 rfl (Nat.le_of_ble_eq_true rfl) dX0_check_13 ⟨Nat.zero_le _, Nat.zero_le _⟩ (fun w' H locs hpo I => ?_)
  obtain rfl := hpo
  refine lv_aload_n hx hb dX0_check_16 rfl (lv_at hl 0 rfl) ?_
  refine lv_iload_n hx hb dX0_check_17 rfl (lv_at hl 1 rfl) ?_
  refine lv_iconst (v := nI 1) hx hb dX0_check_18 (by decide) ?_
  refine n_add hx hb dX0_check_19 ?_
  refine lv_iconst (v := nI 1) hx hb dX0_check_20 (by decide) ?_
  refine ct_call (As := [.int (nI (w + 1)), .int (nI 1)]) (rest := []) C I (kX_keep l D d h sz (nI (w + 1)) kn fK fP fN (upd fO (w + 1) (nI (p + 1))) (upd fD (w + 1) (nI (q ||| 2 ^ p))) (cpP 16 fI w (w + 1) 16) (cpP 12 fR w (w + 1) 12) fH1 fT fF fE fM (w + 1) (nI 1) (by omega)) (cwV 2 C.1.2.2.2.2 (lw_V q150 q152 qs10 q21 q153) rfl rfl rfl (by decide +kernel) ⟨Nat.le_of_ble_eq_true rfl, Nat.le_of_ble_eq_true rfl⟩) rfl rfl rfl hl.1 rfl (Nat.le_of_ble_eq_true rfl) dX0_check_21 ⟨Nat.zero_le _, Nat.zero_le _⟩ (fun rb1 w' H locs hpo I => ?_)
  obtain ⟨b1, rfl, hb1, rfl⟩ := hpo
  refine lv_if_eq (tgt := 35) hx hb dX0_check_24 (by decide) (fun c_24 => ?_) (fun c_24 => ?_)
  · refine lv_aload_n hx hb dX0_check_35 rfl (lv_at hl 0 rfl) ?_
    refine lv_iload_n hx hb dX0_check_36 rfl (lv_at hl 1 rfl) ?_
    refine lv_iconst (v := nI 0) hx hb dX0_check_37 (by decide) ?_
    refine ct_call (As := [.int (nI w), .int (nI 0)]) (rest := []) C I (kX_keep l D d h sz (nI (w + 1)) kn fK fP fN (upd fO (w + 1) (nI (p + 1))) (upd fD (w + 1) (nI (q ||| 2 ^ p))) (kpP (cpP 16 fI w (w + 1) 16) fH1 (w + 1) (nI 1) 16) (cpP 12 fR w (w + 1) 12) fH1 fT fF fE fM w (nI 0) (by omega)) (cwV 2 C.1.2.2.2.2 (lw_V q150 q152 qs10 q21 q153) rfl rfl rfl (by decide +kernel) ⟨Nat.le_of_ble_eq_true rfl, Nat.le_of_ble_eq_true rfl⟩) rfl rfl rfl hl.1 rfl (Nat.le_of_ble_eq_true rfl) dX0_check_38 ⟨Nat.zero_le _, Nat.zero_le _⟩ (fun rb2 w' H locs hpo I => ?_)
    obtain ⟨b2, rfl, hb2, rfl⟩ := hpo
    refine lv_if_ne (tgt := 54) hx hb dX0_check_41 (by decide) (fun c_41 => ?_) (fun c_41 => ?_)
    · skip
      exact hret _ _ _ _ _ I (⟨_, _, _, _, _, _, _, _, _, out_check (b2 := b2) hG hS hk (fun v hv => tw_E hv) ((upd_n (by omega)).trans hO) ((upd_n (by omega)).trans hD) (fun j hj => tw_R (by omega) hj) (tw_H3 s4) (tw_J3 hH1) (fun _ _ hr => hr) (fun i hi hb hc => absurd (hb1.mpr ((ne_iff (tw_H2 s4)).mpr ⟨i, hi, by rw [tw_J2 hH1 i hi, hb, hc]; rfl⟩)) (by rw [bI_0.mp c_24]; decide)) (hb2.trans (ne_iff (tw_H3 s4))), by rw [bI_n c_41]; rfl⟩) dX0_check_54
    · skip
      refine lv_aload_n hx hb dX0_check_44 rfl (lv_at hl 0 rfl) ?_
      refine lv_dup hx hb dX0_check_45 rfl ?_
      refine x_get C I rfl 4 (by decide) q35 rfl dX0_check_46 ?_
      refine lv_iconst (v := nI 1) hx hb dX0_check_49 (by decide) ?_
      refine n_sub hx hb dX0_check_50 (by omega) ?_
      refine x_put (ws' := wX h d sz (nI ((w + 1) - 1)) kn fK fP fN (upd fO (w + 1) (nI (p + 1))) (upd fD (w + 1) (nI (q ||| 2 ^ p))) (kpP (kpP (cpP 16 fI w (w + 1) 16) fH1 (w + 1) (nI 1) 16) fH1 w (nI 0) 16) (cpP 12 fR w (w + 1) 12) fH1 fT fF fE fM) (ty := .int) C I rfl 4 (by decide) q35 rfl (by decide +kernel) rfl rfl (Nat.le_of_ble_eq_true rfl) rfl dX0_check_51 (fun H locs I => ?_)
      exact hret _ _ _ _ _ I (⟨_, _, _, _, _, _, _, _, _, out_check (b2 := b2) hG hS hk (fun v hv => tw_E hv) ((upd_n (by omega)).trans hO) ((upd_n (by omega)).trans hD) (fun j hj => tw_R (by omega) hj) (tw_H3 s4) (tw_J3 hH1) (fun _ _ hr => hr) (fun i hi hb hc => absurd (hb1.mpr ((ne_iff (tw_H2 s4)).mpr ⟨i, hi, by rw [tw_J2 hH1 i hi, hb, hc]; rfl⟩)) (by rw [bI_0.mp c_24]; decide)) (hb2.trans (ne_iff (tw_H3 s4))), by rw [bI_0.mp c_41]; rfl⟩) dX0_check_54
  · refine lv_aload_n hx hb dX0_check_27 rfl (lv_at hl 0 rfl) ?_
    refine lv_iload_n hx hb dX0_check_28 rfl (lv_at hl 1 rfl) ?_
    refine lv_iconst (v := nI 1) hx hb dX0_check_29 (by decide) ?_
    refine n_add hx hb dX0_check_30 ?_
    refine lv_iconst (v := nI 1) hx hb dX0_check_31 (by decide) ?_
    refine cv_call (As := [.int (nI (w + 1)), .int (nI 1)]) (rest := []) C I (kX_finish l D d h sz (nI (w + 1)) kn fK fP fN (upd fO (w + 1) (nI (p + 1))) (upd fD (w + 1) (nI (q ||| 2 ^ p))) (kpP (cpP 16 fI w (w + 1) 16) fH1 (w + 1) (nI 1) 16) (cpP 12 fR w (w + 1) 12) fH1 fT fF fE fM (w + 1) (q ||| 2 ^ p) true (by omega) upd_s hq1) (cwV 2 C.1.2.2.2.2 (lw_V q114 q116 qs4 q21 q117) rfl rfl rfl (by decide +kernel) ⟨Nat.le_of_ble_eq_true rfl, Nat.le_of_ble_eq_true rfl⟩) rfl rfl rfl hl.1 rfl (Nat.le_of_ble_eq_true rfl) dX0_check_32 ⟨Nat.zero_le _, Nat.zero_le _⟩ (fun w' H locs hpo I => ?_)
    obtain ⟨T1, F1, E1, hFin, rfl⟩ := hpo
    refine lv_aload_n hx hb dX0_check_35 rfl (lv_at hl 0 rfl) ?_
    refine lv_iload_n hx hb dX0_check_36 rfl (lv_at hl 1 rfl) ?_
    refine lv_iconst (v := nI 0) hx hb dX0_check_37 (by decide) ?_
    refine ct_call (As := [.int (nI w), .int (nI 0)]) (rest := []) C I (kX_keep l D d h sz (nI (w + 1)) kn fK fP fN (upd fO (w + 1) (nI (p + 1))) (upd fD (w + 1) (nI (q ||| 2 ^ p))) (kpP (cpP 16 fI w (w + 1) 16) fH1 (w + 1) (nI 1) 16) (cpP 12 fR w (w + 1) 12) fH1 T1 F1 E1 fM w (nI 0) (by omega)) (cwV 2 C.1.2.2.2.2 (lw_V q150 q152 qs10 q21 q153) rfl rfl rfl (by decide +kernel) ⟨Nat.le_of_ble_eq_true rfl, Nat.le_of_ble_eq_true rfl⟩) rfl rfl rfl hl.1 rfl (Nat.le_of_ble_eq_true rfl) dX0_check_38 ⟨Nat.zero_le _, Nat.zero_le _⟩ (fun rb2 w' H locs hpo I => ?_)
    obtain ⟨b2, rfl, hb2, rfl⟩ := hpo
    refine lv_if_ne (tgt := 54) hx hb dX0_check_41 (by decide) (fun c_41 => ?_) (fun c_41 => ?_)
    · skip
      exact hret _ _ _ _ _ I (⟨_, _, _, _, _, _, _, _, _, out_check (b2 := b2) hG hS hk (fun v hv => tw_E hv) ((upd_n (by omega)).trans hO) ((upd_n (by omega)).trans hD) (fun j hj => tw_R (by omega) hj) (tw_H3 s4) (tw_J3 hH1) (fun i hi hr => by cases hz : inB (I2_ fI fH1 w) (w + 1) i; exact hr.keep (fin_keep (hFin i hi) hz); have hz2 := hz; rw [tw_J2 hH1 i hi, Bool.and_eq_true] at hz2; exact check_fin hG hS hk hi (fun j hj => tw_R2 hj) hz2.1 hz2.2 hz (hFin i hi)) (fun i hi hb hc => check_fin hG hS hk hi (fun j hj => tw_R2 hj) hb hc (by rw [tw_J2 hH1 i hi, hb, hc]; rfl) (hFin i hi)) (hb2.trans (ne_iff (tw_H3 s4))), by rw [bI_n c_41]; rfl⟩) dX0_check_54
    · skip
      refine lv_aload_n hx hb dX0_check_44 rfl (lv_at hl 0 rfl) ?_
      refine lv_dup hx hb dX0_check_45 rfl ?_
      refine x_get C I rfl 4 (by decide) q35 rfl dX0_check_46 ?_
      refine lv_iconst (v := nI 1) hx hb dX0_check_49 (by decide) ?_
      refine n_sub hx hb dX0_check_50 (by omega) ?_
      refine x_put (ws' := wX h d sz (nI ((w + 1) - 1)) kn fK fP fN (upd fO (w + 1) (nI (p + 1))) (upd fD (w + 1) (nI (q ||| 2 ^ p))) (kpP (kpP (cpP 16 fI w (w + 1) 16) fH1 (w + 1) (nI 1) 16) fH1 w (nI 0) 16) (cpP 12 fR w (w + 1) 12) fH1 T1 F1 E1 fM) (ty := .int) C I rfl 4 (by decide) q35 rfl (by decide +kernel) rfl rfl (Nat.le_of_ble_eq_true rfl) rfl dX0_check_51 (fun H locs I => ?_)
      exact hret _ _ _ _ _ I (⟨_, _, _, _, _, _, _, _, _, out_check (b2 := b2) hG hS hk (fun v hv => tw_E hv) ((upd_n (by omega)).trans hO) ((upd_n (by omega)).trans hD) (fun j hj => tw_R (by omega) hj) (tw_H3 s4) (tw_J3 hH1) (fun i hi hr => by cases hz : inB (I2_ fI fH1 w) (w + 1) i; exact hr.keep (fin_keep (hFin i hi) hz); have hz2 := hz; rw [tw_J2 hH1 i hi, Bool.and_eq_true] at hz2; exact check_fin hG hS hk hi (fun j hj => tw_R2 hj) hz2.1 hz2.2 hz (hFin i hi)) (fun i hi hb hc => check_fin hG hS hk hi (fun j hj => tw_R2 hj) hb hc (by rw [tw_J2 hH1 i hi, hb, hc]; rfl) (hFin i hi)) (hb2.trans (ne_iff (tw_H3 s4))), by rw [bI_0.mp c_41]; rfl⟩) dX0_check_54
set_option maxHeartbeats 4000000 in
set_option maxRecDepth 100000 in
/-- part(w, p, a, b, equal): one step on a way -/
theorem kX_part (l : Launch) (D : va_G) (d : Nat → ClassId) (h : Nat → Nat) (sz kn : Int32) (fK fP fN fO fD fI fR fH fT fF fE fM : Nat → Int32) (n : Nat) (G : Pg) (hG : PW n G) (w p q : Nat) (hS : SPre n G w p q fO fD fI fR fT fF fE) (T : Nat) (eq : Int32) (hk : (G p).1 = 4 ∧ eq = 0 ∨ (G p).1 = 5 ∧ eq ≠ 0) (hN : (G p).2.2.2 = nI T) (hfN : fN p = nI T) (hT : p < T) (hT2 : T ≤ 12) (hO : fO w = nI (p + 1)) (hD : fD w = nI (q ||| 2 ^ p)) : CV l yX0_part (ws_ yX0_part cX0_part 8 none) (rk 3) D d [.ref (h 0), .int (nI w), .int (nI p), .int (nI (G p).2.1), .int (nI (G p).2.2.1), .int eq] (wX h d sz (nI (w + 1)) kn fK fP fN fO fD fI fR fH fT fF fE fM) (fun w' => ∃ (wy' : Nat) (fO' fD' fI' fR' fH' fT' fF' fE' : Nat → Int32), SPos n G w p wy' fO fI fO' fD' fI' fR' fT' fF' fE' ∧ w' = wX h d sz (nI wy') kn fK fP fN fO' fD' fI' fR' fH' fT' fF' fE' fM) := by
  obtain ⟨s1, s2, s3, s4, s5, s6, s7, s8, s9⟩ := id hS
  have hn12 := hG.1
  obtain ⟨g1, g2, g3, g4, g5, g6⟩ := hG.2 p s1
  have hq1 : q ||| 2 ^ p < 4096 := or_lt s3 (show p < 12 by omega)
  have hMB : RB fR w MB := s6.mono (B3_le (by omega))
  refine cv_in (cc := cX0_part) (nL := 8) (by decide) rfl (Nat.le_of_ble_eq_true rfl) ?_
  intro pg e s m ar bl me c A Q ls C I hl hret
  have hx := C.1.1
  have hb := C.1.2.1
  have hl : lv_has ls 8 [(0, .ref (h 0)), (1, .int (nI w)), (2, .int (nI p)), (3, .int (nI ((G p).2.1))), (4, .int (nI ((G p).2.2.1))), (5, .int eq)] := hl
  refine lv_aload_n hx hb dX0_part_0 rfl (lv_at hl 0 rfl) ?_
  refine lv_iload_n hx hb dX0_part_1 rfl (lv_at hl 1 rfl) ?_
  refine lv_iload_n hx hb dX0_part_2 rfl (lv_at hl 3 rfl) ?_
  refine lv_iload hx hb dX0_part_3 (lv_at hl 4 rfl) ?_
  refine lv_iload hx hb dX0_part_5 (lv_at hl 5 rfl) ?_
  refine cv_call (As := [.int (nI w), .int (nI ((G p).2.1)), .int (nI ((G p).2.2.1)), .int eq]) (rest := []) C I (kX_solve l D d h sz (nI (w + 1)) kn fK fP fN fO fD fI fR fH fT fF fE fM w (G p).2.1 (G p).2.2.1 eq (by omega) g2 g3 hMB) (cwV 4 C.1.2.2.2.2 (lw_V q130 q132 qs8 q21 q133) rfl rfl rfl (by decide +kernel) ⟨Nat.le_of_ble_eq_true rfl, Nat.le_of_ble_eq_true rfl⟩) rfl rfl rfl hl.1 rfl (Nat.le_of_ble_eq_true rfl) dX0_part_7 ⟨Nat.zero_le _, Nat.zero_le _⟩ (fun w' H locs hpo I => ?_)
  obtain ⟨fH1, hH1, rfl⟩ := hpo
  refine lv_aload_n hx hb dX0_part_10 rfl (lv_at hl 0 rfl) ?_
  refine lv_iload_n hx hb dX0_part_11 rfl (lv_at hl 1 rfl) ?_
  refine lv_iload_n hx hb dX0_part_12 rfl (lv_at hl 1 rfl) ?_
  refine lv_iconst (v := nI 1) hx hb dX0_part_13 (by decide) ?_
  refine n_add hx hb dX0_part_14 ?_
  refine cv_call (As := [.int (nI w), .int (nI (w + 1))]) (rest := []) C I (kX_copyWay l D d h sz (nI (w + 1)) kn fK fP fN fO fD fI fR fH1 fT fF fE fM w (w + 1) (p + 1) (q ||| 2 ^ p) (by omega) (by omega) (hO) (by omega) (hD) hq1) (cwV 2 C.1.2.2.2.2 (lw_V q146 q148 qs9 q21 q149) rfl rfl rfl (by decide +kernel) ⟨Nat.le_of_ble_eq_true rfl, Nat.le_of_ble_eq_true rfl⟩) rfl rfl rfl hl.1 rfl (Nat.le_of_ble_eq_true rfl) dX0_part_15 ⟨Nat.zero_le _, Nat.zero_le _⟩ (fun w' H locs hpo I => ?_)
  obtain rfl := hpo
  refine lv_aload_n hx hb dX0_part_18 rfl (lv_at hl 0 rfl) ?_
  refine x_get C I rfl 5 (by decide) q36 rfl dX0_part_19 ?_
  refine lv_iload_n hx hb dX0_part_22 rfl (lv_at hl 1 rfl) ?_
  refine lv_iconst (v := nI 1) hx hb dX0_part_23 (by decide) ?_
  refine n_add hx hb dX0_part_24 ?_
  refine lv_aload_n hx hb dX0_part_25 rfl (lv_at hl 0 rfl) ?_
  refine x_get C I rfl 2 (by decide) q33 rfl dX0_part_26 ?_
  refine lv_iload_n hx hb dX0_part_29 rfl (lv_at hl 2 rfl) ?_
  refine i_bld C I 3 rfl (by omega) dX0_part_30 ?_
  refine lv_topi (fun z_1 ez_1 => ?_)
  obtain rfl : z_1 = nI T := ez_1.trans (hfN)
  refine i_bst (ws' := wX h d sz (nI (w + 1)) kn fK fP fN (upd (upd fO (w + 1) (nI (p + 1))) (w + 1) (nI T)) (upd fD (w + 1) (nI (q ||| 2 ^ p))) (cpP 16 fI w (w + 1) 16) (cpP 12 fR w (w + 1) 12) fH1 fT fF fE fM) (v := (nI T)) C I 4 rfl (by omega) (i8 (by omega)) rfl dX0_part_31 (fun H locs I => ?_)
  refine lv_aload_n hx hb dX0_part_32 rfl (lv_at hl 0 rfl) ?_
  refine lv_iload_n hx hb dX0_part_33 rfl (lv_at hl 1 rfl) ?_
  refine lv_iconst (v := nI 1) hx hb dX0_part_34 (by decide) ?_
  refine n_add hx hb dX0_part_35 ?_
  refine lv_iconst (v := nI 1) hx hb dX0_part_36 (by decide) ?_
  refine ct_call (As := [.int (nI (w + 1)), .int (nI 1)]) (rest := []) C I (kX_keep l D d h sz (nI (w + 1)) kn fK fP fN (upd (upd fO (w + 1) (nI (p + 1))) (w + 1) (nI T)) (upd fD (w + 1) (nI (q ||| 2 ^ p))) (cpP 16 fI w (w + 1) 16) (cpP 12 fR w (w + 1) 12) fH1 fT fF fE fM (w + 1) (nI 1) (by omega)) (cwV 2 C.1.2.2.2.2 (lw_V q150 q152 qs10 q21 q153) rfl rfl rfl (by decide +kernel) ⟨Nat.le_of_ble_eq_true rfl, Nat.le_of_ble_eq_true rfl⟩) rfl rfl rfl hl.1 rfl (Nat.le_of_ble_eq_true rfl) dX0_part_37 ⟨Nat.zero_le _, Nat.zero_le _⟩ (fun rb1 w' H locs hpo I => ?_)
  obtain ⟨b1, rfl, hb1, rfl⟩ := hpo
  refine lv_istore (lv' := [(6, .int (bI b1)), (0, .ref (h 0)), (1, .int (nI w)), (2, .int (nI p)), (3, .int (nI ((G p).2.1))), (4, .int (nI ((G p).2.2.1))), (5, .int eq)]) hx hb dX0_part_40 hl (by decide) rfl (fun ls hl => ?_)
  refine lv_aload_n hx hb dX0_part_42 rfl (lv_at hl 1 rfl) ?_
  refine lv_iload_n hx hb dX0_part_43 rfl (lv_at hl 2 rfl) ?_
  refine lv_iconst (v := nI 0) hx hb dX0_part_44 (by decide) ?_
  refine ct_call (As := [.int (nI w), .int (nI 0)]) (rest := []) C I (kX_keep l D d h sz (nI (w + 1)) kn fK fP fN (upd (upd fO (w + 1) (nI (p + 1))) (w + 1) (nI T)) (upd fD (w + 1) (nI (q ||| 2 ^ p))) (kpP (cpP 16 fI w (w + 1) 16) fH1 (w + 1) (nI 1) 16) (cpP 12 fR w (w + 1) 12) fH1 fT fF fE fM w (nI 0) (by omega)) (cwV 2 C.1.2.2.2.2 (lw_V q150 q152 qs10 q21 q153) rfl rfl rfl (by decide +kernel) ⟨Nat.le_of_ble_eq_true rfl, Nat.le_of_ble_eq_true rfl⟩) rfl rfl rfl hl.1 rfl (Nat.le_of_ble_eq_true rfl) dX0_part_45 ⟨Nat.zero_le _, Nat.zero_le _⟩ (fun rb2 w' H locs hpo I => ?_)
  obtain ⟨b2, rfl, hb2, rfl⟩ := hpo
  refine lv_istore (lv' := [(7, .int (bI b2)), (6, .int (bI b1)), (0, .ref (h 0)), (1, .int (nI w)), (2, .int (nI p)), (3, .int (nI ((G p).2.1))), (4, .int (nI ((G p).2.2.1))), (5, .int eq)]) hx hb dX0_part_48 hl (by decide) rfl (fun ls hl => ?_)
  refine lv_iload hx hb dX0_part_50 (lv_at hl 0 rfl) ?_
  refine lv_if_ne (tgt := 66) hx hb dX0_part_52 (by decide) (fun c_52 => ?_) (fun c_52 => ?_)
  · refine lv_iload hx hb dX0_part_66 (lv_at hl 1 rfl) ?_
    refine lv_if_eq (tgt := 81) hx hb dX0_part_68 (by decide) (fun c_68 => ?_) (fun c_68 => ?_)
    · skip
      exact hret _ _ _ _ _ I (⟨_, _, _, _, _, _, _, _, _, part_1 hG hS hk hO hD hH1 (fun z => by have := (hb1.trans (ne_iff (tw_H2 s4))).mpr z; rw [bI_0.mp c_68] at this; cases this) ((hb2.trans (ne_iff (tw_H3 s4))).mp (bI_n c_52)), rfl⟩) dX0_part_81
    · skip
      refine lv_aload_n hx hb dX0_part_71 rfl (lv_at hl 2 rfl) ?_
      refine lv_dup hx hb dX0_part_72 rfl ?_
      refine x_get C I rfl 4 (by decide) q35 rfl dX0_part_73 ?_
      refine lv_iconst (v := nI 1) hx hb dX0_part_76 (by decide) ?_
      refine n_add hx hb dX0_part_77 ?_
      refine x_put (ws' := wX h d sz (nI (w + 1 + 1)) kn fK fP fN (upd (upd fO (w + 1) (nI (p + 1))) (w + 1) (nI T)) (upd fD (w + 1) (nI (q ||| 2 ^ p))) (kpP (kpP (cpP 16 fI w (w + 1) 16) fH1 (w + 1) (nI 1) 16) fH1 w (nI 0) 16) (cpP 12 fR w (w + 1) 12) fH1 fT fF fE fM) (ty := .int) C I rfl 4 (by decide) q35 rfl (by decide +kernel) rfl rfl (Nat.le_of_ble_eq_true rfl) rfl dX0_part_78 (fun H locs I => ?_)
      exact hret _ _ _ _ _ I (⟨_, _, _, _, _, _, _, _, _, part_2 hG hS hk hN hT hT2 hO hD hH1 ((hb1.trans (ne_iff (tw_H2 s4))).mp (bI_n c_68)) ((hb2.trans (ne_iff (tw_H3 s4))).mp (bI_n c_52)), rfl⟩) dX0_part_81
  · refine lv_aload_n hx hb dX0_part_55 rfl (lv_at hl 2 rfl) ?_
    refine lv_iload_n hx hb dX0_part_56 rfl (lv_at hl 3 rfl) ?_
    refine lv_iconst (v := nI 1) hx hb dX0_part_57 (by decide) ?_
    refine n_add hx hb dX0_part_58 ?_
    refine lv_iload_n hx hb dX0_part_59 rfl (lv_at hl 3 rfl) ?_
    refine cv_call (As := [.int (nI (w + 1)), .int (nI w)]) (rest := []) C I (kX_copyWay l D d h sz (nI (w + 1)) kn fK fP fN (upd (upd fO (w + 1) (nI (p + 1))) (w + 1) (nI T)) (upd fD (w + 1) (nI (q ||| 2 ^ p))) (kpP (kpP (cpP 16 fI w (w + 1) 16) fH1 (w + 1) (nI 1) 16) fH1 w (nI 0) 16) (cpP 12 fR w (w + 1) 12) fH1 fT fF fE fM (w + 1) w T (q ||| 2 ^ p) (by omega) (by omega) (upd_s) (by omega) (upd_s) hq1) (cwV 2 C.1.2.2.2.2 (lw_V q146 q148 qs9 q21 q149) rfl rfl rfl (by decide +kernel) ⟨Nat.le_of_ble_eq_true rfl, Nat.le_of_ble_eq_true rfl⟩) rfl rfl rfl hl.1 rfl (Nat.le_of_ble_eq_true rfl) dX0_part_60 ⟨Nat.zero_le _, Nat.zero_le _⟩ (fun w' H locs hpo I => ?_)
    obtain rfl := hpo
    refine lv_goto (tgt := 81) hx hb dX0_part_63 (by decide) ?_
    exact hret _ _ _ _ _ I (⟨_, _, _, _, _, _, _, _, _, part_0 hG hS hk hN hT hT2 hH1 (fun z => by have := (hb2.trans (ne_iff (tw_H3 s4))).mpr z; rw [bI_0.mp c_52] at this; cases this), rfl⟩) dX0_part_81
end
section
/-! follow and learn, in our words -/
theorem pr_a {a b : Nat} (ha : a ≤ 3) (hb : b ≤ 3) : nI (a + 4 * b) &&& nI 3 = nI a := by
  rw [n_and3 (by omega), show (a + 4 * b) % 4 = a by omega]
theorem pr_b {a b : Nat} (ha : a ≤ 3) (hb : b ≤ 3) : nI (a + 4 * b) >>> (nI 2 &&& 31) = nI b := by
  rw [n_shr2 (by omega), show (a + 4 * b) / 4 = b by omega]
theorem SPre.up1 {n : Nat} {G : Pg} {w p q : Nat} {x y : Int32} {fO fD fI fR fT fF fE : Nat → Int32} (h : SPre n G w p q fO fD fI fR fT fF fE) : SPre n G w p q (upd fO w x) (upd fD w y) fI fR fT fF fE := by
  obtain ⟨s1, s2, s3, s4, s5, s6, s7, s8, s9⟩ := h
  refine ⟨s1, s2, s3, s4, s5, s6, s7, fun v hv => ?_, s9⟩
  obtain ⟨p, q, h⟩ := s8 v hv
  exact ⟨p, q, (eqw_u hv (fun _ _ => rfl) (fun _ _ => rfl)).wok h⟩
theorem SPos.up1 {n : Nat} {G : Pg} {w p wy : Nat} {x : Int32} {fO fI fO' fD' fI' fR' fT' fF' fE' : Nat → Int32} (h : SPos n G w p wy (upd fO w x) fI fO' fD' fI' fR' fT' fF' fE') : SPos n G w p wy fO fI fO' fD' fI' fR' fT' fF' fE' := by
  refine ⟨h.1, ?_⟩
  have e : sumN (trm (upd fO w x) fI) w = sumN (trm fO fI) w := sumN_congr w (fun v hv => by unfold trm; rw [upd_n (by omega)])
  rw [← e]
  exact h.2
theorem num_ok {n : Nat} {G : Pg} {p : Nat} {fN : Nat → Int32} (h : fN p = (G p).2.2.2.toInt8.toInt32) (g4 : (G p).1 = 0 → -20 ≤ (G p).2.2.2.toInt ∧ (G p).2.2.2.toInt ≤ 20) (g5 : (G p).1 = 3 → -3 ≤ (G p).2.2.2.toInt ∧ (G p).2.2.2.toInt ≤ 3) : (G p).1 = 0 ∨ (G p).1 = 3 → fN p = (G p).2.2.2 := by
  intro e
  rw [h]
  refine i8i ?_
  rcases e with e | e
  · have := g4 e; omega
  · have := g5 e; omega
theorem LI.pre {n : Nat} {G : Pg} {w p q : Nat} {fO fD fI fR fT fF fE : Nat → Int32} (h : LI n G (w + 1) fO fD fI fR fT fF fE) (hW : WOK n G fO fD fI fR w p q) (hp : p < n) : SPre n G w p q fO fD fI fR fT fF fE := by
  obtain ⟨h1, h2, h3, h4, h5, h6, h7, h8, h9⟩ := hW
  exact ⟨hp, h4, h5, h6, h7, h8, h9, fun v hv => h.1 v (by omega), h.2⟩
theorem LI.wy {n : Nat} {G : Pg} {wy : Nat} {fO fD fI fR fT fF fE : Nat → Int32} (h : LI n G wy fO fD fI fR fT fF fE) : wy ≤ 13 := by
  by_cases e : wy = 0
  · omega
  · obtain ⟨p, q, hW⟩ := h.1 (wy - 1) (by omega)
    have := hW.2.2.1
    have := hW.2.2.2.1
    omega
theorem LI.ends {n : Nat} {G : Pg} {fO fD fI fR fT fF fE : Nat → Int32} (h : LI n G 0 fO fD fI fR fT fF fE) : KN n G fT fF fE := by
  intro i hi
  rcases h.2 i hi with q | ⟨v, hv, _⟩
  · exact q
  · omega
theorem LI.top {n : Nat} {G : Pg} {w p q : Nat} {fO fD fI fR : Nat → Int32} (hW : WOK n G fO fD fI fR w p q) : sumN (trm fO fI) (w + 1) = sumN (trm fO fI) w + cnt fI w * (13 - p) := by
  have := hW.2.2.1
  simp only [sumN]
  unfold trm
  rw [hW.1, nI_clamp (by omega)]
theorem LI.zero {n : Nat} {G : Pg} {wy : Nat} {fO fD fI fR fT fF fE : Nat → Int32} (h : LI n G wy fO fD fI fR fT fF fE) (h0 : sumN (trm fO fI) wy = 0) : wy = 0 := by
  by_cases e : wy = 0
  · exact e
  · obtain ⟨w, rfl⟩ : ∃ w, wy = w + 1 := ⟨wy - 1, by omega⟩
    obtain ⟨p, q, hW⟩ := h.1 w (by omega)
    rw [LI.top hW] at h0
    have h1 := cnt_pos hW.2.2.2.2.2.2.1
    have h2 : 0 < cnt fI w * (13 - p) := Nat.mul_pos h1 (by have := hW.2.2.1; omega)
    omega
theorem ev_init {f : Nat → Int32} {i : Nat} (hf : ∀ j, j < 12 → f j = 0) : evw (upd (upd f 0 (nI 1)) 4 (nI 1)) 0 i = r0 i := by
  have o : ∀ j, j < 12 → j ≠ 0 → j ≠ 4 → upd (upd f 0 (nI 1)) 4 (nI 1) j = 0 := fun j h1 h2 h3 => by rw [upd_n h3, upd_n h2, hf j h1]
  have e0 : upd (upd f 0 (nI 1)) 4 (nI 1) 0 = 1 := by rw [upd_n (by omega), upd_s]; rfl
  have e4 : upd (upd f 0 (nI 1)) 4 (nI 1) 4 = 1 := by rw [upd_s]; rfl
  funext r
  match r with
  | 0 =>
    show upd (upd f 0 (nI 1)) 4 (nI 1) 0 * nI (i % 16) + upd (upd f 0 (nI 1)) 4 (nI 1) 1 * nI (i / 16) + upd (upd f 0 (nI 1)) 4 (nI 1) 2 = nI (i % 16)
    rw [e0, o 1 (by omega) (by omega) (by omega), o 2 (by omega) (by omega) (by omega)]
    simp
  | 1 =>
    show upd (upd f 0 (nI 1)) 4 (nI 1) 3 * nI (i % 16) + upd (upd f 0 (nI 1)) 4 (nI 1) 4 * nI (i / 16) + upd (upd f 0 (nI 1)) 4 (nI 1) 5 = nI (i / 16)
    rw [e4, o 3 (by omega) (by omega) (by omega), o 5 (by omega) (by omega) (by omega)]
    simp
  | 2 =>
    show upd (upd f 0 (nI 1)) 4 (nI 1) 6 * nI (i % 16) + upd (upd f 0 (nI 1)) 4 (nI 1) 7 * nI (i / 16) + upd (upd f 0 (nI 1)) 4 (nI 1) 8 = 0
    rw [o 6 (by omega) (by omega) (by omega), o 7 (by omega) (by omega) (by omega), o 8 (by omega) (by omega) (by omega)]
    simp
  | 3 =>
    show upd (upd f 0 (nI 1)) 4 (nI 1) 9 * nI (i % 16) + upd (upd f 0 (nI 1)) 4 (nI 1) 10 * nI (i / 16) + upd (upd f 0 (nI 1)) 4 (nI 1) 11 = 0
    rw [o 9 (by omega) (by omega) (by omega), o 10 (by omega) (by omega) (by omega), o 11 (by omega) (by omega) (by omega)]
    simp
  | r + 4 =>
    have h1 : evw (upd (upd f 0 (nI 1)) 4 (nI 1)) 0 i (r + 4) = 0 := if_neg (by omega)
    have h2 : r0 i (r + 4) = 0 := by
      unfold r0
      rw [if_neg (by omega), if_neg (by omega)]
    rw [h1, h2]
theorem inB_init {g : Nat → Int32} {i : Nat} (hi : i < 256) (hg : ∀ x, x < 16 → g x = 65535) : inB g 0 i = true := by
  unfold inB
  rw [Nat.zero_mul, Nat.zero_add, hg _ (by omega), b_65535]
  exact decide_eq_true (by omega)
theorem LI.init {n : Nat} {G : Pg} {f g fO fD fT fF fE : Nat → Int32} (hf : ∀ j, j < 12 → f j = 0) (hg : ∀ x, x < 16 → g x = 65535) : LI n G 1 (upd fO 0 (nI 0)) (upd fD 0 (nI 0)) g (upd (upd f 0 (nI 1)) 4 (nI 1)) fT fF fE ∧ 0 + sumN (trm (upd fO 0 (nI 0)) g) 1 ≤ 3584 := by
  have hW : WOK n G (upd fO 0 (nI 0)) (upd fD 0 (nI 0)) g (upd (upd f 0 (nI 1)) 4 (nI 1)) 0 0 0 := by
    refine ⟨upd_s, upd_s, by omega, by omega, by decide, fun x hx y hy => ?_, ⟨0, by omega, inB_init (by omega) hg⟩, fun j hj => ?_, fun i hi _ => ?_⟩
    · rw [Nat.zero_mul, Nat.zero_add, hg x hx, b_65535]
      exact decide_eq_false (by omega)
    · have h20 := B3_20 0
      rw [Nat.zero_mul, Nat.zero_add]
      by_cases e4 : j = 4
      · rw [e4, upd_s, ti_1]; omega
      · rw [upd_n e4]
        by_cases e0 : j = 0
        · rw [e0, upd_s, ti_1]; omega
        · rw [upd_n e0, hf j hj, i_0]; omega
    · rw [ev_init hf]; rfl
  refine ⟨⟨fun v hv => ?_, fun i hi => Or.inr ⟨0, by omega, inB_init hi hg⟩⟩, ?_⟩
  · obtain rfl : v = 0 := by omega
    exact ⟨0, 0, hW⟩
  · rw [LI.top hW]
    have h1 : cnt g 0 ≤ 1 * 256 := sumN_le (fun i => b1_le _) 256
    simp only [sumN]
    omega
theorem ifle_0 {k : Nat} (hk : k < 2 ^ 31) (h : nI k ≤ 0) : k = 0 := by
  have := (nI_leI hk (b := 0) (by decide)).mp (by rw [nI_0]; exact h)
  omega
theorem ifle_n {k : Nat} (h : ¬ nI k ≤ 0) : ∃ w, k = w + 1 := by
  cases k with
  | zero => exact absurd (by rw [nI_0]; decide) h
  | succ w => exact ⟨w, rfl⟩
theorem end_keep {n : Nat} {G : Pg} {w p q i : Nat} {fI fR fT fF fE fT' fF' fE' : Nat → Int32} (hp : n ≤ p) (hc : CO n G p q fR fI w) (hi : i < 256) (h : FinAt fI fR w q false fT fF fE fT' fF' fE' i) (hr : RunAt n G i fT fF fE) : RunAt n G i fT' fF' fE' := by
  cases hz : inB fI w i
  · exact hr.keep (fin_keep h hz)
  · exact end_fin hp hc hi hz h
end
section
set_option maxHeartbeats 4000000 in
set_option maxRecDepth 100000 in
/-- follow(w): one step of the last way -/
theorem kX_follow (l : Launch) (D : va_G) (d : Nat → ClassId) (h : Nat → Nat) (sz kn : Int32) (fK fP fN fO fD fI fR fH fT fF fE fM : Nat → Int32) (n : Nat) (G : Pg) (hG : PW n G) (w p q : Nat) (hS : SPre n G w p q fO fD fI fR fT fF fE) (hP : ∀ p, p < n → fK p = nI (G p).1 ∧ fP p = nI ((G p).2.1 + 4 * (G p).2.2.1) ∧ fN p = (G p).2.2.2.toInt8.toInt32) (hO : fO w = nI p) (hD : fD w = nI q) : CV l yX0_follow (ws_ yX0_follow cX0_follow 6 none) (rk 4) D d [.ref (h 0), .int (nI w)] (wX h d sz (nI (w + 1)) kn fK fP fN fO fD fI fR fH fT fF fE fM) (fun w' => ∃ (wy' : Nat) (fO' fD' fI' fR' fH' fT' fF' fE' : Nat → Int32), SPos n G w p wy' fO fI fO' fD' fI' fR' fT' fF' fE' ∧ w' = wX h d sz (nI wy') kn fK fP fN fO' fD' fI' fR' fH' fT' fF' fE' fM) := by
  obtain ⟨s1, s2, s3, s4, s5, s6, s7, s8, s9⟩ := id hS
  have hn12 := hG.1
  obtain ⟨g1, g2, g3, g4, g5, g6⟩ := hG.2 p s1
  have hq1 : q ||| 2 ^ p < 4096 := or_lt s3 (show p < 12 by omega)
  have hMB : RB fR w MB := s6.mono (B3_le (by omega))
  obtain ⟨hK1, hP1, hN1⟩ := hP p s1
  refine cv_in (cc := cX0_follow) (nL := 6) (by decide) rfl (Nat.le_of_ble_eq_true rfl) ?_
  intro pg e s m ar bl me c A Q ls C I hl hret
  have hx := C.1.1
  have hb := C.1.2.1
  have hl : lv_has ls 6 [(0, .ref (h 0)), (1, .int (nI w))] := hl
  refine lv_aload_n hx hb dX0_follow_0 rfl (lv_at hl 0 rfl) ?_
  refine x_get C I rfl 5 (by decide) q36 rfl dX0_follow_1 ?_
  refine lv_iload_n hx hb dX0_follow_4 rfl (lv_at hl 1 rfl) ?_
  refine i_bld C I 4 rfl (by omega) dX0_follow_5 ?_
  refine lv_topi (fun z_1 ez_1 => ?_)
  obtain rfl : z_1 = nI p := ez_1.trans (hO)
  refine lv_istore_n (lv' := [(2, .int (nI p)), (0, .ref (h 0)), (1, .int (nI w))]) hx hb dX0_follow_6 rfl hl (by decide) rfl (fun ls hl => ?_)
  refine lv_aload_n hx hb dX0_follow_7 rfl (lv_at hl 1 rfl) ?_
  refine x_get C I rfl 0 (by decide) q31 rfl dX0_follow_8 ?_
  refine lv_iload_n hx hb dX0_follow_11 rfl (lv_at hl 0 rfl) ?_
  refine i_bld C I 1 rfl (by omega) dX0_follow_12 ?_
  refine lv_topi (fun z_2 ez_2 => ?_)
  obtain rfl : z_2 = nI ((G p).1) := ez_2.trans (hK1)
  refine lv_istore_n (lv' := [(3, .int (nI ((G p).1))), (2, .int (nI p)), (0, .ref (h 0)), (1, .int (nI w))]) hx hb dX0_follow_13 rfl hl (by decide) rfl (fun ls hl => ?_)
  refine lv_aload_n hx hb dX0_follow_14 rfl (lv_at hl 2 rfl) ?_
  refine x_get C I rfl 1 (by decide) q32 rfl dX0_follow_15 ?_
  refine lv_iload_n hx hb dX0_follow_18 rfl (lv_at hl 1 rfl) ?_
  refine i_bld C I 2 rfl (by omega) dX0_follow_19 ?_
  refine lv_topi (fun z_3 ez_3 => ?_)
  obtain rfl : z_3 = nI ((G p).2.1 + 4 * (G p).2.2.1) := ez_3.trans (hP1)
  refine lv_iconst (v := nI 3) hx hb dX0_follow_20 (by decide) ?_
  refine lv_iand hx hb dX0_follow_21 ?_
  refine lv_topi (fun z_4 ez_4 => ?_)
  obtain rfl : z_4 = nI ((G p).2.1) := ez_4.trans (pr_a g2 g3)
  refine lv_istore (lv' := [(4, .int (nI ((G p).2.1))), (3, .int (nI ((G p).1))), (2, .int (nI p)), (0, .ref (h 0)), (1, .int (nI w))]) hx hb dX0_follow_22 hl (by decide) rfl (fun ls hl => ?_)
  refine lv_aload_n hx hb dX0_follow_24 rfl (lv_at hl 3 rfl) ?_
  refine x_get C I rfl 1 (by decide) q32 rfl dX0_follow_25 ?_
  refine lv_iload_n hx hb dX0_follow_28 rfl (lv_at hl 2 rfl) ?_
  refine i_bld C I 2 rfl (by omega) dX0_follow_29 ?_
  refine lv_topi (fun z_5 ez_5 => ?_)
  obtain rfl : z_5 = nI ((G p).2.1 + 4 * (G p).2.2.1) := ez_5.trans (hP1)
  refine lv_iconst (v := nI 2) hx hb dX0_follow_30 (by decide) ?_
  refine lv_ishr hx hb dX0_follow_31 ?_
  refine lv_topi (fun z_6 ez_6 => ?_)
  obtain rfl : z_6 = nI ((G p).2.2.1) := ez_6.trans (pr_b g2 g3)
  refine lv_istore (lv' := [(5, .int (nI ((G p).2.2.1))), (4, .int (nI ((G p).2.1))), (3, .int (nI ((G p).1))), (2, .int (nI p)), (0, .ref (h 0)), (1, .int (nI w))]) hx hb dX0_follow_32 hl (by decide) rfl (fun ls hl => ?_)
  refine lv_aload_n hx hb dX0_follow_34 rfl (lv_at hl 4 rfl) ?_
  refine x_get C I rfl 6 (by decide) q37 rfl dX0_follow_35 ?_
  refine lv_iload_n hx hb dX0_follow_38 rfl (lv_at hl 5 rfl) ?_
  refine lv_aload_n hx hb dX0_follow_39 rfl (lv_at hl 4 rfl) ?_
  refine x_get C I rfl 6 (by decide) q37 rfl dX0_follow_40 ?_
  refine lv_iload_n hx hb dX0_follow_43 rfl (lv_at hl 5 rfl) ?_
  refine i_sld C I 5 rfl (by omega) dX0_follow_44 ?_
  refine lv_topi (fun z_7 ez_7 => ?_)
  obtain rfl : z_7 = nI q := ez_7.trans (hD)
  refine lv_iconst (v := nI 1) hx hb dX0_follow_45 (by decide) ?_
  refine lv_iload_n hx hb dX0_follow_46 rfl (lv_at hl 3 rfl) ?_
  refine lv_ishl hx hb dX0_follow_47 ?_
  refine lv_ior hx hb dX0_follow_48 ?_
  refine lv_topi (fun z_8 ez_8 => ?_)
  obtain rfl : z_8 = nI (q ||| 2 ^ p) := ez_8.trans (n_or1 (by omega))
  refine lv_i2s (v := (nI (q ||| 2 ^ p))) hx hb dX0_follow_49 (i16 hq1) ?_
  refine i_sst (ws' := wX h d sz (nI (w + 1)) kn fK fP fN fO (upd fD w (nI (q ||| 2 ^ p))) fI fR fH fT fF fE fM) (v := (nI (q ||| 2 ^ p))) C I 5 rfl (by omega) (i16 hq1) rfl dX0_follow_50 (fun H locs I => ?_)
  refine lv_aload_n hx hb dX0_follow_51 rfl (lv_at hl 4 rfl) ?_
  refine x_get C I rfl 5 (by decide) q36 rfl dX0_follow_52 ?_
  refine lv_iload_n hx hb dX0_follow_55 rfl (lv_at hl 5 rfl) ?_
  refine lv_iload_n hx hb dX0_follow_56 rfl (lv_at hl 2 rfl) ?_
  refine lv_bipush (v := nI 6) hx hb dX0_follow_57 (by decide) ?_
  refine n_ne (tgt := 71) hx hb dX0_follow_59 (by decide) (by omega) (by omega) (fun c_59 => ?_) (fun c_59 => ?_)
  · skip
    refine lv_iload_n hx hb dX0_follow_71 rfl (lv_at hl 3 rfl) ?_
    refine lv_iconst (v := nI 1) hx hb dX0_follow_72 (by decide) ?_
    refine n_add hx hb dX0_follow_73 ?_
    refine lv_i2b (v := (nI (p + 1))) hx hb dX0_follow_74 (i8 (by omega)) ?_
    refine i_bst (ws' := wX h d sz (nI (w + 1)) kn fK fP fN (upd fO w (nI (p + 1))) (upd fD w (nI (q ||| 2 ^ p))) fI fR fH fT fF fE fM) (v := (nI (p + 1))) C I 4 rfl (by omega) (i8 (by omega)) rfl dX0_follow_75 (fun H locs I => ?_)
    refine lv_iload_n hx hb dX0_follow_76 rfl (lv_at hl 2 rfl) ?_
    refine lv_iconst (v := nI 3) hx hb dX0_follow_77 (by decide) ?_
    refine n_gt (tgt := 100) hx hb dX0_follow_78 (by decide) (by omega) (by omega) (fun c_78 => ?_) (fun c_78 => ?_)
    · refine lv_iload_n hx hb dX0_follow_100 rfl (lv_at hl 2 rfl) ?_
      refine lv_bipush (v := nI 7) hx hb dX0_follow_101 (by decide) ?_
      refine n_ne (tgt := 118) hx hb dX0_follow_103 (by decide) (by omega) (by omega) (fun c_103 => ?_) (fun c_103 => ?_)
      · refine lv_iload_n hx hb dX0_follow_118 rfl (lv_at hl 2 rfl) ?_
        refine lv_bipush (v := nI 6) hx hb dX0_follow_119 (by decide) ?_
        refine n_eq (tgt := 144) hx hb dX0_follow_121 (by decide) (by omega) (by omega) (fun c_121 => ?_) (fun c_121 => ?_)
        · skip
          exfalso
          omega
        · skip
          refine lv_aload_n hx hb dX0_follow_124 rfl (lv_at hl 4 rfl) ?_
          refine lv_iload_n hx hb dX0_follow_125 rfl (lv_at hl 5 rfl) ?_
          refine lv_iload_n hx hb dX0_follow_126 rfl (lv_at hl 3 rfl) ?_
          refine lv_iload hx hb dX0_follow_127 (lv_at hl 1 rfl) ?_
          refine lv_iload hx hb dX0_follow_129 (lv_at hl 0 rfl) ?_
          refine lv_iload_n hx hb dX0_follow_131 rfl (lv_at hl 2 rfl) ?_
          refine lv_iconst (v := nI 5) hx hb dX0_follow_132 (by decide) ?_
          refine n_ne (tgt := 140) hx hb dX0_follow_133 (by decide) (by omega) (by omega) (fun c_133 => ?_) (fun c_133 => ?_)
          · refine lv_iconst (v := nI 0) hx hb dX0_follow_140 (by decide) ?_
            obtain ⟨T, hT1, hT2, hTN⟩ := g6 (by omega) (by omega)
            have hfT : fN p = nI T := by rw [hN1, hTN]; exact i8 (by omega)
            refine cv_call (As := [.int (nI w), .int (nI p), .int (nI ((G p).2.1)), .int (nI ((G p).2.2.1)), .int (nI 0)]) (rest := []) C I (kX_part l D d h sz kn fK fP fN (upd fO w (nI (p + 1))) (upd fD w (nI (q ||| 2 ^ p))) fI fR fH fT fF fE fM n G hG w p q hS.up1 T (nI 0) (Or.inl ⟨by omega, nI_0⟩) hTN hfT hT1 hT2 upd_s upd_s) (cwV 5 C.1.2.2.2.2 (lw_V q154 q156 qs11 q21 q157) rfl rfl rfl (by decide +kernel) ⟨Nat.le_of_ble_eq_true rfl, Nat.le_of_ble_eq_true rfl⟩) rfl rfl rfl hl.1 rfl (Nat.le_of_ble_eq_true rfl) dX0_follow_141 ⟨Nat.zero_le _, Nat.zero_le _⟩ (fun w' H locs hpo I => ?_)
            obtain ⟨wy', fO', fD', fI', fR', fH', fT', fF', fE', hpos, rfl⟩ := hpo
            exact hret _ _ _ _ _ I (⟨_, _, _, _, _, _, _, _, _, hpos.up1, rfl⟩) dX0_follow_144
          · refine lv_iconst (v := nI 1) hx hb dX0_follow_136 (by decide) ?_
            refine lv_goto (tgt := 141) hx hb dX0_follow_137 (by decide) ?_
            obtain ⟨T, hT1, hT2, hTN⟩ := g6 (by omega) (by omega)
            have hfT : fN p = nI T := by rw [hN1, hTN]; exact i8 (by omega)
            refine cv_call (As := [.int (nI w), .int (nI p), .int (nI ((G p).2.1)), .int (nI ((G p).2.2.1)), .int (nI 1)]) (rest := []) C I (kX_part l D d h sz kn fK fP fN (upd fO w (nI (p + 1))) (upd fD w (nI (q ||| 2 ^ p))) fI fR fH fT fF fE fM n G hG w p q hS.up1 T (nI 1) (Or.inr ⟨c_133, nI10⟩) hTN hfT hT1 hT2 upd_s upd_s) (cwV 5 C.1.2.2.2.2 (lw_V q154 q156 qs11 q21 q157) rfl rfl rfl (by decide +kernel) ⟨Nat.le_of_ble_eq_true rfl, Nat.le_of_ble_eq_true rfl⟩) rfl rfl rfl hl.1 rfl (Nat.le_of_ble_eq_true rfl) dX0_follow_141 ⟨Nat.zero_le _, Nat.zero_le _⟩ (fun w' H locs hpo I => ?_)
            obtain ⟨wy', fO', fD', fI', fR', fH', fT', fF', fE', hpos, rfl⟩ := hpo
            exact hret _ _ _ _ _ I (⟨_, _, _, _, _, _, _, _, _, hpos.up1, rfl⟩) dX0_follow_144
      · skip
        refine lv_aload_n hx hb dX0_follow_106 rfl (lv_at hl 4 rfl) ?_
        refine lv_iload_n hx hb dX0_follow_107 rfl (lv_at hl 5 rfl) ?_
        refine lv_iload hx hb dX0_follow_108 (lv_at hl 1 rfl) ?_
        refine lv_iload hx hb dX0_follow_110 (lv_at hl 0 rfl) ?_
        refine cv_call (As := [.int (nI w), .int (nI ((G p).2.1)), .int (nI ((G p).2.2.1))]) (rest := []) C I (kX_check l D d h sz kn fK fP fN (upd fO w (nI (p + 1))) (upd fD w (nI (q ||| 2 ^ p))) fI fR fH fT fF fE fM n G hG w p q hS.up1 c_103 upd_s upd_s) (cwV 3 C.1.2.2.2.2 (lw_V q126 q128 qs7 q21 q129) rfl rfl rfl (by decide +kernel) ⟨Nat.le_of_ble_eq_true rfl, Nat.le_of_ble_eq_true rfl⟩) rfl rfl rfl hl.1 rfl (Nat.le_of_ble_eq_true rfl) dX0_follow_112 ⟨Nat.zero_le _, Nat.zero_le _⟩ (fun w' H locs hpo I => ?_)
        obtain ⟨wy', fO', fD', fI', fR', fH', fT', fF', fE', hpos, rfl⟩ := hpo
        refine lv_goto (tgt := 144) hx hb dX0_follow_115 (by decide) ?_
        exact hret _ _ _ _ _ I (⟨_, _, _, _, _, _, _, _, _, hpos.up1, rfl⟩) dX0_follow_144
    · skip
      refine lv_aload_n hx hb dX0_follow_81 rfl (lv_at hl 4 rfl) ?_
      refine lv_iload_n hx hb dX0_follow_82 rfl (lv_at hl 5 rfl) ?_
      refine lv_iload_n hx hb dX0_follow_83 rfl (lv_at hl 2 rfl) ?_
      refine lv_iload hx hb dX0_follow_84 (lv_at hl 1 rfl) ?_
      refine lv_iload hx hb dX0_follow_86 (lv_at hl 0 rfl) ?_
      refine lv_aload_n hx hb dX0_follow_88 rfl (lv_at hl 4 rfl) ?_
      refine x_get C I rfl 2 (by decide) q33 rfl dX0_follow_89 ?_
      refine lv_iload_n hx hb dX0_follow_92 rfl (lv_at hl 3 rfl) ?_
      refine i_bld C I 3 rfl (by omega) dX0_follow_93 ?_
      refine cv_call (As := [.int (nI w), .int (nI ((G p).1)), .int (nI ((G p).2.1)), .int (nI ((G p).2.2.1)), .int (fN p)]) (rest := []) C I (kX_calculate l D d h sz (nI (w + 1)) kn fK fP fN (upd fO w (nI (p + 1))) (upd fD w (nI (q ||| 2 ^ p))) fI fR fH fT fF fE fM w (G p).1 (G p).2.1 (G p).2.2.1 (fN p) (by omega) c_78 g2 g3) (cwV 5 C.1.2.2.2.2 (lw_V q122 q124 qs6 q21 q125) rfl rfl rfl (by decide +kernel) ⟨Nat.le_of_ble_eq_true rfl, Nat.le_of_ble_eq_true rfl⟩) rfl rfl rfl hl.1 rfl (Nat.le_of_ble_eq_true rfl) dX0_follow_94 ⟨Nat.zero_le _, Nat.zero_le _⟩ (fun w' H locs hpo I => ?_)
      obtain rfl := hpo
      refine lv_goto (tgt := 144) hx hb dX0_follow_97 (by decide) ?_
      exact hret _ _ _ _ _ I (⟨_, _, _, _, _, _, _, _, _, out_calc hG hS c_78 (num_ok (n := n) hN1 g4 g5), rfl⟩) dX0_follow_144
  · skip
    obtain ⟨T, hT1, hT2, hTN⟩ := g6 (by omega) (by omega)
    have hfT : fN p = nI T := by rw [hN1, hTN]; exact i8 (by omega)
    refine lv_aload_n hx hb dX0_follow_62 rfl (lv_at hl 4 rfl) ?_
    refine x_get C I rfl 2 (by decide) q33 rfl dX0_follow_63 ?_
    refine lv_iload_n hx hb dX0_follow_66 rfl (lv_at hl 3 rfl) ?_
    refine i_bld C I 3 rfl (by omega) dX0_follow_67 ?_
    refine lv_topi (fun z_9 ez_9 => ?_)
    obtain rfl : z_9 = nI T := ez_9.trans (hfT)
    refine lv_goto (tgt := 74) hx hb dX0_follow_68 (by decide) ?_
    refine lv_i2b (v := (nI T)) hx hb dX0_follow_74 (i8 (by omega)) ?_
    refine i_bst (ws' := wX h d sz (nI (w + 1)) kn fK fP fN (upd fO w (nI T)) (upd fD w (nI (q ||| 2 ^ p))) fI fR fH fT fF fE fM) (v := (nI T)) C I 4 rfl (by omega) (i8 (by omega)) rfl dX0_follow_75 (fun H locs I => ?_)
    refine lv_iload_n hx hb dX0_follow_76 rfl (lv_at hl 2 rfl) ?_
    refine lv_iconst (v := nI 3) hx hb dX0_follow_77 (by decide) ?_
    refine n_gt (tgt := 100) hx hb dX0_follow_78 (by decide) (by omega) (by omega) (fun c_78 => ?_) (fun c_78 => ?_)
    · refine lv_iload_n hx hb dX0_follow_100 rfl (lv_at hl 2 rfl) ?_
      refine lv_bipush (v := nI 7) hx hb dX0_follow_101 (by decide) ?_
      refine n_ne (tgt := 118) hx hb dX0_follow_103 (by decide) (by omega) (by omega) (fun c_103 => ?_) (fun c_103 => ?_)
      · refine lv_iload_n hx hb dX0_follow_118 rfl (lv_at hl 2 rfl) ?_
        refine lv_bipush (v := nI 6) hx hb dX0_follow_119 (by decide) ?_
        refine n_eq (tgt := 144) hx hb dX0_follow_121 (by decide) (by omega) (by omega) (fun c_121 => ?_) (fun c_121 => ?_)
        · skip
          exact hret _ _ _ _ _ I (⟨_, _, _, _, _, _, _, _, _, out_goto hG hS c_59 hTN hT1 hT2, rfl⟩) dX0_follow_144
        · skip
          exfalso
          omega
      · skip
        exfalso
        omega
    · skip
      exfalso
      omega
set_option maxHeartbeats 4000000 in
set_option maxRecDepth 100000 in
/-- learn(): what every input gives is known -/
theorem kX_learn (l : Launch) (D : va_G) (d : Nat → ClassId) (h : Nat → Nat) (n : Nat) (G : Pg) (mk : Nat → Bool) (sz wy kn : Int32) (fK fP fN fO fD fI fR fH fT fF fE fM : Nat → Int32) (hX : XI n G mk sz kn fK fP fN fT fF fE fM) : CV l yX0_learn (ws_ yX0_learn cX0_learn 3 none) (rk 5) D d [.ref (h 0)] (wX h d sz wy kn fK fP fN fO fD fI fR fH fT fF fE fM) (fun w' => ∃ (wy' : Int32) (fO' fD' fI' fR' fH' fT' fF' fE' : Nat → Int32), KN n G fT' fF' fE' ∧ w' = wX h d sz wy' (nI 1) fK fP fN fO' fD' fI' fR' fH' fT' fF' fE' fM) := by
  have hXI := hX
  obtain ⟨rfl, hG, hP, hKn, hMk⟩ := hX
  have hn12 := hG.1
  refine cv_in (cc := cX0_learn) (nL := 3) (by decide) rfl (Nat.le_of_ble_eq_true rfl) ?_
  intro pg e s m ar bl me c A Q ls C I hl hret
  have hx := C.1.1
  have hb := C.1.2.1
  have hl : lv_has ls 3 [(0, .ref (h 0))] := hl
  refine lv_aload_n hx hb dX0_learn_0 rfl (lv_at hl 0 rfl) ?_
  refine x_get C I rfl 10 (by decide) q41 rfl dX0_learn_1 ?_
  refine lv_if_eq (tgt := 8) hx hb dX0_learn_4 (by decide) (fun c_4 => ?_) (fun c_4 => ?_)
  · refine lv_aload_n hx hb dX0_learn_8 rfl (lv_at hl 0 rfl) ?_
    refine lv_iconst (v := nI 1) hx hb dX0_learn_9 (by decide) ?_
    refine x_put (ws' := wX h d (nI n) wy (nI 1) fK fP fN fO fD fI fR fH fT fF fE fM) (ty := .boolean) C I rfl 10 (by decide) q41 rfl (by decide +kernel) rfl rfl (Nat.le_of_ble_eq_true rfl) rfl dX0_learn_10 (fun H locs I => ?_)
    refine lv_iconst (v := nI 0) hx hb dX0_learn_13 (by decide) ?_
    refine lv_istore_n (lv' := [(1, .int (nI 0)), (0, .ref (h 0))]) hx hb dX0_learn_14 rfl hl (by decide) rfl (fun ls hl => ?_)
    have lp : ∀ (nn : Nat) (i : Nat) (f : Nat → Int32) (H : Heap) (locs : List Loc) (ls : Array Slot), 12 + 1 ≤ i + nn → (i ≤ 12) → (∀ j, j < i → f j = 0) → IW D A s.heap (wX h d (nI n) wy (nI 1) fK fP fN fO fD fI f fH fT fF fE fM) H locs → lv_has ls 3 [(0, .ref (h 0)), (1, .int (nI i))] → W pg l e (rk 5) s m ar bl me c H locs 0 0 Q (F0 m 15 ls []) := by
      intro nn
      induction nn with
      | zero => intro i f H locs ls hme hi hf; exact absurd hme (by omega)
      | succ nn ih =>
        intro i f H locs ls hme hi hf I hl
        refine lv_iload_n hx hb dX0_learn_15 rfl (lv_at hl 1 rfl) ?_
        refine lv_bipush (v := nI 12) hx hb dX0_learn_16 (by decide) ?_
        refine n_ge (tgt := 34) hx hb dX0_learn_18 (by decide) (by omega) (by omega) (fun c_18 => ?_) (fun c_18 => ?_)
        · refine lv_aload_n hx hb dX0_learn_34 rfl (lv_at hl 0 rfl) ?_
          refine x_get C I rfl 8 (by decide) q39 rfl dX0_learn_35 ?_
          refine lv_iconst (v := nI 0) hx hb dX0_learn_38 (by decide) ?_
          refine lv_iconst (v := nI 1) hx hb dX0_learn_39 (by decide) ?_
          refine i_ist (ws' := wX h d (nI n) wy (nI 1) fK fP fN fO fD fI (upd f 0 (nI 1)) fH fT fF fE fM) C I 7 rfl (by omega) rfl dX0_learn_40 (fun H locs I => ?_)
          refine lv_aload_n hx hb dX0_learn_41 rfl (lv_at hl 0 rfl) ?_
          refine x_get C I rfl 8 (by decide) q39 rfl dX0_learn_42 ?_
          refine lv_iconst (v := nI 4) hx hb dX0_learn_45 (by decide) ?_
          refine lv_iconst (v := nI 1) hx hb dX0_learn_46 (by decide) ?_
          refine i_ist (ws' := wX h d (nI n) wy (nI 1) fK fP fN fO fD fI (upd (upd f 0 (nI 1)) 4 (nI 1)) fH fT fF fE fM) C I 7 rfl (by omega) rfl dX0_learn_47 (fun H locs I => ?_)
          refine lv_iconst (v := nI 0) hx hb dX0_learn_48 (by decide) ?_
          refine lv_istore_n (lv' := [(1, .int (nI 0)), (0, .ref (h 0))]) hx hb dX0_learn_49 rfl hl (by decide) rfl (fun ls hl => ?_)
          have lp2 : ∀ (nn : Nat) (x : Nat) (g : Nat → Int32) (H : Heap) (locs : List Loc) (ls : Array Slot), 16 + 1 ≤ x + nn → (x ≤ 16) → (∀ j, j < x → g j = 65535) → IW D A s.heap (wX h d (nI n) wy (nI 1) fK fP fN fO fD g (upd (upd f 0 (nI 1)) 4 (nI 1)) fH fT fF fE fM) H locs → lv_has ls 3 [(0, .ref (h 0)), (1, .int (nI x))] → W pg l e (rk 5) s m ar bl me c H locs 0 0 Q (F0 m 50 ls []) := by
            intro nn
            induction nn with
            | zero => intro x g H locs ls hme hx2 hg; exact absurd hme (by omega)
            | succ nn ih2 =>
              intro x g H locs ls hme hx2 hg I hl
              refine lv_iload_n hx hb dX0_learn_50 rfl (lv_at hl 1 rfl) ?_
              refine lv_bipush (v := nI 16) hx hb dX0_learn_51 (by decide) ?_
              refine n_ge (tgt := 70) hx hb dX0_learn_53 (by decide) (by omega) (by omega) (fun c_53 => ?_) (fun c_53 => ?_)
              · refine lv_aload_n hx hb dX0_learn_70 rfl (lv_at hl 0 rfl) ?_
                refine x_get C I rfl 5 (by decide) q36 rfl dX0_learn_71 ?_
                refine lv_iconst (v := nI 0) hx hb dX0_learn_74 (by decide) ?_
                refine lv_iconst (v := nI 0) hx hb dX0_learn_75 (by decide) ?_
                refine i_bst (ws' := wX h d (nI n) wy (nI 1) fK fP fN (upd fO 0 (nI 0)) fD g (upd (upd f 0 (nI 1)) 4 (nI 1)) fH fT fF fE fM) (v := (nI 0)) C I 4 rfl (by omega) (i8 (by omega)) rfl dX0_learn_76 (fun H locs I => ?_)
                refine lv_aload_n hx hb dX0_learn_77 rfl (lv_at hl 0 rfl) ?_
                refine x_get C I rfl 6 (by decide) q37 rfl dX0_learn_78 ?_
                refine lv_iconst (v := nI 0) hx hb dX0_learn_81 (by decide) ?_
                refine lv_iconst (v := nI 0) hx hb dX0_learn_82 (by decide) ?_
                refine i_sst (ws' := wX h d (nI n) wy (nI 1) fK fP fN (upd fO 0 (nI 0)) (upd fD 0 (nI 0)) g (upd (upd f 0 (nI 1)) 4 (nI 1)) fH fT fF fE fM) (v := (nI 0)) C I 5 rfl (by omega) (i16 (by omega)) rfl dX0_learn_83 (fun H locs I => ?_)
                refine lv_aload_n hx hb dX0_learn_84 rfl (lv_at hl 0 rfl) ?_
                refine lv_iconst (v := nI 1) hx hb dX0_learn_85 (by decide) ?_
                refine x_put (ws' := wX h d (nI n) (nI 1) (nI 1) fK fP fN (upd fO 0 (nI 0)) (upd fD 0 (nI 0)) g (upd (upd f 0 (nI 1)) 4 (nI 1)) fH fT fF fE fM) (ty := .int) C I rfl 4 (by decide) q35 rfl (by decide +kernel) rfl rfl (Nat.le_of_ble_eq_true rfl) rfl dX0_learn_86 (fun H locs I => ?_)
                refine lv_iconst (v := nI 0) hx hb dX0_learn_89 (by decide) ?_
                refine lv_istore_n (lv' := [(1, .int (nI 0)), (0, .ref (h 0))]) hx hb dX0_learn_90 rfl hl (by decide) rfl (fun ls hl => ?_)
                have hini := LI.init (n := n) (G := G) (fO := fO) (fD := fD) (fT := fT) (fF := fF) (fE := fE) (f := f) (g := g) (fun j hj => hf j (by omega)) (fun x' hx' => hg x' (by omega))
                have lp3 : ∀ (nn : Nat) (k : Nat) (wy2 : Nat) (O : Nat → Int32) (Dn : Nat → Int32) (In : Nat → Int32) (Rg : Nat → Int32) (Hd : Nat → Int32) (T : Nat → Int32) (F : Nat → Int32) (E : Nat → Int32) (H : Heap) (locs : List Loc) (ls : Array Slot), 3584 + 1 ≤ k + nn → (LI n G wy2 O Dn In Rg T F E) → (k + sumN (trm O In) wy2 ≤ 3584) → IW D A s.heap (wX h d (nI n) (nI wy2) (nI 1) fK fP fN O Dn In Rg Hd T F E fM) H locs → lv_has ls 3 [(0, .ref (h 0)), (1, .int (nI k))] → W pg l e (rk 5) s m ar bl me c H locs 0 0 Q (F0 m 91 ls []) := by
                  intro nn
                  induction nn with
                  | zero => intro k wy2 O Dn In Rg Hd T F E H locs ls hme hLI hph; exact absurd hme (by omega)
                  | succ nn ih3 =>
                    intro k wy2 O Dn In Rg Hd T F E H locs ls hme hLI hph I hl
                    refine lv_iload_n hx hb dX0_learn_91 rfl (lv_at hl 1 rfl) ?_
                    refine lv_sipush (v := nI 3584) hx hb dX0_learn_92 (by decide) ?_
                    refine n_ge (tgt := 155) hx hb dX0_learn_95 (by decide) (by omega) (by omega) (fun c_95 => ?_) (fun c_95 => ?_)
                    · skip
                      obtain rfl : wy2 = 0 := hLI.zero (by omega)
                      exact hret _ _ _ _ _ I ⟨_, _, _, _, _, _, _, _, _, hLI.ends, rfl⟩ dX0_learn_155
                    · refine lv_aload_n hx hb dX0_learn_98 rfl (lv_at hl 0 rfl) ?_
                      refine x_get C I rfl 4 (by decide) q35 rfl dX0_learn_99 ?_
                      refine lv_if_le (tgt := 155) hx hb dX0_learn_102 (by decide) (fun c_102 => ?_) (fun c_102 => ?_)
                      · skip
                        obtain rfl : wy2 = 0 := ifle_0 (by have := hLI.wy; omega) c_102
                        exact hret _ _ _ _ _ I ⟨_, _, _, _, _, _, _, _, _, hLI.ends, rfl⟩ dX0_learn_155
                      · skip
                        obtain ⟨w, rfl⟩ := ifle_n c_102
                        obtain ⟨p, q, hW⟩ := hLI.1 w (by omega)
                        have hW12 := hW.2.2.1
                        have hWv := hW.2.2.2.1
                        have htop := LI.top hW
                        have hq1 : q < 4096 := Nat.lt_of_lt_of_le hW.2.2.2.2.1 (Nat.pow_le_pow_right (by omega) hW12)
                        refine lv_aload_n hx hb dX0_learn_105 rfl (lv_at hl 0 rfl) ?_
                        refine x_get C I rfl 4 (by decide) q35 rfl dX0_learn_106 ?_
                        refine lv_iconst (v := nI 1) hx hb dX0_learn_109 (by decide) ?_
                        refine n_sub hx hb dX0_learn_110 (by omega) ?_
                        refine lv_topi (fun z_1 ez_1 => ?_)
                        obtain rfl : z_1 = nI w := ez_1.trans (rfl)
                        refine lv_istore_n (lv' := [(2, .int (nI w)), (0, .ref (h 0)), (1, .int (nI k))]) hx hb dX0_learn_111 rfl hl (by decide) rfl (fun ls hl => ?_)
                        refine lv_aload_n hx hb dX0_learn_112 rfl (lv_at hl 1 rfl) ?_
                        refine x_get C I rfl 5 (by decide) q36 rfl dX0_learn_113 ?_
                        refine lv_iload_n hx hb dX0_learn_116 rfl (lv_at hl 0 rfl) ?_
                        refine i_bld C I 4 rfl (by omega) dX0_learn_117 ?_
                        refine lv_topi (fun z_2 ez_2 => ?_)
                        obtain rfl : z_2 = nI p := ez_2.trans (hW.1)
                        refine lv_aload_n hx hb dX0_learn_118 rfl (lv_at hl 1 rfl) ?_
                        refine x_get C I rfl 3 (by decide) q34 rfl dX0_learn_119 ?_
                        refine n_lt (tgt := 144) hx hb dX0_learn_122 (by decide) (by omega) (by omega) (fun c_122 => ?_) (fun c_122 => ?_)
                        · refine lv_aload_n hx hb dX0_learn_144 rfl (lv_at hl 1 rfl) ?_
                          refine lv_iload_n hx hb dX0_learn_145 rfl (lv_at hl 0 rfl) ?_
                          refine cv_call (As := [.int (nI w)]) (rest := []) C I (kX_follow l D d h (nI n) (nI 1) fK fP fN O Dn In Rg Hd T F E fM n G hG w p q (hLI.pre hW c_122) hP hW.1 hW.2.1) (cwV 1 C.1.2.2.2.2 (lw_V q118 q120 qs5 q21 q121) rfl rfl rfl (by decide +kernel) ⟨Nat.le_of_ble_eq_true rfl, Nat.le_of_ble_eq_true rfl⟩) rfl rfl rfl hl.1 rfl (Nat.le_of_ble_eq_true rfl) dX0_learn_146 ⟨Nat.zero_le _, Nat.zero_le _⟩ (fun w' H locs hpo I => ?_)
                          obtain ⟨wy', fO', fD', fI', fR', fH', fT', fF', fE', hpos, rfl⟩ := hpo
                          refine lv_iinc (v := (nI (k + 1))) (lv' := [(1, .int (nI (k + 1))), (2, .int (nI w)), (0, .ref (h 0))]) hx hb dX0_learn_149 hl (k := 2) rfl (n_inc _) (by decide) rfl (fun ls hl => ?_)
                          refine lv_goto (tgt := 91) hx hb dX0_learn_152 (by decide) ?_
                          exact ih3 (k + 1) wy' fO' fD' fI' fR' fH' fT' fF' fE' _ _ _ (by omega) (hpos.1) (by have := hpos.2; omega) I (lv_sub hl [2, 0] rfl)
                        · refine lv_aload_n hx hb dX0_learn_125 rfl (lv_at hl 1 rfl) ?_
                          refine lv_iload_n hx hb dX0_learn_126 rfl (lv_at hl 0 rfl) ?_
                          refine lv_iconst (v := nI 0) hx hb dX0_learn_127 (by decide) ?_
                          refine cv_call (As := [.int (nI w), .int (nI 0)]) (rest := []) C I (kX_finish l D d h (nI n) (nI (w + 1)) (nI 1) fK fP fN O Dn In Rg Hd T F E fM w q false (by omega) hW.2.1 hq1) (cwV 2 C.1.2.2.2.2 (lw_V q114 q116 qs4 q21 q117) rfl rfl rfl (by decide +kernel) ⟨Nat.le_of_ble_eq_true rfl, Nat.le_of_ble_eq_true rfl⟩) rfl rfl rfl hl.1 rfl (Nat.le_of_ble_eq_true rfl) dX0_learn_128 ⟨Nat.zero_le _, Nat.zero_le _⟩ (fun w' H locs hpo I => ?_)
                          obtain ⟨T1, F1, E1, hFin, rfl⟩ := hpo
                          refine lv_aload_n hx hb dX0_learn_131 rfl (lv_at hl 1 rfl) ?_
                          refine lv_dup hx hb dX0_learn_132 rfl ?_
                          refine x_get C I rfl 4 (by decide) q35 rfl dX0_learn_133 ?_
                          refine lv_iconst (v := nI 1) hx hb dX0_learn_136 (by decide) ?_
                          refine n_sub hx hb dX0_learn_137 (by omega) ?_
                          refine x_put (ws' := wX h d (nI n) (nI ((w + 1) - 1)) (nI 1) fK fP fN O Dn In Rg Hd T1 F1 E1 fM) (ty := .int) C I rfl 4 (by decide) q35 rfl (by decide +kernel) rfl rfl (Nat.le_of_ble_eq_true rfl) rfl dX0_learn_138 (fun H locs I => ?_)
                          refine lv_goto (tgt := 149) hx hb dX0_learn_141 (by decide) ?_
                          refine lv_iinc (v := (nI (k + 1))) (lv' := [(1, .int (nI (k + 1))), (2, .int (nI w)), (0, .ref (h 0))]) hx hb dX0_learn_149 hl (k := 2) rfl (n_inc _) (by decide) rfl (fun ls hl => ?_)
                          refine lv_goto (tgt := 91) hx hb dX0_learn_152 (by decide) ?_
                          have hpos : SPos n G w p w O In O Dn In Rg T1 F1 E1 := step0 (q := q) hW12 hW.2.2.2.2.2.2.1 (fun v hv => hLI.1 v (by omega)) hLI.2 (fun v hv => ⟨rfl, rfl, fun _ _ => rfl, fun _ _ => rfl⟩) (fun i hi hr => end_keep c_122 hW.2.2.2.2.2.2.2.2 hi (hFin i hi) hr) (fun i hi hb => end_fin c_122 hW.2.2.2.2.2.2.2.2 hi hb (hFin i hi))
                          exact ih3 (k + 1) w O Dn In Rg Hd T1 F1 E1 _ _ _ (by omega) (hpos.1) (by have := hpos.2; omega) I (lv_sub hl [2, 0] rfl)
                exact lp3 3585 0 1 (upd fO 0 (nI 0)) (upd fD 0 (nI 0)) g (upd (upd f 0 (nI 1)) 4 (nI 1)) fH fT fF fE _ _ _ (by omega) (hini.1) (hini.2) I (lv_sub hl [1, 0] rfl)
              · refine lv_aload_n hx hb dX0_learn_56 rfl (lv_at hl 0 rfl) ?_
                refine x_get C I rfl 7 (by decide) q38 rfl dX0_learn_57 ?_
                refine lv_iload_n hx hb dX0_learn_60 rfl (lv_at hl 1 rfl) ?_
                refine lv_ldc (v := 65535) hx hb C.1.2.2.2.1 (C.1.2.2.2.2 _ q113) dX0_learn_61 ?_
                refine i_ist (ws' := wX h d (nI n) wy (nI 1) fK fP fN fO fD (upd g x 65535) (upd (upd f 0 (nI 1)) 4 (nI 1)) fH fT fF fE fM) C I 6 rfl (by omega) rfl dX0_learn_63 (fun H locs I => ?_)
                refine lv_iinc (v := (nI (x + 1))) (lv' := [(1, .int (nI (x + 1))), (0, .ref (h 0))]) hx hb dX0_learn_64 hl (k := 1) rfl (n_inc _) (by decide) rfl (fun ls hl => ?_)
                refine lv_goto (tgt := 50) hx hb dX0_learn_67 (by decide) ?_
                exact ih2 (x + 1) (upd g x 65535) _ _ _ (by omega) (by omega) (lt_upd (P := fun _ z => z = 65535) hg rfl) I (lv_sub hl [1, 0] rfl)
          exact lp2 17 0 fI _ _ _ (by omega) (by omega) (fun _ h => absurd h (by omega)) I (lv_sub hl [1, 0] rfl)
        · refine lv_aload_n hx hb dX0_learn_21 rfl (lv_at hl 0 rfl) ?_
          refine x_get C I rfl 8 (by decide) q39 rfl dX0_learn_22 ?_
          refine lv_iload_n hx hb dX0_learn_25 rfl (lv_at hl 1 rfl) ?_
          refine lv_iconst (v := nI 0) hx hb dX0_learn_26 (by decide) ?_
          refine i_ist (ws' := wX h d (nI n) wy (nI 1) fK fP fN fO fD fI (upd f i (nI 0)) fH fT fF fE fM) C I 7 rfl (by omega) rfl dX0_learn_27 (fun H locs I => ?_)
          refine lv_iinc (v := (nI (i + 1))) (lv' := [(1, .int (nI (i + 1))), (0, .ref (h 0))]) hx hb dX0_learn_28 hl (k := 1) rfl (n_inc _) (by decide) rfl (fun ls hl => ?_)
          refine lv_goto (tgt := 15) hx hb dX0_learn_31 (by decide) ?_
          exact ih (i + 1) (upd f i (nI 0)) _ _ _ (by omega) (by omega) (lt_upd (P := fun _ z => z = 0) hf rfl) I (lv_sub hl [1, 0] rfl)
    exact lp 13 0 fR _ _ _ (by omega) (by omega) (fun _ h => absurd h (by omega)) I (lv_sub hl [1, 0] rfl)
  · skip
    obtain ⟨rfl, hKN⟩ := hKn.resolve_left c_4
    exact hret _ _ _ _ _ I ⟨_, _, _, _, _, _, _, _, _, hKN, rfl⟩ dX0_learn_7
end
section
/-! bounds of the runs; the class's own questions -/
theorem made_bd {p k : Nat} {v x y : Int32} (hp : p < 12) (hx : -B3 p ≤ x.toInt ∧ x.toInt ≤ B3 p) (hy : -B3 p ≤ y.toInt ∧ y.toInt ≤ B3 p) (h0 : k = 0 → -20 ≤ v.toInt ∧ v.toInt ≤ 20) (h3 : k = 3 → -3 ≤ v.toInt ∧ v.toInt ≤ 3) : -B3 (p + 1) ≤ (st_made k v x y).toInt ∧ (st_made k v x y).toInt ≤ B3 (p + 1) := by
  have hs := B3_s p
  have h20 := B3_20 p
  have hm := B3_le (show p + 1 ≤ 12 by omega)
  unfold MB at hm
  unfold st_made
  split
  · rename_i e; have := h0 e; omega
  · split
    · rw [tI_add (by omega) (by omega)]; omega
    · split
      · rw [tI_sub (by omega) (by omega)]; omega
      · split
        · rename_i e
          have h5 := h3 e
          have h6 : -(3 * B3 p) ≤ x.toInt * v.toInt ∧ x.toInt * v.toInt ≤ 3 * B3 p := by
            generalize v.toInt = z at h5
            rcases (show z = -3 ∨ z = -2 ∨ z = -1 ∨ z = 0 ∨ z = 1 ∨ z = 2 ∨ z = 3 by omega) with rfl | rfl | rfl | rfl | rfl | rfl | rfl <;> omega
          rw [tI_mul (by omega) (by omega)]
          omega
        · omega
theorem upd_bd {r : Nat → Int32} {a : Nat} {x : Int32} {M : Int} (h : ∀ ρ, ρ < 4 → -M ≤ (r ρ).toInt ∧ (r ρ).toInt ≤ M) (hx : -M ≤ x.toInt ∧ x.toInt ≤ M) : ∀ ρ, ρ < 4 → -M ≤ (upd r a x ρ).toInt ∧ (upd r a x ρ).toInt ≤ M := by
  intro ρ hρ
  by_cases e : ρ = a
  · rw [e, upd_s]; exact hx
  · rw [upd_n e]; exact h ρ hρ
theorem rn_bd {n : Nat} {G : Pg} (hG : PW n G) : ∀ (f a : Nat) (r : Nat → Int32) (q : Nat), a ≤ 12 → (∀ ρ, ρ < 4 → -B3 a ≤ (r ρ).toInt ∧ (r ρ).toInt ≤ B3 a) → ∀ ρ, ρ < 4 → -MB ≤ ((rn n G f a r q).1 ρ).toInt ∧ ((rn n G f a r q).1 ρ).toInt ≤ MB := by
  intro f
  induction f with
  | zero =>
    intro a r q ha hr ρ hρ
    have := hr ρ hρ
    have := B3_le ha
    simp only [rn]
    omega
  | succ f ih =>
    intro a r q ha hr
    rw [rn]
    split
    · intro ρ hρ
      have := hr ρ hρ
      have := B3_le ha
      show -MB ≤ (r ρ).toInt ∧ (r ρ).toInt ≤ MB
      omega
    · have hn := hG.1
      have hlt : a < n := by omega
      obtain ⟨g1, g2, g3, g4, g5, g6⟩ := hG.2 a hlt
      have hm := made_bd (k := (G a).1) (v := (G a).2.2.2) (show a < 12 by omega) (hr (G a).2.1 (by omega)) (hr (G a).2.2.1 (by omega)) g4 g5
      have hr2 : ∀ ρ, ρ < 4 → -B3 (a + 1) ≤ (upd r (G a).2.1 (st_made (G a).1 (G a).2.2.2 (r (G a).2.1) (r (G a).2.2.1)) ρ).toInt ∧ (upd r (G a).2.1 (st_made (G a).1 (G a).2.2.2 (r (G a).2.1) (r (G a).2.2.1)) ρ).toInt ≤ B3 (a + 1) := upd_bd (fun ρ hρ => by have := hr ρ hρ; have := B3_s a; have := B3_20 a; omega) hm
      split
      · intro ρ hρ
        have := hr2 ρ hρ
        have := B3_le (show a + 1 ≤ 12 by omega)
        show -MB ≤ (upd r (G a).2.1 (st_made (G a).1 (G a).2.2.2 (r (G a).2.1) (r (G a).2.2.1)) ρ).toInt ∧ (upd r (G a).2.1 (st_made (G a).1 (G a).2.2.2 (r (G a).2.1) (r (G a).2.2.1)) ρ).toInt ≤ MB
        omega
      · have h1 := nxt_gt (r := r) hG hlt
        unfold nxt at h1
        exact ih _ _ _ h1.2 (fun ρ hρ => by have := hr2 ρ hρ; have := B3_mono (show a + 1 ≤ _ from h1.1); omega)
theorem en_bd {n : Nat} {G : Pg} (hG : PW n G) {i ρ : Nat} (hi : i < 256) (hρ : ρ < 4) : en n G i ρ ≠ -1000000000 := by
  have h := rn_bd hG 13 0 (r0 i) 0 (by omega) (fun r hr => by
    have := B3_20 0
    unfold r0
    split
    · rw [nI_toInt (by omega)]; omega
    · split
      · rw [nI_toInt (by omega)]; omega
      · rw [i_0]; omega) ρ hρ
  intro e
  have e2 : (en n G i ρ).toInt = -1000000000 := by rw [e]; decide
  have h : -MB ≤ (en n G i ρ).toInt ∧ (en n G i ρ).toInt ≤ MB := h
  unfold MB at h
  omega
theorem ex_none {n : Nat} {G : Pg} (hG : PW n G) {ρ : Nat} {x2 : Int32} (hρ : ρ < 4) : ∀ i, i ≤ 256 → ∀ b, exS n G ρ x2 i = some b → b ≠ -1000000000
  | 0, _, b, h => by simp [exS] at h
  | i + 1, hi, b, h => by
    rw [exS] at h
    split at h
    · exact ex_none hG hρ i (by omega) b h
    · have h := Option.some.inj h
      rw [← h]
      split
      · exact en_bd hG (by omega) hρ
      · rename_i b' he
        by_cases hc : (if x2 = 0 then en n G i ρ < b' else b' < en n G i ρ)
        · rw [if_pos hc]; exact en_bd hG (by omega) hρ
        · rw [if_neg hc]; exact ex_none hG hρ i (by omega) b' he
theorem ex_t {n : Nat} {G : Pg} (hG : PW n G) {ρ : Nat} {x2 : Int32} {i : Nat} (hρ : ρ < 4) (hi : i ≤ 256) (h : (exS n G ρ x2 i).getD (-1000000000) = -1000000000) : (exS n G ρ x2 i).isSome = false := by
  cases he : exS n G ρ x2 i with
  | none => rfl
  | some b => rw [he, Option.getD_some] at h; exact absurd h (ex_none hG hρ i hi b he)
theorem ex_f {n : Nat} {G : Pg} {ρ : Nat} {x2 : Int32} {i : Nat} (h : ¬ (exS n G ρ x2 i).getD (-1000000000) = -1000000000) : (exS n G ρ x2 i).isSome = true := by
  cases he : exS n G ρ x2 i with
  | none => rw [he] at h; exact absurd rfl h
  | some b => rfl
def xB (n : Nat) (G : Pg) (ρ : Nat) (x2 : Int32) (i : Nat) : Bool := !(exS n G ρ x2 i).isSome || decide (if x2 = 0 then en n G i ρ < (exS n G ρ x2 i).getD (-1000000000) else (exS n G ρ x2 i).getD (-1000000000) < en n G i ρ)
theorem xB_t {n : Nat} {G : Pg} {ρ : Nat} {x2 : Int32} {i : Nat} (h : (exS n G ρ x2 i).isSome = false ∨ if x2 = 0 then en n G i ρ < (exS n G ρ x2 i).getD (-1000000000) else (exS n G ρ x2 i).getD (-1000000000) < en n G i ρ) : nI 1 = bI (xB n G ρ x2 i) := by
  refine bI_t ?_
  unfold xB
  rcases h with q | q
  · rw [q]; rfl
  · rw [decide_eq_true q, Bool.or_true]
theorem xB_f {n : Nat} {G : Pg} {ρ : Nat} {x2 : Int32} {i : Nat} (h : (exS n G ρ x2 i).isSome = true) (h2 : ¬ if x2 = 0 then en n G i ρ < (exS n G ρ x2 i).getD (-1000000000) else (exS n G ρ x2 i).getD (-1000000000) < en n G i ρ) : nI 0 = bI (xB n G ρ x2 i) := by
  refine bI_f ?_
  unfold xB
  rw [h, decide_eq_false h2]; rfl
theorem exB_x {n : Nat} {G : Pg} {ρ : Nat} {x2 : Int32} {i : Nat} : exB n G ρ x2 i = (!fl n G i && xB n G ρ x2 i) := rfl
theorem or_bb (a b : Bool) : bI a ||| bI b = bI (a || b) := by cases a <;> cases b <;> decide
/-- marks: as many first inputs as marked paths -/
def pind (T : Nat → Nat) (mk : Nat → Bool) (k q : Nat) : Bool := mk q && decide (∃ i, i < k ∧ T i = q)
theorem sumN_one {f g : Nat → Nat} {c N : Nat} (hc : c < N) (h : ∀ q, q < N → q ≠ c → g q = f q) (h1 : g c = f c + 1) : sumN g N = sumN f N + 1 := by
  induction N with
  | zero => omega
  | succ N ih =>
    simp only [sumN]
    by_cases e : c = N
    · subst e
      rw [h1, sumN_congr c (fun q hq => h q (by omega) (by omega))]
      omega
    · rw [ih (by omega) (fun q hq hne => h q (by omega) hne), h N (by omega) (fun z => e z.symm)]
      omega
theorem mark_count {T : Nat → Nat} {mk : Nat → Bool} {N : Nat} (hT : ∀ i, T i < N) : ∀ k, sumN (fun i => b1 (mk (T i) && decide (∀ j, j < i → T j ≠ T i))) k = sumN (fun q => b1 (pind T mk k q)) N
  | 0 => by
    have h : sumN (fun q => b1 (pind T mk 0 q)) N = sumN (fun _ => 0) N := sumN_congr N (fun q _ => by
      unfold pind
      rw [decide_eq_false (by rintro ⟨i, hi, _⟩; omega), Bool.and_false]
      rfl)
    have h2 : ∀ k, sumN (fun _ => 0) k = 0 := by
      intro k
      induction k with
      | zero => rfl
      | succ k ih => simp only [sumN]; omega
    rw [h, h2]
    rfl
  | k + 1 => by
    show sumN (fun i => b1 (mk (T i) && decide (∀ j, j < i → T j ≠ T i))) k + b1 (mk (T k) && decide (∀ j, j < k → T j ≠ T k)) = _
    rw [mark_count hT k]
    by_cases hf : ∀ j, j < k → T j ≠ T k
    · rw [decide_eq_true hf, Bool.and_true]
      cases hm : mk (T k)
      · rw [show b1 false = 0 from rfl, Nat.add_zero]
        refine sumN_congr N (fun q _ => ?_)
        unfold pind
        by_cases e : q = T k
        · rw [e, hm]; rfl
        · congr 2
          exact decide_eq_decide.mpr ⟨fun ⟨i, h1, h2⟩ => ⟨i, by omega, h2⟩, fun ⟨i, h1, h2⟩ => ⟨i, by rcases Nat.lt_or_eq_of_le (Nat.le_of_lt_succ h1) with z | z; exact z; rw [z] at h2; exact absurd h2.symm e, h2⟩⟩
      · rw [show b1 true = 1 from rfl]
        refine (sumN_one (c := T k) (hT k) (fun q _ hne => ?_) ?_).symm
        · unfold pind
          congr 2
          exact decide_eq_decide.mpr ⟨fun ⟨i, h1, h2⟩ => ⟨i, by rcases Nat.lt_or_eq_of_le (Nat.le_of_lt_succ h1) with z | z; exact z; rw [z] at h2; exact absurd h2.symm hne, h2⟩, fun ⟨i, h1, h2⟩ => ⟨i, by omega, h2⟩⟩
        · unfold pind
          rw [hm, decide_eq_true ⟨k, by omega, rfl⟩, decide_eq_false (by rintro ⟨i, h1, h2⟩; exact hf i h1 h2)]
          rfl
    · rw [decide_eq_false hf, Bool.and_false]
      show _ + 0 = _
      rw [Nat.add_zero]
      refine sumN_congr N (fun q _ => ?_)
      unfold pind
      congr 2
      refine decide_eq_decide.mpr ⟨fun ⟨i, h1, h2⟩ => ⟨i, by omega, h2⟩, fun ⟨i, h1, h2⟩ => ?_⟩
      rcases Nat.lt_or_eq_of_le (Nat.le_of_lt_succ h1) with z | z
      · exact ⟨i, z, h2⟩
      · refine Decidable.byContradiction fun hno => hf fun j hj hj2 => hno ⟨j, hj, ?_⟩
        rw [hj2, ← z, h2]
theorem mark_all {n : Nat} {G : Pg} {mk : Nat → Bool} (hG : PW n G) (hm : ∀ q, mk q = true → ∃ i, i < 256 ∧ pt n G i = q) : sumN (fun i => b1 (mk (pt n G i) && isF n G i)) 256 = sumN (fun q => b1 (mk q)) 4096 := by
  have h := mark_count (T := pt n G) (mk := mk) (N := 4096) (fun i => pt_lt hG i) 256
  refine Eq.trans h (sumN_congr 4096 (fun q _ => ?_))
  unfold pind
  cases hq : mk q
  · rfl
  · rw [decide_eq_true (hm q hq)]; rfl
theorem ge_s {i : Nat} {x : Int32} (h : ¬ nI i < x) (hi : i < 256) : ¬ nI (i + 1) < x := by
  rw [Int32.lt_iff_toInt_lt, nI_toInt (by omega)] at h ⊢
  omega
theorem ge_0 {x : Int32} (h : ¬ 0 ≤ x) : ¬ nI 0 < x := by
  rw [Int32.le_iff_toInt_le, i_0] at h
  rw [Int32.lt_iff_toInt_lt, ti_0]
  omega
theorem in01 {x : Int32} (h0 : ¬ x < 0) (h1 : x ≤ nI 1) : x = 0 ∨ x = 1 := by
  rw [Int32.lt_iff_toInt_lt, i_0] at h0
  rw [Int32.le_iff_toInt_le, ti_1] at h1
  rcases (show x.toInt = 0 ∨ x.toInt = 1 by omega) with e | e
  · exact Or.inl (Int32.toInt_inj.mp (by rw [e, i_0]))
  · exact Or.inr (Int32.toInt_inj.mp (by rw [e]; decide))
end
section
set_option maxHeartbeats 4000000 in
set_option maxRecDepth 100000 in
/-- firstLike(input) -/
theorem kX_firstLike (l : Launch) (D : va_G) (d : Nat → ClassId) (h : Nat → Nat) (sz wy kn : Int32) (fK fP fN fO fD fI fR fH fT fF fE fM : Nat → Int32) (P : Nat → Nat) (hP : ∀ i, i < 256 → fT i = nI (P i)) (hB : ∀ i, P i < 2 ^ 31) (j : Nat) (hj : j < 256) : CT l yX0_firstLike (ws_ yX0_firstLike cX0_firstLike 3 (some .int)) (rk 0) D d [.ref (h 0), .int (nI j)] (wX h d sz wy kn fK fP fN fO fD fI fR fH fT fF fE fM) (fun r w' => Fnd (fun i => P i = P j) r ∧ w' = wX h d sz wy kn fK fP fN fO fD fI fR fH fT fF fE fM) := by
  refine ct_in (cc := cX0_firstLike) (nL := 3) (ty := .int) (by decide) rfl (Nat.le_of_ble_eq_true rfl) ?_
  intro pg e s m ar bl me c A Q ls C I hl hret
  have hx := C.1.1
  have hb := C.1.2.1
  have hl : lv_has ls 3 [(0, .ref (h 0)), (1, .int (nI j))] := hl
  refine lv_iconst (v := nI 0) hx hb dX0_firstLike_0 (by decide) ?_
  refine lv_istore_n (lv' := [(2, .int (nI 0)), (0, .ref (h 0)), (1, .int (nI j))]) hx hb dX0_firstLike_1 rfl hl (by decide) rfl (fun ls hl => ?_)
  have lp : ∀ (nn : Nat) (i : Nat) (H : Heap) (locs : List Loc) (ls : Array Slot), j + 1 ≤ i + nn → (i ≤ j) → (∀ k, k < i → ¬ P k = P j) → IW D A s.heap (wX h d sz wy kn fK fP fN fO fD fI fR fH fT fF fE fM) H locs → lv_has ls 3 [(0, .ref (h 0)), (1, .int (nI j)), (2, .int (nI i))] → W pg l e (rk 0) s m ar bl me c H locs 0 0 Q (F0 m 2 ls []) := by
    intro nn
    induction nn with
    | zero => intro i H locs ls hme hi hL; exact absurd hme (by omega)
    | succ nn ih =>
      intro i H locs ls hme hi hL I hl
      refine lv_aload_n hx hb dX0_firstLike_2 rfl (lv_at hl 0 rfl) ?_
      refine x_get C I rfl 11 (by decide) q42 rfl dX0_firstLike_3 ?_
      refine lv_iload_n hx hb dX0_firstLike_6 rfl (lv_at hl 2 rfl) ?_
      refine i_sld C I 9 rfl (by omega) dX0_firstLike_7 ?_
      refine lv_topi (fun z_1 ez_1 => ?_)
      obtain rfl : z_1 = nI (P i) := ez_1.trans (hP _ (by omega))
      refine lv_aload_n hx hb dX0_firstLike_8 rfl (lv_at hl 0 rfl) ?_
      refine x_get C I rfl 11 (by decide) q42 rfl dX0_firstLike_9 ?_
      refine lv_iload_n hx hb dX0_firstLike_12 rfl (lv_at hl 1 rfl) ?_
      refine i_sld C I 9 rfl (by omega) dX0_firstLike_13 ?_
      refine lv_topi (fun z_2 ez_2 => ?_)
      obtain rfl : z_2 = nI (P j) := ez_2.trans (hP _ (by omega))
      refine n_eq (tgt := 23) hx hb dX0_firstLike_14 (by decide) (hB _) (hB _) (fun c_14 => ?_) (fun c_14 => ?_)
      · refine lv_iload_n hx hb dX0_firstLike_23 rfl (lv_at hl 2 rfl) ?_
        exact hret (nI i) _ _ _ _ _ rfl I (⟨Or.inl ⟨i, by omega, c_14, hL, rfl⟩, rfl⟩) dX0_firstLike_24
      · refine lv_iinc (v := (nI (i + 1))) (lv' := [(2, .int (nI (i + 1))), (0, .ref (h 0)), (1, .int (nI j))]) hx hb dX0_firstLike_17 hl (k := 2) rfl (n_inc _) (by decide) rfl (fun ls hl => ?_)
        refine lv_goto (tgt := 2) hx hb dX0_firstLike_20 (by decide) ?_
        have hne : i ≠ j := fun q => c_14 (by rw [q])
        exact ih (i + 1) _ _ _ (by omega) (by omega) (fun k hk => by rcases Nat.lt_or_eq_of_le (Nat.le_of_lt_succ hk) with q | q; exact hL k q; rw [q]; exact c_14) I (lv_sub hl [1, 2, 0] rfl)
  exact lp (j + 1) 0 _ _ _ (by omega) (by omega) (fun _ h => absurd h (by omega)) I (lv_sub hl [1, 2, 0] rfl)
set_option maxHeartbeats 4000000 in
set_option maxRecDepth 100000 in
/-- reach(p) -/
theorem kX_reach (l : Launch) (D : va_G) (d : Nat → ClassId) (h : Nat → Nat) (n : Nat) (G : Pg) (mk : Nat → Bool) (sz wy kn : Int32) (fK fP fN fO fD fI fR fH fT fF fE fM : Nat → Int32) (hX : XI n G mk sz kn fK fP fN fT fF fE fM) (x1 : Int32) : CT l yX0_reach (ws_ yX0_reach cX0_reach 4 (some .int)) (rk 6) D d [.ref (h 0), .int x1] (wX h d sz wy kn fK fP fN fO fD fI fR fH fT fF fE fM) (fun r w' => (QR x1 n (-1) (fun j r => r = nI (sumN (fun i => pt n G i / 2 ^ j % 2) 256)) r) ∧ XW n G mk h d w') := by
  have hXI := hX
  obtain ⟨rfl, hG, hP, hKn, hMk⟩ := hX
  have hn12 := hG.1
  refine ct_in (cc := cX0_reach) (nL := 4) (ty := .int) (by decide) rfl (Nat.le_of_ble_eq_true rfl) ?_
  intro pg e s m ar bl me c A Q ls C I hl hret
  have hx := C.1.1
  have hb := C.1.2.1
  have hl : lv_has ls 4 [(0, .ref (h 0)), (1, .int x1)] := hl
  cases hv : inR x1 n
  · refine lv_aload_n hx hb dX0_reach_0 rfl (lv_at hl 0 rfl) ?_
    refine lv_iload_n hx hb dX0_reach_1 rfl (lv_at hl 1 rfl) ?_
    refine ct_call (As := [.int x1]) (rest := []) C I (kX_isStep l D d h (nI n) wy kn fK fP fN fO fD fI fR fH fT fF fE fM x1) (cwV 1 C.1.2.2.2.2 (lw_V q105 q107 qs2 q21 q108) rfl rfl rfl (by decide +kernel) ⟨Nat.le_of_ble_eq_true rfl, Nat.le_of_ble_eq_true rfl⟩) rfl rfl rfl hl.1 rfl (Nat.le_of_ble_eq_true rfl) dX0_reach_2 ⟨Nat.zero_le _, Nat.zero_le _⟩ (fun r w' H locs hpo I => ?_)
    obtain ⟨rfl, rfl⟩ := hpo
    refine lv_topi (fun z_1 ez_1 => ?_)
    obtain rfl : z_1 = nI 0 := ez_1.trans (by rw [isP_n (by omega), hv]; rfl)
    refine n_ifne (tgt := 10) hx hb dX0_reach_5 (by decide) (by decide) (fun q => absurd q (by decide)) (fun _ => ?_)
    refine lv_iconst (v := -1) hx hb dX0_reach_8 (by decide) ?_
    exact hret (-1) _ _ _ _ _ rfl I (⟨QR.f (by omega) hv, ⟨_, _, _, _, _, _, _, _, _, _, _, _, _, _, _, hXI, rfl⟩⟩) dX0_reach_9
  · obtain ⟨j, hj, rfl⟩ := inR_t (n := n) hv
    refine lv_aload_n hx hb dX0_reach_0 rfl (lv_at hl 0 rfl) ?_
    refine lv_iload_n hx hb dX0_reach_1 rfl (lv_at hl 1 rfl) ?_
    refine ct_call (As := [.int (nI j)]) (rest := []) C I (kX_isStep l D d h (nI n) wy kn fK fP fN fO fD fI fR fH fT fF fE fM (nI j)) (cwV 1 C.1.2.2.2.2 (lw_V q105 q107 qs2 q21 q108) rfl rfl rfl (by decide +kernel) ⟨Nat.le_of_ble_eq_true rfl, Nat.le_of_ble_eq_true rfl⟩) rfl rfl rfl hl.1 rfl (Nat.le_of_ble_eq_true rfl) dX0_reach_2 ⟨Nat.zero_le _, Nat.zero_le _⟩ (fun r w' H locs hpo I => ?_)
    obtain ⟨rfl, rfl⟩ := hpo
    refine lv_topi (fun z_2 ez_2 => ?_)
    obtain rfl : z_2 = nI 1 := ez_2.trans (by rw [isP_n (by omega), hv]; rfl)
    refine n_ifne (tgt := 10) hx hb dX0_reach_5 (by decide) (by decide) (fun _ => ?_) (fun q => absurd q (by decide))
    refine lv_aload_n hx hb dX0_reach_10 rfl (lv_at hl 0 rfl) ?_
    refine cv_call (As := []) (rest := []) C I (kX_learn l D d h n G mk (nI n) wy kn fK fP fN fO fD fI fR fH fT fF fE fM hXI) (cwV 0 C.1.2.2.2.2 (lw_V q109 q111 qs3 q21 q112) rfl rfl rfl (by decide +kernel) ⟨Nat.le_of_ble_eq_true rfl, Nat.le_of_ble_eq_true rfl⟩) rfl rfl rfl hl.1 rfl (Nat.le_of_ble_eq_true rfl) dX0_reach_11 ⟨Nat.zero_le _, Nat.zero_le _⟩ (fun w' H locs hpo I => ?_)
    obtain ⟨wy9, O9, D9, I9, R9, H9, T, F, E, hKN, rfl⟩ := hpo
    refine lv_iconst (v := nI 0) hx hb dX0_reach_14 (by decide) ?_
    refine lv_istore_n (lv' := [(2, .int (nI 0)), (0, .ref (h 0)), (1, .int (nI j))]) hx hb dX0_reach_15 rfl hl (by decide) rfl (fun ls hl => ?_)
    refine lv_iconst (v := nI 0) hx hb dX0_reach_16 (by decide) ?_
    refine lv_istore_n (lv' := [(3, .int (nI 0)), (2, .int (nI 0)), (0, .ref (h 0)), (1, .int (nI j))]) hx hb dX0_reach_17 rfl hl (by decide) rfl (fun ls hl => ?_)
    have lp : ∀ (nn : Nat) (i : Nat) (H : Heap) (locs : List Loc) (ls : Array Slot), 256 + 1 ≤ i + nn → (i ≤ 256) → IW D A s.heap (wX h d (nI n) wy9 (nI 1) fK fP fN O9 D9 I9 R9 H9 T F E fM) H locs → lv_has ls 4 [(0, .ref (h 0)), (1, .int (nI j)), (2, .int (nI (sumN (fun i => pt n G i / 2 ^ j % 2) i))), (3, .int (nI i))] → W pg l e (rk 6) s m ar bl me c H locs 0 0 Q (F0 m 18 ls []) := by
      intro nn
      induction nn with
      | zero => intro i H locs ls hme hi; exact absurd hme (by omega)
      | succ nn ih =>
        intro i H locs ls hme hi I hl
        refine lv_iload_n hx hb dX0_reach_18 rfl (lv_at hl 3 rfl) ?_
        refine lv_sipush (v := nI 256) hx hb dX0_reach_19 (by decide) ?_
        refine n_ge (tgt := 44) hx hb dX0_reach_22 (by decide) (by omega) (by omega) (fun c_22 => ?_) (fun c_22 => ?_)
        · skip
          have hi2 : i = 256 := by omega
          refine lv_iload_n hx hb dX0_reach_44 rfl (lv_at hl 2 rfl) ?_
          exact hret (nI (sumN (fun i => pt n G i / 2 ^ j % 2) i)) _ _ _ _ _ rfl I (⟨QR.t hj (by omega) (by rw [hi2]), ⟨_, _, _, _, _, _, _, _, _, _, _, _, _, _, _, ⟨rfl, hG, hP, Or.inr ⟨rfl, hKN⟩, hMk⟩, rfl⟩⟩) dX0_reach_45
        · refine lv_iload_n hx hb dX0_reach_25 rfl (lv_at hl 2 rfl) ?_
          refine lv_aload_n hx hb dX0_reach_26 rfl (lv_at hl 0 rfl) ?_
          refine x_get C I rfl 11 (by decide) q42 rfl dX0_reach_27 ?_
          refine lv_iload_n hx hb dX0_reach_30 rfl (lv_at hl 3 rfl) ?_
          refine i_sld C I 9 rfl (by omega) dX0_reach_31 ?_
          refine lv_iload_n hx hb dX0_reach_32 rfl (lv_at hl 1 rfl) ?_
          refine lv_ishr hx hb dX0_reach_33 ?_
          refine lv_iconst (v := nI 1) hx hb dX0_reach_34 (by decide) ?_
          refine lv_iand hx hb dX0_reach_35 ?_
          refine lv_topi (fun z_3 ez_3 => ?_)
          obtain rfl : z_3 = nI (pt n G i / 2 ^ j % 2) := ez_3.trans (by rw [(hKN i (by omega)).1]; exact n_bit (Nat.lt_trans (pt_lt hG _) (by decide)) (by omega))
          refine n_add hx hb dX0_reach_36 ?_
          refine lv_istore_n (lv' := [(2, .int (nI (sumN (fun i => pt n G i / 2 ^ j % 2) i + (pt n G i / 2 ^ j % 2)))), (0, .ref (h 0)), (1, .int (nI j)), (3, .int (nI i))]) hx hb dX0_reach_37 rfl hl (by decide) rfl (fun ls hl => ?_)
          refine lv_iinc (v := (nI (i + 1))) (lv' := [(3, .int (nI (i + 1))), (2, .int (nI (sumN (fun i => pt n G i / 2 ^ j % 2) i + (pt n G i / 2 ^ j % 2)))), (0, .ref (h 0)), (1, .int (nI j))]) hx hb dX0_reach_38 hl (k := 3) rfl (n_inc _) (by decide) rfl (fun ls hl => ?_)
          refine lv_goto (tgt := 18) hx hb dX0_reach_41 (by decide) ?_
          exact ih (i + 1) _ _ _ (by omega) (by omega) I (lv_sub hl [2, 3, 1, 0] rfl)
    exact lp 257 0 _ _ _ (by omega) (by omega) I (lv_sub hl [2, 3, 1, 0] rfl)
set_option maxHeartbeats 4000000 in
set_option maxRecDepth 100000 in
/-- firstAt(p, from) -/
theorem kX_firstAt (l : Launch) (D : va_G) (d : Nat → ClassId) (h : Nat → Nat) (n : Nat) (G : Pg) (mk : Nat → Bool) (sz wy kn : Int32) (fK fP fN fO fD fI fR fH fT fF fE fM : Nat → Int32) (hX : XI n G mk sz kn fK fP fN fT fF fE fM) (x1 x2 : Int32) : CT l yX0_firstAt (ws_ yX0_firstAt cX0_firstAt 4 (some .int)) (rk 6) D d [.ref (h 0), .int x1, .int x2] (wX h d sz wy kn fK fP fN fO fD fI fR fH fT fF fE fM) (fun r w' => (QR x1 n (-1) (fun j r => Fnd (fun i => ¬ nI i < x2 ∧ pt n G i / 2 ^ j % 2 = 1) r) r) ∧ XW n G mk h d w') := by
  have hXI := hX
  obtain ⟨rfl, hG, hP, hKn, hMk⟩ := hX
  have hn12 := hG.1
  refine ct_in (cc := cX0_firstAt) (nL := 4) (ty := .int) (by decide) rfl (Nat.le_of_ble_eq_true rfl) ?_
  intro pg e s m ar bl me c A Q ls C I hl hret
  have hx := C.1.1
  have hb := C.1.2.1
  have hl : lv_has ls 4 [(0, .ref (h 0)), (1, .int x1), (2, .int x2)] := hl
  cases hv : inR x1 n
  · refine lv_aload_n hx hb dX0_firstAt_0 rfl (lv_at hl 0 rfl) ?_
    refine lv_iload_n hx hb dX0_firstAt_1 rfl (lv_at hl 1 rfl) ?_
    refine ct_call (As := [.int x1]) (rest := []) C I (kX_isStep l D d h (nI n) wy kn fK fP fN fO fD fI fR fH fT fF fE fM x1) (cwV 1 C.1.2.2.2.2 (lw_V q105 q107 qs2 q21 q108) rfl rfl rfl (by decide +kernel) ⟨Nat.le_of_ble_eq_true rfl, Nat.le_of_ble_eq_true rfl⟩) rfl rfl rfl hl.1 rfl (Nat.le_of_ble_eq_true rfl) dX0_firstAt_2 ⟨Nat.zero_le _, Nat.zero_le _⟩ (fun r w' H locs hpo I => ?_)
    obtain ⟨rfl, rfl⟩ := hpo
    refine lv_topi (fun z_1 ez_1 => ?_)
    obtain rfl : z_1 = nI 0 := ez_1.trans (by rw [isP_n (by omega), hv]; rfl)
    refine n_ifne (tgt := 10) hx hb dX0_firstAt_5 (by decide) (by decide) (fun q => absurd q (by decide)) (fun _ => ?_)
    refine lv_iconst (v := -1) hx hb dX0_firstAt_8 (by decide) ?_
    exact hret (-1) _ _ _ _ _ rfl I (⟨QR.f (by omega) hv, ⟨_, _, _, _, _, _, _, _, _, _, _, _, _, _, _, hXI, rfl⟩⟩) dX0_firstAt_9
  · obtain ⟨j, hj, rfl⟩ := inR_t (n := n) hv
    refine lv_aload_n hx hb dX0_firstAt_0 rfl (lv_at hl 0 rfl) ?_
    refine lv_iload_n hx hb dX0_firstAt_1 rfl (lv_at hl 1 rfl) ?_
    refine ct_call (As := [.int (nI j)]) (rest := []) C I (kX_isStep l D d h (nI n) wy kn fK fP fN fO fD fI fR fH fT fF fE fM (nI j)) (cwV 1 C.1.2.2.2.2 (lw_V q105 q107 qs2 q21 q108) rfl rfl rfl (by decide +kernel) ⟨Nat.le_of_ble_eq_true rfl, Nat.le_of_ble_eq_true rfl⟩) rfl rfl rfl hl.1 rfl (Nat.le_of_ble_eq_true rfl) dX0_firstAt_2 ⟨Nat.zero_le _, Nat.zero_le _⟩ (fun r w' H locs hpo I => ?_)
    obtain ⟨rfl, rfl⟩ := hpo
    refine lv_topi (fun z_2 ez_2 => ?_)
    obtain rfl : z_2 = nI 1 := ez_2.trans (by rw [isP_n (by omega), hv]; rfl)
    refine n_ifne (tgt := 10) hx hb dX0_firstAt_5 (by decide) (by decide) (fun _ => ?_) (fun q => absurd q (by decide))
    refine lv_aload_n hx hb dX0_firstAt_10 rfl (lv_at hl 0 rfl) ?_
    refine cv_call (As := []) (rest := []) C I (kX_learn l D d h n G mk (nI n) wy kn fK fP fN fO fD fI fR fH fT fF fE fM hXI) (cwV 0 C.1.2.2.2.2 (lw_V q109 q111 qs3 q21 q112) rfl rfl rfl (by decide +kernel) ⟨Nat.le_of_ble_eq_true rfl, Nat.le_of_ble_eq_true rfl⟩) rfl rfl rfl hl.1 rfl (Nat.le_of_ble_eq_true rfl) dX0_firstAt_11 ⟨Nat.zero_le _, Nat.zero_le _⟩ (fun w' H locs hpo I => ?_)
    obtain ⟨wy9, O9, D9, I9, R9, H9, T, F, E, hKN, rfl⟩ := hpo
    have lp : ∀ (nn : Nat) (i : Nat) (H : Heap) (locs : List Loc) (ls : Array Slot), 256 + 1 ≤ i + nn → (i ≤ 256) → (¬ nI i < x2) → (∀ k, k < i → ¬ (fun i => ¬ nI i < x2 ∧ pt n G i / 2 ^ j % 2 = 1) k) → IW D A s.heap (wX h d (nI n) wy9 (nI 1) fK fP fN O9 D9 I9 R9 H9 T F E fM) H locs → lv_has ls 4 [(0, .ref (h 0)), (1, .int (nI j)), (2, .int x2), (3, .int (nI i))] → W pg l e (rk 6) s m ar bl me c H locs 0 0 Q (F0 m 24 ls []) := by
      intro nn
      induction nn with
      | zero => intro i H locs ls hme hi hge hL; exact absurd hme (by omega)
      | succ nn ih =>
        intro i H locs ls hme hi hge hL I hl
        refine lv_iload_n hx hb dX0_firstAt_24 rfl (lv_at hl 3 rfl) ?_
        refine lv_sipush (v := nI 256) hx hb dX0_firstAt_25 (by decide) ?_
        refine n_ge (tgt := 52) hx hb dX0_firstAt_28 (by decide) (by omega) (by omega) (fun c_28 => ?_) (fun c_28 => ?_)
        · refine lv_iconst (v := -1) hx hb dX0_firstAt_52 (by decide) ?_
          exact hret (-1) _ _ _ _ _ rfl I (⟨QR.t hj (by omega) (Or.inr ⟨fun k hk => hL k (by omega), rfl⟩), ⟨_, _, _, _, _, _, _, _, _, _, _, _, _, _, _, ⟨rfl, hG, hP, Or.inr ⟨rfl, hKN⟩, hMk⟩, rfl⟩⟩) dX0_firstAt_53
        · skip
          refine lv_aload_n hx hb dX0_firstAt_31 rfl (lv_at hl 0 rfl) ?_
          refine x_get C I rfl 11 (by decide) q42 rfl dX0_firstAt_32 ?_
          refine lv_iload_n hx hb dX0_firstAt_35 rfl (lv_at hl 3 rfl) ?_
          refine i_sld C I 9 rfl (by omega) dX0_firstAt_36 ?_
          refine lv_iload_n hx hb dX0_firstAt_37 rfl (lv_at hl 1 rfl) ?_
          refine lv_ishr hx hb dX0_firstAt_38 ?_
          refine lv_iconst (v := nI 1) hx hb dX0_firstAt_39 (by decide) ?_
          refine lv_iand hx hb dX0_firstAt_40 ?_
          refine lv_topi (fun z_3 ez_3 => ?_)
          obtain rfl : z_3 = nI (pt n G i / 2 ^ j % 2) := ez_3.trans (by rw [(hKN i (by omega)).1]; exact n_bit (Nat.lt_trans (pt_lt hG _) (by decide)) (by omega))
          refine n_ifeq (tgt := 46) hx hb dX0_firstAt_41 (by decide) (by omega) (fun c_41 => ?_) (fun c_41 => ?_)
          · refine lv_iinc (v := (nI (i + 1))) (lv' := [(3, .int (nI (i + 1))), (0, .ref (h 0)), (1, .int (nI j)), (2, .int x2)]) hx hb dX0_firstAt_46 hl (k := 3) rfl (n_inc _) (by decide) rfl (fun ls hl => ?_)
            refine lv_goto (tgt := 24) hx hb dX0_firstAt_49 (by decide) ?_
            exact ih (i + 1) _ _ _ (by omega) (by omega) (ge_s hge (by omega)) (fun k hk => by rcases Nat.lt_or_eq_of_le (Nat.le_of_lt_succ hk) with q | q; exact hL k q; rw [q]; exact (fun q => by have := q.2; omega)) I (lv_sub hl [1, 2, 3, 0] rfl)
          · refine lv_iload_n hx hb dX0_firstAt_44 rfl (lv_at hl 3 rfl) ?_
            exact hret (nI i) _ _ _ _ _ rfl I (⟨QR.t hj (by omega) (Or.inl ⟨i, by omega, ⟨hge, by omega⟩, hL, rfl⟩), ⟨_, _, _, _, _, _, _, _, _, _, _, _, _, _, _, ⟨rfl, hG, hP, Or.inr ⟨rfl, hKN⟩, hMk⟩, rfl⟩⟩) dX0_firstAt_45
    refine lv_iload_n hx hb dX0_firstAt_14 rfl (lv_at hl 2 rfl) ?_
    refine lv_if_ge (tgt := 22) hx hb dX0_firstAt_15 (by decide) (fun c_15 => ?_) (fun c_15 => ?_)
    · skip
      obtain ⟨f0, hf0, rfl⟩ := nI_of (Int32.not_lt.mpr c_15)
      refine lv_iload_n hx hb dX0_firstAt_22 rfl (lv_at hl 2 rfl) ?_
      refine lv_istore_n (lv' := [(3, .int (nI f0)), (0, .ref (h 0)), (1, .int (nI j)), (2, .int (nI f0))]) hx hb dX0_firstAt_23 rfl hl (by decide) rfl (fun ls hl => ?_)
      by_cases hf9 : f0 ≤ 256
      · exact lp 257 f0 _ _ _ (by omega) (by omega) (Int32.lt_irrefl) (fun k hk q => q.1 (nI_lt hk hf0)) I (lv_sub hl [1, 2, 3, 0] rfl)
      · refine lv_iload_n hx hb dX0_firstAt_24 rfl (lv_at hl 0 rfl) ?_
        refine lv_sipush (v := nI 256) hx hb dX0_firstAt_25 (by decide) ?_
        refine n_ge (tgt := 52) hx hb dX0_firstAt_28 (by decide) (by omega) (by omega) (fun c_28 => ?_) (fun c_28 => ?_)
        · refine lv_iconst (v := -1) hx hb dX0_firstAt_52 (by decide) ?_
          exact hret (-1) _ _ _ _ _ rfl I (⟨QR.t hj (by omega) (Or.inr ⟨fun k hk q => q.1 (nI_lt (by omega) hf0), rfl⟩), ⟨_, _, _, _, _, _, _, _, _, _, _, _, _, _, _, ⟨rfl, hG, hP, Or.inr ⟨rfl, hKN⟩, hMk⟩, rfl⟩⟩) dX0_firstAt_53
        · skip
          exfalso
          omega
    · refine lv_iconst (v := nI 0) hx hb dX0_firstAt_18 (by decide) ?_
      refine lv_goto (tgt := 23) hx hb dX0_firstAt_19 (by decide) ?_
      refine lv_istore_n (lv' := [(3, .int (nI 0)), (0, .ref (h 0)), (1, .int (nI j)), (2, .int x2)]) hx hb dX0_firstAt_23 rfl hl (by decide) rfl (fun ls hl => ?_)
      exact lp 257 0 _ _ _ (by omega) (by omega) (ge_0 c_15) (fun _ h => absurd h (by omega)) I (lv_sub hl [1, 2, 3, 0] rfl)
end
section
set_option maxHeartbeats 4000000 in
set_option maxRecDepth 100000 in
/-- failing() -/
theorem kX_failing (l : Launch) (D : va_G) (d : Nat → ClassId) (h : Nat → Nat) (n : Nat) (G : Pg) (mk : Nat → Bool) (sz wy kn : Int32) (fK fP fN fO fD fI fR fH fT fF fE fM : Nat → Int32) (hX : XI n G mk sz kn fK fP fN fT fF fE fM)  : CT l yX0_failing (ws_ yX0_failing cX0_failing 3 (some .int)) (rk 6) D d [.ref (h 0)] (wX h d sz wy kn fK fP fN fO fD fI fR fH fT fF fE fM) (fun r w' => r = nI (sumN (fun i => b1 (fl n G i)) 256) ∧ XW n G mk h d w') := by
  have hXI := hX
  obtain ⟨rfl, hG, hP, hKn, hMk⟩ := hX
  have hn12 := hG.1
  refine ct_in (cc := cX0_failing) (nL := 3) (ty := .int) (by decide) rfl (Nat.le_of_ble_eq_true rfl) ?_
  intro pg e s m ar bl me c A Q ls C I hl hret
  have hx := C.1.1
  have hb := C.1.2.1
  have hl : lv_has ls 3 [(0, .ref (h 0))] := hl
  refine lv_aload_n hx hb dX0_failing_0 rfl (lv_at hl 0 rfl) ?_
  refine cv_call (As := []) (rest := []) C I (kX_learn l D d h n G mk (nI n) wy kn fK fP fN fO fD fI fR fH fT fF fE fM hXI) (cwV 0 C.1.2.2.2.2 (lw_V q109 q111 qs3 q21 q112) rfl rfl rfl (by decide +kernel) ⟨Nat.le_of_ble_eq_true rfl, Nat.le_of_ble_eq_true rfl⟩) rfl rfl rfl hl.1 rfl (Nat.le_of_ble_eq_true rfl) dX0_failing_1 ⟨Nat.zero_le _, Nat.zero_le _⟩ (fun w' H locs hpo I => ?_)
  obtain ⟨wy9, O9, D9, I9, R9, H9, T, F, E, hKN, rfl⟩ := hpo
  refine lv_iconst (v := nI 0) hx hb dX0_failing_4 (by decide) ?_
  refine lv_istore_n (lv' := [(1, .int (nI 0)), (0, .ref (h 0))]) hx hb dX0_failing_5 rfl hl (by decide) rfl (fun ls hl => ?_)
  refine lv_iconst (v := nI 0) hx hb dX0_failing_6 (by decide) ?_
  refine lv_istore_n (lv' := [(2, .int (nI 0)), (1, .int (nI 0)), (0, .ref (h 0))]) hx hb dX0_failing_7 rfl hl (by decide) rfl (fun ls hl => ?_)
  have lp : ∀ (nn : Nat) (i : Nat) (H : Heap) (locs : List Loc) (ls : Array Slot), 256 + 1 ≤ i + nn → (i ≤ 256) → IW D A s.heap (wX h d (nI n) wy9 (nI 1) fK fP fN O9 D9 I9 R9 H9 T F E fM) H locs → lv_has ls 3 [(0, .ref (h 0)), (1, .int (nI (sumN (fun i => b1 (fl n G i)) i))), (2, .int (nI i))] → W pg l e (rk 6) s m ar bl me c H locs 0 0 Q (F0 m 8 ls []) := by
    intro nn
    induction nn with
    | zero => intro i H locs ls hme hi; exact absurd hme (by omega)
    | succ nn ih =>
      intro i H locs ls hme hi I hl
      refine lv_iload_n hx hb dX0_failing_8 rfl (lv_at hl 2 rfl) ?_
      refine lv_sipush (v := nI 256) hx hb dX0_failing_9 (by decide) ?_
      refine n_ge (tgt := 38) hx hb dX0_failing_12 (by decide) (by omega) (by omega) (fun c_12 => ?_) (fun c_12 => ?_)
      · skip
        have hi2 : i = 256 := by omega
        refine lv_iload_n hx hb dX0_failing_38 rfl (lv_at hl 1 rfl) ?_
        exact hret (nI (sumN (fun i => b1 (fl n G i)) i)) _ _ _ _ _ rfl I (⟨by rw [hi2], ⟨_, _, _, _, _, _, _, _, _, _, _, _, _, _, _, ⟨rfl, hG, hP, Or.inr ⟨rfl, hKN⟩, hMk⟩, rfl⟩⟩) dX0_failing_39
      · refine lv_iload_n hx hb dX0_failing_15 rfl (lv_at hl 1 rfl) ?_
        refine lv_aload_n hx hb dX0_failing_16 rfl (lv_at hl 0 rfl) ?_
        refine x_get C I rfl 12 (by decide) q43 rfl dX0_failing_17 ?_
        refine lv_iload_n hx hb dX0_failing_20 rfl (lv_at hl 2 rfl) ?_
        refine i_zld C I 10 rfl (by omega) dX0_failing_21 ?_
        refine lv_topi (fun z_1 ez_1 => ?_)
        obtain rfl : z_1 = bI (fl n G i) := ez_1.trans ((hKN i (by omega)).2.1)
        refine lv_if_eq (tgt := 29) hx hb dX0_failing_22 (by decide) (fun c_22 => ?_) (fun c_22 => ?_)
        · refine lv_iconst (v := nI 0) hx hb dX0_failing_29 (by decide) ?_
          refine n_add hx hb dX0_failing_30 ?_
          refine lv_topi (fun z_2 ez_2 => ?_)
          obtain rfl : z_2 = nI (sumN (fun i => b1 (fl n G i)) (i + 1)) := ez_2.trans (by show _ = nI (sumN (fun i => b1 (fl n G i)) i + b1 (fl n G i)); rw [show (fl n G i) = false from bI_0.mp c_22]; rfl)
          refine lv_istore_n (lv' := [(1, .int (nI (sumN (fun i => b1 (fl n G i)) (i + 1)))), (0, .ref (h 0)), (2, .int (nI i))]) hx hb dX0_failing_31 rfl hl (by decide) rfl (fun ls hl => ?_)
          refine lv_iinc (v := (nI (i + 1))) (lv' := [(2, .int (nI (i + 1))), (1, .int (nI (sumN (fun i => b1 (fl n G i)) (i + 1)))), (0, .ref (h 0))]) hx hb dX0_failing_32 hl (k := 2) rfl (n_inc _) (by decide) rfl (fun ls hl => ?_)
          refine lv_goto (tgt := 8) hx hb dX0_failing_35 (by decide) ?_
          exact ih (i + 1) _ _ _ (by omega) (by omega) I (lv_sub hl [2, 1, 0] rfl)
        · refine lv_iconst (v := nI 1) hx hb dX0_failing_25 (by decide) ?_
          refine lv_goto (tgt := 30) hx hb dX0_failing_26 (by decide) ?_
          refine n_add hx hb dX0_failing_30 ?_
          refine lv_topi (fun z_3 ez_3 => ?_)
          obtain rfl : z_3 = nI (sumN (fun i => b1 (fl n G i)) (i + 1)) := ez_3.trans (by show _ = nI (sumN (fun i => b1 (fl n G i)) i + b1 (fl n G i)); rw [show (fl n G i) = true from bI_n c_22]; rfl)
          refine lv_istore_n (lv' := [(1, .int (nI (sumN (fun i => b1 (fl n G i)) (i + 1)))), (0, .ref (h 0)), (2, .int (nI i))]) hx hb dX0_failing_31 rfl hl (by decide) rfl (fun ls hl => ?_)
          refine lv_iinc (v := (nI (i + 1))) (lv' := [(2, .int (nI (i + 1))), (1, .int (nI (sumN (fun i => b1 (fl n G i)) (i + 1)))), (0, .ref (h 0))]) hx hb dX0_failing_32 hl (k := 2) rfl (n_inc _) (by decide) rfl (fun ls hl => ?_)
          refine lv_goto (tgt := 8) hx hb dX0_failing_35 (by decide) ?_
          exact ih (i + 1) _ _ _ (by omega) (by omega) I (lv_sub hl [2, 1, 0] rfl)
  exact lp 257 0 _ _ _ (by omega) (by omega) I (lv_sub hl [2, 1, 0] rfl)
set_option maxHeartbeats 4000000 in
set_option maxRecDepth 100000 in
/-- firstFailing(from) -/
theorem kX_firstFailing (l : Launch) (D : va_G) (d : Nat → ClassId) (h : Nat → Nat) (n : Nat) (G : Pg) (mk : Nat → Bool) (sz wy kn : Int32) (fK fP fN fO fD fI fR fH fT fF fE fM : Nat → Int32) (hX : XI n G mk sz kn fK fP fN fT fF fE fM) (x1 : Int32) : CT l yX0_firstFailing (ws_ yX0_firstFailing cX0_firstFailing 3 (some .int)) (rk 6) D d [.ref (h 0), .int x1] (wX h d sz wy kn fK fP fN fO fD fI fR fH fT fF fE fM) (fun r w' => Fnd (fun i => ¬ nI i < x1 ∧ fl n G i = true) r ∧ XW n G mk h d w') := by
  have hXI := hX
  obtain ⟨rfl, hG, hP, hKn, hMk⟩ := hX
  have hn12 := hG.1
  refine ct_in (cc := cX0_firstFailing) (nL := 3) (ty := .int) (by decide) rfl (Nat.le_of_ble_eq_true rfl) ?_
  intro pg e s m ar bl me c A Q ls C I hl hret
  have hx := C.1.1
  have hb := C.1.2.1
  have hl : lv_has ls 3 [(0, .ref (h 0)), (1, .int x1)] := hl
  refine lv_aload_n hx hb dX0_firstFailing_0 rfl (lv_at hl 0 rfl) ?_
  refine cv_call (As := []) (rest := []) C I (kX_learn l D d h n G mk (nI n) wy kn fK fP fN fO fD fI fR fH fT fF fE fM hXI) (cwV 0 C.1.2.2.2.2 (lw_V q109 q111 qs3 q21 q112) rfl rfl rfl (by decide +kernel) ⟨Nat.le_of_ble_eq_true rfl, Nat.le_of_ble_eq_true rfl⟩) rfl rfl rfl hl.1 rfl (Nat.le_of_ble_eq_true rfl) dX0_firstFailing_1 ⟨Nat.zero_le _, Nat.zero_le _⟩ (fun w' H locs hpo I => ?_)
  obtain ⟨wy9, O9, D9, I9, R9, H9, T, F, E, hKN, rfl⟩ := hpo
  have lp : ∀ (nn : Nat) (i : Nat) (H : Heap) (locs : List Loc) (ls : Array Slot), 256 + 1 ≤ i + nn → (i ≤ 256) → (¬ nI i < x1) → (∀ k, k < i → ¬ (fun i => ¬ nI i < x1 ∧ fl n G i = true) k) → IW D A s.heap (wX h d (nI n) wy9 (nI 1) fK fP fN O9 D9 I9 R9 H9 T F E fM) H locs → lv_has ls 3 [(0, .ref (h 0)), (1, .int x1), (2, .int (nI i))] → W pg l e (rk 6) s m ar bl me c H locs 0 0 Q (F0 m 14 ls []) := by
    intro nn
    induction nn with
    | zero => intro i H locs ls hme hi hge hL; exact absurd hme (by omega)
    | succ nn ih =>
      intro i H locs ls hme hi hge hL I hl
      refine lv_iload_n hx hb dX0_firstFailing_14 rfl (lv_at hl 2 rfl) ?_
      refine lv_sipush (v := nI 256) hx hb dX0_firstFailing_15 (by decide) ?_
      refine n_ge (tgt := 38) hx hb dX0_firstFailing_18 (by decide) (by omega) (by omega) (fun c_18 => ?_) (fun c_18 => ?_)
      · refine lv_iconst (v := -1) hx hb dX0_firstFailing_38 (by decide) ?_
        exact hret (-1) _ _ _ _ _ rfl I (⟨Or.inr ⟨fun k hk => hL k (by omega), rfl⟩, ⟨_, _, _, _, _, _, _, _, _, _, _, _, _, _, _, ⟨rfl, hG, hP, Or.inr ⟨rfl, hKN⟩, hMk⟩, rfl⟩⟩) dX0_firstFailing_39
      · skip
        refine lv_aload_n hx hb dX0_firstFailing_21 rfl (lv_at hl 0 rfl) ?_
        refine x_get C I rfl 12 (by decide) q43 rfl dX0_firstFailing_22 ?_
        refine lv_iload_n hx hb dX0_firstFailing_25 rfl (lv_at hl 2 rfl) ?_
        refine i_zld C I 10 rfl (by omega) dX0_firstFailing_26 ?_
        refine lv_topi (fun z_1 ez_1 => ?_)
        obtain rfl : z_1 = bI (fl n G i) := ez_1.trans ((hKN i (by omega)).2.1)
        refine lv_if_eq (tgt := 32) hx hb dX0_firstFailing_27 (by decide) (fun c_27 => ?_) (fun c_27 => ?_)
        · refine lv_iinc (v := (nI (i + 1))) (lv' := [(2, .int (nI (i + 1))), (0, .ref (h 0)), (1, .int x1)]) hx hb dX0_firstFailing_32 hl (k := 2) rfl (n_inc _) (by decide) rfl (fun ls hl => ?_)
          refine lv_goto (tgt := 14) hx hb dX0_firstFailing_35 (by decide) ?_
          exact ih (i + 1) _ _ _ (by omega) (by omega) (ge_s hge (by omega)) (fun k hk => by rcases Nat.lt_or_eq_of_le (Nat.le_of_lt_succ hk) with q | q; exact hL k q; rw [q]; exact (fun q => absurd (q.2.symm.trans (bI_0.mp c_27)) (by decide))) I (lv_sub hl [1, 2, 0] rfl)
        · refine lv_iload_n hx hb dX0_firstFailing_30 rfl (lv_at hl 2 rfl) ?_
          exact hret (nI i) _ _ _ _ _ rfl I (⟨Or.inl ⟨i, by omega, ⟨hge, bI_n c_27⟩, hL, rfl⟩, ⟨_, _, _, _, _, _, _, _, _, _, _, _, _, _, _, ⟨rfl, hG, hP, Or.inr ⟨rfl, hKN⟩, hMk⟩, rfl⟩⟩) dX0_firstFailing_31
  refine lv_iload_n hx hb dX0_firstFailing_4 rfl (lv_at hl 1 rfl) ?_
  refine lv_if_ge (tgt := 12) hx hb dX0_firstFailing_5 (by decide) (fun c_5 => ?_) (fun c_5 => ?_)
  · skip
    obtain ⟨f0, hf0, rfl⟩ := nI_of (Int32.not_lt.mpr c_5)
    refine lv_iload_n hx hb dX0_firstFailing_12 rfl (lv_at hl 1 rfl) ?_
    refine lv_istore_n (lv' := [(2, .int (nI f0)), (0, .ref (h 0)), (1, .int (nI f0))]) hx hb dX0_firstFailing_13 rfl hl (by decide) rfl (fun ls hl => ?_)
    by_cases hf9 : f0 ≤ 256
    · exact lp 257 f0 _ _ _ (by omega) (by omega) (Int32.lt_irrefl) (fun k hk q => q.1 (nI_lt hk hf0)) I (lv_sub hl [1, 2, 0] rfl)
    · refine lv_iload_n hx hb dX0_firstFailing_14 rfl (lv_at hl 0 rfl) ?_
      refine lv_sipush (v := nI 256) hx hb dX0_firstFailing_15 (by decide) ?_
      refine n_ge (tgt := 38) hx hb dX0_firstFailing_18 (by decide) (by omega) (by omega) (fun c_18 => ?_) (fun c_18 => ?_)
      · refine lv_iconst (v := -1) hx hb dX0_firstFailing_38 (by decide) ?_
        exact hret (-1) _ _ _ _ _ rfl I (⟨Or.inr ⟨fun k hk q => q.1 (nI_lt (by omega) hf0), rfl⟩, ⟨_, _, _, _, _, _, _, _, _, _, _, _, _, _, _, ⟨rfl, hG, hP, Or.inr ⟨rfl, hKN⟩, hMk⟩, rfl⟩⟩) dX0_firstFailing_39
      · skip
        exfalso
        omega
  · refine lv_iconst (v := nI 0) hx hb dX0_firstFailing_8 (by decide) ?_
    refine lv_goto (tgt := 13) hx hb dX0_firstFailing_9 (by decide) ?_
    refine lv_istore_n (lv' := [(2, .int (nI 0)), (0, .ref (h 0)), (1, .int x1)]) hx hb dX0_firstFailing_13 rfl hl (by decide) rfl (fun ls hl => ?_)
    exact lp 257 0 _ _ _ (by omega) (by omega) (ge_0 c_5) (fun _ h => absurd h (by omega)) I (lv_sub hl [1, 2, 0] rfl)
set_option maxHeartbeats 4000000 in
set_option maxRecDepth 100000 in
/-- paths() -/
theorem kX_paths (l : Launch) (D : va_G) (d : Nat → ClassId) (h : Nat → Nat) (n : Nat) (G : Pg) (mk : Nat → Bool) (sz wy kn : Int32) (fK fP fN fO fD fI fR fH fT fF fE fM : Nat → Int32) (hX : XI n G mk sz kn fK fP fN fT fF fE fM)  : CT l yX0_paths (ws_ yX0_paths cX0_paths 3 (some .int)) (rk 6) D d [.ref (h 0)] (wX h d sz wy kn fK fP fN fO fD fI fR fH fT fF fE fM) (fun r w' => r = nI (sumN (fun i => b1 (isF n G i)) 256) ∧ XW n G mk h d w') := by
  have hXI := hX
  obtain ⟨rfl, hG, hP, hKn, hMk⟩ := hX
  have hn12 := hG.1
  refine ct_in (cc := cX0_paths) (nL := 3) (ty := .int) (by decide) rfl (Nat.le_of_ble_eq_true rfl) ?_
  intro pg e s m ar bl me c A Q ls C I hl hret
  have hx := C.1.1
  have hb := C.1.2.1
  have hl : lv_has ls 3 [(0, .ref (h 0))] := hl
  refine lv_aload_n hx hb dX0_paths_0 rfl (lv_at hl 0 rfl) ?_
  refine cv_call (As := []) (rest := []) C I (kX_learn l D d h n G mk (nI n) wy kn fK fP fN fO fD fI fR fH fT fF fE fM hXI) (cwV 0 C.1.2.2.2.2 (lw_V q109 q111 qs3 q21 q112) rfl rfl rfl (by decide +kernel) ⟨Nat.le_of_ble_eq_true rfl, Nat.le_of_ble_eq_true rfl⟩) rfl rfl rfl hl.1 rfl (Nat.le_of_ble_eq_true rfl) dX0_paths_1 ⟨Nat.zero_le _, Nat.zero_le _⟩ (fun w' H locs hpo I => ?_)
  obtain ⟨wy9, O9, D9, I9, R9, H9, T, F, E, hKN, rfl⟩ := hpo
  refine lv_iconst (v := nI 0) hx hb dX0_paths_4 (by decide) ?_
  refine lv_istore_n (lv' := [(1, .int (nI 0)), (0, .ref (h 0))]) hx hb dX0_paths_5 rfl hl (by decide) rfl (fun ls hl => ?_)
  refine lv_iconst (v := nI 0) hx hb dX0_paths_6 (by decide) ?_
  refine lv_istore_n (lv' := [(2, .int (nI 0)), (1, .int (nI 0)), (0, .ref (h 0))]) hx hb dX0_paths_7 rfl hl (by decide) rfl (fun ls hl => ?_)
  have lp : ∀ (nn : Nat) (i : Nat) (H : Heap) (locs : List Loc) (ls : Array Slot), 256 + 1 ≤ i + nn → (i ≤ 256) → IW D A s.heap (wX h d (nI n) wy9 (nI 1) fK fP fN O9 D9 I9 R9 H9 T F E fM) H locs → lv_has ls 3 [(0, .ref (h 0)), (1, .int (nI (sumN (fun i => b1 (isF n G i)) i))), (2, .int (nI i))] → W pg l e (rk 6) s m ar bl me c H locs 0 0 Q (F0 m 8 ls []) := by
    intro nn
    induction nn with
    | zero => intro i H locs ls hme hi; exact absurd hme (by omega)
    | succ nn ih =>
      intro i H locs ls hme hi I hl
      refine lv_iload_n hx hb dX0_paths_8 rfl (lv_at hl 2 rfl) ?_
      refine lv_sipush (v := nI 256) hx hb dX0_paths_9 (by decide) ?_
      refine n_ge (tgt := 38) hx hb dX0_paths_12 (by decide) (by omega) (by omega) (fun c_12 => ?_) (fun c_12 => ?_)
      · skip
        have hi2 : i = 256 := by omega
        refine lv_iload_n hx hb dX0_paths_38 rfl (lv_at hl 1 rfl) ?_
        exact hret (nI (sumN (fun i => b1 (isF n G i)) i)) _ _ _ _ _ rfl I (⟨by rw [hi2], ⟨_, _, _, _, _, _, _, _, _, _, _, _, _, _, _, ⟨rfl, hG, hP, Or.inr ⟨rfl, hKN⟩, hMk⟩, rfl⟩⟩) dX0_paths_39
      · refine lv_iload_n hx hb dX0_paths_15 rfl (lv_at hl 1 rfl) ?_
        refine lv_aload_n hx hb dX0_paths_16 rfl (lv_at hl 0 rfl) ?_
        refine lv_iload_n hx hb dX0_paths_17 rfl (lv_at hl 2 rfl) ?_
        refine ct_call (As := [.int (nI i)]) (rest := [.int (nI (sumN (fun i => b1 (isF n G i)) i))]) C I (kX_firstLike l D d h (nI n) wy9 (nI 1) fK fP fN O9 D9 I9 R9 H9 T F E fM (pt n G) (fun i hi => (hKN i hi).1) (fun _ => Nat.lt_trans (pt_lt hG _) (by decide)) i (by omega)) (cwV 1 C.1.2.2.2.2 (lw_V q174 q176 qs12 q21 q177) rfl rfl rfl (by decide +kernel) ⟨Nat.le_of_ble_eq_true rfl, Nat.le_of_ble_eq_true rfl⟩) rfl rfl rfl hl.1 rfl (Nat.le_of_ble_eq_true rfl) dX0_paths_18 ⟨Nat.zero_le _, Nat.zero_le _⟩ (fun r w' H locs hpo I => ?_)
        obtain ⟨hF1, rfl⟩ := hpo
        obtain ⟨i2, hi2a, hF2, hF3, rfl⟩ := fnd_like (by omega) hF1
        have hF3c : ∀ j, j < i2 → pt n G j ≠ pt n G i2 := fun j hj q => hF3 j hj (by rw [q, hF2])
        refine lv_iload_n hx hb dX0_paths_21 rfl (lv_at hl 2 rfl) ?_
        refine n_ne (tgt := 29) hx hb dX0_paths_22 (by decide) (by omega) (by omega) (fun c_22 => ?_) (fun c_22 => ?_)
        · refine lv_iconst (v := nI 0) hx hb dX0_paths_29 (by decide) ?_
          refine n_add hx hb dX0_paths_30 ?_
          refine lv_topi (fun z_1 ez_1 => ?_)
          obtain rfl : z_1 = nI (sumN (fun i => b1 (isF n G i)) (i + 1)) := ez_1.trans (by show _ = nI (sumN (fun i => b1 (isF n G i)) i + b1 (isF n G i)); rw [show (isF n G i) = false from decide_eq_false (fun q => q i2 (by omega) hF2)]; rfl)
          refine lv_istore_n (lv' := [(1, .int (nI (sumN (fun i => b1 (isF n G i)) (i + 1)))), (0, .ref (h 0)), (2, .int (nI i))]) hx hb dX0_paths_31 rfl hl (by decide) rfl (fun ls hl => ?_)
          refine lv_iinc (v := (nI (i + 1))) (lv' := [(2, .int (nI (i + 1))), (1, .int (nI (sumN (fun i => b1 (isF n G i)) (i + 1)))), (0, .ref (h 0))]) hx hb dX0_paths_32 hl (k := 2) rfl (n_inc _) (by decide) rfl (fun ls hl => ?_)
          refine lv_goto (tgt := 8) hx hb dX0_paths_35 (by decide) ?_
          exact ih (i + 1) _ _ _ (by omega) (by omega) I (lv_sub hl [2, 1, 0] rfl)
        · refine lv_iconst (v := nI 1) hx hb dX0_paths_25 (by decide) ?_
          refine lv_goto (tgt := 30) hx hb dX0_paths_26 (by decide) ?_
          refine n_add hx hb dX0_paths_30 ?_
          refine lv_topi (fun z_2 ez_2 => ?_)
          obtain rfl : z_2 = nI (sumN (fun i => b1 (isF n G i)) (i + 1)) := ez_2.trans (by show _ = nI (sumN (fun i => b1 (isF n G i)) i + b1 (isF n G i)); rw [show (isF n G i) = true from decide_eq_true (by rw [← c_22]; exact hF3c)]; rfl)
          refine lv_istore_n (lv' := [(1, .int (nI (sumN (fun i => b1 (isF n G i)) (i + 1)))), (0, .ref (h 0)), (2, .int (nI i))]) hx hb dX0_paths_31 rfl hl (by decide) rfl (fun ls hl => ?_)
          refine lv_iinc (v := (nI (i + 1))) (lv' := [(2, .int (nI (i + 1))), (1, .int (nI (sumN (fun i => b1 (isF n G i)) (i + 1)))), (0, .ref (h 0))]) hx hb dX0_paths_32 hl (k := 2) rfl (n_inc _) (by decide) rfl (fun ls hl => ?_)
          refine lv_goto (tgt := 8) hx hb dX0_paths_35 (by decide) ?_
          exact ih (i + 1) _ _ _ (by omega) (by omega) I (lv_sub hl [2, 1, 0] rfl)
  exact lp 257 0 _ _ _ (by omega) (by omega) I (lv_sub hl [2, 1, 0] rfl)
set_option maxHeartbeats 4000000 in
set_option maxRecDepth 100000 in
/-- alike(input) -/
theorem kX_alike (l : Launch) (D : va_G) (d : Nat → ClassId) (h : Nat → Nat) (n : Nat) (G : Pg) (mk : Nat → Bool) (sz wy kn : Int32) (fK fP fN fO fD fI fR fH fT fF fE fM : Nat → Int32) (hX : XI n G mk sz kn fK fP fN fT fF fE fM) (x1 : Int32) : CT l yX0_alike (ws_ yX0_alike cX0_alike 4 (some .int)) (rk 6) D d [.ref (h 0), .int x1] (wX h d sz wy kn fK fP fN fO fD fI fR fH fT fF fE fM) (fun r w' => (QR x1 256 (-1) (fun j r => r = nI (sumN (fun i => b1 (decide (pt n G i = pt n G j))) 256)) r) ∧ XW n G mk h d w') := by
  have hXI := hX
  obtain ⟨rfl, hG, hP, hKn, hMk⟩ := hX
  have hn12 := hG.1
  refine ct_in (cc := cX0_alike) (nL := 4) (ty := .int) (by decide) rfl (Nat.le_of_ble_eq_true rfl) ?_
  intro pg e s m ar bl me c A Q ls C I hl hret
  have hx := C.1.1
  have hb := C.1.2.1
  have hl : lv_has ls 4 [(0, .ref (h 0)), (1, .int x1)] := hl
  cases hv : inR x1 256
  · refine lv_iload_n hx hb dX0_alike_0 rfl (lv_at hl 1 rfl) ?_
    refine cs_call (As := [.int x1]) (rest := []) C.1 (kX_isInput l x1) (va_cwS 1 C.1.2.2.2.2 (lw_S q182 q183 q21 q184) rfl rfl rfl (by decide +kernel) ⟨Nat.le_of_ble_eq_true rfl, Nat.le_of_ble_eq_true rfl⟩) rfl hl.1 rfl (Nat.le_of_ble_eq_true rfl) dX0_alike_1 ⟨Nat.zero_le _, Nat.zero_le _⟩ (fun r hpo => ?_)
    obtain rfl : r = nI 0 := hpo.trans (by rw [hv]; rfl)
    refine n_ifne (tgt := 9) hx hb dX0_alike_4 (by decide) (by decide) (fun q => absurd q (by decide)) (fun _ => ?_)
    refine lv_iconst (v := -1) hx hb dX0_alike_7 (by decide) ?_
    exact hret (-1) _ _ _ _ _ rfl I (⟨QR.f (by omega) hv, ⟨_, _, _, _, _, _, _, _, _, _, _, _, _, _, _, hXI, rfl⟩⟩) dX0_alike_8
  · obtain ⟨j, hj, rfl⟩ := inR_t (n := 256) hv
    refine lv_iload_n hx hb dX0_alike_0 rfl (lv_at hl 1 rfl) ?_
    refine cs_call (As := [.int (nI j)]) (rest := []) C.1 (kX_isInput l (nI j)) (va_cwS 1 C.1.2.2.2.2 (lw_S q182 q183 q21 q184) rfl rfl rfl (by decide +kernel) ⟨Nat.le_of_ble_eq_true rfl, Nat.le_of_ble_eq_true rfl⟩) rfl hl.1 rfl (Nat.le_of_ble_eq_true rfl) dX0_alike_1 ⟨Nat.zero_le _, Nat.zero_le _⟩ (fun r hpo => ?_)
    obtain rfl : r = nI 1 := hpo.trans (by rw [hv]; rfl)
    refine n_ifne (tgt := 9) hx hb dX0_alike_4 (by decide) (by decide) (fun _ => ?_) (fun q => absurd q (by decide))
    refine lv_aload_n hx hb dX0_alike_9 rfl (lv_at hl 0 rfl) ?_
    refine cv_call (As := []) (rest := []) C I (kX_learn l D d h n G mk (nI n) wy kn fK fP fN fO fD fI fR fH fT fF fE fM hXI) (cwV 0 C.1.2.2.2.2 (lw_V q109 q111 qs3 q21 q112) rfl rfl rfl (by decide +kernel) ⟨Nat.le_of_ble_eq_true rfl, Nat.le_of_ble_eq_true rfl⟩) rfl rfl rfl hl.1 rfl (Nat.le_of_ble_eq_true rfl) dX0_alike_10 ⟨Nat.zero_le _, Nat.zero_le _⟩ (fun w' H locs hpo I => ?_)
    obtain ⟨wy9, O9, D9, I9, R9, H9, T, F, E, hKN, rfl⟩ := hpo
    refine lv_iconst (v := nI 0) hx hb dX0_alike_13 (by decide) ?_
    refine lv_istore_n (lv' := [(2, .int (nI 0)), (0, .ref (h 0)), (1, .int (nI j))]) hx hb dX0_alike_14 rfl hl (by decide) rfl (fun ls hl => ?_)
    refine lv_iconst (v := nI 0) hx hb dX0_alike_15 (by decide) ?_
    refine lv_istore_n (lv' := [(3, .int (nI 0)), (2, .int (nI 0)), (0, .ref (h 0)), (1, .int (nI j))]) hx hb dX0_alike_16 rfl hl (by decide) rfl (fun ls hl => ?_)
    have lp : ∀ (nn : Nat) (i : Nat) (H : Heap) (locs : List Loc) (ls : Array Slot), 256 + 1 ≤ i + nn → (i ≤ 256) → IW D A s.heap (wX h d (nI n) wy9 (nI 1) fK fP fN O9 D9 I9 R9 H9 T F E fM) H locs → lv_has ls 4 [(0, .ref (h 0)), (1, .int (nI j)), (2, .int (nI (sumN (fun i => b1 (decide (pt n G i = pt n G j))) i))), (3, .int (nI i))] → W pg l e (rk 6) s m ar bl me c H locs 0 0 Q (F0 m 17 ls []) := by
      intro nn
      induction nn with
      | zero => intro i H locs ls hme hi; exact absurd hme (by omega)
      | succ nn ih =>
        intro i H locs ls hme hi I hl
        refine lv_iload_n hx hb dX0_alike_17 rfl (lv_at hl 3 rfl) ?_
        refine lv_sipush (v := nI 256) hx hb dX0_alike_18 (by decide) ?_
        refine n_ge (tgt := 53) hx hb dX0_alike_21 (by decide) (by omega) (by omega) (fun c_21 => ?_) (fun c_21 => ?_)
        · skip
          have hi2 : i = 256 := by omega
          refine lv_iload_n hx hb dX0_alike_53 rfl (lv_at hl 2 rfl) ?_
          exact hret (nI (sumN (fun i => b1 (decide (pt n G i = pt n G j))) i)) _ _ _ _ _ rfl I (⟨QR.t hj (by omega) (by rw [hi2]), ⟨_, _, _, _, _, _, _, _, _, _, _, _, _, _, _, ⟨rfl, hG, hP, Or.inr ⟨rfl, hKN⟩, hMk⟩, rfl⟩⟩) dX0_alike_54
        · refine lv_iload_n hx hb dX0_alike_24 rfl (lv_at hl 2 rfl) ?_
          refine lv_aload_n hx hb dX0_alike_25 rfl (lv_at hl 0 rfl) ?_
          refine x_get C I rfl 11 (by decide) q42 rfl dX0_alike_26 ?_
          refine lv_iload_n hx hb dX0_alike_29 rfl (lv_at hl 3 rfl) ?_
          refine i_sld C I 9 rfl (by omega) dX0_alike_30 ?_
          refine lv_topi (fun z_1 ez_1 => ?_)
          obtain rfl : z_1 = nI (pt n G i) := ez_1.trans ((hKN i (by omega)).1)
          refine lv_aload_n hx hb dX0_alike_31 rfl (lv_at hl 0 rfl) ?_
          refine x_get C I rfl 11 (by decide) q42 rfl dX0_alike_32 ?_
          refine lv_iload_n hx hb dX0_alike_35 rfl (lv_at hl 1 rfl) ?_
          refine i_sld C I 9 rfl (by omega) dX0_alike_36 ?_
          refine lv_topi (fun z_2 ez_2 => ?_)
          obtain rfl : z_2 = nI (pt n G j) := ez_2.trans ((hKN j (by omega)).1)
          refine n_ne (tgt := 44) hx hb dX0_alike_37 (by decide) (Nat.lt_trans (pt_lt hG _) (by decide)) (Nat.lt_trans (pt_lt hG _) (by decide)) (fun c_37 => ?_) (fun c_37 => ?_)
          · refine lv_iconst (v := nI 0) hx hb dX0_alike_44 (by decide) ?_
            refine n_add hx hb dX0_alike_45 ?_
            refine lv_topi (fun z_3 ez_3 => ?_)
            obtain rfl : z_3 = nI (sumN (fun i => b1 (decide (pt n G i = pt n G j))) (i + 1)) := ez_3.trans (by show _ = nI (sumN (fun i => b1 (decide (pt n G i = pt n G j))) i + b1 (decide (pt n G i = pt n G j))); rw [show (decide (pt n G i = pt n G j)) = false from decide_eq_false c_37]; rfl)
            refine lv_istore_n (lv' := [(2, .int (nI (sumN (fun i => b1 (decide (pt n G i = pt n G j))) (i + 1)))), (0, .ref (h 0)), (1, .int (nI j)), (3, .int (nI i))]) hx hb dX0_alike_46 rfl hl (by decide) rfl (fun ls hl => ?_)
            refine lv_iinc (v := (nI (i + 1))) (lv' := [(3, .int (nI (i + 1))), (2, .int (nI (sumN (fun i => b1 (decide (pt n G i = pt n G j))) (i + 1)))), (0, .ref (h 0)), (1, .int (nI j))]) hx hb dX0_alike_47 hl (k := 3) rfl (n_inc _) (by decide) rfl (fun ls hl => ?_)
            refine lv_goto (tgt := 17) hx hb dX0_alike_50 (by decide) ?_
            exact ih (i + 1) _ _ _ (by omega) (by omega) I (lv_sub hl [2, 3, 1, 0] rfl)
          · refine lv_iconst (v := nI 1) hx hb dX0_alike_40 (by decide) ?_
            refine lv_goto (tgt := 45) hx hb dX0_alike_41 (by decide) ?_
            refine n_add hx hb dX0_alike_45 ?_
            refine lv_topi (fun z_4 ez_4 => ?_)
            obtain rfl : z_4 = nI (sumN (fun i => b1 (decide (pt n G i = pt n G j))) (i + 1)) := ez_4.trans (by show _ = nI (sumN (fun i => b1 (decide (pt n G i = pt n G j))) i + b1 (decide (pt n G i = pt n G j))); rw [show (decide (pt n G i = pt n G j)) = true from decide_eq_true c_37]; rfl)
            refine lv_istore_n (lv' := [(2, .int (nI (sumN (fun i => b1 (decide (pt n G i = pt n G j))) (i + 1)))), (0, .ref (h 0)), (1, .int (nI j)), (3, .int (nI i))]) hx hb dX0_alike_46 rfl hl (by decide) rfl (fun ls hl => ?_)
            refine lv_iinc (v := (nI (i + 1))) (lv' := [(3, .int (nI (i + 1))), (2, .int (nI (sumN (fun i => b1 (decide (pt n G i = pt n G j))) (i + 1)))), (0, .ref (h 0)), (1, .int (nI j))]) hx hb dX0_alike_47 hl (k := 3) rfl (n_inc _) (by decide) rfl (fun ls hl => ?_)
            refine lv_goto (tgt := 17) hx hb dX0_alike_50 (by decide) ?_
            exact ih (i + 1) _ _ _ (by omega) (by omega) I (lv_sub hl [2, 3, 1, 0] rfl)
    exact lp 257 0 _ _ _ (by omega) (by omega) I (lv_sub hl [2, 3, 1, 0] rfl)
set_option maxHeartbeats 4000000 in
set_option maxRecDepth 100000 in
/-- first(input) -/
theorem kX_first (l : Launch) (D : va_G) (d : Nat → ClassId) (h : Nat → Nat) (n : Nat) (G : Pg) (mk : Nat → Bool) (sz wy kn : Int32) (fK fP fN fO fD fI fR fH fT fF fE fM : Nat → Int32) (hX : XI n G mk sz kn fK fP fN fT fF fE fM) (x1 : Int32) : CT l yX0_first (ws_ yX0_first cX0_first 2 (some .int)) (rk 6) D d [.ref (h 0), .int x1] (wX h d sz wy kn fK fP fN fO fD fI fR fH fT fF fE fM) (fun r w' => (QR x1 256 (-1) (fun j r => Fnd (fun i => pt n G i = pt n G j) r) r) ∧ XW n G mk h d w') := by
  have hXI := hX
  obtain ⟨rfl, hG, hP, hKn, hMk⟩ := hX
  have hn12 := hG.1
  refine ct_in (cc := cX0_first) (nL := 2) (ty := .int) (by decide) rfl (Nat.le_of_ble_eq_true rfl) ?_
  intro pg e s m ar bl me c A Q ls C I hl hret
  have hx := C.1.1
  have hb := C.1.2.1
  have hl : lv_has ls 2 [(0, .ref (h 0)), (1, .int x1)] := hl
  cases hv : inR x1 256
  · refine lv_iload_n hx hb dX0_first_0 rfl (lv_at hl 1 rfl) ?_
    refine cs_call (As := [.int x1]) (rest := []) C.1 (kX_isInput l x1) (va_cwS 1 C.1.2.2.2.2 (lw_S q182 q183 q21 q184) rfl rfl rfl (by decide +kernel) ⟨Nat.le_of_ble_eq_true rfl, Nat.le_of_ble_eq_true rfl⟩) rfl hl.1 rfl (Nat.le_of_ble_eq_true rfl) dX0_first_1 ⟨Nat.zero_le _, Nat.zero_le _⟩ (fun r hpo => ?_)
    obtain rfl : r = nI 0 := hpo.trans (by rw [hv]; rfl)
    refine n_ifne (tgt := 9) hx hb dX0_first_4 (by decide) (by decide) (fun q => absurd q (by decide)) (fun _ => ?_)
    refine lv_iconst (v := -1) hx hb dX0_first_7 (by decide) ?_
    exact hret (-1) _ _ _ _ _ rfl I (⟨QR.f (by omega) hv, ⟨_, _, _, _, _, _, _, _, _, _, _, _, _, _, _, hXI, rfl⟩⟩) dX0_first_8
  · obtain ⟨j, hj, rfl⟩ := inR_t (n := 256) hv
    refine lv_iload_n hx hb dX0_first_0 rfl (lv_at hl 1 rfl) ?_
    refine cs_call (As := [.int (nI j)]) (rest := []) C.1 (kX_isInput l (nI j)) (va_cwS 1 C.1.2.2.2.2 (lw_S q182 q183 q21 q184) rfl rfl rfl (by decide +kernel) ⟨Nat.le_of_ble_eq_true rfl, Nat.le_of_ble_eq_true rfl⟩) rfl hl.1 rfl (Nat.le_of_ble_eq_true rfl) dX0_first_1 ⟨Nat.zero_le _, Nat.zero_le _⟩ (fun r hpo => ?_)
    obtain rfl : r = nI 1 := hpo.trans (by rw [hv]; rfl)
    refine n_ifne (tgt := 9) hx hb dX0_first_4 (by decide) (by decide) (fun _ => ?_) (fun q => absurd q (by decide))
    refine lv_aload_n hx hb dX0_first_9 rfl (lv_at hl 0 rfl) ?_
    refine cv_call (As := []) (rest := []) C I (kX_learn l D d h n G mk (nI n) wy kn fK fP fN fO fD fI fR fH fT fF fE fM hXI) (cwV 0 C.1.2.2.2.2 (lw_V q109 q111 qs3 q21 q112) rfl rfl rfl (by decide +kernel) ⟨Nat.le_of_ble_eq_true rfl, Nat.le_of_ble_eq_true rfl⟩) rfl rfl rfl hl.1 rfl (Nat.le_of_ble_eq_true rfl) dX0_first_10 ⟨Nat.zero_le _, Nat.zero_le _⟩ (fun w' H locs hpo I => ?_)
    obtain ⟨wy9, O9, D9, I9, R9, H9, T, F, E, hKN, rfl⟩ := hpo
    refine lv_aload_n hx hb dX0_first_13 rfl (lv_at hl 0 rfl) ?_
    refine lv_iload_n hx hb dX0_first_14 rfl (lv_at hl 1 rfl) ?_
    refine ct_call (As := [.int (nI j)]) (rest := []) C I (kX_firstLike l D d h (nI n) wy9 (nI 1) fK fP fN O9 D9 I9 R9 H9 T F E fM (pt n G) (fun i hi => (hKN i hi).1) (fun _ => Nat.lt_trans (pt_lt hG _) (by decide)) j hj) (cwV 1 C.1.2.2.2.2 (lw_V q174 q176 qs12 q21 q177) rfl rfl rfl (by decide +kernel) ⟨Nat.le_of_ble_eq_true rfl, Nat.le_of_ble_eq_true rfl⟩) rfl rfl rfl hl.1 rfl (Nat.le_of_ble_eq_true rfl) dX0_first_15 ⟨Nat.zero_le _, Nat.zero_le _⟩ (fun r w' H locs hpo I => ?_)
    obtain ⟨hF1, rfl⟩ := hpo
    exact hret r _ _ _ _ _ rfl I (⟨QR.t hj (by omega) hF1, ⟨_, _, _, _, _, _, _, _, _, _, _, _, _, _, _, ⟨rfl, hG, hP, Or.inr ⟨rfl, hKN⟩, hMk⟩, rfl⟩⟩) dX0_first_18
set_option maxHeartbeats 4000000 in
set_option maxRecDepth 100000 in
/-- unmarked() -/
theorem kX_unmarked (l : Launch) (D : va_G) (d : Nat → ClassId) (h : Nat → Nat) (n : Nat) (G : Pg) (mk : Nat → Bool) (sz wy kn : Int32) (fK fP fN fO fD fI fR fH fT fF fE fM : Nat → Int32) (hX : XI n G mk sz kn fK fP fN fT fF fE fM)  : CT l yX0_unmarked (ws_ yX0_unmarked cX0_unmarked 2 (some .int)) (rk 6) D d [.ref (h 0)] (wX h d sz wy kn fK fP fN fO fD fI fR fH fT fF fE fM) (fun r w' => Fnd (fun i => mk (pt n G i) = false) r ∧ XW n G mk h d w') := by
  have hXI := hX
  obtain ⟨rfl, hG, hP, hKn, hMk⟩ := hX
  have hn12 := hG.1
  refine ct_in (cc := cX0_unmarked) (nL := 2) (ty := .int) (by decide) rfl (Nat.le_of_ble_eq_true rfl) ?_
  intro pg e s m ar bl me c A Q ls C I hl hret
  have hx := C.1.1
  have hb := C.1.2.1
  have hl : lv_has ls 2 [(0, .ref (h 0))] := hl
  refine lv_iconst (v := nI 0) hx hb dX0_unmarked_0 (by decide) ?_
  refine lv_istore_n (lv' := [(1, .int (nI 0)), (0, .ref (h 0))]) hx hb dX0_unmarked_1 rfl hl (by decide) rfl (fun ls hl => ?_)
  have lp : ∀ (nn : Nat) (i : Nat) (H : Heap) (locs : List Loc) (ls : Array Slot), 256 + 1 ≤ i + nn → (i ≤ 256) → (∀ k, k < i → ¬ (fun i => mk (pt n G i) = false) k) → IW D A s.heap (wX h d (nI n) wy kn fK fP fN fO fD fI fR fH fT fF fE fM) H locs → lv_has ls 2 [(0, .ref (h 0)), (1, .int (nI i))] → W pg l e (rk 6) s m ar bl me c H locs 0 0 Q (F0 m 2 ls []) := by
    intro nn
    induction nn with
    | zero => intro i H locs ls hme hi hL; exact absurd hme (by omega)
    | succ nn ih =>
      intro i H locs ls hme hi hL I hl
      refine lv_iload_n hx hb dX0_unmarked_2 rfl (lv_at hl 1 rfl) ?_
      refine lv_sipush (v := nI 256) hx hb dX0_unmarked_3 (by decide) ?_
      refine n_ge (tgt := 26) hx hb dX0_unmarked_6 (by decide) (by omega) (by omega) (fun c_6 => ?_) (fun c_6 => ?_)
      · refine lv_iconst (v := -1) hx hb dX0_unmarked_26 (by decide) ?_
        exact hret (-1) _ _ _ _ _ rfl I (⟨Or.inr ⟨fun k hk => hL k (by omega), rfl⟩, ⟨_, _, _, _, _, _, _, _, _, _, _, _, _, _, _, hXI, rfl⟩⟩) dX0_unmarked_27
      · refine lv_aload_n hx hb dX0_unmarked_9 rfl (lv_at hl 0 rfl) ?_
        refine x_get C I rfl 14 (by decide) q45 rfl dX0_unmarked_10 ?_
        refine lv_iload_n hx hb dX0_unmarked_13 rfl (lv_at hl 1 rfl) ?_
        refine i_zld C I 12 rfl (by omega) dX0_unmarked_14 ?_
        refine lv_topi (fun z_1 ez_1 => ?_)
        obtain rfl : z_1 = bI (mk (pt n G i)) := ez_1.trans (hMk i (by omega))
        refine lv_if_ne (tgt := 20) hx hb dX0_unmarked_15 (by decide) (fun c_15 => ?_) (fun c_15 => ?_)
        · refine lv_iinc (v := (nI (i + 1))) (lv' := [(1, .int (nI (i + 1))), (0, .ref (h 0))]) hx hb dX0_unmarked_20 hl (k := 1) rfl (n_inc _) (by decide) rfl (fun ls hl => ?_)
          refine lv_goto (tgt := 2) hx hb dX0_unmarked_23 (by decide) ?_
          exact ih (i + 1) _ _ _ (by omega) (by omega) (fun k hk => by rcases Nat.lt_or_eq_of_le (Nat.le_of_lt_succ hk) with q | q; exact hL k q; rw [q]; exact (fun q => c_15 (bI_0.mpr q))) I (lv_sub hl [1, 0] rfl)
        · refine lv_iload_n hx hb dX0_unmarked_18 rfl (lv_at hl 1 rfl) ?_
          exact hret (nI i) _ _ _ _ _ rfl I (⟨Or.inl ⟨i, by omega, bI_0.mp c_15, hL, rfl⟩, ⟨_, _, _, _, _, _, _, _, _, _, _, _, _, _, _, hXI, rfl⟩⟩) dX0_unmarked_19
  exact lp 257 0 _ _ _ (by omega) (by omega) (fun _ h => absurd h (by omega)) I (lv_sub hl [1, 0] rfl)
set_option maxHeartbeats 4000000 in
set_option maxRecDepth 100000 in
/-- steps(input) -/
theorem kX_steps (l : Launch) (D : va_G) (d : Nat → ClassId) (h : Nat → Nat) (n : Nat) (G : Pg) (mk : Nat → Bool) (sz wy kn : Int32) (fK fP fN fO fD fI fR fH fT fF fE fM : Nat → Int32) (hX : XI n G mk sz kn fK fP fN fT fF fE fM) (x1 : Int32) : CT l yX0_steps (ws_ yX0_steps cX0_steps 4 (some .int)) (rk 6) D d [.ref (h 0), .int x1] (wX h d sz wy kn fK fP fN fO fD fI fR fH fT fF fE fM) (fun r w' => (QR x1 256 (-1) (fun j r => r = nI (sumN (fun p => pt n G j / 2 ^ p % 2) 12)) r) ∧ XW n G mk h d w') := by
  have hXI := hX
  obtain ⟨rfl, hG, hP, hKn, hMk⟩ := hX
  have hn12 := hG.1
  refine ct_in (cc := cX0_steps) (nL := 4) (ty := .int) (by decide) rfl (Nat.le_of_ble_eq_true rfl) ?_
  intro pg e s m ar bl me c A Q ls C I hl hret
  have hx := C.1.1
  have hb := C.1.2.1
  have hl : lv_has ls 4 [(0, .ref (h 0)), (1, .int x1)] := hl
  cases hv : inR x1 256
  · refine lv_iload_n hx hb dX0_steps_0 rfl (lv_at hl 1 rfl) ?_
    refine cs_call (As := [.int x1]) (rest := []) C.1 (kX_isInput l x1) (va_cwS 1 C.1.2.2.2.2 (lw_S q182 q183 q21 q184) rfl rfl rfl (by decide +kernel) ⟨Nat.le_of_ble_eq_true rfl, Nat.le_of_ble_eq_true rfl⟩) rfl hl.1 rfl (Nat.le_of_ble_eq_true rfl) dX0_steps_1 ⟨Nat.zero_le _, Nat.zero_le _⟩ (fun r hpo => ?_)
    obtain rfl : r = nI 0 := hpo.trans (by rw [hv]; rfl)
    refine n_ifne (tgt := 9) hx hb dX0_steps_4 (by decide) (by decide) (fun q => absurd q (by decide)) (fun _ => ?_)
    refine lv_iconst (v := -1) hx hb dX0_steps_7 (by decide) ?_
    exact hret (-1) _ _ _ _ _ rfl I (⟨QR.f (by omega) hv, ⟨_, _, _, _, _, _, _, _, _, _, _, _, _, _, _, hXI, rfl⟩⟩) dX0_steps_8
  · obtain ⟨j, hj, rfl⟩ := inR_t (n := 256) hv
    refine lv_iload_n hx hb dX0_steps_0 rfl (lv_at hl 1 rfl) ?_
    refine cs_call (As := [.int (nI j)]) (rest := []) C.1 (kX_isInput l (nI j)) (va_cwS 1 C.1.2.2.2.2 (lw_S q182 q183 q21 q184) rfl rfl rfl (by decide +kernel) ⟨Nat.le_of_ble_eq_true rfl, Nat.le_of_ble_eq_true rfl⟩) rfl hl.1 rfl (Nat.le_of_ble_eq_true rfl) dX0_steps_1 ⟨Nat.zero_le _, Nat.zero_le _⟩ (fun r hpo => ?_)
    obtain rfl : r = nI 1 := hpo.trans (by rw [hv]; rfl)
    refine n_ifne (tgt := 9) hx hb dX0_steps_4 (by decide) (by decide) (fun _ => ?_) (fun q => absurd q (by decide))
    refine lv_aload_n hx hb dX0_steps_9 rfl (lv_at hl 0 rfl) ?_
    refine cv_call (As := []) (rest := []) C I (kX_learn l D d h n G mk (nI n) wy kn fK fP fN fO fD fI fR fH fT fF fE fM hXI) (cwV 0 C.1.2.2.2.2 (lw_V q109 q111 qs3 q21 q112) rfl rfl rfl (by decide +kernel) ⟨Nat.le_of_ble_eq_true rfl, Nat.le_of_ble_eq_true rfl⟩) rfl rfl rfl hl.1 rfl (Nat.le_of_ble_eq_true rfl) dX0_steps_10 ⟨Nat.zero_le _, Nat.zero_le _⟩ (fun w' H locs hpo I => ?_)
    obtain ⟨wy9, O9, D9, I9, R9, H9, T, F, E, hKN, rfl⟩ := hpo
    refine lv_iconst (v := nI 0) hx hb dX0_steps_13 (by decide) ?_
    refine lv_istore_n (lv' := [(2, .int (nI 0)), (0, .ref (h 0)), (1, .int (nI j))]) hx hb dX0_steps_14 rfl hl (by decide) rfl (fun ls hl => ?_)
    refine lv_iconst (v := nI 0) hx hb dX0_steps_15 (by decide) ?_
    refine lv_istore_n (lv' := [(3, .int (nI 0)), (2, .int (nI 0)), (0, .ref (h 0)), (1, .int (nI j))]) hx hb dX0_steps_16 rfl hl (by decide) rfl (fun ls hl => ?_)
    have lp : ∀ (nn : Nat) (i : Nat) (H : Heap) (locs : List Loc) (ls : Array Slot), 12 + 1 ≤ i + nn → (i ≤ 12) → IW D A s.heap (wX h d (nI n) wy9 (nI 1) fK fP fN O9 D9 I9 R9 H9 T F E fM) H locs → lv_has ls 4 [(0, .ref (h 0)), (1, .int (nI j)), (2, .int (nI (sumN (fun p => pt n G j / 2 ^ p % 2) i))), (3, .int (nI i))] → W pg l e (rk 6) s m ar bl me c H locs 0 0 Q (F0 m 17 ls []) := by
      intro nn
      induction nn with
      | zero => intro i H locs ls hme hi; exact absurd hme (by omega)
      | succ nn ih =>
        intro i H locs ls hme hi I hl
        refine lv_iload_n hx hb dX0_steps_17 rfl (lv_at hl 3 rfl) ?_
        refine lv_bipush (v := nI 12) hx hb dX0_steps_18 (by decide) ?_
        refine n_ge (tgt := 42) hx hb dX0_steps_20 (by decide) (by omega) (by omega) (fun c_20 => ?_) (fun c_20 => ?_)
        · skip
          have hi2 : i = 12 := by omega
          refine lv_iload_n hx hb dX0_steps_42 rfl (lv_at hl 2 rfl) ?_
          exact hret (nI (sumN (fun p => pt n G j / 2 ^ p % 2) i)) _ _ _ _ _ rfl I (⟨QR.t hj (by omega) (by rw [hi2]), ⟨_, _, _, _, _, _, _, _, _, _, _, _, _, _, _, ⟨rfl, hG, hP, Or.inr ⟨rfl, hKN⟩, hMk⟩, rfl⟩⟩) dX0_steps_43
        · refine lv_iload_n hx hb dX0_steps_23 rfl (lv_at hl 2 rfl) ?_
          refine lv_aload_n hx hb dX0_steps_24 rfl (lv_at hl 0 rfl) ?_
          refine x_get C I rfl 11 (by decide) q42 rfl dX0_steps_25 ?_
          refine lv_iload_n hx hb dX0_steps_28 rfl (lv_at hl 1 rfl) ?_
          refine i_sld C I 9 rfl (by omega) dX0_steps_29 ?_
          refine lv_iload_n hx hb dX0_steps_30 rfl (lv_at hl 3 rfl) ?_
          refine lv_ishr hx hb dX0_steps_31 ?_
          refine lv_iconst (v := nI 1) hx hb dX0_steps_32 (by decide) ?_
          refine lv_iand hx hb dX0_steps_33 ?_
          refine lv_topi (fun z_1 ez_1 => ?_)
          obtain rfl : z_1 = nI (pt n G j / 2 ^ i % 2) := ez_1.trans (by rw [(hKN j hj).1]; exact n_bit (Nat.lt_trans (pt_lt hG _) (by decide)) (by omega))
          refine n_add hx hb dX0_steps_34 ?_
          refine lv_istore_n (lv' := [(2, .int (nI (sumN (fun p => pt n G j / 2 ^ p % 2) i + (pt n G j / 2 ^ i % 2)))), (0, .ref (h 0)), (1, .int (nI j)), (3, .int (nI i))]) hx hb dX0_steps_35 rfl hl (by decide) rfl (fun ls hl => ?_)
          refine lv_iinc (v := (nI (i + 1))) (lv' := [(3, .int (nI (i + 1))), (2, .int (nI (sumN (fun p => pt n G j / 2 ^ p % 2) i + (pt n G j / 2 ^ i % 2)))), (0, .ref (h 0)), (1, .int (nI j))]) hx hb dX0_steps_36 hl (k := 3) rfl (n_inc _) (by decide) rfl (fun ls hl => ?_)
          refine lv_goto (tgt := 17) hx hb dX0_steps_39 (by decide) ?_
          exact ih (i + 1) _ _ _ (by omega) (by omega) I (lv_sub hl [2, 3, 1, 0] rfl)
    exact lp 13 0 _ _ _ (by omega) (by omega) I (lv_sub hl [2, 3, 1, 0] rfl)
set_option maxHeartbeats 4000000 in
set_option maxRecDepth 100000 in
/-- ending(r, v) -/
theorem kX_ending (l : Launch) (D : va_G) (d : Nat → ClassId) (h : Nat → Nat) (n : Nat) (G : Pg) (mk : Nat → Bool) (sz wy kn : Int32) (fK fP fN fO fD fI fR fH fT fF fE fM : Nat → Int32) (hX : XI n G mk sz kn fK fP fN fT fF fE fM) (x1 x2 : Int32) : CT l yX0_ending (ws_ yX0_ending cX0_ending 5 (some .int)) (rk 6) D d [.ref (h 0), .int x1, .int x2] (wX h d sz wy kn fK fP fN fO fD fI fR fH fT fF fE fM) (fun r w' => (QR x1 4 0 (fun j r => r = nI (sumN (fun i => b1 (!fl n G i && decide (en n G i j = x2))) 256)) r) ∧ XW n G mk h d w') := by
  have hXI := hX
  obtain ⟨rfl, hG, hP, hKn, hMk⟩ := hX
  have hn12 := hG.1
  refine ct_in (cc := cX0_ending) (nL := 5) (ty := .int) (by decide) rfl (Nat.le_of_ble_eq_true rfl) ?_
  intro pg e s m ar bl me c A Q ls C I hl hret
  have hx := C.1.1
  have hb := C.1.2.1
  have hl : lv_has ls 5 [(0, .ref (h 0)), (1, .int x1), (2, .int x2)] := hl
  cases hv : inR x1 4
  · refine lv_iload_n hx hb dX0_ending_0 rfl (lv_at hl 1 rfl) ?_
    refine lv_if_lt (tgt := 9) hx hb dX0_ending_1 (by decide) (fun c_1 => ?_) (fun c_1 => ?_)
    · refine lv_iconst (v := nI 0) hx hb dX0_ending_9 (by decide) ?_
      exact hret (nI 0) _ _ _ _ _ rfl I (⟨QR.f (by omega) hv, ⟨_, _, _, _, _, _, _, _, _, _, _, _, _, _, _, hXI, rfl⟩⟩) dX0_ending_10
    · refine lv_iload_n hx hb dX0_ending_4 rfl (lv_at hl 1 rfl) ?_
      refine lv_iconst (v := nI 3) hx hb dX0_ending_5 (by decide) ?_
      refine lv_icmp_le (tgt := 11) hx hb dX0_ending_6 (by decide) (fun c_6 => ?_) (fun c_6 => ?_)
      · skip
        exact absurd hv (by rw [inR, decide_eq_true (by simp only [Int32.lt_iff_toInt_lt, Int32.le_iff_toInt_le, ← Int32.toInt_inj, i_m20, i_m3, i_0, ti_0, ti_1, ti_2, ti_3, ti_4, ti_5, ti_6, ti_7, ti_12, ti_15, ti_16, ti_20, ti_255, ti_256] at c_1 c_6; omega)]; decide)
      · refine lv_iconst (v := nI 0) hx hb dX0_ending_9 (by decide) ?_
        exact hret (nI 0) _ _ _ _ _ rfl I (⟨QR.f (by omega) hv, ⟨_, _, _, _, _, _, _, _, _, _, _, _, _, _, _, hXI, rfl⟩⟩) dX0_ending_10
  · obtain ⟨j, hj, rfl⟩ := inR_t (n := 4) hv
    refine lv_iload_n hx hb dX0_ending_0 rfl (lv_at hl 1 rfl) ?_
    refine lv_if_lt (tgt := 9) hx hb dX0_ending_1 (by decide) (fun c_1 => ?_) (fun c_1 => ?_)
    · skip
      exact absurd c_1 (nI_pos (by omega))
    · refine lv_iload_n hx hb dX0_ending_4 rfl (lv_at hl 1 rfl) ?_
      refine lv_iconst (v := nI 3) hx hb dX0_ending_5 (by decide) ?_
      refine n_le (tgt := 11) hx hb dX0_ending_6 (by decide) (by omega) (by omega) (fun c_6 => ?_) (fun c_6 => ?_)
      · refine lv_aload_n hx hb dX0_ending_11 rfl (lv_at hl 0 rfl) ?_
        refine cv_call (As := []) (rest := []) C I (kX_learn l D d h n G mk (nI n) wy kn fK fP fN fO fD fI fR fH fT fF fE fM hXI) (cwV 0 C.1.2.2.2.2 (lw_V q109 q111 qs3 q21 q112) rfl rfl rfl (by decide +kernel) ⟨Nat.le_of_ble_eq_true rfl, Nat.le_of_ble_eq_true rfl⟩) rfl rfl rfl hl.1 rfl (Nat.le_of_ble_eq_true rfl) dX0_ending_12 ⟨Nat.zero_le _, Nat.zero_le _⟩ (fun w' H locs hpo I => ?_)
        obtain ⟨wy9, O9, D9, I9, R9, H9, T, F, E, hKN, rfl⟩ := hpo
        refine lv_iconst (v := nI 0) hx hb dX0_ending_15 (by decide) ?_
        refine lv_istore_n (lv' := [(3, .int (nI 0)), (0, .ref (h 0)), (1, .int (nI j)), (2, .int x2)]) hx hb dX0_ending_16 rfl hl (by decide) rfl (fun ls hl => ?_)
        refine lv_iconst (v := nI 0) hx hb dX0_ending_17 (by decide) ?_
        refine lv_istore (lv' := [(4, .int (nI 0)), (3, .int (nI 0)), (0, .ref (h 0)), (1, .int (nI j)), (2, .int x2)]) hx hb dX0_ending_18 hl (by decide) rfl (fun ls hl => ?_)
        have lp : ∀ (nn : Nat) (i : Nat) (H : Heap) (locs : List Loc) (ls : Array Slot), 256 + 1 ≤ i + nn → (i ≤ 256) → IW D A s.heap (wX h d (nI n) wy9 (nI 1) fK fP fN O9 D9 I9 R9 H9 T F E fM) H locs → lv_has ls 5 [(0, .ref (h 0)), (1, .int (nI j)), (2, .int x2), (3, .int (nI (sumN (fun i => b1 (!fl n G i && decide (en n G i j = x2))) i))), (4, .int (nI i))] → W pg l e (rk 6) s m ar bl me c H locs 0 0 Q (F0 m 20 ls []) := by
          intro nn
          induction nn with
          | zero => intro i H locs ls hme hi; exact absurd hme (by omega)
          | succ nn ih =>
            intro i H locs ls hme hi I hl
            refine lv_iload hx hb dX0_ending_20 (lv_at hl 4 rfl) ?_
            refine lv_sipush (v := nI 256) hx hb dX0_ending_22 (by decide) ?_
            refine n_ge (tgt := 67) hx hb dX0_ending_25 (by decide) (by omega) (by omega) (fun c_25 => ?_) (fun c_25 => ?_)
            · skip
              have hi2 : i = 256 := by omega
              refine lv_iload_n hx hb dX0_ending_67 rfl (lv_at hl 3 rfl) ?_
              exact hret (nI (sumN (fun i => b1 (!fl n G i && decide (en n G i j = x2))) i)) _ _ _ _ _ rfl I (⟨QR.t hj (by omega) (by rw [hi2]), ⟨_, _, _, _, _, _, _, _, _, _, _, _, _, _, _, ⟨rfl, hG, hP, Or.inr ⟨rfl, hKN⟩, hMk⟩, rfl⟩⟩) dX0_ending_68
            · refine lv_iload_n hx hb dX0_ending_28 rfl (lv_at hl 3 rfl) ?_
              refine lv_aload_n hx hb dX0_ending_29 rfl (lv_at hl 0 rfl) ?_
              refine x_get C I rfl 12 (by decide) q43 rfl dX0_ending_30 ?_
              refine lv_iload hx hb dX0_ending_33 (lv_at hl 4 rfl) ?_
              refine i_zld C I 10 rfl (by omega) dX0_ending_35 ?_
              refine lv_topi (fun z_1 ez_1 => ?_)
              obtain rfl : z_1 = bI (fl n G i) := ez_1.trans ((hKN i (by omega)).2.1)
              refine lv_if_ne (tgt := 58) hx hb dX0_ending_36 (by decide) (fun c_36 => ?_) (fun c_36 => ?_)
              · refine lv_iconst (v := nI 0) hx hb dX0_ending_58 (by decide) ?_
                refine n_add hx hb dX0_ending_59 ?_
                refine lv_topi (fun z_2 ez_2 => ?_)
                obtain rfl : z_2 = nI (sumN (fun i => b1 (!fl n G i && decide (en n G i j = x2))) (i + 1)) := ez_2.trans (by show _ = nI (sumN (fun i => b1 (!fl n G i && decide (en n G i j = x2))) i + b1 (!fl n G i && decide (en n G i j = x2))); rw [show (!fl n G i && decide (en n G i j = x2)) = false from by first | (rw [decide_eq_false c_51, Bool.and_false]) | (rw [bI_n c_36]; rfl)]; rfl)
                refine lv_istore_n (lv' := [(3, .int (nI (sumN (fun i => b1 (!fl n G i && decide (en n G i j = x2))) (i + 1)))), (0, .ref (h 0)), (1, .int (nI j)), (2, .int x2), (4, .int (nI i))]) hx hb dX0_ending_60 rfl hl (by decide) rfl (fun ls hl => ?_)
                refine lv_iinc (v := (nI (i + 1))) (lv' := [(4, .int (nI (i + 1))), (3, .int (nI (sumN (fun i => b1 (!fl n G i && decide (en n G i j = x2))) (i + 1)))), (0, .ref (h 0)), (1, .int (nI j)), (2, .int x2)]) hx hb dX0_ending_61 hl (k := 4) rfl (n_inc _) (by decide) rfl (fun ls hl => ?_)
                refine lv_goto (tgt := 20) hx hb dX0_ending_64 (by decide) ?_
                exact ih (i + 1) _ _ _ (by omega) (by omega) I (lv_sub hl [2, 3, 4, 1, 0] rfl)
              · refine lv_aload_n hx hb dX0_ending_39 rfl (lv_at hl 0 rfl) ?_
                refine x_get C I rfl 13 (by decide) q44 rfl dX0_ending_40 ?_
                refine lv_iconst (v := nI 4) hx hb dX0_ending_43 (by decide) ?_
                refine lv_iload hx hb dX0_ending_44 (lv_at hl 4 rfl) ?_
                refine n_mul hx hb dX0_ending_46 ?_
                refine lv_iload_n hx hb dX0_ending_47 rfl (lv_at hl 1 rfl) ?_
                refine n_add hx hb dX0_ending_48 ?_
                refine i_ild C I 11 rfl (by omega) dX0_ending_49 ?_
                refine lv_topi (fun z_3 ez_3 => ?_)
                obtain rfl : z_3 = en n G i j := ez_3.trans ((hKN i (by omega)).2.2 j (by omega))
                refine lv_iload_n hx hb dX0_ending_50 rfl (lv_at hl 2 rfl) ?_
                refine lv_icmp_ne (tgt := 58) hx hb dX0_ending_51 (by decide) (fun c_51 => ?_) (fun c_51 => ?_)
                · refine lv_iconst (v := nI 0) hx hb dX0_ending_58 (by decide) ?_
                  refine n_add hx hb dX0_ending_59 ?_
                  refine lv_topi (fun z_4 ez_4 => ?_)
                  obtain rfl : z_4 = nI (sumN (fun i => b1 (!fl n G i && decide (en n G i j = x2))) (i + 1)) := ez_4.trans (by show _ = nI (sumN (fun i => b1 (!fl n G i && decide (en n G i j = x2))) i + b1 (!fl n G i && decide (en n G i j = x2))); rw [show (!fl n G i && decide (en n G i j = x2)) = false from by first | (rw [decide_eq_false c_51, Bool.and_false]) | (rw [bI_n c_36]; rfl)]; rfl)
                  refine lv_istore_n (lv' := [(3, .int (nI (sumN (fun i => b1 (!fl n G i && decide (en n G i j = x2))) (i + 1)))), (0, .ref (h 0)), (1, .int (nI j)), (2, .int x2), (4, .int (nI i))]) hx hb dX0_ending_60 rfl hl (by decide) rfl (fun ls hl => ?_)
                  refine lv_iinc (v := (nI (i + 1))) (lv' := [(4, .int (nI (i + 1))), (3, .int (nI (sumN (fun i => b1 (!fl n G i && decide (en n G i j = x2))) (i + 1)))), (0, .ref (h 0)), (1, .int (nI j)), (2, .int x2)]) hx hb dX0_ending_61 hl (k := 4) rfl (n_inc _) (by decide) rfl (fun ls hl => ?_)
                  refine lv_goto (tgt := 20) hx hb dX0_ending_64 (by decide) ?_
                  exact ih (i + 1) _ _ _ (by omega) (by omega) I (lv_sub hl [2, 3, 4, 1, 0] rfl)
                · refine lv_iconst (v := nI 1) hx hb dX0_ending_54 (by decide) ?_
                  refine lv_goto (tgt := 59) hx hb dX0_ending_55 (by decide) ?_
                  refine n_add hx hb dX0_ending_59 ?_
                  refine lv_topi (fun z_5 ez_5 => ?_)
                  obtain rfl : z_5 = nI (sumN (fun i => b1 (!fl n G i && decide (en n G i j = x2))) (i + 1)) := ez_5.trans (by show _ = nI (sumN (fun i => b1 (!fl n G i && decide (en n G i j = x2))) i + b1 (!fl n G i && decide (en n G i j = x2))); rw [show (!fl n G i && decide (en n G i j = x2)) = true from by rw [bI_0.mp c_36, decide_eq_true c_51]; rfl]; rfl)
                  refine lv_istore_n (lv' := [(3, .int (nI (sumN (fun i => b1 (!fl n G i && decide (en n G i j = x2))) (i + 1)))), (0, .ref (h 0)), (1, .int (nI j)), (2, .int x2), (4, .int (nI i))]) hx hb dX0_ending_60 rfl hl (by decide) rfl (fun ls hl => ?_)
                  refine lv_iinc (v := (nI (i + 1))) (lv' := [(4, .int (nI (i + 1))), (3, .int (nI (sumN (fun i => b1 (!fl n G i && decide (en n G i j = x2))) (i + 1)))), (0, .ref (h 0)), (1, .int (nI j)), (2, .int x2)]) hx hb dX0_ending_61 hl (k := 4) rfl (n_inc _) (by decide) rfl (fun ls hl => ?_)
                  refine lv_goto (tgt := 20) hx hb dX0_ending_64 (by decide) ?_
                  exact ih (i + 1) _ _ _ (by omega) (by omega) I (lv_sub hl [2, 3, 4, 1, 0] rfl)
        exact lp 257 0 _ _ _ (by omega) (by omega) I (lv_sub hl [2, 3, 4, 1, 0] rfl)
      · skip
        exfalso
        omega
end
section
set_option maxHeartbeats 4000000 in
set_option maxRecDepth 100000 in
/-- mark(input) -/
theorem kX_mark (l : Launch) (D : va_G) (d : Nat → ClassId) (h : Nat → Nat) (n : Nat) (G : Pg) (mk : Nat → Bool) (sz wy kn : Int32) (fK fP fN fO fD fI fR fH fT fF fE fM : Nat → Int32) (hX : XI n G mk sz kn fK fP fN fT fF fE fM) (x1 : Int32) : CT l yX0_mark (ws_ yX0_mark cX0_mark 4 (some .int)) (rk 6) D d [.ref (h 0), .int x1] (wX h d sz wy kn fK fP fN fO fD fI fR fH fT fF fE fM) (fun r w' => (QR x1 256 (-1) (fun j r => r = nI (sumN (fun i => b1 (mkS n G mk j (pt n G i) && isF n G i)) 256)) r) ∧ (inR x1 256 = false → XW n G mk h d w') ∧ ∀ j, j < 256 → x1 = nI j → XW n G (mkS n G mk j) h d w') := by
  have hXI := hX
  obtain ⟨rfl, hG, hP, hKn, hMk⟩ := hX
  have hn12 := hG.1
  refine ct_in (cc := cX0_mark) (nL := 4) (ty := .int) (by decide) rfl (Nat.le_of_ble_eq_true rfl) ?_
  intro pg e s m ar bl me c A Q ls C I hl hret
  have hx := C.1.1
  have hb := C.1.2.1
  have hl : lv_has ls 4 [(0, .ref (h 0)), (1, .int x1)] := hl
  cases hv : inR x1 256
  · refine lv_iload_n hx hb dX0_mark_0 rfl (lv_at hl 1 rfl) ?_
    refine cs_call (As := [.int x1]) (rest := []) C.1 (kX_isInput l x1) (va_cwS 1 C.1.2.2.2.2 (lw_S q182 q183 q21 q184) rfl rfl rfl (by decide +kernel) ⟨Nat.le_of_ble_eq_true rfl, Nat.le_of_ble_eq_true rfl⟩) rfl hl.1 rfl (Nat.le_of_ble_eq_true rfl) dX0_mark_1 ⟨Nat.zero_le _, Nat.zero_le _⟩ (fun r hpo => ?_)
    obtain rfl : r = nI 0 := hpo.trans (by rw [hv]; rfl)
    refine n_ifne (tgt := 9) hx hb dX0_mark_4 (by decide) (by decide) (fun q => absurd q (by decide)) (fun _ => ?_)
    refine lv_iconst (v := -1) hx hb dX0_mark_7 (by decide) ?_
    exact hret (-1) _ _ _ _ _ rfl I (⟨QR.f (by omega) hv, fun _ => ⟨_, _, _, _, _, _, _, _, _, _, _, _, _, _, _, hXI, rfl⟩, fun j hj e => (inR_no hv hj e).elim⟩) dX0_mark_8
  · obtain ⟨j, hj, rfl⟩ := inR_t (n := 256) hv
    refine lv_iload_n hx hb dX0_mark_0 rfl (lv_at hl 1 rfl) ?_
    refine cs_call (As := [.int (nI j)]) (rest := []) C.1 (kX_isInput l (nI j)) (va_cwS 1 C.1.2.2.2.2 (lw_S q182 q183 q21 q184) rfl rfl rfl (by decide +kernel) ⟨Nat.le_of_ble_eq_true rfl, Nat.le_of_ble_eq_true rfl⟩) rfl hl.1 rfl (Nat.le_of_ble_eq_true rfl) dX0_mark_1 ⟨Nat.zero_le _, Nat.zero_le _⟩ (fun r hpo => ?_)
    obtain rfl : r = nI 1 := hpo.trans (by rw [hv]; rfl)
    refine n_ifne (tgt := 9) hx hb dX0_mark_4 (by decide) (by decide) (fun _ => ?_) (fun q => absurd q (by decide))
    refine lv_aload_n hx hb dX0_mark_9 rfl (lv_at hl 0 rfl) ?_
    refine cv_call (As := []) (rest := []) C I (kX_learn l D d h n G mk (nI n) wy kn fK fP fN fO fD fI fR fH fT fF fE fM hXI) (cwV 0 C.1.2.2.2.2 (lw_V q109 q111 qs3 q21 q112) rfl rfl rfl (by decide +kernel) ⟨Nat.le_of_ble_eq_true rfl, Nat.le_of_ble_eq_true rfl⟩) rfl rfl rfl hl.1 rfl (Nat.le_of_ble_eq_true rfl) dX0_mark_10 ⟨Nat.zero_le _, Nat.zero_le _⟩ (fun w' H locs hpo I => ?_)
    obtain ⟨wy9, O9, D9, I9, R9, H9, T, F, E, hKN, rfl⟩ := hpo
    refine lv_iconst (v := nI 0) hx hb dX0_mark_13 (by decide) ?_
    refine lv_istore_n (lv' := [(2, .int (nI 0)), (0, .ref (h 0)), (1, .int (nI j))]) hx hb dX0_mark_14 rfl hl (by decide) rfl (fun ls hl => ?_)
    refine lv_iconst (v := nI 0) hx hb dX0_mark_15 (by decide) ?_
    refine lv_istore_n (lv' := [(3, .int (nI 0)), (2, .int (nI 0)), (0, .ref (h 0)), (1, .int (nI j))]) hx hb dX0_mark_16 rfl hl (by decide) rfl (fun ls hl => ?_)
    have lp : ∀ (nn : Nat) (i : Nat) (g : Nat → Int32) (H : Heap) (locs : List Loc) (ls : Array Slot), 256 + 1 ≤ i + nn → (i ≤ 256) → (∀ k, k < i → g k = bI (mkS n G mk j (pt n G k))) → (∀ k, i ≤ k → k < 256 → g k = bI (mk (pt n G k))) → IW D A s.heap (wX h d (nI n) wy9 (nI 1) fK fP fN O9 D9 I9 R9 H9 T F E g) H locs → lv_has ls 4 [(0, .ref (h 0)), (1, .int (nI j)), (2, .int (nI (sumN (fun i => b1 (mkS n G mk j (pt n G i) && isF n G i)) i))), (3, .int (nI i))] → W pg l e (rk 6) s m ar bl me c H locs 0 0 Q (F0 m 17 ls []) := by
      intro nn
      induction nn with
      | zero => intro i g H locs ls hme hi hg1 hg2; exact absurd hme (by omega)
      | succ nn ih =>
        intro i g H locs ls hme hi hg1 hg2 I hl
        refine lv_iload_n hx hb dX0_mark_17 rfl (lv_at hl 3 rfl) ?_
        refine lv_sipush (v := nI 256) hx hb dX0_mark_18 (by decide) ?_
        refine n_ge (tgt := 85) hx hb dX0_mark_21 (by decide) (by omega) (by omega) (fun c_21 => ?_) (fun c_21 => ?_)
        · skip
          have hi2 : i = 256 := by omega
          refine lv_iload_n hx hb dX0_mark_85 rfl (lv_at hl 2 rfl) ?_
          exact hret (nI (sumN (fun i => b1 (mkS n G mk j (pt n G i) && isF n G i)) i)) _ _ _ _ _ rfl I (⟨QR.t hj (by omega) (by rw [hi2]), fun q => by (rw [hv] at q; cases q), fun j' hj' e => by (obtain rfl := (nI_eq (by omega) (by omega)).mp e; exact ⟨_, _, _, _, _, _, _, _, _, _, _, _, _, _, _, ⟨rfl, hG, hP, Or.inr ⟨rfl, hKN⟩, fun k hk => hg1 k (by omega)⟩, rfl⟩)⟩) dX0_mark_86
        · refine lv_aload_n hx hb dX0_mark_24 rfl (lv_at hl 0 rfl) ?_
          refine x_get C I rfl 14 (by decide) q45 rfl dX0_mark_25 ?_
          refine lv_iload_n hx hb dX0_mark_28 rfl (lv_at hl 3 rfl) ?_
          refine lv_dup2_11 hx hb dX0_mark_29 rfl rfl ?_
          refine i_zld C I 12 rfl (by omega) dX0_mark_30 ?_
          refine lv_topi (fun z_1 ez_1 => ?_)
          obtain rfl : z_1 = bI (mk (pt n G i)) := ez_1.trans (hg2 i (by omega) (by omega))
          refine lv_aload_n hx hb dX0_mark_31 rfl (lv_at hl 0 rfl) ?_
          refine x_get C I rfl 11 (by decide) q42 rfl dX0_mark_32 ?_
          refine lv_iload_n hx hb dX0_mark_35 rfl (lv_at hl 3 rfl) ?_
          refine i_sld C I 9 rfl (by omega) dX0_mark_36 ?_
          refine lv_topi (fun z_2 ez_2 => ?_)
          obtain rfl : z_2 = nI (pt n G i) := ez_2.trans ((hKN i (by omega)).1)
          refine lv_aload_n hx hb dX0_mark_37 rfl (lv_at hl 0 rfl) ?_
          refine x_get C I rfl 11 (by decide) q42 rfl dX0_mark_38 ?_
          refine lv_iload_n hx hb dX0_mark_41 rfl (lv_at hl 1 rfl) ?_
          refine i_sld C I 9 rfl (by omega) dX0_mark_42 ?_
          refine lv_topi (fun z_3 ez_3 => ?_)
          obtain rfl : z_3 = nI (pt n G j) := ez_3.trans ((hKN j (by omega)).1)
          refine n_ne (tgt := 50) hx hb dX0_mark_43 (by decide) (Nat.lt_trans (pt_lt hG _) (by decide)) (Nat.lt_trans (pt_lt hG _) (by decide)) (fun c_43 => ?_) (fun c_43 => ?_)
          · refine lv_iconst (v := nI 0) hx hb dX0_mark_50 (by decide) ?_
            refine lv_topi (fun z_4 ez_4 => ?_)
            obtain rfl : z_4 = bI (decide (pt n G i = pt n G j)) := ez_4.trans (bI_f (decide_eq_false c_43))
            refine lv_ior hx hb dX0_mark_51 ?_
            refine lv_topi (fun z_5 ez_5 => ?_)
            obtain rfl : z_5 = bI (mkS n G mk j (pt n G i)) := ez_5.trans (or_bb _ _)
            refine i_zst (ws' := wX h d (nI n) wy9 (nI 1) fK fP fN O9 D9 I9 R9 H9 T F E (upd g i (bI (mkS n G mk j (pt n G i))))) (v := (bI (mkS n G mk j (pt n G i)))) C I 12 rfl (by omega) (bI_z _) rfl dX0_mark_52 (fun H locs I => ?_)
            refine lv_iload_n hx hb dX0_mark_53 rfl (lv_at hl 2 rfl) ?_
            refine lv_aload_n hx hb dX0_mark_54 rfl (lv_at hl 0 rfl) ?_
            refine x_get C I rfl 14 (by decide) q45 rfl dX0_mark_55 ?_
            refine lv_iload_n hx hb dX0_mark_58 rfl (lv_at hl 3 rfl) ?_
            refine i_zld C I 12 rfl (by omega) dX0_mark_59 ?_
            refine lv_topi (fun z_6 ez_6 => ?_)
            obtain rfl : z_6 = bI (mkS n G mk j (pt n G i)) := ez_6.trans (upd_s)
            refine lv_if_eq (tgt := 76) hx hb dX0_mark_60 (by decide) (fun c_60 => ?_) (fun c_60 => ?_)
            · refine lv_iconst (v := nI 0) hx hb dX0_mark_76 (by decide) ?_
              refine n_add hx hb dX0_mark_77 ?_
              refine lv_topi (fun z_7 ez_7 => ?_)
              obtain rfl : z_7 = nI (sumN (fun i => b1 (mkS n G mk j (pt n G i) && isF n G i)) (i + 1)) := ez_7.trans (by show _ = nI (sumN (fun i => b1 (mkS n G mk j (pt n G i) && isF n G i)) i + b1 (mkS n G mk j (pt n G i) && isF n G i)); rw [show (mkS n G mk j (pt n G i) && isF n G i) = false from by first | (rw [bI_0.mp c_60]; rfl) | (rw [show isF n G i = false from decide_eq_false (fun q => q i2 (by omega) hF2), Bool.and_false])]; rfl)
              refine lv_istore_n (lv' := [(2, .int (nI (sumN (fun i => b1 (mkS n G mk j (pt n G i) && isF n G i)) (i + 1)))), (0, .ref (h 0)), (1, .int (nI j)), (3, .int (nI i))]) hx hb dX0_mark_78 rfl hl (by decide) rfl (fun ls hl => ?_)
              refine lv_iinc (v := (nI (i + 1))) (lv' := [(3, .int (nI (i + 1))), (2, .int (nI (sumN (fun i => b1 (mkS n G mk j (pt n G i) && isF n G i)) (i + 1)))), (0, .ref (h 0)), (1, .int (nI j))]) hx hb dX0_mark_79 hl (k := 3) rfl (n_inc _) (by decide) rfl (fun ls hl => ?_)
              refine lv_goto (tgt := 17) hx hb dX0_mark_82 (by decide) ?_
              exact ih (i + 1) (upd g i (bI (mkS n G mk j (pt n G i)))) _ _ _ (by omega) (by omega) (fun k hk => by by_cases e : k = i; rw [e, upd_s]; rw [upd_n e]; exact hg1 k (by omega)) (fun k h1 h2 => (upd_n (by omega)).trans (hg2 k (by omega) h2)) I (lv_sub hl [2, 3, 1, 0] rfl)
            · refine lv_aload_n hx hb dX0_mark_63 rfl (lv_at hl 0 rfl) ?_
              refine lv_iload_n hx hb dX0_mark_64 rfl (lv_at hl 3 rfl) ?_
              refine ct_call (As := [.int (nI i)]) (rest := [.int (nI (sumN (fun i => b1 (mkS n G mk j (pt n G i) && isF n G i)) i))]) C I (kX_firstLike l D d h (nI n) wy9 (nI 1) fK fP fN O9 D9 I9 R9 H9 T F E (upd g i (bI (mkS n G mk j (pt n G i)))) (pt n G) (fun i hi => (hKN i hi).1) (fun _ => Nat.lt_trans (pt_lt hG _) (by decide)) i (by omega)) (cwV 1 C.1.2.2.2.2 (lw_V q174 q176 qs12 q21 q177) rfl rfl rfl (by decide +kernel) ⟨Nat.le_of_ble_eq_true rfl, Nat.le_of_ble_eq_true rfl⟩) rfl rfl rfl hl.1 rfl (Nat.le_of_ble_eq_true rfl) dX0_mark_65 ⟨Nat.zero_le _, Nat.zero_le _⟩ (fun r w' H locs hpo I => ?_)
              obtain ⟨hF1, rfl⟩ := hpo
              obtain ⟨i2, hi2a, hF2, hF3, rfl⟩ := fnd_like (by omega) hF1
              have hF3c : ∀ j, j < i2 → pt n G j ≠ pt n G i2 := fun j hj q => hF3 j hj (by rw [q, hF2])
              refine lv_iload_n hx hb dX0_mark_68 rfl (lv_at hl 3 rfl) ?_
              refine n_ne (tgt := 76) hx hb dX0_mark_69 (by decide) (by omega) (by omega) (fun c_69 => ?_) (fun c_69 => ?_)
              · refine lv_iconst (v := nI 0) hx hb dX0_mark_76 (by decide) ?_
                refine n_add hx hb dX0_mark_77 ?_
                refine lv_topi (fun z_8 ez_8 => ?_)
                obtain rfl : z_8 = nI (sumN (fun i => b1 (mkS n G mk j (pt n G i) && isF n G i)) (i + 1)) := ez_8.trans (by show _ = nI (sumN (fun i => b1 (mkS n G mk j (pt n G i) && isF n G i)) i + b1 (mkS n G mk j (pt n G i) && isF n G i)); rw [show (mkS n G mk j (pt n G i) && isF n G i) = false from by first | (rw [bI_0.mp c_60]; rfl) | (rw [show isF n G i = false from decide_eq_false (fun q => q i2 (by omega) hF2), Bool.and_false])]; rfl)
                refine lv_istore_n (lv' := [(2, .int (nI (sumN (fun i => b1 (mkS n G mk j (pt n G i) && isF n G i)) (i + 1)))), (0, .ref (h 0)), (1, .int (nI j)), (3, .int (nI i))]) hx hb dX0_mark_78 rfl hl (by decide) rfl (fun ls hl => ?_)
                refine lv_iinc (v := (nI (i + 1))) (lv' := [(3, .int (nI (i + 1))), (2, .int (nI (sumN (fun i => b1 (mkS n G mk j (pt n G i) && isF n G i)) (i + 1)))), (0, .ref (h 0)), (1, .int (nI j))]) hx hb dX0_mark_79 hl (k := 3) rfl (n_inc _) (by decide) rfl (fun ls hl => ?_)
                refine lv_goto (tgt := 17) hx hb dX0_mark_82 (by decide) ?_
                exact ih (i + 1) (upd g i (bI (mkS n G mk j (pt n G i)))) _ _ _ (by omega) (by omega) (fun k hk => by by_cases e : k = i; rw [e, upd_s]; rw [upd_n e]; exact hg1 k (by omega)) (fun k h1 h2 => (upd_n (by omega)).trans (hg2 k (by omega) h2)) I (lv_sub hl [2, 3, 1, 0] rfl)
              · refine lv_iconst (v := nI 1) hx hb dX0_mark_72 (by decide) ?_
                refine lv_goto (tgt := 77) hx hb dX0_mark_73 (by decide) ?_
                refine n_add hx hb dX0_mark_77 ?_
                refine lv_topi (fun z_9 ez_9 => ?_)
                obtain rfl : z_9 = nI (sumN (fun i => b1 (mkS n G mk j (pt n G i) && isF n G i)) (i + 1)) := ez_9.trans (by show _ = nI (sumN (fun i => b1 (mkS n G mk j (pt n G i) && isF n G i)) i + b1 (mkS n G mk j (pt n G i) && isF n G i)); rw [show (mkS n G mk j (pt n G i) && isF n G i) = true from by rw [bI_n c_60, show isF n G i = true from decide_eq_true (by rw [← c_69]; exact hF3c)]; rfl]; rfl)
                refine lv_istore_n (lv' := [(2, .int (nI (sumN (fun i => b1 (mkS n G mk j (pt n G i) && isF n G i)) (i + 1)))), (0, .ref (h 0)), (1, .int (nI j)), (3, .int (nI i))]) hx hb dX0_mark_78 rfl hl (by decide) rfl (fun ls hl => ?_)
                refine lv_iinc (v := (nI (i + 1))) (lv' := [(3, .int (nI (i + 1))), (2, .int (nI (sumN (fun i => b1 (mkS n G mk j (pt n G i) && isF n G i)) (i + 1)))), (0, .ref (h 0)), (1, .int (nI j))]) hx hb dX0_mark_79 hl (k := 3) rfl (n_inc _) (by decide) rfl (fun ls hl => ?_)
                refine lv_goto (tgt := 17) hx hb dX0_mark_82 (by decide) ?_
                exact ih (i + 1) (upd g i (bI (mkS n G mk j (pt n G i)))) _ _ _ (by omega) (by omega) (fun k hk => by by_cases e : k = i; rw [e, upd_s]; rw [upd_n e]; exact hg1 k (by omega)) (fun k h1 h2 => (upd_n (by omega)).trans (hg2 k (by omega) h2)) I (lv_sub hl [2, 3, 1, 0] rfl)
          · refine lv_iconst (v := nI 1) hx hb dX0_mark_46 (by decide) ?_
            refine lv_goto (tgt := 51) hx hb dX0_mark_47 (by decide) ?_
            refine lv_topi (fun z_10 ez_10 => ?_)
            obtain rfl : z_10 = bI (decide (pt n G i = pt n G j)) := ez_10.trans (bI_t (decide_eq_true c_43))
            refine lv_ior hx hb dX0_mark_51 ?_
            refine lv_topi (fun z_11 ez_11 => ?_)
            obtain rfl : z_11 = bI (mkS n G mk j (pt n G i)) := ez_11.trans (or_bb _ _)
            refine i_zst (ws' := wX h d (nI n) wy9 (nI 1) fK fP fN O9 D9 I9 R9 H9 T F E (upd g i (bI (mkS n G mk j (pt n G i))))) (v := (bI (mkS n G mk j (pt n G i)))) C I 12 rfl (by omega) (bI_z _) rfl dX0_mark_52 (fun H locs I => ?_)
            refine lv_iload_n hx hb dX0_mark_53 rfl (lv_at hl 2 rfl) ?_
            refine lv_aload_n hx hb dX0_mark_54 rfl (lv_at hl 0 rfl) ?_
            refine x_get C I rfl 14 (by decide) q45 rfl dX0_mark_55 ?_
            refine lv_iload_n hx hb dX0_mark_58 rfl (lv_at hl 3 rfl) ?_
            refine i_zld C I 12 rfl (by omega) dX0_mark_59 ?_
            refine lv_topi (fun z_12 ez_12 => ?_)
            obtain rfl : z_12 = bI (mkS n G mk j (pt n G i)) := ez_12.trans (upd_s)
            refine lv_if_eq (tgt := 76) hx hb dX0_mark_60 (by decide) (fun c_60 => ?_) (fun c_60 => ?_)
            · refine lv_iconst (v := nI 0) hx hb dX0_mark_76 (by decide) ?_
              refine n_add hx hb dX0_mark_77 ?_
              refine lv_topi (fun z_13 ez_13 => ?_)
              obtain rfl : z_13 = nI (sumN (fun i => b1 (mkS n G mk j (pt n G i) && isF n G i)) (i + 1)) := ez_13.trans (by show _ = nI (sumN (fun i => b1 (mkS n G mk j (pt n G i) && isF n G i)) i + b1 (mkS n G mk j (pt n G i) && isF n G i)); rw [show (mkS n G mk j (pt n G i) && isF n G i) = false from by first | (rw [bI_0.mp c_60]; rfl) | (rw [show isF n G i = false from decide_eq_false (fun q => q i2 (by omega) hF2), Bool.and_false])]; rfl)
              refine lv_istore_n (lv' := [(2, .int (nI (sumN (fun i => b1 (mkS n G mk j (pt n G i) && isF n G i)) (i + 1)))), (0, .ref (h 0)), (1, .int (nI j)), (3, .int (nI i))]) hx hb dX0_mark_78 rfl hl (by decide) rfl (fun ls hl => ?_)
              refine lv_iinc (v := (nI (i + 1))) (lv' := [(3, .int (nI (i + 1))), (2, .int (nI (sumN (fun i => b1 (mkS n G mk j (pt n G i) && isF n G i)) (i + 1)))), (0, .ref (h 0)), (1, .int (nI j))]) hx hb dX0_mark_79 hl (k := 3) rfl (n_inc _) (by decide) rfl (fun ls hl => ?_)
              refine lv_goto (tgt := 17) hx hb dX0_mark_82 (by decide) ?_
              exact ih (i + 1) (upd g i (bI (mkS n G mk j (pt n G i)))) _ _ _ (by omega) (by omega) (fun k hk => by by_cases e : k = i; rw [e, upd_s]; rw [upd_n e]; exact hg1 k (by omega)) (fun k h1 h2 => (upd_n (by omega)).trans (hg2 k (by omega) h2)) I (lv_sub hl [2, 3, 1, 0] rfl)
            · refine lv_aload_n hx hb dX0_mark_63 rfl (lv_at hl 0 rfl) ?_
              refine lv_iload_n hx hb dX0_mark_64 rfl (lv_at hl 3 rfl) ?_
              refine ct_call (As := [.int (nI i)]) (rest := [.int (nI (sumN (fun i => b1 (mkS n G mk j (pt n G i) && isF n G i)) i))]) C I (kX_firstLike l D d h (nI n) wy9 (nI 1) fK fP fN O9 D9 I9 R9 H9 T F E (upd g i (bI (mkS n G mk j (pt n G i)))) (pt n G) (fun i hi => (hKN i hi).1) (fun _ => Nat.lt_trans (pt_lt hG _) (by decide)) i (by omega)) (cwV 1 C.1.2.2.2.2 (lw_V q174 q176 qs12 q21 q177) rfl rfl rfl (by decide +kernel) ⟨Nat.le_of_ble_eq_true rfl, Nat.le_of_ble_eq_true rfl⟩) rfl rfl rfl hl.1 rfl (Nat.le_of_ble_eq_true rfl) dX0_mark_65 ⟨Nat.zero_le _, Nat.zero_le _⟩ (fun r w' H locs hpo I => ?_)
              obtain ⟨hF1, rfl⟩ := hpo
              obtain ⟨i2, hi2a, hF2, hF3, rfl⟩ := fnd_like (by omega) hF1
              have hF3c : ∀ j, j < i2 → pt n G j ≠ pt n G i2 := fun j hj q => hF3 j hj (by rw [q, hF2])
              refine lv_iload_n hx hb dX0_mark_68 rfl (lv_at hl 3 rfl) ?_
              refine n_ne (tgt := 76) hx hb dX0_mark_69 (by decide) (by omega) (by omega) (fun c_69 => ?_) (fun c_69 => ?_)
              · refine lv_iconst (v := nI 0) hx hb dX0_mark_76 (by decide) ?_
                refine n_add hx hb dX0_mark_77 ?_
                refine lv_topi (fun z_14 ez_14 => ?_)
                obtain rfl : z_14 = nI (sumN (fun i => b1 (mkS n G mk j (pt n G i) && isF n G i)) (i + 1)) := ez_14.trans (by show _ = nI (sumN (fun i => b1 (mkS n G mk j (pt n G i) && isF n G i)) i + b1 (mkS n G mk j (pt n G i) && isF n G i)); rw [show (mkS n G mk j (pt n G i) && isF n G i) = false from by first | (rw [bI_0.mp c_60]; rfl) | (rw [show isF n G i = false from decide_eq_false (fun q => q i2 (by omega) hF2), Bool.and_false])]; rfl)
                refine lv_istore_n (lv' := [(2, .int (nI (sumN (fun i => b1 (mkS n G mk j (pt n G i) && isF n G i)) (i + 1)))), (0, .ref (h 0)), (1, .int (nI j)), (3, .int (nI i))]) hx hb dX0_mark_78 rfl hl (by decide) rfl (fun ls hl => ?_)
                refine lv_iinc (v := (nI (i + 1))) (lv' := [(3, .int (nI (i + 1))), (2, .int (nI (sumN (fun i => b1 (mkS n G mk j (pt n G i) && isF n G i)) (i + 1)))), (0, .ref (h 0)), (1, .int (nI j))]) hx hb dX0_mark_79 hl (k := 3) rfl (n_inc _) (by decide) rfl (fun ls hl => ?_)
                refine lv_goto (tgt := 17) hx hb dX0_mark_82 (by decide) ?_
                exact ih (i + 1) (upd g i (bI (mkS n G mk j (pt n G i)))) _ _ _ (by omega) (by omega) (fun k hk => by by_cases e : k = i; rw [e, upd_s]; rw [upd_n e]; exact hg1 k (by omega)) (fun k h1 h2 => (upd_n (by omega)).trans (hg2 k (by omega) h2)) I (lv_sub hl [2, 3, 1, 0] rfl)
              · refine lv_iconst (v := nI 1) hx hb dX0_mark_72 (by decide) ?_
                refine lv_goto (tgt := 77) hx hb dX0_mark_73 (by decide) ?_
                refine n_add hx hb dX0_mark_77 ?_
                refine lv_topi (fun z_15 ez_15 => ?_)
                obtain rfl : z_15 = nI (sumN (fun i => b1 (mkS n G mk j (pt n G i) && isF n G i)) (i + 1)) := ez_15.trans (by show _ = nI (sumN (fun i => b1 (mkS n G mk j (pt n G i) && isF n G i)) i + b1 (mkS n G mk j (pt n G i) && isF n G i)); rw [show (mkS n G mk j (pt n G i) && isF n G i) = true from by rw [bI_n c_60, show isF n G i = true from decide_eq_true (by rw [← c_69]; exact hF3c)]; rfl]; rfl)
                refine lv_istore_n (lv' := [(2, .int (nI (sumN (fun i => b1 (mkS n G mk j (pt n G i) && isF n G i)) (i + 1)))), (0, .ref (h 0)), (1, .int (nI j)), (3, .int (nI i))]) hx hb dX0_mark_78 rfl hl (by decide) rfl (fun ls hl => ?_)
                refine lv_iinc (v := (nI (i + 1))) (lv' := [(3, .int (nI (i + 1))), (2, .int (nI (sumN (fun i => b1 (mkS n G mk j (pt n G i) && isF n G i)) (i + 1)))), (0, .ref (h 0)), (1, .int (nI j))]) hx hb dX0_mark_79 hl (k := 3) rfl (n_inc _) (by decide) rfl (fun ls hl => ?_)
                refine lv_goto (tgt := 17) hx hb dX0_mark_82 (by decide) ?_
                exact ih (i + 1) (upd g i (bI (mkS n G mk j (pt n G i)))) _ _ _ (by omega) (by omega) (fun k hk => by by_cases e : k = i; rw [e, upd_s]; rw [upd_n e]; exact hg1 k (by omega)) (fun k h1 h2 => (upd_n (by omega)).trans (hg2 k (by omega) h2)) I (lv_sub hl [2, 3, 1, 0] rfl)
    exact lp 257 0 fM _ _ _ (by omega) (by omega) (fun _ h => absurd h (by omega)) (fun k _ h2 => hMk k h2) I (lv_sub hl [2, 3, 1, 0] rfl)
set_option maxHeartbeats 4000000 in
set_option maxRecDepth 100000 in
/-- extreme(r, what) -/
theorem kX_extreme (l : Launch) (D : va_G) (d : Nat → ClassId) (h : Nat → Nat) (n : Nat) (G : Pg) (mk : Nat → Bool) (sz wy kn : Int32) (fK fP fN fO fD fI fR fH fT fF fE fM : Nat → Int32) (hX : XI n G mk sz kn fK fP fN fT fF fE fM) (x1 x2 : Int32) : CT l yX0_extreme (ws_ yX0_extreme cX0_extreme 7 (some .int)) (rk 6) D d [.ref (h 0), .int x1, .int x2] (wX h d sz wy kn fK fP fN fO fD fI fR fH fT fF fE fM) (fun r w' => (if x2 = 0 ∨ x2 = 1 then QR x1 4 (-1000000000) (fun j r => r = (exS n G j x2 256).getD (-1000000000)) r else r = -1000000000) ∧ XW n G mk h d w') := by
  have hXI := hX
  obtain ⟨rfl, hG, hP, hKn, hMk⟩ := hX
  have hn12 := hG.1
  refine ct_in (cc := cX0_extreme) (nL := 7) (ty := .int) (by decide) rfl (Nat.le_of_ble_eq_true rfl) ?_
  intro pg e s m ar bl me c A Q ls C I hl hret
  have hx := C.1.1
  have hb := C.1.2.1
  have hl : lv_has ls 7 [(0, .ref (h 0)), (1, .int x1), (2, .int x2)] := hl
  by_cases hw : x2 = 0 ∨ x2 = 1
  · cases hv : inR x1 4
    · refine lv_iload_n hx hb dX0_extreme_0 rfl (lv_at hl 1 rfl) ?_
      refine lv_if_lt (tgt := 18) hx hb dX0_extreme_1 (by decide) (fun c_1 => ?_) (fun c_1 => ?_)
      · refine lv_ldc (v := -1000000000) hx hb C.1.2.2.2.1 (C.1.2.2.2.2 _ q201) dX0_extreme_18 ?_
        exact hret (-1000000000) _ _ _ _ _ rfl I (⟨by rw [if_pos hw]; exact QR.f (by omega) hv, ⟨_, _, _, _, _, _, _, _, _, _, _, _, _, _, _, hXI, rfl⟩⟩) dX0_extreme_20
      · refine lv_iload_n hx hb dX0_extreme_4 rfl (lv_at hl 1 rfl) ?_
        refine lv_iconst (v := nI 3) hx hb dX0_extreme_5 (by decide) ?_
        refine lv_icmp_gt (tgt := 18) hx hb dX0_extreme_6 (by decide) (fun c_6 => ?_) (fun c_6 => ?_)
        · refine lv_ldc (v := -1000000000) hx hb C.1.2.2.2.1 (C.1.2.2.2.2 _ q201) dX0_extreme_18 ?_
          exact hret (-1000000000) _ _ _ _ _ rfl I (⟨by rw [if_pos hw]; exact QR.f (by omega) hv, ⟨_, _, _, _, _, _, _, _, _, _, _, _, _, _, _, hXI, rfl⟩⟩) dX0_extreme_20
        · skip
          exact absurd hv (by rw [inR, decide_eq_true (by simp only [Int32.lt_iff_toInt_lt, Int32.le_iff_toInt_le, ← Int32.toInt_inj, i_m20, i_m3, i_0, ti_0, ti_1, ti_2, ti_3, ti_4, ti_5, ti_6, ti_7, ti_12, ti_15, ti_16, ti_20, ti_255, ti_256] at c_1 c_6; omega)]; decide)
    · obtain ⟨j, hj, rfl⟩ := inR_t (n := 4) hv
      refine lv_iload_n hx hb dX0_extreme_0 rfl (lv_at hl 1 rfl) ?_
      refine lv_if_lt (tgt := 18) hx hb dX0_extreme_1 (by decide) (fun c_1 => ?_) (fun c_1 => ?_)
      · skip
        exact absurd c_1 (nI_pos (by omega))
      · refine lv_iload_n hx hb dX0_extreme_4 rfl (lv_at hl 1 rfl) ?_
        refine lv_iconst (v := nI 3) hx hb dX0_extreme_5 (by decide) ?_
        refine n_gt (tgt := 18) hx hb dX0_extreme_6 (by decide) (by omega) (by omega) (fun c_6 => ?_) (fun c_6 => ?_)
        · skip
          exfalso
          omega
        · refine lv_iload_n hx hb dX0_extreme_9 rfl (lv_at hl 2 rfl) ?_
          refine lv_if_lt (tgt := 18) hx hb dX0_extreme_10 (by decide) (fun c_10 => ?_) (fun c_10 => ?_)
          · skip
            exact absurd c_10 (by rcases hw with rfl | rfl <;> decide)
          · refine lv_iload_n hx hb dX0_extreme_13 rfl (lv_at hl 2 rfl) ?_
            refine lv_iconst (v := nI 1) hx hb dX0_extreme_14 (by decide) ?_
            refine lv_icmp_le (tgt := 21) hx hb dX0_extreme_15 (by decide) (fun c_15 => ?_) (fun c_15 => ?_)
            · refine lv_aload_n hx hb dX0_extreme_21 rfl (lv_at hl 0 rfl) ?_
              refine cv_call (As := []) (rest := []) C I (kX_learn l D d h n G mk (nI n) wy kn fK fP fN fO fD fI fR fH fT fF fE fM hXI) (cwV 0 C.1.2.2.2.2 (lw_V q109 q111 qs3 q21 q112) rfl rfl rfl (by decide +kernel) ⟨Nat.le_of_ble_eq_true rfl, Nat.le_of_ble_eq_true rfl⟩) rfl rfl rfl hl.1 rfl (Nat.le_of_ble_eq_true rfl) dX0_extreme_22 ⟨Nat.zero_le _, Nat.zero_le _⟩ (fun w' H locs hpo I => ?_)
              obtain ⟨wy9, O9, D9, I9, R9, H9, T, F, E, hKN, rfl⟩ := hpo
              refine lv_ldc (v := -1000000000) hx hb C.1.2.2.2.1 (C.1.2.2.2.2 _ q201) dX0_extreme_25 ?_
              refine lv_istore_n (lv' := [(3, .int (-1000000000)), (0, .ref (h 0)), (1, .int (nI j)), (2, .int x2)]) hx hb dX0_extreme_27 rfl hl (by decide) rfl (fun ls hl => ?_)
              refine lv_iconst (v := nI 0) hx hb dX0_extreme_28 (by decide) ?_
              refine lv_istore (lv' := [(4, .int (nI 0)), (3, .int (-1000000000)), (0, .ref (h 0)), (1, .int (nI j)), (2, .int x2)]) hx hb dX0_extreme_29 hl (by decide) rfl (fun ls hl => ?_)
              have lp : ∀ (nn : Nat) (i : Nat) (H : Heap) (locs : List Loc) (ls : Array Slot), 256 + 1 ≤ i + nn → (i ≤ 256) → IW D A s.heap (wX h d (nI n) wy9 (nI 1) fK fP fN O9 D9 I9 R9 H9 T F E fM) H locs → lv_has ls 7 [(0, .ref (h 0)), (1, .int (nI j)), (2, .int x2), (3, .int ((exS n G j x2 i).getD (-1000000000))), (4, .int (nI i))] → W pg l e (rk 6) s m ar bl me c H locs 0 0 Q (F0 m 31 ls []) := by
                intro nn
                induction nn with
                | zero => intro i H locs ls hme hi; exact absurd hme (by omega)
                | succ nn ih =>
                  intro i H locs ls hme hi I hl
                  refine lv_iload hx hb dX0_extreme_31 (lv_at hl 4 rfl) ?_
                  refine lv_sipush (v := nI 256) hx hb dX0_extreme_33 (by decide) ?_
                  refine n_ge (tgt := 112) hx hb dX0_extreme_36 (by decide) (by omega) (by omega) (fun c_36 => ?_) (fun c_36 => ?_)
                  · skip
                    have hi2 : i = 256 := by omega
                    refine lv_iload_n hx hb dX0_extreme_112 rfl (lv_at hl 3 rfl) ?_
                    exact hret ((exS n G j x2 i).getD (-1000000000)) _ _ _ _ _ rfl I (⟨by rw [if_pos hw]; exact QR.t hj (by omega) (by rw [hi2]), ⟨_, _, _, _, _, _, _, _, _, _, _, _, _, _, _, ⟨rfl, hG, hP, Or.inr ⟨rfl, hKN⟩, hMk⟩, rfl⟩⟩) dX0_extreme_113
                  · refine lv_aload_n hx hb dX0_extreme_39 rfl (lv_at hl 0 rfl) ?_
                    refine x_get C I rfl 13 (by decide) q44 rfl dX0_extreme_40 ?_
                    refine lv_iconst (v := nI 4) hx hb dX0_extreme_43 (by decide) ?_
                    refine lv_iload hx hb dX0_extreme_44 (lv_at hl 4 rfl) ?_
                    refine n_mul hx hb dX0_extreme_46 ?_
                    refine lv_iload_n hx hb dX0_extreme_47 rfl (lv_at hl 1 rfl) ?_
                    refine n_add hx hb dX0_extreme_48 ?_
                    refine i_ild C I 11 rfl (by omega) dX0_extreme_49 ?_
                    refine lv_topi (fun z_1 ez_1 => ?_)
                    obtain rfl : z_1 = en n G i j := ez_1.trans ((hKN i (by omega)).2.2 j (by omega))
                    refine lv_istore (lv' := [(5, .int (en n G i j)), (0, .ref (h 0)), (1, .int (nI j)), (2, .int x2), (3, .int ((exS n G j x2 i).getD (-1000000000))), (4, .int (nI i))]) hx hb dX0_extreme_50 hl (by decide) rfl (fun ls hl => ?_)
                    refine w_join 82 ((bI (xB n G j x2 i))) [] (fun z ez => ?_) (fun hj => ?_)
                    · subst ez
                      refine lv_istore (lv' := [(6, .int (bI (xB n G j x2 i))), (5, .int (en n G i j)), (0, .ref (h 0)), (1, .int (nI j)), (2, .int x2), (3, .int ((exS n G j x2 i).getD (-1000000000))), (4, .int (nI i))]) hx hb dX0_extreme_82 hl (by decide) rfl (fun ls hl => ?_)
                      refine w_join 105 (((exS n G j x2 (i + 1)).getD (-1000000000))) [] (fun z ez => ?_) (fun hj => ?_)
                      · subst ez
                        refine lv_istore_n (lv' := [(3, .int ((exS n G j x2 (i + 1)).getD (-1000000000))), (6, .int (bI (xB n G j x2 i))), (5, .int (en n G i j)), (0, .ref (h 0)), (1, .int (nI j)), (2, .int x2), (4, .int (nI i))]) hx hb dX0_extreme_105 rfl hl (by decide) rfl (fun ls hl => ?_)
                        refine lv_iinc (v := (nI (i + 1))) (lv' := [(4, .int (nI (i + 1))), (3, .int ((exS n G j x2 (i + 1)).getD (-1000000000))), (6, .int (bI (xB n G j x2 i))), (5, .int (en n G i j)), (0, .ref (h 0)), (1, .int (nI j)), (2, .int x2)]) hx hb dX0_extreme_106 hl (k := 6) rfl (n_inc _) (by decide) rfl (fun ls hl => ?_)
                        refine lv_goto (tgt := 31) hx hb dX0_extreme_109 (by decide) ?_
                        exact ih (i + 1) _ _ _ (by omega) (by omega) I (lv_sub hl [4, 5, 6, 1, 0] rfl)
                      · refine lv_aload_n hx hb dX0_extreme_84 rfl (lv_at hl 2 rfl) ?_
                        refine x_get C I rfl 12 (by decide) q43 rfl dX0_extreme_85 ?_
                        refine lv_iload hx hb dX0_extreme_88 (lv_at hl 6 rfl) ?_
                        refine i_zld C I 10 rfl (by omega) dX0_extreme_90 ?_
                        refine lv_topi (fun z_2 ez_2 => ?_)
                        obtain rfl : z_2 = bI (fl n G i) := ez_2.trans ((hKN i (by omega)).2.1)
                        refine lv_if_ne (tgt := 104) hx hb dX0_extreme_91 (by decide) (fun c_91 => ?_) (fun c_91 => ?_)
                        · refine lv_iload_n hx hb dX0_extreme_104 rfl (lv_at hl 5 rfl) ?_
                          exact hj _ (by first | exact exV_t (by rw [exB_x, bI_0.mp c_91, bI_n c_96]; rfl) | exact exV_f (by rw [exB_x, bI_0.mp c_96, Bool.and_false]) | exact exV_f (by rw [exB_x, bI_n c_91]; rfl))
                        · refine lv_iload hx hb dX0_extreme_94 (lv_at hl 0 rfl) ?_
                          refine lv_if_eq (tgt := 104) hx hb dX0_extreme_96 (by decide) (fun c_96 => ?_) (fun c_96 => ?_)
                          · refine lv_iload_n hx hb dX0_extreme_104 rfl (lv_at hl 5 rfl) ?_
                            exact hj _ (by first | exact exV_t (by rw [exB_x, bI_0.mp c_91, bI_n c_96]; rfl) | exact exV_f (by rw [exB_x, bI_0.mp c_96, Bool.and_false]) | exact exV_f (by rw [exB_x, bI_n c_91]; rfl))
                          · refine lv_iload hx hb dX0_extreme_99 (lv_at hl 1 rfl) ?_
                            refine lv_goto (tgt := 105) hx hb dX0_extreme_101 (by decide) ?_
                            exact hj _ (by first | exact exV_t (by rw [exB_x, bI_0.mp c_91, bI_n c_96]; rfl) | exact exV_f (by rw [exB_x, bI_0.mp c_96, Bool.and_false]) | exact exV_f (by rw [exB_x, bI_n c_91]; rfl))
                    · refine lv_iload_n hx hb dX0_extreme_52 rfl (lv_at hl 4 rfl) ?_
                      refine lv_ldc (v := -1000000000) hx hb C.1.2.2.2.1 (C.1.2.2.2.2 _ q201) dX0_extreme_53 ?_
                      refine lv_icmp_eq (tgt := 77) hx hb dX0_extreme_55 (by decide) (fun c_55 => ?_) (fun c_55 => ?_)
                      · refine lv_iconst (v := nI 1) hx hb dX0_extreme_77 (by decide) ?_
                        refine lv_goto (tgt := 82) hx hb dX0_extreme_78 (by decide) ?_
                        exact hj _ (xB_t (by first | exact Or.inl (ex_t hG (by omega) (by omega) c_55) | exact Or.inr (by rw [if_pos c_59]; exact Int32.not_le.mp c_65) | exact Or.inr (by rw [if_neg c_59]; exact Int32.not_le.mp c_74)))
                      · refine lv_iload_n hx hb dX0_extreme_58 rfl (lv_at hl 3 rfl) ?_
                        refine lv_if_ne (tgt := 71) hx hb dX0_extreme_59 (by decide) (fun c_59 => ?_) (fun c_59 => ?_)
                        · refine lv_iload hx hb dX0_extreme_71 (lv_at hl 0 rfl) ?_
                          refine lv_iload_n hx hb dX0_extreme_73 rfl (lv_at hl 4 rfl) ?_
                          refine lv_icmp_le (tgt := 81) hx hb dX0_extreme_74 (by decide) (fun c_74 => ?_) (fun c_74 => ?_)
                          · refine lv_iconst (v := nI 0) hx hb dX0_extreme_81 (by decide) ?_
                            exact hj _ (by first | exact xB_f (ex_f c_55) (by rw [if_pos c_59]; exact Int32.not_lt.mpr c_65) | exact xB_f (ex_f c_55) (by rw [if_neg c_59]; exact Int32.not_lt.mpr c_74))
                          · refine lv_iconst (v := nI 1) hx hb dX0_extreme_77 (by decide) ?_
                            refine lv_goto (tgt := 82) hx hb dX0_extreme_78 (by decide) ?_
                            exact hj _ (xB_t (by first | exact Or.inl (ex_t hG (by omega) (by omega) c_55) | exact Or.inr (by rw [if_pos c_59]; exact Int32.not_le.mp c_65) | exact Or.inr (by rw [if_neg c_59]; exact Int32.not_le.mp c_74)))
                        · refine lv_iload hx hb dX0_extreme_62 (lv_at hl 0 rfl) ?_
                          refine lv_iload_n hx hb dX0_extreme_64 rfl (lv_at hl 4 rfl) ?_
                          refine lv_icmp_ge (tgt := 81) hx hb dX0_extreme_65 (by decide) (fun c_65 => ?_) (fun c_65 => ?_)
                          · refine lv_iconst (v := nI 0) hx hb dX0_extreme_81 (by decide) ?_
                            exact hj _ (by first | exact xB_f (ex_f c_55) (by rw [if_pos c_59]; exact Int32.not_lt.mpr c_65) | exact xB_f (ex_f c_55) (by rw [if_neg c_59]; exact Int32.not_lt.mpr c_74))
                          · refine lv_goto (tgt := 77) hx hb dX0_extreme_68 (by decide) ?_
                            refine lv_iconst (v := nI 1) hx hb dX0_extreme_77 (by decide) ?_
                            refine lv_goto (tgt := 82) hx hb dX0_extreme_78 (by decide) ?_
                            exact hj _ (xB_t (by first | exact Or.inl (ex_t hG (by omega) (by omega) c_55) | exact Or.inr (by rw [if_pos c_59]; exact Int32.not_le.mp c_65) | exact Or.inr (by rw [if_neg c_59]; exact Int32.not_le.mp c_74)))
              exact lp 257 0 _ _ _ (by omega) (by omega) I (lv_sub hl [2, 3, 4, 1, 0] rfl)
            · skip
              exact absurd (show x2 ≤ nI 1 from by rcases hw with rfl | rfl <;> decide) c_15
  · refine lv_iload_n hx hb dX0_extreme_0 rfl (lv_at hl 1 rfl) ?_
    refine lv_if_lt (tgt := 18) hx hb dX0_extreme_1 (by decide) (fun c_1 => ?_) (fun c_1 => ?_)
    · refine lv_ldc (v := -1000000000) hx hb C.1.2.2.2.1 (C.1.2.2.2.2 _ q201) dX0_extreme_18 ?_
      exact hret (-1000000000) _ _ _ _ _ rfl I (⟨by rw [if_neg hw], ⟨_, _, _, _, _, _, _, _, _, _, _, _, _, _, _, hXI, rfl⟩⟩) dX0_extreme_20
    · refine lv_iload_n hx hb dX0_extreme_4 rfl (lv_at hl 1 rfl) ?_
      refine lv_iconst (v := nI 3) hx hb dX0_extreme_5 (by decide) ?_
      refine lv_icmp_gt (tgt := 18) hx hb dX0_extreme_6 (by decide) (fun c_6 => ?_) (fun c_6 => ?_)
      · refine lv_ldc (v := -1000000000) hx hb C.1.2.2.2.1 (C.1.2.2.2.2 _ q201) dX0_extreme_18 ?_
        exact hret (-1000000000) _ _ _ _ _ rfl I (⟨by rw [if_neg hw], ⟨_, _, _, _, _, _, _, _, _, _, _, _, _, _, _, hXI, rfl⟩⟩) dX0_extreme_20
      · refine lv_iload_n hx hb dX0_extreme_9 rfl (lv_at hl 2 rfl) ?_
        refine lv_if_lt (tgt := 18) hx hb dX0_extreme_10 (by decide) (fun c_10 => ?_) (fun c_10 => ?_)
        · refine lv_ldc (v := -1000000000) hx hb C.1.2.2.2.1 (C.1.2.2.2.2 _ q201) dX0_extreme_18 ?_
          exact hret (-1000000000) _ _ _ _ _ rfl I (⟨by rw [if_neg hw], ⟨_, _, _, _, _, _, _, _, _, _, _, _, _, _, _, hXI, rfl⟩⟩) dX0_extreme_20
        · refine lv_iload_n hx hb dX0_extreme_13 rfl (lv_at hl 2 rfl) ?_
          refine lv_iconst (v := nI 1) hx hb dX0_extreme_14 (by decide) ?_
          refine lv_icmp_le (tgt := 21) hx hb dX0_extreme_15 (by decide) (fun c_15 => ?_) (fun c_15 => ?_)
          · skip
            exact absurd (in01 c_10 c_15) hw
          · refine lv_ldc (v := -1000000000) hx hb C.1.2.2.2.1 (C.1.2.2.2.2 _ q201) dX0_extreme_18 ?_
            exact hret (-1000000000) _ _ _ _ _ rfl I (⟨by rw [if_neg hw], ⟨_, _, _, _, _, _, _, _, _, _, _, _, _, _, _, hXI, rfl⟩⟩) dX0_extreme_20
end
section
/-! the two constructors -/
set_option maxRecDepth 100000
def CN (l : Launch) (y : MethodName) (ws : List Cond) (rm : Room) (D : va_G) (d : Nat → ClassId) (h0 : Nat) (w : va_W) (mc ms : Nat) (post : va_W → Prop) : Prop :=
  ∀ sz : Nat, Met l y ws rm (va_Pc [.ref h0] (fun U => U.heap.size = sz ∧ va_P D iCl w U.heap ∧ va_K D iCl (iTy d) U ∧ va_D (fun _ => True) w)) (va_Qv post (fun u t => va_P D iCl u t.heap ∧ va_K D iCl (iTy d) t ∧ va_D (va_A w sz) u) (va_A w sz)) mc ms (va_A w sz)
set_option maxHeartbeats 4000000 in
theorem cn_in {l : Launch} {y : MethodName} {ws : List Cond} {rm : Room} {D : va_G} {d : Nat → ClassId} {h0 : Nat} {w : va_W} {mc ms : Nat} {post : va_W → Prop} {cc : ByteArray} (hy : plainName y.cls = true) (hw : ws = Cond.code y cc 1 none :: lw_all)
    (body : ∀ (p : Program) (e : Env) (s : State) (m : MethodId) (ar : Array Value) (bl : List Frame) (me : Method) (c : Code) (A : Nat → Prop) (Q : State → Prop) (ls : Array Slot), CX p c cc 1 s m ar y.cls D d → IW D A s.heap w s.heap [] → lv_has ls 1 [(0, .ref h0)] → me.name = y.name →
      (∀ (w' : va_W) (H : Heap) (locs : List Loc) (pc : Nat) (ls : Array Slot), IW D A s.heap w' H locs → post w' → decode cc pc = .ok (.return_, 1) → W p l e rm s m ar bl me c H locs mc ms Q (F0 m pc ls [])) →
      W p l e rm s m ar bl me c s.heap [] 0 0 Q (F0 m 0 ls [])) : CN l y ws rm D d h0 w mc ms post := by
  intro sz
  refine Met.ofW (cc := cc) (maxL := 1) (ret := none) hy hw ?_
  intro p e s m args below meth c s₁ B hml hv
  obtain ⟨rfl, hsz, hP, hK, hD0⟩ := hv
  have hts := atoms_spec (ws := ws) B.pre
  have hts : ∀ w ∈ lw_all, w.before _ s = true := fun w h => hts w (by rw [hw]; exact List.mem_cons_of_mem _ h)
  have hown : s.vm.findClass y.cls = some m.cls := findClass_of_methodNamed B.named
  subst hsz
  have hD := hD0.self (sz := s.heap.size)
  rw [lg_entry_eq]
  exact body p e s m _ below meth c (va_A w s.heap.size) _ _ ⟨⟨B.exec, B.bytes, hml, hown, hts⟩, hK⟩ ⟨hP, hD, va_S.rf, fun q h => Or.inr h⟩ (lv_entry [.ref h0] (n := 1) (Nat.le_of_ble_eq_true rfl)) (name_of_methodNamed B.named B.method).1 (fun w' H locs pc ls I hp hd => W.vret B.exec B.bytes B.returns (fun t ht hW => ⟨⟨w', rfl, hp, by rw [ht]; exact I.1, va_K.moved hW.alike hK, I.2.1⟩, I.2.2.1.F ht⟩) I.2.2.1.2.2 hd B.notSynchronized)
section RN
variable {p : Program} {l : Launch} {e : Env} {R : Room} {s : State} {m : MethodId} {ar : Array Value} {bl : List Frame} {me : Method} {c : Code} {H : Heap} {locs : List Loc} {cells slots : Nat} {Q : State → Prop}
variable {cc : ByteArray} {pc nL : Nat} {ls : Array Slot} {rest st : List Value} {own : String} {D : va_G} {d : Nat → ClassId} {A : Nat → Prop} {H0 : Heap} {ws ws' : va_W} {a n N : Nat}
theorem x_putF (C : CX p c cc nL s m ar RX0 D d) (I : IW D A H0 ws H locs) (hin : me.name = "<init>") {fs : List Value} (he : ws[0]? = some (a, .inr (0, fs))) (k : Nat) (hk : k < 15) {index : Nat} (hl : Cond.fieldLink RX0 index (TX0 k).1 (TX0 k).2.1 (TX0 k).2.2.1 ∈ lw_all) (hfin : (TX0 k).2.2.2 = true) (hdecl : (TX0 k).1 = RX0) {ty : FieldType} {v : Value} (hd : parseFieldDescriptor (TX0 k).2.2.1 = some ty) (hn : narrow ty v = v) (hfit : fits ty v = true) (hll : k < fs.length) (hw : ws.set 0 (a, .inr (0, fs.set k v)) = ws') (hdg : decode cc pc = .ok (.putfield index, 3))
    (kk : ∀ (H1 : Heap) (locs1 : List Loc), IW D A H0 ws' H1 locs1 → W p l e R s m ar bl me c H1 locs1 cells slots Q (F0 m (pc + 3) ls rest)) : W p l e R s m ar bl me c H locs cells slots Q (F0 m pc ls (v :: .ref a :: rest)) := by
  subst hw
  exact va_putF (C := RX0) (T := TX0) (N := 15) C.1.1 C.1.2.1 C.1.2.2.2.2 in_X0 tyX0 tyX0_ok nmX0 C.1.2.2.2.1 C.2 I.1 I.2.1 I.2.2.1 0 he rfl k hk (C.1.2.2.2.2 _ hl) (fun _ h => h) hfin hin hdecl hd hn hfit hll hdg (fun H1 locs1 hP hD hS => kk H1 locs1 ⟨hP, hD, hS, I.2.2.2⟩)
theorem i_newI (C : CX p c cc nL s m ar own D d) (I : IW D A H0 ws H locs) (hN : N < 65536) (hcells : cells + 1 ≤ R.cells) (hslots : slots + N ≤ R.slots) (hdg : decode cc pc = .ok (.newarray .int, 2))
    (kk : ∀ (q : Nat) (H1 : Heap), IW D A H0 (ws ++ [(q, .inl (d 0, N, .inl (fun _ => 0)))]) H1 locs → W p l e R s m ar bl me c H1 locs (cells + 1) (slots + N) Q (F0 m (pc + 2) ls (.ref q :: rest))) : W p l e R s m ar bl me c H locs cells slots Q (F0 m pc ls (.int (nI N) :: rest)) := by
  refine va_newa (atype := .int) (ty := .int) (a0 := (N, .inl (fun _ => 0))) (N' := N) C.1.1 C.1.2.1 (C.1.2.2.2.2 _ q79) rfl C.2 I.1 I.2.1 I.2.2.1 I.2.2.2 (fun _ => rfl) (nI_pos (by omega)) (nI_clamp (by omega)) (by show N * 4 ≤ 536870912; omega) hcells hslots hdg (fun q cA H1 hK hP hD hS => ?_)
  have e1 : s.vm.findClass ("[" ++ FieldType.toString .int) = some cA := (hK.2 4 (cA, .int) rfl).2
  have e2 : s.vm.findClass ("[" ++ FieldType.toString .int) = some (d 0) := (C.2.2 0 (d 0, .int) rfl).2
  obtain rfl : cA = d 0 := Option.some.inj (e1.symm.trans e2)
  exact kk q H1 ⟨hP, hD, hS, I.2.2.2⟩
theorem i_newB (C : CX p c cc nL s m ar own D d) (I : IW D A H0 ws H locs) (hN : N < 65536) (hcells : cells + 1 ≤ R.cells) (hslots : slots + N ≤ R.slots) (hdg : decode cc pc = .ok (.newarray .byte, 2))
    (kk : ∀ (q : Nat) (H1 : Heap), IW D A H0 (ws ++ [(q, .inl (d 1, N, .inl (fun _ => 0)))]) H1 locs → W p l e R s m ar bl me c H1 locs (cells + 1) (slots + N) Q (F0 m (pc + 2) ls (.ref q :: rest))) : W p l e R s m ar bl me c H locs cells slots Q (F0 m pc ls (.int (nI N) :: rest)) := by
  refine va_newa (atype := .byte) (ty := .byte) (a0 := (N, .inl (fun _ => 0))) (N' := N) C.1.1 C.1.2.1 (C.1.2.2.2.2 _ q77) rfl C.2 I.1 I.2.1 I.2.2.1 I.2.2.2 (fun _ => rfl) (nI_pos (by omega)) (nI_clamp (by omega)) (by show N * 1 ≤ 536870912; omega) hcells hslots hdg (fun q cA H1 hK hP hD hS => ?_)
  have e1 : s.vm.findClass ("[" ++ FieldType.toString .byte) = some cA := (hK.2 4 (cA, .byte) rfl).2
  have e2 : s.vm.findClass ("[" ++ FieldType.toString .byte) = some (d 1) := (C.2.2 1 (d 1, .byte) rfl).2
  obtain rfl : cA = d 1 := Option.some.inj (e1.symm.trans e2)
  exact kk q H1 ⟨hP, hD, hS, I.2.2.2⟩
theorem i_newS (C : CX p c cc nL s m ar own D d) (I : IW D A H0 ws H locs) (hN : N < 65536) (hcells : cells + 1 ≤ R.cells) (hslots : slots + N ≤ R.slots) (hdg : decode cc pc = .ok (.newarray .short, 2))
    (kk : ∀ (q : Nat) (H1 : Heap), IW D A H0 (ws ++ [(q, .inl (d 2, N, .inl (fun _ => 0)))]) H1 locs → W p l e R s m ar bl me c H1 locs (cells + 1) (slots + N) Q (F0 m (pc + 2) ls (.ref q :: rest))) : W p l e R s m ar bl me c H locs cells slots Q (F0 m pc ls (.int (nI N) :: rest)) := by
  refine va_newa (atype := .short) (ty := .short) (a0 := (N, .inl (fun _ => 0))) (N' := N) C.1.1 C.1.2.1 (C.1.2.2.2.2 _ q78) rfl C.2 I.1 I.2.1 I.2.2.1 I.2.2.2 (fun _ => rfl) (nI_pos (by omega)) (nI_clamp (by omega)) (by show N * 2 ≤ 536870912; omega) hcells hslots hdg (fun q cA H1 hK hP hD hS => ?_)
  have e1 : s.vm.findClass ("[" ++ FieldType.toString .short) = some cA := (hK.2 4 (cA, .short) rfl).2
  have e2 : s.vm.findClass ("[" ++ FieldType.toString .short) = some (d 2) := (C.2.2 2 (d 2, .short) rfl).2
  obtain rfl : cA = d 2 := Option.some.inj (e1.symm.trans e2)
  exact kk q H1 ⟨hP, hD, hS, I.2.2.2⟩
theorem i_newZ (C : CX p c cc nL s m ar own D d) (I : IW D A H0 ws H locs) (hN : N < 65536) (hcells : cells + 1 ≤ R.cells) (hslots : slots + N ≤ R.slots) (hdg : decode cc pc = .ok (.newarray .boolean, 2))
    (kk : ∀ (q : Nat) (H1 : Heap), IW D A H0 (ws ++ [(q, .inl (d 3, N, .inl (fun _ => 0)))]) H1 locs → W p l e R s m ar bl me c H1 locs (cells + 1) (slots + N) Q (F0 m (pc + 2) ls (.ref q :: rest))) : W p l e R s m ar bl me c H locs cells slots Q (F0 m pc ls (.int (nI N) :: rest)) := by
  refine va_newa (atype := .boolean) (ty := .boolean) (a0 := (N, .inl (fun _ => 0))) (N' := N) C.1.1 C.1.2.1 (C.1.2.2.2.2 _ q80) rfl C.2 I.1 I.2.1 I.2.2.1 I.2.2.2 (fun _ => rfl) (nI_pos (by omega)) (nI_clamp (by omega)) (by show N * 1 ≤ 536870912; omega) hcells hslots hdg (fun q cA H1 hK hP hD hS => ?_)
  have e1 : s.vm.findClass ("[" ++ FieldType.toString .boolean) = some cA := (hK.2 4 (cA, .boolean) rfl).2
  have e2 : s.vm.findClass ("[" ++ FieldType.toString .boolean) = some (d 3) := (C.2.2 3 (d 3, .boolean) rfl).2
  obtain rfl : cA = d 3 := Option.some.inj (e1.symm.trans e2)
  exact kk q H1 ⟨hP, hD, hS, I.2.2.2⟩
end RN
set_option maxHeartbeats 4000000 in
set_option maxRecDepth 100000 in
/-- InputExplorer(): twelve arrays of zeros -/
theorem kX_init (l : Launch) (D : va_G) (d : Nat → ClassId) (h0 : Nat) : CN l yX0_init (ws_ yX0_init cX0_init 1 none) ({ frames := 1, cells := 12, slots := 2324, locals := 12 } : Room) D d h0 [(h0, .inr (0, [.null, .null, .null, .int 0, .int 0, .null, .null, .null, .null, .null, .int 0, .null, .null, .null, .null]))] 12 2324 (fun w' => ∃ h : Nat → Nat, h 0 = h0 ∧ w' = wX h d 0 0 0 (fun _ => 0) (fun _ => 0) (fun _ => 0) (fun _ => 0) (fun _ => 0) (fun _ => 0) (fun _ => 0) (fun _ => 0) (fun _ => 0) (fun _ => 0) (fun _ => 0) (fun _ => 0)) := by
  refine cn_in (cc := cX0_init) (by decide) rfl ?_
  intro pg e s m ar bl me c A Q ls C I hl hin hret
  have hx := C.1.1
  have hb := C.1.2.1
  refine lv_aload_n hx hb dX0_init_0 rfl (lv_at hl 0 rfl) ?_
  refine W.objInit hx hb C.1.2.2.2.1 (C.1.2.2.2.2 _ q28) (C.1.2.2.2.2 _ q29) (C.1.2.2.2.2 _ q30) rfl (by rw [C.1.2.2.1]; exact hl.1) rfl dX0_init_1 (Nat.le_of_ble_eq_true rfl) (Nat.le_of_ble_eq_true rfl) ?_
  refine W.eq (g2 := F0 m 4 ls []) rfl ?_
  refine lv_aload_n hx hb dX0_init_4 rfl (lv_at hl 0 rfl) ?_
  refine lv_bipush (v := nI 12) hx hb dX0_init_5 (by decide) ?_
  refine i_newB C I (by decide) (Nat.le_of_ble_eq_true rfl) (Nat.le_of_ble_eq_true rfl) dX0_init_7 (fun q_1 H I => ?_)
  have I : IW D A s.heap [(h0, .inr (0, [.null, .null, .null, .int 0, .int 0, .null, .null, .null, .null, .null, .int 0, .null, .null, .null, .null])), (q_1, .inl (d 1, 12, .inl (fun _ => 0)))] H _ := I
  refine W.widen (k := 1) (n := 12) (Nat.le_of_ble_eq_true rfl) (Nat.le_of_ble_eq_true rfl) ?_
  refine x_putF (ws' := [(h0, .inr (0, [.ref q_1, .null, .null, .int 0, .int 0, .null, .null, .null, .null, .null, .int 0, .null, .null, .null, .null])), (q_1, .inl (d 1, 12, .inl (fun _ => 0)))]) (ty := .array .byte) C I hin rfl 0 (by decide) q31 rfl rfl (by decide +kernel) rfl rfl (Nat.le_of_ble_eq_true rfl) rfl dX0_init_9 (fun H locs I => ?_)
  refine lv_aload_n hx hb dX0_init_12 rfl (lv_at hl 0 rfl) ?_
  refine lv_bipush (v := nI 12) hx hb dX0_init_13 (by decide) ?_
  refine i_newB C I (by decide) (Nat.le_of_ble_eq_true rfl) (Nat.le_of_ble_eq_true rfl) dX0_init_15 (fun q_2 H I => ?_)
  have I : IW D A s.heap [(h0, .inr (0, [.ref q_1, .null, .null, .int 0, .int 0, .null, .null, .null, .null, .null, .int 0, .null, .null, .null, .null])), (q_1, .inl (d 1, 12, .inl (fun _ => 0))), (q_2, .inl (d 1, 12, .inl (fun _ => 0)))] H _ := I
  refine W.widen (k := 2) (n := 24) (Nat.le_of_ble_eq_true rfl) (Nat.le_of_ble_eq_true rfl) ?_
  refine x_putF (ws' := [(h0, .inr (0, [.ref q_1, .ref q_2, .null, .int 0, .int 0, .null, .null, .null, .null, .null, .int 0, .null, .null, .null, .null])), (q_1, .inl (d 1, 12, .inl (fun _ => 0))), (q_2, .inl (d 1, 12, .inl (fun _ => 0)))]) (ty := .array .byte) C I hin rfl 1 (by decide) q32 rfl rfl (by decide +kernel) rfl rfl (Nat.le_of_ble_eq_true rfl) rfl dX0_init_17 (fun H locs I => ?_)
  refine lv_aload_n hx hb dX0_init_20 rfl (lv_at hl 0 rfl) ?_
  refine lv_bipush (v := nI 12) hx hb dX0_init_21 (by decide) ?_
  refine i_newB C I (by decide) (Nat.le_of_ble_eq_true rfl) (Nat.le_of_ble_eq_true rfl) dX0_init_23 (fun q_3 H I => ?_)
  have I : IW D A s.heap [(h0, .inr (0, [.ref q_1, .ref q_2, .null, .int 0, .int 0, .null, .null, .null, .null, .null, .int 0, .null, .null, .null, .null])), (q_1, .inl (d 1, 12, .inl (fun _ => 0))), (q_2, .inl (d 1, 12, .inl (fun _ => 0))), (q_3, .inl (d 1, 12, .inl (fun _ => 0)))] H _ := I
  refine W.widen (k := 3) (n := 36) (Nat.le_of_ble_eq_true rfl) (Nat.le_of_ble_eq_true rfl) ?_
  refine x_putF (ws' := [(h0, .inr (0, [.ref q_1, .ref q_2, .ref q_3, .int 0, .int 0, .null, .null, .null, .null, .null, .int 0, .null, .null, .null, .null])), (q_1, .inl (d 1, 12, .inl (fun _ => 0))), (q_2, .inl (d 1, 12, .inl (fun _ => 0))), (q_3, .inl (d 1, 12, .inl (fun _ => 0)))]) (ty := .array .byte) C I hin rfl 2 (by decide) q33 rfl rfl (by decide +kernel) rfl rfl (Nat.le_of_ble_eq_true rfl) rfl dX0_init_25 (fun H locs I => ?_)
  refine lv_aload_n hx hb dX0_init_28 rfl (lv_at hl 0 rfl) ?_
  refine lv_bipush (v := nI 16) hx hb dX0_init_29 (by decide) ?_
  refine i_newB C I (by decide) (Nat.le_of_ble_eq_true rfl) (Nat.le_of_ble_eq_true rfl) dX0_init_31 (fun q_4 H I => ?_)
  have I : IW D A s.heap [(h0, .inr (0, [.ref q_1, .ref q_2, .ref q_3, .int 0, .int 0, .null, .null, .null, .null, .null, .int 0, .null, .null, .null, .null])), (q_1, .inl (d 1, 12, .inl (fun _ => 0))), (q_2, .inl (d 1, 12, .inl (fun _ => 0))), (q_3, .inl (d 1, 12, .inl (fun _ => 0))), (q_4, .inl (d 1, 16, .inl (fun _ => 0)))] H _ := I
  refine W.widen (k := 4) (n := 52) (Nat.le_of_ble_eq_true rfl) (Nat.le_of_ble_eq_true rfl) ?_
  refine x_putF (ws' := [(h0, .inr (0, [.ref q_1, .ref q_2, .ref q_3, .int 0, .int 0, .ref q_4, .null, .null, .null, .null, .int 0, .null, .null, .null, .null])), (q_1, .inl (d 1, 12, .inl (fun _ => 0))), (q_2, .inl (d 1, 12, .inl (fun _ => 0))), (q_3, .inl (d 1, 12, .inl (fun _ => 0))), (q_4, .inl (d 1, 16, .inl (fun _ => 0)))]) (ty := .array .byte) C I hin rfl 5 (by decide) q36 rfl rfl (by decide +kernel) rfl rfl (Nat.le_of_ble_eq_true rfl) rfl dX0_init_33 (fun H locs I => ?_)
  refine lv_aload_n hx hb dX0_init_36 rfl (lv_at hl 0 rfl) ?_
  refine lv_bipush (v := nI 16) hx hb dX0_init_37 (by decide) ?_
  refine i_newS C I (by decide) (Nat.le_of_ble_eq_true rfl) (Nat.le_of_ble_eq_true rfl) dX0_init_39 (fun q_5 H I => ?_)
  have I : IW D A s.heap [(h0, .inr (0, [.ref q_1, .ref q_2, .ref q_3, .int 0, .int 0, .ref q_4, .null, .null, .null, .null, .int 0, .null, .null, .null, .null])), (q_1, .inl (d 1, 12, .inl (fun _ => 0))), (q_2, .inl (d 1, 12, .inl (fun _ => 0))), (q_3, .inl (d 1, 12, .inl (fun _ => 0))), (q_4, .inl (d 1, 16, .inl (fun _ => 0))), (q_5, .inl (d 2, 16, .inl (fun _ => 0)))] H _ := I
  refine W.widen (k := 5) (n := 68) (Nat.le_of_ble_eq_true rfl) (Nat.le_of_ble_eq_true rfl) ?_
  refine x_putF (ws' := [(h0, .inr (0, [.ref q_1, .ref q_2, .ref q_3, .int 0, .int 0, .ref q_4, .ref q_5, .null, .null, .null, .int 0, .null, .null, .null, .null])), (q_1, .inl (d 1, 12, .inl (fun _ => 0))), (q_2, .inl (d 1, 12, .inl (fun _ => 0))), (q_3, .inl (d 1, 12, .inl (fun _ => 0))), (q_4, .inl (d 1, 16, .inl (fun _ => 0))), (q_5, .inl (d 2, 16, .inl (fun _ => 0)))]) (ty := .array .short) C I hin rfl 6 (by decide) q37 rfl rfl (by decide +kernel) rfl rfl (Nat.le_of_ble_eq_true rfl) rfl dX0_init_41 (fun H locs I => ?_)
  refine lv_aload_n hx hb dX0_init_44 rfl (lv_at hl 0 rfl) ?_
  refine lv_sipush (v := nI 256) hx hb dX0_init_45 (by decide) ?_
  refine i_newI C I (by decide) (Nat.le_of_ble_eq_true rfl) (Nat.le_of_ble_eq_true rfl) dX0_init_48 (fun q_6 H I => ?_)
  have I : IW D A s.heap [(h0, .inr (0, [.ref q_1, .ref q_2, .ref q_3, .int 0, .int 0, .ref q_4, .ref q_5, .null, .null, .null, .int 0, .null, .null, .null, .null])), (q_1, .inl (d 1, 12, .inl (fun _ => 0))), (q_2, .inl (d 1, 12, .inl (fun _ => 0))), (q_3, .inl (d 1, 12, .inl (fun _ => 0))), (q_4, .inl (d 1, 16, .inl (fun _ => 0))), (q_5, .inl (d 2, 16, .inl (fun _ => 0))), (q_6, .inl (d 0, 256, .inl (fun _ => 0)))] H _ := I
  refine W.widen (k := 6) (n := 324) (Nat.le_of_ble_eq_true rfl) (Nat.le_of_ble_eq_true rfl) ?_
  refine x_putF (ws' := [(h0, .inr (0, [.ref q_1, .ref q_2, .ref q_3, .int 0, .int 0, .ref q_4, .ref q_5, .ref q_6, .null, .null, .int 0, .null, .null, .null, .null])), (q_1, .inl (d 1, 12, .inl (fun _ => 0))), (q_2, .inl (d 1, 12, .inl (fun _ => 0))), (q_3, .inl (d 1, 12, .inl (fun _ => 0))), (q_4, .inl (d 1, 16, .inl (fun _ => 0))), (q_5, .inl (d 2, 16, .inl (fun _ => 0))), (q_6, .inl (d 0, 256, .inl (fun _ => 0)))]) (ty := .array .int) C I hin rfl 7 (by decide) q38 rfl rfl (by decide +kernel) rfl rfl (Nat.le_of_ble_eq_true rfl) rfl dX0_init_50 (fun H locs I => ?_)
  refine lv_aload_n hx hb dX0_init_53 rfl (lv_at hl 0 rfl) ?_
  refine lv_sipush (v := nI 192) hx hb dX0_init_54 (by decide) ?_
  refine i_newI C I (by decide) (Nat.le_of_ble_eq_true rfl) (Nat.le_of_ble_eq_true rfl) dX0_init_57 (fun q_7 H I => ?_)
  have I : IW D A s.heap [(h0, .inr (0, [.ref q_1, .ref q_2, .ref q_3, .int 0, .int 0, .ref q_4, .ref q_5, .ref q_6, .null, .null, .int 0, .null, .null, .null, .null])), (q_1, .inl (d 1, 12, .inl (fun _ => 0))), (q_2, .inl (d 1, 12, .inl (fun _ => 0))), (q_3, .inl (d 1, 12, .inl (fun _ => 0))), (q_4, .inl (d 1, 16, .inl (fun _ => 0))), (q_5, .inl (d 2, 16, .inl (fun _ => 0))), (q_6, .inl (d 0, 256, .inl (fun _ => 0))), (q_7, .inl (d 0, 192, .inl (fun _ => 0)))] H _ := I
  refine W.widen (k := 7) (n := 516) (Nat.le_of_ble_eq_true rfl) (Nat.le_of_ble_eq_true rfl) ?_
  refine x_putF (ws' := [(h0, .inr (0, [.ref q_1, .ref q_2, .ref q_3, .int 0, .int 0, .ref q_4, .ref q_5, .ref q_6, .ref q_7, .null, .int 0, .null, .null, .null, .null])), (q_1, .inl (d 1, 12, .inl (fun _ => 0))), (q_2, .inl (d 1, 12, .inl (fun _ => 0))), (q_3, .inl (d 1, 12, .inl (fun _ => 0))), (q_4, .inl (d 1, 16, .inl (fun _ => 0))), (q_5, .inl (d 2, 16, .inl (fun _ => 0))), (q_6, .inl (d 0, 256, .inl (fun _ => 0))), (q_7, .inl (d 0, 192, .inl (fun _ => 0)))]) (ty := .array .int) C I hin rfl 8 (by decide) q39 rfl rfl (by decide +kernel) rfl rfl (Nat.le_of_ble_eq_true rfl) rfl dX0_init_59 (fun H locs I => ?_)
  refine lv_aload_n hx hb dX0_init_62 rfl (lv_at hl 0 rfl) ?_
  refine lv_bipush (v := nI 16) hx hb dX0_init_63 (by decide) ?_
  refine i_newI C I (by decide) (Nat.le_of_ble_eq_true rfl) (Nat.le_of_ble_eq_true rfl) dX0_init_65 (fun q_8 H I => ?_)
  have I : IW D A s.heap [(h0, .inr (0, [.ref q_1, .ref q_2, .ref q_3, .int 0, .int 0, .ref q_4, .ref q_5, .ref q_6, .ref q_7, .null, .int 0, .null, .null, .null, .null])), (q_1, .inl (d 1, 12, .inl (fun _ => 0))), (q_2, .inl (d 1, 12, .inl (fun _ => 0))), (q_3, .inl (d 1, 12, .inl (fun _ => 0))), (q_4, .inl (d 1, 16, .inl (fun _ => 0))), (q_5, .inl (d 2, 16, .inl (fun _ => 0))), (q_6, .inl (d 0, 256, .inl (fun _ => 0))), (q_7, .inl (d 0, 192, .inl (fun _ => 0))), (q_8, .inl (d 0, 16, .inl (fun _ => 0)))] H _ := I
  refine W.widen (k := 8) (n := 532) (Nat.le_of_ble_eq_true rfl) (Nat.le_of_ble_eq_true rfl) ?_
  refine x_putF (ws' := [(h0, .inr (0, [.ref q_1, .ref q_2, .ref q_3, .int 0, .int 0, .ref q_4, .ref q_5, .ref q_6, .ref q_7, .ref q_8, .int 0, .null, .null, .null, .null])), (q_1, .inl (d 1, 12, .inl (fun _ => 0))), (q_2, .inl (d 1, 12, .inl (fun _ => 0))), (q_3, .inl (d 1, 12, .inl (fun _ => 0))), (q_4, .inl (d 1, 16, .inl (fun _ => 0))), (q_5, .inl (d 2, 16, .inl (fun _ => 0))), (q_6, .inl (d 0, 256, .inl (fun _ => 0))), (q_7, .inl (d 0, 192, .inl (fun _ => 0))), (q_8, .inl (d 0, 16, .inl (fun _ => 0)))]) (ty := .array .int) C I hin rfl 9 (by decide) q40 rfl rfl (by decide +kernel) rfl rfl (Nat.le_of_ble_eq_true rfl) rfl dX0_init_67 (fun H locs I => ?_)
  refine lv_aload_n hx hb dX0_init_70 rfl (lv_at hl 0 rfl) ?_
  refine lv_sipush (v := nI 256) hx hb dX0_init_71 (by decide) ?_
  refine i_newS C I (by decide) (Nat.le_of_ble_eq_true rfl) (Nat.le_of_ble_eq_true rfl) dX0_init_74 (fun q_9 H I => ?_)
  have I : IW D A s.heap [(h0, .inr (0, [.ref q_1, .ref q_2, .ref q_3, .int 0, .int 0, .ref q_4, .ref q_5, .ref q_6, .ref q_7, .ref q_8, .int 0, .null, .null, .null, .null])), (q_1, .inl (d 1, 12, .inl (fun _ => 0))), (q_2, .inl (d 1, 12, .inl (fun _ => 0))), (q_3, .inl (d 1, 12, .inl (fun _ => 0))), (q_4, .inl (d 1, 16, .inl (fun _ => 0))), (q_5, .inl (d 2, 16, .inl (fun _ => 0))), (q_6, .inl (d 0, 256, .inl (fun _ => 0))), (q_7, .inl (d 0, 192, .inl (fun _ => 0))), (q_8, .inl (d 0, 16, .inl (fun _ => 0))), (q_9, .inl (d 2, 256, .inl (fun _ => 0)))] H _ := I
  refine W.widen (k := 9) (n := 788) (Nat.le_of_ble_eq_true rfl) (Nat.le_of_ble_eq_true rfl) ?_
  refine x_putF (ws' := [(h0, .inr (0, [.ref q_1, .ref q_2, .ref q_3, .int 0, .int 0, .ref q_4, .ref q_5, .ref q_6, .ref q_7, .ref q_8, .int 0, .ref q_9, .null, .null, .null])), (q_1, .inl (d 1, 12, .inl (fun _ => 0))), (q_2, .inl (d 1, 12, .inl (fun _ => 0))), (q_3, .inl (d 1, 12, .inl (fun _ => 0))), (q_4, .inl (d 1, 16, .inl (fun _ => 0))), (q_5, .inl (d 2, 16, .inl (fun _ => 0))), (q_6, .inl (d 0, 256, .inl (fun _ => 0))), (q_7, .inl (d 0, 192, .inl (fun _ => 0))), (q_8, .inl (d 0, 16, .inl (fun _ => 0))), (q_9, .inl (d 2, 256, .inl (fun _ => 0)))]) (ty := .array .short) C I hin rfl 11 (by decide) q42 rfl rfl (by decide +kernel) rfl rfl (Nat.le_of_ble_eq_true rfl) rfl dX0_init_76 (fun H locs I => ?_)
  refine lv_aload_n hx hb dX0_init_79 rfl (lv_at hl 0 rfl) ?_
  refine lv_sipush (v := nI 256) hx hb dX0_init_80 (by decide) ?_
  refine i_newZ C I (by decide) (Nat.le_of_ble_eq_true rfl) (Nat.le_of_ble_eq_true rfl) dX0_init_83 (fun q_10 H I => ?_)
  have I : IW D A s.heap [(h0, .inr (0, [.ref q_1, .ref q_2, .ref q_3, .int 0, .int 0, .ref q_4, .ref q_5, .ref q_6, .ref q_7, .ref q_8, .int 0, .ref q_9, .null, .null, .null])), (q_1, .inl (d 1, 12, .inl (fun _ => 0))), (q_2, .inl (d 1, 12, .inl (fun _ => 0))), (q_3, .inl (d 1, 12, .inl (fun _ => 0))), (q_4, .inl (d 1, 16, .inl (fun _ => 0))), (q_5, .inl (d 2, 16, .inl (fun _ => 0))), (q_6, .inl (d 0, 256, .inl (fun _ => 0))), (q_7, .inl (d 0, 192, .inl (fun _ => 0))), (q_8, .inl (d 0, 16, .inl (fun _ => 0))), (q_9, .inl (d 2, 256, .inl (fun _ => 0))), (q_10, .inl (d 3, 256, .inl (fun _ => 0)))] H _ := I
  refine W.widen (k := 10) (n := 1044) (Nat.le_of_ble_eq_true rfl) (Nat.le_of_ble_eq_true rfl) ?_
  refine x_putF (ws' := [(h0, .inr (0, [.ref q_1, .ref q_2, .ref q_3, .int 0, .int 0, .ref q_4, .ref q_5, .ref q_6, .ref q_7, .ref q_8, .int 0, .ref q_9, .ref q_10, .null, .null])), (q_1, .inl (d 1, 12, .inl (fun _ => 0))), (q_2, .inl (d 1, 12, .inl (fun _ => 0))), (q_3, .inl (d 1, 12, .inl (fun _ => 0))), (q_4, .inl (d 1, 16, .inl (fun _ => 0))), (q_5, .inl (d 2, 16, .inl (fun _ => 0))), (q_6, .inl (d 0, 256, .inl (fun _ => 0))), (q_7, .inl (d 0, 192, .inl (fun _ => 0))), (q_8, .inl (d 0, 16, .inl (fun _ => 0))), (q_9, .inl (d 2, 256, .inl (fun _ => 0))), (q_10, .inl (d 3, 256, .inl (fun _ => 0)))]) (ty := .array .boolean) C I hin rfl 12 (by decide) q43 rfl rfl (by decide +kernel) rfl rfl (Nat.le_of_ble_eq_true rfl) rfl dX0_init_85 (fun H locs I => ?_)
  refine lv_aload_n hx hb dX0_init_88 rfl (lv_at hl 0 rfl) ?_
  refine lv_sipush (v := nI 1024) hx hb dX0_init_89 (by decide) ?_
  refine i_newI C I (by decide) (Nat.le_of_ble_eq_true rfl) (Nat.le_of_ble_eq_true rfl) dX0_init_92 (fun q_11 H I => ?_)
  have I : IW D A s.heap [(h0, .inr (0, [.ref q_1, .ref q_2, .ref q_3, .int 0, .int 0, .ref q_4, .ref q_5, .ref q_6, .ref q_7, .ref q_8, .int 0, .ref q_9, .ref q_10, .null, .null])), (q_1, .inl (d 1, 12, .inl (fun _ => 0))), (q_2, .inl (d 1, 12, .inl (fun _ => 0))), (q_3, .inl (d 1, 12, .inl (fun _ => 0))), (q_4, .inl (d 1, 16, .inl (fun _ => 0))), (q_5, .inl (d 2, 16, .inl (fun _ => 0))), (q_6, .inl (d 0, 256, .inl (fun _ => 0))), (q_7, .inl (d 0, 192, .inl (fun _ => 0))), (q_8, .inl (d 0, 16, .inl (fun _ => 0))), (q_9, .inl (d 2, 256, .inl (fun _ => 0))), (q_10, .inl (d 3, 256, .inl (fun _ => 0))), (q_11, .inl (d 0, 1024, .inl (fun _ => 0)))] H _ := I
  refine W.widen (k := 11) (n := 2068) (Nat.le_of_ble_eq_true rfl) (Nat.le_of_ble_eq_true rfl) ?_
  refine x_putF (ws' := [(h0, .inr (0, [.ref q_1, .ref q_2, .ref q_3, .int 0, .int 0, .ref q_4, .ref q_5, .ref q_6, .ref q_7, .ref q_8, .int 0, .ref q_9, .ref q_10, .ref q_11, .null])), (q_1, .inl (d 1, 12, .inl (fun _ => 0))), (q_2, .inl (d 1, 12, .inl (fun _ => 0))), (q_3, .inl (d 1, 12, .inl (fun _ => 0))), (q_4, .inl (d 1, 16, .inl (fun _ => 0))), (q_5, .inl (d 2, 16, .inl (fun _ => 0))), (q_6, .inl (d 0, 256, .inl (fun _ => 0))), (q_7, .inl (d 0, 192, .inl (fun _ => 0))), (q_8, .inl (d 0, 16, .inl (fun _ => 0))), (q_9, .inl (d 2, 256, .inl (fun _ => 0))), (q_10, .inl (d 3, 256, .inl (fun _ => 0))), (q_11, .inl (d 0, 1024, .inl (fun _ => 0)))]) (ty := .array .int) C I hin rfl 13 (by decide) q44 rfl rfl (by decide +kernel) rfl rfl (Nat.le_of_ble_eq_true rfl) rfl dX0_init_94 (fun H locs I => ?_)
  refine lv_aload_n hx hb dX0_init_97 rfl (lv_at hl 0 rfl) ?_
  refine lv_sipush (v := nI 256) hx hb dX0_init_98 (by decide) ?_
  refine i_newZ C I (by decide) (Nat.le_of_ble_eq_true rfl) (Nat.le_of_ble_eq_true rfl) dX0_init_101 (fun q_12 H I => ?_)
  have I : IW D A s.heap [(h0, .inr (0, [.ref q_1, .ref q_2, .ref q_3, .int 0, .int 0, .ref q_4, .ref q_5, .ref q_6, .ref q_7, .ref q_8, .int 0, .ref q_9, .ref q_10, .ref q_11, .null])), (q_1, .inl (d 1, 12, .inl (fun _ => 0))), (q_2, .inl (d 1, 12, .inl (fun _ => 0))), (q_3, .inl (d 1, 12, .inl (fun _ => 0))), (q_4, .inl (d 1, 16, .inl (fun _ => 0))), (q_5, .inl (d 2, 16, .inl (fun _ => 0))), (q_6, .inl (d 0, 256, .inl (fun _ => 0))), (q_7, .inl (d 0, 192, .inl (fun _ => 0))), (q_8, .inl (d 0, 16, .inl (fun _ => 0))), (q_9, .inl (d 2, 256, .inl (fun _ => 0))), (q_10, .inl (d 3, 256, .inl (fun _ => 0))), (q_11, .inl (d 0, 1024, .inl (fun _ => 0))), (q_12, .inl (d 3, 256, .inl (fun _ => 0)))] H _ := I
  refine W.widen (k := 12) (n := 2324) (Nat.le_of_ble_eq_true rfl) (Nat.le_of_ble_eq_true rfl) ?_
  refine x_putF (ws' := [(h0, .inr (0, [.ref q_1, .ref q_2, .ref q_3, .int 0, .int 0, .ref q_4, .ref q_5, .ref q_6, .ref q_7, .ref q_8, .int 0, .ref q_9, .ref q_10, .ref q_11, .ref q_12])), (q_1, .inl (d 1, 12, .inl (fun _ => 0))), (q_2, .inl (d 1, 12, .inl (fun _ => 0))), (q_3, .inl (d 1, 12, .inl (fun _ => 0))), (q_4, .inl (d 1, 16, .inl (fun _ => 0))), (q_5, .inl (d 2, 16, .inl (fun _ => 0))), (q_6, .inl (d 0, 256, .inl (fun _ => 0))), (q_7, .inl (d 0, 192, .inl (fun _ => 0))), (q_8, .inl (d 0, 16, .inl (fun _ => 0))), (q_9, .inl (d 2, 256, .inl (fun _ => 0))), (q_10, .inl (d 3, 256, .inl (fun _ => 0))), (q_11, .inl (d 0, 1024, .inl (fun _ => 0))), (q_12, .inl (d 3, 256, .inl (fun _ => 0)))]) (ty := .array .boolean) C I hin rfl 14 (by decide) q45 rfl rfl (by decide +kernel) rfl rfl (Nat.le_of_ble_eq_true rfl) rfl dX0_init_103 (fun H locs I => ?_)
  exact hret _ _ _ _ _ I ⟨fun k => [h0, q_1, q_2, q_3, q_4, q_5, q_6, q_7, q_8, q_9, q_10, q_11, q_12].getD k 0, rfl, rfl⟩ dX0_init_106
set_option maxHeartbeats 4000000 in
set_option maxRecDepth 100000 in
/-- InputExplorerModel(): eight arrays of zeros -/
theorem kM_init (l : Launch) (D : va_G) (d : Nat → ClassId) (h0 : Nat) : CN l yX1_init (ws_ yX1_init cX1_init 1 none) ({ frames := 1, cells := 8, slots := 5680, locals := 12 } : Room) D d h0 [(h0, .inr (1, [.int 0, .null, .null, .null, .null, .null, .null, .null, .null]))] 8 5680 (fun w' => ∃ h : Nat → Nat, h 0 = h0 ∧ w' = wM h d 0 (fun _ => 0) (fun _ => 0) (fun _ => 0) (fun _ => 0) (fun _ => 0) (fun _ => 0) (fun _ => 0) (fun _ => 0)) := by
  refine cn_in (cc := cX1_init) (by decide) rfl ?_
  intro pg e s m ar bl me c A Q ls C I hl hin hret
  have hx := C.1.1
  have hb := C.1.2.1
  refine lv_aload_n hx hb dX1_init_0 rfl (lv_at hl 0 rfl) ?_
  refine W.objInit hx hb C.1.2.2.2.1 (C.1.2.2.2.2 _ q215) (C.1.2.2.2.2 _ q29) (C.1.2.2.2.2 _ q30) rfl (by rw [C.1.2.2.1]; exact hl.1) rfl dX1_init_1 (Nat.le_of_ble_eq_true rfl) (Nat.le_of_ble_eq_true rfl) ?_
  refine W.eq (g2 := F0 m 4 ls []) rfl ?_
  refine lv_aload_n hx hb dX1_init_4 rfl (lv_at hl 0 rfl) ?_
  refine lv_bipush (v := nI 12) hx hb dX1_init_5 (by decide) ?_
  refine i_newI C I (by decide) (Nat.le_of_ble_eq_true rfl) (Nat.le_of_ble_eq_true rfl) dX1_init_7 (fun q_1 H I => ?_)
  have I : IW D A s.heap [(h0, .inr (1, [.int 0, .null, .null, .null, .null, .null, .null, .null, .null])), (q_1, .inl (d 0, 12, .inl (fun _ => 0)))] H _ := I
  refine W.widen (k := 1) (n := 12) (Nat.le_of_ble_eq_true rfl) (Nat.le_of_ble_eq_true rfl) ?_
  refine m_put (ws' := [(h0, .inr (1, [.int 0, .ref q_1, .null, .null, .null, .null, .null, .null, .null])), (q_1, .inl (d 0, 12, .inl (fun _ => 0)))]) (ty := .array .int) C I rfl 1 (by decide) q217 rfl (by decide +kernel) rfl rfl (Nat.le_of_ble_eq_true rfl) rfl dX1_init_9 (fun H locs I => ?_)
  refine lv_aload_n hx hb dX1_init_12 rfl (lv_at hl 0 rfl) ?_
  refine lv_bipush (v := nI 12) hx hb dX1_init_13 (by decide) ?_
  refine i_newI C I (by decide) (Nat.le_of_ble_eq_true rfl) (Nat.le_of_ble_eq_true rfl) dX1_init_15 (fun q_2 H I => ?_)
  have I : IW D A s.heap [(h0, .inr (1, [.int 0, .ref q_1, .null, .null, .null, .null, .null, .null, .null])), (q_1, .inl (d 0, 12, .inl (fun _ => 0))), (q_2, .inl (d 0, 12, .inl (fun _ => 0)))] H _ := I
  refine W.widen (k := 2) (n := 24) (Nat.le_of_ble_eq_true rfl) (Nat.le_of_ble_eq_true rfl) ?_
  refine m_put (ws' := [(h0, .inr (1, [.int 0, .ref q_1, .ref q_2, .null, .null, .null, .null, .null, .null])), (q_1, .inl (d 0, 12, .inl (fun _ => 0))), (q_2, .inl (d 0, 12, .inl (fun _ => 0)))]) (ty := .array .int) C I rfl 2 (by decide) q218 rfl (by decide +kernel) rfl rfl (Nat.le_of_ble_eq_true rfl) rfl dX1_init_17 (fun H locs I => ?_)
  refine lv_aload_n hx hb dX1_init_20 rfl (lv_at hl 0 rfl) ?_
  refine lv_bipush (v := nI 12) hx hb dX1_init_21 (by decide) ?_
  refine i_newI C I (by decide) (Nat.le_of_ble_eq_true rfl) (Nat.le_of_ble_eq_true rfl) dX1_init_23 (fun q_3 H I => ?_)
  have I : IW D A s.heap [(h0, .inr (1, [.int 0, .ref q_1, .ref q_2, .null, .null, .null, .null, .null, .null])), (q_1, .inl (d 0, 12, .inl (fun _ => 0))), (q_2, .inl (d 0, 12, .inl (fun _ => 0))), (q_3, .inl (d 0, 12, .inl (fun _ => 0)))] H _ := I
  refine W.widen (k := 3) (n := 36) (Nat.le_of_ble_eq_true rfl) (Nat.le_of_ble_eq_true rfl) ?_
  refine m_put (ws' := [(h0, .inr (1, [.int 0, .ref q_1, .ref q_2, .ref q_3, .null, .null, .null, .null, .null])), (q_1, .inl (d 0, 12, .inl (fun _ => 0))), (q_2, .inl (d 0, 12, .inl (fun _ => 0))), (q_3, .inl (d 0, 12, .inl (fun _ => 0)))]) (ty := .array .int) C I rfl 3 (by decide) q219 rfl (by decide +kernel) rfl rfl (Nat.le_of_ble_eq_true rfl) rfl dX1_init_25 (fun H locs I => ?_)
  refine lv_aload_n hx hb dX1_init_28 rfl (lv_at hl 0 rfl) ?_
  refine lv_bipush (v := nI 12) hx hb dX1_init_29 (by decide) ?_
  refine i_newI C I (by decide) (Nat.le_of_ble_eq_true rfl) (Nat.le_of_ble_eq_true rfl) dX1_init_31 (fun q_4 H I => ?_)
  have I : IW D A s.heap [(h0, .inr (1, [.int 0, .ref q_1, .ref q_2, .ref q_3, .null, .null, .null, .null, .null])), (q_1, .inl (d 0, 12, .inl (fun _ => 0))), (q_2, .inl (d 0, 12, .inl (fun _ => 0))), (q_3, .inl (d 0, 12, .inl (fun _ => 0))), (q_4, .inl (d 0, 12, .inl (fun _ => 0)))] H _ := I
  refine W.widen (k := 4) (n := 48) (Nat.le_of_ble_eq_true rfl) (Nat.le_of_ble_eq_true rfl) ?_
  refine m_put (ws' := [(h0, .inr (1, [.int 0, .ref q_1, .ref q_2, .ref q_3, .ref q_4, .null, .null, .null, .null])), (q_1, .inl (d 0, 12, .inl (fun _ => 0))), (q_2, .inl (d 0, 12, .inl (fun _ => 0))), (q_3, .inl (d 0, 12, .inl (fun _ => 0))), (q_4, .inl (d 0, 12, .inl (fun _ => 0)))]) (ty := .array .int) C I rfl 4 (by decide) q220 rfl (by decide +kernel) rfl rfl (Nat.le_of_ble_eq_true rfl) rfl dX1_init_33 (fun H locs I => ?_)
  refine lv_aload_n hx hb dX1_init_36 rfl (lv_at hl 0 rfl) ?_
  refine lv_sipush (v := nI 4096) hx hb dX1_init_37 (by decide) ?_
  refine i_newZ C I (by decide) (Nat.le_of_ble_eq_true rfl) (Nat.le_of_ble_eq_true rfl) dX1_init_40 (fun q_5 H I => ?_)
  have I : IW D A s.heap [(h0, .inr (1, [.int 0, .ref q_1, .ref q_2, .ref q_3, .ref q_4, .null, .null, .null, .null])), (q_1, .inl (d 0, 12, .inl (fun _ => 0))), (q_2, .inl (d 0, 12, .inl (fun _ => 0))), (q_3, .inl (d 0, 12, .inl (fun _ => 0))), (q_4, .inl (d 0, 12, .inl (fun _ => 0))), (q_5, .inl (d 3, 4096, .inl (fun _ => 0)))] H _ := I
  refine W.widen (k := 5) (n := 4144) (Nat.le_of_ble_eq_true rfl) (Nat.le_of_ble_eq_true rfl) ?_
  refine m_put (ws' := [(h0, .inr (1, [.int 0, .ref q_1, .ref q_2, .ref q_3, .ref q_4, .ref q_5, .null, .null, .null])), (q_1, .inl (d 0, 12, .inl (fun _ => 0))), (q_2, .inl (d 0, 12, .inl (fun _ => 0))), (q_3, .inl (d 0, 12, .inl (fun _ => 0))), (q_4, .inl (d 0, 12, .inl (fun _ => 0))), (q_5, .inl (d 3, 4096, .inl (fun _ => 0)))]) (ty := .array .boolean) C I rfl 5 (by decide) q221 rfl (by decide +kernel) rfl rfl (Nat.le_of_ble_eq_true rfl) rfl dX1_init_42 (fun H locs I => ?_)
  refine lv_aload_n hx hb dX1_init_45 rfl (lv_at hl 0 rfl) ?_
  refine lv_sipush (v := nI 256) hx hb dX1_init_46 (by decide) ?_
  refine i_newI C I (by decide) (Nat.le_of_ble_eq_true rfl) (Nat.le_of_ble_eq_true rfl) dX1_init_49 (fun q_6 H I => ?_)
  have I : IW D A s.heap [(h0, .inr (1, [.int 0, .ref q_1, .ref q_2, .ref q_3, .ref q_4, .ref q_5, .null, .null, .null])), (q_1, .inl (d 0, 12, .inl (fun _ => 0))), (q_2, .inl (d 0, 12, .inl (fun _ => 0))), (q_3, .inl (d 0, 12, .inl (fun _ => 0))), (q_4, .inl (d 0, 12, .inl (fun _ => 0))), (q_5, .inl (d 3, 4096, .inl (fun _ => 0))), (q_6, .inl (d 0, 256, .inl (fun _ => 0)))] H _ := I
  refine W.widen (k := 6) (n := 4400) (Nat.le_of_ble_eq_true rfl) (Nat.le_of_ble_eq_true rfl) ?_
  refine m_put (ws' := [(h0, .inr (1, [.int 0, .ref q_1, .ref q_2, .ref q_3, .ref q_4, .ref q_5, .ref q_6, .null, .null])), (q_1, .inl (d 0, 12, .inl (fun _ => 0))), (q_2, .inl (d 0, 12, .inl (fun _ => 0))), (q_3, .inl (d 0, 12, .inl (fun _ => 0))), (q_4, .inl (d 0, 12, .inl (fun _ => 0))), (q_5, .inl (d 3, 4096, .inl (fun _ => 0))), (q_6, .inl (d 0, 256, .inl (fun _ => 0)))]) (ty := .array .int) C I rfl 6 (by decide) q222 rfl (by decide +kernel) rfl rfl (Nat.le_of_ble_eq_true rfl) rfl dX1_init_51 (fun H locs I => ?_)
  refine lv_aload_n hx hb dX1_init_54 rfl (lv_at hl 0 rfl) ?_
  refine lv_sipush (v := nI 256) hx hb dX1_init_55 (by decide) ?_
  refine i_newZ C I (by decide) (Nat.le_of_ble_eq_true rfl) (Nat.le_of_ble_eq_true rfl) dX1_init_58 (fun q_7 H I => ?_)
  have I : IW D A s.heap [(h0, .inr (1, [.int 0, .ref q_1, .ref q_2, .ref q_3, .ref q_4, .ref q_5, .ref q_6, .null, .null])), (q_1, .inl (d 0, 12, .inl (fun _ => 0))), (q_2, .inl (d 0, 12, .inl (fun _ => 0))), (q_3, .inl (d 0, 12, .inl (fun _ => 0))), (q_4, .inl (d 0, 12, .inl (fun _ => 0))), (q_5, .inl (d 3, 4096, .inl (fun _ => 0))), (q_6, .inl (d 0, 256, .inl (fun _ => 0))), (q_7, .inl (d 3, 256, .inl (fun _ => 0)))] H _ := I
  refine W.widen (k := 7) (n := 4656) (Nat.le_of_ble_eq_true rfl) (Nat.le_of_ble_eq_true rfl) ?_
  refine m_put (ws' := [(h0, .inr (1, [.int 0, .ref q_1, .ref q_2, .ref q_3, .ref q_4, .ref q_5, .ref q_6, .ref q_7, .null])), (q_1, .inl (d 0, 12, .inl (fun _ => 0))), (q_2, .inl (d 0, 12, .inl (fun _ => 0))), (q_3, .inl (d 0, 12, .inl (fun _ => 0))), (q_4, .inl (d 0, 12, .inl (fun _ => 0))), (q_5, .inl (d 3, 4096, .inl (fun _ => 0))), (q_6, .inl (d 0, 256, .inl (fun _ => 0))), (q_7, .inl (d 3, 256, .inl (fun _ => 0)))]) (ty := .array .boolean) C I rfl 7 (by decide) q223 rfl (by decide +kernel) rfl rfl (Nat.le_of_ble_eq_true rfl) rfl dX1_init_60 (fun H locs I => ?_)
  refine lv_aload_n hx hb dX1_init_63 rfl (lv_at hl 0 rfl) ?_
  refine lv_sipush (v := nI 1024) hx hb dX1_init_64 (by decide) ?_
  refine i_newI C I (by decide) (Nat.le_of_ble_eq_true rfl) (Nat.le_of_ble_eq_true rfl) dX1_init_67 (fun q_8 H I => ?_)
  have I : IW D A s.heap [(h0, .inr (1, [.int 0, .ref q_1, .ref q_2, .ref q_3, .ref q_4, .ref q_5, .ref q_6, .ref q_7, .null])), (q_1, .inl (d 0, 12, .inl (fun _ => 0))), (q_2, .inl (d 0, 12, .inl (fun _ => 0))), (q_3, .inl (d 0, 12, .inl (fun _ => 0))), (q_4, .inl (d 0, 12, .inl (fun _ => 0))), (q_5, .inl (d 3, 4096, .inl (fun _ => 0))), (q_6, .inl (d 0, 256, .inl (fun _ => 0))), (q_7, .inl (d 3, 256, .inl (fun _ => 0))), (q_8, .inl (d 0, 1024, .inl (fun _ => 0)))] H _ := I
  refine W.widen (k := 8) (n := 5680) (Nat.le_of_ble_eq_true rfl) (Nat.le_of_ble_eq_true rfl) ?_
  refine m_put (ws' := [(h0, .inr (1, [.int 0, .ref q_1, .ref q_2, .ref q_3, .ref q_4, .ref q_5, .ref q_6, .ref q_7, .ref q_8])), (q_1, .inl (d 0, 12, .inl (fun _ => 0))), (q_2, .inl (d 0, 12, .inl (fun _ => 0))), (q_3, .inl (d 0, 12, .inl (fun _ => 0))), (q_4, .inl (d 0, 12, .inl (fun _ => 0))), (q_5, .inl (d 3, 4096, .inl (fun _ => 0))), (q_6, .inl (d 0, 256, .inl (fun _ => 0))), (q_7, .inl (d 3, 256, .inl (fun _ => 0))), (q_8, .inl (d 0, 1024, .inl (fun _ => 0)))]) (ty := .array .int) C I rfl 8 (by decide) q224 rfl (by decide +kernel) rfl rfl (Nat.le_of_ble_eq_true rfl) rfl dX1_init_69 (fun H locs I => ?_)
  exact hret _ _ _ _ _ I ⟨fun k => [h0, q_1, q_2, q_3, q_4, q_5, q_6, q_7, q_8].getD k 0, rfl, rfl⟩ dX1_init_72
end
section
set_option maxRecDepth 100000
/-! THE CLAIM OUT OF ONE WALK OF THE LAW'S BODY. Your part is whole_start (and what it stands on); all else here is the same for every law, but numbers. -/
def R_law : String := "InputExplorerLaw"
def lw_P (b : Addr) (xs : List Int32) (args : Array Value) (s : State) : Prop := args = #[.ref b] ∧ s.IntsAt b xs ∧ xs.length ≤ 256 ∧ (Jvm.Cond.and given_1 narrow_1).before args s = true
def lw_Q (_ : Array Value) (s : State) (o : Outcome) (t : State) : Prop := o = .returned (some (.int 1)) ∧ Framed s o t [] 600000 7290000
def lw_Z (below : List Frame) (a : Array Value) (s : State) : State → Prop := fun t => ∃ o, t.status = .running ∧ Ended t below o ∧ lw_Q a s o t
/-- the law's own end, with 1 on the stack, nothing written that was there before, its room as the claim has it -/
theorem lw_ret {p : Program} {l : Launch} {e : Env} {s : State} {m : MethodId} {below : List Frame} {meth : Method} {c : Code} {b : Nat} (hx : p.tables.exec = Jvm.exec) (hb : c.code = code) (hr : meth.sig.returnType = ret) (hlocks : meth.locks = false) {pc : Nat} {H : Heap} {ls : Array Slot} (hdg : decode code pc = .ok (.ireturn, 1)) : W p l e room_1 s m #[Value.ref b] below meth c H [] 600000 7290000 (lw_Z below #[Value.ref b] s) (F0 m pc ls [.int 1]) := by
  intro T hT X
  obtain ⟨fs, hret, hrun, hended, hW, hframe⟩ := X.leave (v := some (.int 1)) (hlocks := hlocks) (fun h => by rw [hr] at h; cases h)
  have hmeth' : T.vm.method? m = some meth := X.method'
  refine ⟨T.setFrames fs, ?_, .returned (some (.int 1)), hrun, hended, rfl, ⟨_, rfl⟩, hW, hframe⟩
  jvm_step X.here [X.here.top, hx, hb, hdg, hmeth', hr, ret, narrow_b1]
  (try refine ⟨rfl, ?_⟩); (try refine ⟨rfl, ?_⟩)
  first | (intro acts; rw [hret _ acts rfl rfl rfl]) | rw [hret _ _ rfl rfl rfl]
  exact Steps.refl _
/-- what holds at the law's entry: the machine, the code, the tables' words (any of lw_tbl by 'hts w (by decide +kernel)'), the script of L ints xs at the cell b, what the Statement gives of the start (any of its parts by flat_of_before) -/
def lw_At (p : Program) (s : State) (m : MethodId) (meth : Method) (c : Code) (b L : Nat) (xs : Nat → Int32) : Prop :=
  p.tables.exec = Jvm.exec ∧ c.code = code ∧ meth.sig.returnType = ret ∧ c.maxLocals = 4 ∧ s.vm.findClass R_law = some m.cls ∧ (∀ w ∈ lw_tbl, w.before #[Value.ref b] s = true) ∧ va_X b L xs s s.heap ∧ b < s.heap.size ∧ meth.locks = false ∧ (Jvm.Cond.and given_1 narrow_1).before #[Value.ref b] s = true
section RL
variable {p : Program} {l : Launch} {e : Env} {R : Room} {s : State} {m : MethodId} {ar : Array Value} {bl : List Frame} {me : Method} {c : Code} {H : Heap} {locs : List Loc} {cells slots : Nat} {Q : State → Prop}
variable {cc : ByteArray} {pc nL : Nat} {ls : Array Slot} {rest st : List Value} {own : String} {D : va_G} {d : Nat → ClassId} {A : Nat → Prop} {H0 : Heap} {wa wb : va_W}
theorem pl_l {D : va_G} (h : va_P D iCl (wa ++ wb) H) : va_P D iCl wa H := fun k q hk => h k q (by rw [List.getElem?_append_left (List.getElem?_eq_some_iff.mp hk).1]; exact hk)
theorem pl_r {D : va_G} (h : va_P D iCl (wa ++ wb) H) : va_P D iCl wb H := fun k q hk => h (wa.length + k) q (by rw [List.getElem?_append_right (by omega), Nat.add_sub_cancel_left]; exact hk)
theorem dl_l (h : va_D A (wa ++ wb)) : va_D A wa := ⟨fun i j p q hi hj => h.1 i j p q (by rw [List.getElem?_append_left (List.getElem?_eq_some_iff.mp hi).1]; exact hi) (by rw [List.getElem?_append_left (List.getElem?_eq_some_iff.mp hj).1]; exact hj), fun k q hk => h.2 k q (by rw [List.getElem?_append_left (List.getElem?_eq_some_iff.mp hk).1]; exact hk)⟩
theorem dl_r (h : va_D A (wa ++ wb)) : va_D A wb := ⟨fun i j p q hi hj e => by
  have := h.1 (wa.length + i) (wa.length + j) p q (by rw [List.getElem?_append_right (by omega), Nat.add_sub_cancel_left]; exact hi) (by rw [List.getElem?_append_right (by omega), Nat.add_sub_cancel_left]; exact hj) e
  omega, fun k q hk => h.2 (wa.length + k) q (by rw [List.getElem?_append_right (by omega), Nat.add_sub_cancel_left]; exact hk)⟩
theorem dl_a (h : va_D A (wa ++ wb)) : ∀ (i j : Nat) (p q : Nat × va_E), wa[i]? = some p → wb[j]? = some q → p.1 ≠ q.1 := fun i j p q hi hj e => by
  have h1 := (List.getElem?_eq_some_iff.mp hi).1
  have := h.1 i (wa.length + j) p q (by rw [List.getElem?_append_left h1]; exact hi) (by rw [List.getElem?_append_right (by omega), Nat.add_sub_cancel_left]; exact hj) e
  omega
theorem IW.swap (I : IW D A H0 (wa ++ wb) H locs) : IW D A H0 (wb ++ wa) H locs := ⟨(pl_r I.1).app (pl_l I.1), (dl_r I.2.1).app (dl_l I.2.1) (fun i j p q hi hj e => dl_a I.2.1 j i q p hj hi e.symm), I.2.2.1, I.2.2.2⟩
theorem IW.left (I : IW D A H0 (wa ++ wb) H locs) : IW D A H0 wa H locs := ⟨pl_l I.1, dl_l I.2.1, I.2.2.1, I.2.2.2⟩
/-- behind a call on the first world: the second stays -/
theorem IW.join {w1 : va_W} {H1 : Heap} {locs1 : List Loc} (I : IW D A H0 (wa ++ wb) H locs) (hP1 : va_P D iCl w1 H1) (hD1 : va_D (va_A wa H.size) w1) (hk : ∀ q : Nat, q < H.size → ¬ va_A wa H.size q → H1[q]? = H[q]?) (hS1 : va_S A H0 H1 locs1) : IW D A H0 (w1 ++ wb) H1 locs1 := by
  have hF := iw_free I.left
  have ap : ∀ (k : Nat) (q : Nat × va_E), wb[k]? = some q → q.1 < H.size ∧ ¬ va_A wa H.size q.1 := by
    intro k q hq
    have hl := (pl_r I.1 k q hq).lt
    refine ⟨hl, fun h => ?_⟩
    rcases h with ⟨k2, e, h⟩ | h
    · exact dl_a I.2.1 k2 k (q.1, e) q h hq rfl
    · omega
  exact ⟨hP1.app ((pl_r I.1).kept (fun k q hq => hk q.1 (ap k q hq).1 (ap k q hq).2)), (hD1.weaken (fun k q _ h => hF q.1 h)).app (dl_r I.2.1) (fun i j p q hi hj e => (ap j q hj).2 (by rw [← e]; exact hD1.2 i p hi)), hS1, I.2.2.2⟩
theorem ct_callL {y : MethodName} {wd : List Cond} {rm : Room} {As : List Value} {b : Addr} {post : Int32 → va_W → Prop} {Cn : String} {index maxL ar0 : Nat} {bytes : ByteArray} {ret : Option FieldType} (C : CX p c cc nL s m ar own D d) (I : IW D A s.heap (wa ++ wb) H locs) (hM : CT l y wd rm D d (.ref b :: As) wa post) (cw : CallW R s ar own Cn index y bytes maxL ret wd rm 0 0 ar0) {fs : List Value} {ci : Nat} {T : u_T} {N : Nat} (hc : iCl[ci]? = some (Cn, T, N)) (he : wa[0]? = some (b, .inr (ci, fs))) (hn : As.length = ar0) (hl : ls.size = nL) (hst : st = As.reverse ++ .ref b :: rest) (hW : (rest.map fun v => v.category).sum ≤ 8) (hdg : decode cc pc = .ok (.invokevirtual index, 3)) (hf : cells ≤ R.cells ∧ slots ≤ R.slots)
    (kk : ∀ (r : Int32) (w' : va_W) (H1 : Heap) (locs1 : List Loc), post r w' → IW D A s.heap (w' ++ wb) H1 locs1 → W p l e R s m ar bl me c H1 locs1 cells slots Q (F0 m (pc + 3) ls (.int r :: rest))) : W p l e R s m ar bl me c H locs cells slots Q (F0 m pc ls st) := by
  have hFc := iw_free I.left
  obtain ⟨hP, hD, hS, hA⟩ := I.left
  refine va_calli (va_runV (As := As) (rest := rest) C.1 (hM H.size) cw ⟨fun a U g mk q => by obtain ⟨q0, q1, qP, qK, qD⟩ := q; exact ⟨q0, q1, qP, va_K.moved (u := U) (U := U.calling g mk a) (Vm.Alike.refl U.vm) qK, qD⟩, va_recv C.2 hP hc he, fun U hU hW => ⟨rfl, by rw [hU], by rw [hU]; exact hP, va_K.moved hW.alike C.2, hD.weaken (fun _ _ _ _ => trivial)⟩⟩ rfl hn hl hst (lv_room hW) hdg hf) hS (fun q _ h => hFc q h) hFc (fun r u t H1 locs1 ht hvm hp hB hz hk hS1 => ?_)
  exact kk r u H1 locs1 hp (I.join (by rw [← ht]; exact hB.1) hB.2.2 hk hS1)
theorem cn_callL {y : MethodName} {wd : List Cond} {rm : Room} {b : Addr} {post : va_W → Prop} {index maxL mc ms : Nat} {bytes : ByteArray} (C : CX p c cc nL s m ar own D d) (I : IW D A s.heap (wa ++ wb) H locs) (hM : CN l y wd rm D d b wa mc ms post) (cw : CallB R s ar own index y bytes maxL none wd rm mc ms 0 ∧ y.name = "<init>" ∧ (Cond.instanceMethod y).before ar s = true) (hl : ls.size = nL) (hst : st = .ref b :: rest) (hW : (rest.map fun v => v.category).sum ≤ 8) (hdg : decode cc pc = .ok (.invokespecial index, 3)) (hf : cells + mc ≤ R.cells ∧ slots + ms ≤ R.slots)
    (kk : ∀ (w' : va_W) (H1 : Heap) (locs1 : List Loc), post w' → IW D A s.heap (w' ++ wb) H1 locs1 → W p l e R s m ar bl me c H1 locs1 (cells + mc) (slots + ms) Q (F0 m (pc + 3) ls rest)) : W p l e R s m ar bl me c H locs cells slots Q (F0 m pc ls st) := by
  have hFc := iw_free I.left
  obtain ⟨hP, hD, hS, hA⟩ := I.left
  refine va_callv (va_runI (As := []) (rest := rest) C.1 (hM H.size) cw ⟨fun a U g mk q => by obtain ⟨q0, q1, qP, qK, qD⟩ := q; exact ⟨q0, q1, qP, va_K.moved (u := U) (U := U.calling g mk a) (Vm.Alike.refl U.vm) qK, qD⟩, fun U hU hW => ⟨rfl, by rw [hU], by rw [hU]; exact hP, va_K.moved hW.alike C.2, hD.weaken (fun _ _ _ _ => trivial)⟩⟩ rfl rfl hl hst (lv_room hW) hdg hf) hS (fun q _ h => hFc q h) hFc (fun u t H1 locs1 ht hvm hp hB hz hk hS1 => ?_)
  exact kk u H1 locs1 hp (I.join (by rw [← ht]; exact hB.1) hB.2.2 hk hS1)
/-- the script -/
theorem l_sld {b L k : Nat} {xs : Nat → Int32} {ws : va_W} (hx : p.tables.exec = Jvm.exec) (hb : c.code = cc) (hX : va_X b L xs s H0) (hbl : b < H0.size) (hbA : ¬ A b) (I : IW D A H0 ws H locs) (hk : k < L) (hL : L < 2 ^ 31) (hdg : decode cc pc = .ok (.iaload, 1)) (kk : W p l e R s m ar bl me c H locs cells slots Q (F0 m (pc + 1) ls (.int (xs k) :: rest))) : W p l e R s m ar bl me c H locs cells slots Q (F0 m pc ls (.int (nI k) :: .ref b :: rest)) := by
  refine va_sld hx hb hX hbl hbA I.2.2.1 (vp_in_nI hk hL) hdg ?_
  rw [nI_clamp (by omega)]
  exact kk
end RL
theorem n_inc4 (a : Nat) : nI a + Int32.ofInt 4 = nI (a + 4) := nI_add a 4
theorem law_gt {L i : Nat} (hL : L ≤ 256) (hi : i ≤ 256) (h : ¬ nI L - nI 4 < nI i) : i + 4 ≤ L := by
  have e1 : (nI L).toInt = L := nI_toInt (by omega)
  have e2 : (nI i).toInt = i := nI_toInt (by omega)
  rw [Int32.lt_iff_toInt_lt, tI_sub (by rw [e1, ti_4]; omega) (by rw [e1, ti_4]; omega), e1, e2, ti_4] at h
  omega
/-- every mark is some input's path -/
def HitM (n : Nat) (G : Pg) (mk : Nat → Bool) : Prop := ∀ q, mk q = true → ∃ i, i < 256 ∧ pt n G i = q
theorem HitM.step {n : Nat} {G : Pg} {mk : Nat → Bool} {x1 x2 x3 : Int32} (h : HitM n G mk) : HitM (stN n x1 x2 x3) (stG n G x1 x2 x3) (stM n mk x1 x2 x3) := by
  unfold stN stG stM
  split
  · intro q hq; cases hq
  · exact h
theorem HitM.drop {n : Nat} {G : Pg} {mk : Nat → Bool} (h : HitM n G mk) : HitM (n - 1) G (drM n mk) := by
  unfold drM
  by_cases e : n = 0
  · subst e; rw [if_pos rfl]; exact h
  · rw [if_neg e]; intro q hq; cases hq
theorem HitM.mark {n : Nat} {G : Pg} {mk : Nat → Bool} {j : Nat} (h : HitM n G mk) (hj : j < 256) : HitM n G (mkS n G mk j) := by
  intro q hq
  unfold mkS at hq
  rw [Bool.or_eq_true] at hq
  rcases hq with z | z
  · exact h q z
  · exact ⟨j, hj, (of_decide_eq_true z).symm⟩
theorem QR.mono {x : Int32} {n : Nat} {bad r : Int32} {Φ Ψ : Nat → Int32 → Prop} (hm : ∀ p, p < n → Φ p r → Ψ p r) (h : QR x n bad Φ r) : QR x n bad Ψ r := ⟨fun p hp e => hm p hp (h.1 p hp e), h.2⟩
theorem QR.oneF {x : Int32} {n : Nat} {bad r r' : Int32} (P : Nat → Nat → Prop) (h : QR x n bad (fun j r => Fnd (P j) r) r) (h' : QR x n bad (fun j r => Fnd (P j) r) r') : r = r' := QR.one (Φ := fun j r => Fnd (P j) r) (fun _ _ _ z z2 => Fnd.one z z2) h h'
theorem XI.pw {n : Nat} {G : Pg} {mk : Nat → Bool} {sz kn : Int32} {fK fP fN fT fF fE fM : Nat → Int32} (h : XI n G mk sz kn fK fP fN fT fF fE fM) : PW n G := h.2.1
theorem arr_known {s : State} {args : Array Value} {ty : FieldType} (hne : ∀ C, ty ≠ .object C) (h : (Cond.arrayClass ty).before args s = true) : ∃ cA : ClassId, ArrOfT s cA ty ∧ va_RA s cA ty := by
  obtain ⟨cA, kA, comp, h1, h2, h3⟩ := Cond.arrayClass_spec h
  refine ⟨cA, fun n z => ⟨fun k h => (by cases h), kA, h2, comp, h3⟩, ?_⟩
  cases ty with
  | object C => exact absurd rfl (hne C)
  | _ => exact h1
end
section
set_option maxHeartbeats 4000000 in
set_option maxRecDepth 100000 in
/-- THE LAW'S LOOP: at its head both hold the same program and marks -/
theorem law_loop {pg : Program} {l : Launch} {e : Env} {s : State} {m : MethodId} {bl : List Frame} {me : Method} {c : Code} {D : va_G} {d : Nat → ClassId} {h1 h2 : Nat → Nat} {b L : Nat} {xs : Nat → Int32} (hL : L ≤ 256) (C0 : lw_At pg s m me c b L xs) (hK : va_K D iCl (iTy d) s) : ∀ (nn i n : Nat) (G : Pg) (mk : Nat → Bool) (wx wm : va_W) (H : Heap) (locs : List Loc) (ls : Array Slot), i ≤ 256 → 256 + 1 ≤ i + nn → XW n G mk h1 d wx → MW n G mk h2 d wm → HitM n G mk → IW D (fun q : Nat => s.heap.size ≤ q) s.heap (wx ++ wm) H locs → lv_has ls 4 [(0, .ref b), (1, .ref (h1 0)), (2, .ref (h2 0)), (3, .int (nI i))] → W pg l e room_1 s m #[Value.ref b] bl me c H locs 22 8028 (lw_Z bl #[Value.ref b] s) (F0 m 18 ls []) := by
  obtain ⟨hx, hb, hr, hml, hown, hts, hX, hbl, hlocks, hgv⟩ := C0
  have hbA : ¬ (fun q : Nat => s.heap.size ≤ q) b := Nat.not_le.mpr hbl
  have C : CX pg c cL_law 4 s m #[Value.ref b] R_law D d := ⟨⟨hx, hb, hml, hown, fun w h => hts w (lw_all_tbl h)⟩, hK⟩
  intro nn
  induction nn with
  | zero => intro i n G mk wx wm H locs ls hi hme; exact absurd hme (by omega)
  | succ nn ih =>
    intro i n G mk wx wm H locs ls hi hme hXW hMW hHit I hl
    refine lv_iload_n hx hb dL_law_18 rfl (lv_at hl 3 rfl) ?_
    refine lv_aload_n hx hb dL_law_19 rfl (lv_at hl 0 rfl) ?_
    refine va_slen hx hb hX hbl hbA I.2.2.1 dL_law_20 ?_
    refine lv_iconst (v := nI 4) hx hb dL_law_21 (by decide) ?_
    refine lv_isub hx hb dL_law_22 ?_
    refine lv_icmp_gt (tgt := 459) hx hb dL_law_23 (by decide) (fun c_23 => ?_) (fun c_23 => ?_)
    · skip
      refine lv_iconst (v := 1) hx hb dL_law_459 (by decide) ?_
      refine va_forget (fun q hq => I.2.2.1.2.2 q hq) ?_
      refine W.widen (k := 600000) (n := 7290000) (Nat.le_of_ble_eq_true rfl) (Nat.le_of_ble_eq_true rfl) ?_
      exact lw_ret hx hb hr hlocks dL_law_460
    · skip
      have hi4 := law_gt hL hi c_23
      refine lv_aload_n hx hb dL_law_26 rfl (lv_at hl 0 rfl) ?_
      refine lv_iload_n hx hb dL_law_27 rfl (lv_at hl 3 rfl) ?_
      refine l_sld hx hb hX hbl hbA I (by omega) (by omega) dL_law_28 ?_
      refine lv_bipush (v := nI 15) hx hb dL_law_29 (by decide) ?_
      refine lv_iand hx hb dL_law_31 ?_
      obtain ⟨v, hv16, hv⟩ := pk_andE (xs i) (m := nI 15) 4 (by decide)
      refine lv_topi (fun z ez => ?_)
      obtain rfl : z = nI v := ez.trans hv
      rcases (show v = 0 ∨ v = 1 ∨ v = 2 ∨ v = 3 ∨ v = 4 ∨ v = 5 ∨ v = 6 ∨ v = 7 ∨ v = 8 ∨ v = 9 ∨ v = 10 ∨ v = 11 ∨ v = 12 ∨ v = 13 ∨ v = 14 ∨ v = 15 by omega) with rfl | rfl | rfl | rfl | rfl | rfl | rfl | rfl | rfl | rfl | rfl | rfl | rfl | rfl | rfl | rfl
      · refine lv_tableIn (off := 76) (tgt := 108) hx hb dL_law_32 (by decide) (by decide) (by decide) (by decide) ?_
        obtain ⟨sz, wy, kn, fK, fP, fN, fO, fD, fI, fR, fH, fT, fF, fE, fM, hXI, rfl⟩ := hXW
        obtain ⟨sz2, gK, gA, gB, gN, gM, gT, gF, gE, hMI, rfl⟩ := hMW
        refine lv_aload_n hx hb dL_law_108 rfl (lv_at hl 1 rfl) ?_
        refine lv_aload_n hx hb dL_law_109 rfl (lv_at hl 0 rfl) ?_
        refine lv_iload_n hx hb dL_law_110 rfl (lv_at hl 3 rfl) ?_
        refine lv_iconst (v := nI 1) hx hb dL_law_111 (by decide) ?_
        refine n_add hx hb dL_law_112 ?_
        refine l_sld hx hb hX hbl hbA I (by omega) (by omega) dL_law_113 ?_
        refine lv_aload_n hx hb dL_law_114 rfl (lv_at hl 0 rfl) ?_
        refine lv_iload_n hx hb dL_law_115 rfl (lv_at hl 3 rfl) ?_
        refine lv_iconst (v := nI 2) hx hb dL_law_116 (by decide) ?_
        refine n_add hx hb dL_law_117 ?_
        refine l_sld hx hb hX hbl hbA I (by omega) (by omega) dL_law_118 ?_
        refine lv_aload_n hx hb dL_law_119 rfl (lv_at hl 0 rfl) ?_
        refine lv_iload_n hx hb dL_law_120 rfl (lv_at hl 3 rfl) ?_
        refine lv_iconst (v := nI 3) hx hb dL_law_121 (by decide) ?_
        refine n_add hx hb dL_law_122 ?_
        refine l_sld hx hb hX hbl hbA I (by omega) (by omega) dL_law_123 ?_
        refine ct_callL (As := [.int (xs (i + 1)), .int (xs (i + 2)), .int (xs (i + 3))]) (rest := []) C I (kX_step l D d h1 n G mk sz wy kn fK fP fN fO fD fI fR fH fT fF fE fM hXI (xs (i + 1)) (xs (i + 2)) (xs (i + 3))) (cwV 3 C.1.2.2.2.2 (lw_V q81 q82 q83 q21 q84) rfl rfl rfl (by decide +kernel) ⟨Nat.le_of_ble_eq_true rfl, Nat.le_of_ble_eq_true rfl⟩) rfl rfl rfl hl.1 rfl (Nat.le_of_ble_eq_true rfl) dL_law_124 ⟨Nat.le_of_ble_eq_true rfl, Nat.le_of_ble_eq_true rfl⟩ (fun r1 w1 H locs hp1 I => ?_)
        refine lv_aload_n hx hb dL_law_127 rfl (lv_at hl 2 rfl) ?_
        refine lv_aload_n hx hb dL_law_128 rfl (lv_at hl 0 rfl) ?_
        refine lv_iload_n hx hb dL_law_129 rfl (lv_at hl 3 rfl) ?_
        refine lv_iconst (v := nI 1) hx hb dL_law_130 (by decide) ?_
        refine n_add hx hb dL_law_131 ?_
        refine l_sld hx hb hX hbl hbA I (by omega) (by omega) dL_law_132 ?_
        refine lv_aload_n hx hb dL_law_133 rfl (lv_at hl 0 rfl) ?_
        refine lv_iload_n hx hb dL_law_134 rfl (lv_at hl 3 rfl) ?_
        refine lv_iconst (v := nI 2) hx hb dL_law_135 (by decide) ?_
        refine n_add hx hb dL_law_136 ?_
        refine l_sld hx hb hX hbl hbA I (by omega) (by omega) dL_law_137 ?_
        refine lv_aload_n hx hb dL_law_138 rfl (lv_at hl 0 rfl) ?_
        refine lv_iload_n hx hb dL_law_139 rfl (lv_at hl 3 rfl) ?_
        refine lv_iconst (v := nI 3) hx hb dL_law_140 (by decide) ?_
        refine n_add hx hb dL_law_141 ?_
        refine l_sld hx hb hX hbl hbA I (by omega) (by omega) dL_law_142 ?_
        have I := I.swap
        refine ct_callL (As := [.int (xs (i + 1)), .int (xs (i + 2)), .int (xs (i + 3))]) (rest := [.int r1]) C I (kM_step l D d h2 n G mk sz2 gK gA gB gN gM gT gF gE hMI (xs (i + 1)) (xs (i + 2)) (xs (i + 3))) (cwV 3 C.1.2.2.2.2 (lw_V q244 q245 q246 q22 q247) rfl rfl rfl (by decide +kernel) ⟨Nat.le_of_ble_eq_true rfl, Nat.le_of_ble_eq_true rfl⟩) rfl rfl rfl hl.1 rfl (Nat.le_of_ble_eq_true rfl) dL_law_143 ⟨Nat.le_of_ble_eq_true rfl, Nat.le_of_ble_eq_true rfl⟩ (fun r2 w2 H locs hp2 I => ?_)
        have I := I.swap
        refine lv_icmp_eq (tgt := 453) hx hb dL_law_146 (by decide) (fun c_146 => ?_) (fun c_146 => ?_)
        · refine lv_iinc (v := (nI (i + 4))) (lv' := [(3, .int (nI (i + 4))), (0, .ref b), (1, .ref (h1 0)), (2, .ref (h2 0))]) hx hb dL_law_453 hl (k := 3) rfl (n_inc4 _) (by decide) rfl (fun ls hl => ?_)
          refine lv_goto (tgt := 18) hx hb dL_law_456 (by decide) ?_
          exact ih (i + 4) _ _ _ w1 w2 _ _ _ (by omega) (by omega) hp1.2 hp2.2 hHit.step I (lv_sub hl [1, 2, 3, 0] rfl)
        · skip
          exact absurd (hp1.1.trans hp2.1.symm) c_146
      · refine lv_tableIn (off := 119) (tgt := 151) hx hb dL_law_32 (by decide) (by decide) (by decide) (by decide) ?_
        obtain ⟨sz, wy, kn, fK, fP, fN, fO, fD, fI, fR, fH, fT, fF, fE, fM, hXI, rfl⟩ := hXW
        obtain ⟨sz2, gK, gA, gB, gN, gM, gT, gF, gE, hMI, rfl⟩ := hMW
        refine lv_aload_n hx hb dL_law_151 rfl (lv_at hl 1 rfl) ?_
        refine ct_callL (As := []) (rest := []) C I (kX_drop l D d h1 n G mk sz wy kn fK fP fN fO fD fI fR fH fT fF fE fM hXI ) (cwV 0 C.1.2.2.2.2 (lw_V q93 q94 q95 q21 q96) rfl rfl rfl (by decide +kernel) ⟨Nat.le_of_ble_eq_true rfl, Nat.le_of_ble_eq_true rfl⟩) rfl rfl rfl hl.1 rfl (Nat.le_of_ble_eq_true rfl) dL_law_152 ⟨Nat.le_of_ble_eq_true rfl, Nat.le_of_ble_eq_true rfl⟩ (fun r1 w1 H locs hp1 I => ?_)
        refine lv_aload_n hx hb dL_law_155 rfl (lv_at hl 2 rfl) ?_
        have I := I.swap
        refine ct_callL (As := []) (rest := [.int r1]) C I (kM_drop l D d h2 n G mk sz2 gK gA gB gN gM gT gF gE hMI ) (cwV 0 C.1.2.2.2.2 (lw_V q256 q257 q258 q22 q259) rfl rfl rfl (by decide +kernel) ⟨Nat.le_of_ble_eq_true rfl, Nat.le_of_ble_eq_true rfl⟩) rfl rfl rfl hl.1 rfl (Nat.le_of_ble_eq_true rfl) dL_law_156 ⟨Nat.le_of_ble_eq_true rfl, Nat.le_of_ble_eq_true rfl⟩ (fun r2 w2 H locs hp2 I => ?_)
        have I := I.swap
        refine lv_icmp_eq (tgt := 453) hx hb dL_law_159 (by decide) (fun c_159 => ?_) (fun c_159 => ?_)
        · refine lv_iinc (v := (nI (i + 4))) (lv' := [(3, .int (nI (i + 4))), (0, .ref b), (1, .ref (h1 0)), (2, .ref (h2 0))]) hx hb dL_law_453 hl (k := 3) rfl (n_inc4 _) (by decide) rfl (fun ls hl => ?_)
          refine lv_goto (tgt := 18) hx hb dL_law_456 (by decide) ?_
          exact ih (i + 4) _ _ _ w1 w2 _ _ _ (by omega) (by omega) hp1.2 hp2.2 hHit.drop I (lv_sub hl [1, 2, 3, 0] rfl)
        · skip
          exact absurd (hp1.1.trans hp2.1.symm) c_159
      · refine lv_tableIn (off := 132) (tgt := 164) hx hb dL_law_32 (by decide) (by decide) (by decide) (by decide) ?_
        obtain ⟨sz, wy, kn, fK, fP, fN, fO, fD, fI, fR, fH, fT, fF, fE, fM, hXI, rfl⟩ := hXW
        obtain ⟨sz2, gK, gA, gB, gN, gM, gT, gF, gE, hMI, rfl⟩ := hMW
        refine lv_aload_n hx hb dL_law_164 rfl (lv_at hl 1 rfl) ?_
        refine ct_callL (As := []) (rest := []) C I (kX_length l D d h1 sz wy kn fK fP fN fO fD fI fR fH fT fF fE fM) (cwV 0 C.1.2.2.2.2 (lw_V q97 q98 q99 q21 q100) rfl rfl rfl (by decide +kernel) ⟨Nat.le_of_ble_eq_true rfl, Nat.le_of_ble_eq_true rfl⟩) rfl rfl rfl hl.1 rfl (Nat.le_of_ble_eq_true rfl) dL_law_165 ⟨Nat.le_of_ble_eq_true rfl, Nat.le_of_ble_eq_true rfl⟩ (fun r1 w1 H locs hp1 I => ?_)
        refine lv_aload_n hx hb dL_law_168 rfl (lv_at hl 2 rfl) ?_
        have I := I.swap
        refine ct_callL (As := []) (rest := [.int r1]) C I (kM_length l D d h2 sz2 gK gA gB gN gM gT gF gE) (cwV 0 C.1.2.2.2.2 (lw_V q260 q261 q262 q22 q263) rfl rfl rfl (by decide +kernel) ⟨Nat.le_of_ble_eq_true rfl, Nat.le_of_ble_eq_true rfl⟩) rfl rfl rfl hl.1 rfl (Nat.le_of_ble_eq_true rfl) dL_law_169 ⟨Nat.le_of_ble_eq_true rfl, Nat.le_of_ble_eq_true rfl⟩ (fun r2 w2 H locs hp2 I => ?_)
        have I := I.swap
        refine lv_icmp_eq (tgt := 453) hx hb dL_law_172 (by decide) (fun c_172 => ?_) (fun c_172 => ?_)
        · refine lv_iinc (v := (nI (i + 4))) (lv' := [(3, .int (nI (i + 4))), (0, .ref b), (1, .ref (h1 0)), (2, .ref (h2 0))]) hx hb dL_law_453 hl (k := 3) rfl (n_inc4 _) (by decide) rfl (fun ls hl => ?_)
          refine lv_goto (tgt := 18) hx hb dL_law_456 (by decide) ?_
          obtain ⟨-, rfl⟩ := hp1
          obtain ⟨-, rfl⟩ := hp2
          exact ih (i + 4) n G mk _ _ _ _ _ (by omega) (by omega) ⟨_, _, _, _, _, _, _, _, _, _, _, _, _, _, _, hXI, rfl⟩ ⟨_, _, _, _, _, _, _, _, _, hMI, rfl⟩ hHit I (lv_sub hl [1, 2, 3, 0] rfl)
        · skip
          exact absurd ((hp1.1.trans hXI.1).trans (hp2.1.trans hMI.1).symm) c_172
      · refine lv_tableIn (off := 145) (tgt := 177) hx hb dL_law_32 (by decide) (by decide) (by decide) (by decide) ?_
        obtain ⟨sz, wy, kn, fK, fP, fN, fO, fD, fI, fR, fH, fT, fF, fE, fM, hXI, rfl⟩ := hXW
        obtain ⟨sz2, gK, gA, gB, gN, gM, gT, gF, gE, hMI, rfl⟩ := hMW
        refine lv_aload_n hx hb dL_law_177 rfl (lv_at hl 1 rfl) ?_
        refine lv_aload_n hx hb dL_law_178 rfl (lv_at hl 0 rfl) ?_
        refine lv_iload_n hx hb dL_law_179 rfl (lv_at hl 3 rfl) ?_
        refine lv_iconst (v := nI 1) hx hb dL_law_180 (by decide) ?_
        refine n_add hx hb dL_law_181 ?_
        refine l_sld hx hb hX hbl hbA I (by omega) (by omega) dL_law_182 ?_
        refine ct_callL (As := [.int (xs (i + 1))]) (rest := []) C I (kX_reach l D d h1 n G mk sz wy kn fK fP fN fO fD fI fR fH fT fF fE fM hXI (xs (i + 1))) (cwV 1 C.1.2.2.2.2 (lw_V q101 q102 q103 q21 q104) rfl rfl rfl (by decide +kernel) ⟨Nat.le_of_ble_eq_true rfl, Nat.le_of_ble_eq_true rfl⟩) rfl rfl rfl hl.1 rfl (Nat.le_of_ble_eq_true rfl) dL_law_183 ⟨Nat.le_of_ble_eq_true rfl, Nat.le_of_ble_eq_true rfl⟩ (fun r1 w1 H locs hp1 I => ?_)
        refine lv_aload_n hx hb dL_law_186 rfl (lv_at hl 2 rfl) ?_
        refine lv_aload_n hx hb dL_law_187 rfl (lv_at hl 0 rfl) ?_
        refine lv_iload_n hx hb dL_law_188 rfl (lv_at hl 3 rfl) ?_
        refine lv_iconst (v := nI 1) hx hb dL_law_189 (by decide) ?_
        refine n_add hx hb dL_law_190 ?_
        refine l_sld hx hb hX hbl hbA I (by omega) (by omega) dL_law_191 ?_
        have I := I.swap
        refine ct_callL (As := [.int (xs (i + 1))]) (rest := [.int r1]) C I (kM_reach l D d h2 n G mk sz2 gK gA gB gN gM gT gF gE hMI (xs (i + 1))) (cwV 1 C.1.2.2.2.2 (lw_V q264 q265 q266 q22 q267) rfl rfl rfl (by decide +kernel) ⟨Nat.le_of_ble_eq_true rfl, Nat.le_of_ble_eq_true rfl⟩) rfl rfl rfl hl.1 rfl (Nat.le_of_ble_eq_true rfl) dL_law_192 ⟨Nat.le_of_ble_eq_true rfl, Nat.le_of_ble_eq_true rfl⟩ (fun r2 w2 H locs hp2 I => ?_)
        have I := I.swap
        refine lv_icmp_eq (tgt := 453) hx hb dL_law_195 (by decide) (fun c_195 => ?_) (fun c_195 => ?_)
        · refine lv_iinc (v := (nI (i + 4))) (lv' := [(3, .int (nI (i + 4))), (0, .ref b), (1, .ref (h1 0)), (2, .ref (h2 0))]) hx hb dL_law_453 hl (k := 3) rfl (n_inc4 _) (by decide) rfl (fun ls hl => ?_)
          refine lv_goto (tgt := 18) hx hb dL_law_456 (by decide) ?_
          exact ih (i + 4) n G mk w1 w2 _ _ _ (by omega) (by omega) hp1.2 hp2.2 hHit I (lv_sub hl [1, 2, 3, 0] rfl)
        · skip
          exact absurd (QR.one (fun _ _ _ z z2 => z.trans z2.symm) hp1.1 hp2.1) c_195
      · refine lv_tableIn (off := 168) (tgt := 200) hx hb dL_law_32 (by decide) (by decide) (by decide) (by decide) ?_
        obtain ⟨sz, wy, kn, fK, fP, fN, fO, fD, fI, fR, fH, fT, fF, fE, fM, hXI, rfl⟩ := hXW
        obtain ⟨sz2, gK, gA, gB, gN, gM, gT, gF, gE, hMI, rfl⟩ := hMW
        refine lv_aload_n hx hb dL_law_200 rfl (lv_at hl 1 rfl) ?_
        refine lv_aload_n hx hb dL_law_201 rfl (lv_at hl 0 rfl) ?_
        refine lv_iload_n hx hb dL_law_202 rfl (lv_at hl 3 rfl) ?_
        refine lv_iconst (v := nI 1) hx hb dL_law_203 (by decide) ?_
        refine n_add hx hb dL_law_204 ?_
        refine l_sld hx hb hX hbl hbA I (by omega) (by omega) dL_law_205 ?_
        refine lv_aload_n hx hb dL_law_206 rfl (lv_at hl 0 rfl) ?_
        refine lv_iload_n hx hb dL_law_207 rfl (lv_at hl 3 rfl) ?_
        refine lv_iconst (v := nI 2) hx hb dL_law_208 (by decide) ?_
        refine n_add hx hb dL_law_209 ?_
        refine l_sld hx hb hX hbl hbA I (by omega) (by omega) dL_law_210 ?_
        refine ct_callL (As := [.int (xs (i + 1)), .int (xs (i + 2))]) (rest := []) C I (kX_firstAt l D d h1 n G mk sz wy kn fK fP fN fO fD fI fR fH fT fF fE fM hXI (xs (i + 1)) (xs (i + 2))) (cwV 2 C.1.2.2.2.2 (lw_V q158 q159 q160 q21 q161) rfl rfl rfl (by decide +kernel) ⟨Nat.le_of_ble_eq_true rfl, Nat.le_of_ble_eq_true rfl⟩) rfl rfl rfl hl.1 rfl (Nat.le_of_ble_eq_true rfl) dL_law_211 ⟨Nat.le_of_ble_eq_true rfl, Nat.le_of_ble_eq_true rfl⟩ (fun r1 w1 H locs hp1 I => ?_)
        refine lv_aload_n hx hb dL_law_214 rfl (lv_at hl 2 rfl) ?_
        refine lv_aload_n hx hb dL_law_215 rfl (lv_at hl 0 rfl) ?_
        refine lv_iload_n hx hb dL_law_216 rfl (lv_at hl 3 rfl) ?_
        refine lv_iconst (v := nI 1) hx hb dL_law_217 (by decide) ?_
        refine n_add hx hb dL_law_218 ?_
        refine l_sld hx hb hX hbl hbA I (by omega) (by omega) dL_law_219 ?_
        refine lv_aload_n hx hb dL_law_220 rfl (lv_at hl 0 rfl) ?_
        refine lv_iload_n hx hb dL_law_221 rfl (lv_at hl 3 rfl) ?_
        refine lv_iconst (v := nI 2) hx hb dL_law_222 (by decide) ?_
        refine n_add hx hb dL_law_223 ?_
        refine l_sld hx hb hX hbl hbA I (by omega) (by omega) dL_law_224 ?_
        have I := I.swap
        refine ct_callL (As := [.int (xs (i + 1)), .int (xs (i + 2))]) (rest := [.int r1]) C I (kM_firstAt l D d h2 n G mk sz2 gK gA gB gN gM gT gF gE hMI (xs (i + 1)) (xs (i + 2))) (cwV 2 C.1.2.2.2.2 (lw_V q280 q281 q282 q22 q283) rfl rfl rfl (by decide +kernel) ⟨Nat.le_of_ble_eq_true rfl, Nat.le_of_ble_eq_true rfl⟩) rfl rfl rfl hl.1 rfl (Nat.le_of_ble_eq_true rfl) dL_law_225 ⟨Nat.le_of_ble_eq_true rfl, Nat.le_of_ble_eq_true rfl⟩ (fun r2 w2 H locs hp2 I => ?_)
        have I := I.swap
        refine lv_icmp_eq (tgt := 453) hx hb dL_law_228 (by decide) (fun c_228 => ?_) (fun c_228 => ?_)
        · refine lv_iinc (v := (nI (i + 4))) (lv' := [(3, .int (nI (i + 4))), (0, .ref b), (1, .ref (h1 0)), (2, .ref (h2 0))]) hx hb dL_law_453 hl (k := 3) rfl (n_inc4 _) (by decide) rfl (fun ls hl => ?_)
          refine lv_goto (tgt := 18) hx hb dL_law_456 (by decide) ?_
          exact ih (i + 4) n G mk w1 w2 _ _ _ (by omega) (by omega) hp1.2 hp2.2 hHit I (lv_sub hl [1, 2, 3, 0] rfl)
        · skip
          exact absurd (QR.oneF (fun j k => ¬ nI k < xs (i + 2) ∧ pt n G k / 2 ^ j % 2 = 1) hp1.1 hp2.1) c_228
      · refine lv_tableIn (off := 201) (tgt := 233) hx hb dL_law_32 (by decide) (by decide) (by decide) (by decide) ?_
        obtain ⟨sz, wy, kn, fK, fP, fN, fO, fD, fI, fR, fH, fT, fF, fE, fM, hXI, rfl⟩ := hXW
        obtain ⟨sz2, gK, gA, gB, gN, gM, gT, gF, gE, hMI, rfl⟩ := hMW
        refine lv_aload_n hx hb dL_law_233 rfl (lv_at hl 1 rfl) ?_
        refine ct_callL (As := []) (rest := []) C I (kX_failing l D d h1 n G mk sz wy kn fK fP fN fO fD fI fR fH fT fF fE fM hXI ) (cwV 0 C.1.2.2.2.2 (lw_V q162 q163 q164 q21 q165) rfl rfl rfl (by decide +kernel) ⟨Nat.le_of_ble_eq_true rfl, Nat.le_of_ble_eq_true rfl⟩) rfl rfl rfl hl.1 rfl (Nat.le_of_ble_eq_true rfl) dL_law_234 ⟨Nat.le_of_ble_eq_true rfl, Nat.le_of_ble_eq_true rfl⟩ (fun r1 w1 H locs hp1 I => ?_)
        refine lv_aload_n hx hb dL_law_237 rfl (lv_at hl 2 rfl) ?_
        have I := I.swap
        refine ct_callL (As := []) (rest := [.int r1]) C I (kM_failing l D d h2 n G mk sz2 gK gA gB gN gM gT gF gE hMI ) (cwV 0 C.1.2.2.2.2 (lw_V q284 q285 q286 q22 q287) rfl rfl rfl (by decide +kernel) ⟨Nat.le_of_ble_eq_true rfl, Nat.le_of_ble_eq_true rfl⟩) rfl rfl rfl hl.1 rfl (Nat.le_of_ble_eq_true rfl) dL_law_238 ⟨Nat.le_of_ble_eq_true rfl, Nat.le_of_ble_eq_true rfl⟩ (fun r2 w2 H locs hp2 I => ?_)
        have I := I.swap
        refine lv_icmp_eq (tgt := 453) hx hb dL_law_241 (by decide) (fun c_241 => ?_) (fun c_241 => ?_)
        · refine lv_iinc (v := (nI (i + 4))) (lv' := [(3, .int (nI (i + 4))), (0, .ref b), (1, .ref (h1 0)), (2, .ref (h2 0))]) hx hb dL_law_453 hl (k := 3) rfl (n_inc4 _) (by decide) rfl (fun ls hl => ?_)
          refine lv_goto (tgt := 18) hx hb dL_law_456 (by decide) ?_
          exact ih (i + 4) n G mk w1 w2 _ _ _ (by omega) (by omega) hp1.2 hp2.2 hHit I (lv_sub hl [1, 2, 3, 0] rfl)
        · skip
          exact absurd (hp1.1.trans hp2.1.symm) c_241
      · refine lv_tableIn (off := 214) (tgt := 246) hx hb dL_law_32 (by decide) (by decide) (by decide) (by decide) ?_
        obtain ⟨sz, wy, kn, fK, fP, fN, fO, fD, fI, fR, fH, fT, fF, fE, fM, hXI, rfl⟩ := hXW
        obtain ⟨sz2, gK, gA, gB, gN, gM, gT, gF, gE, hMI, rfl⟩ := hMW
        refine lv_aload_n hx hb dL_law_246 rfl (lv_at hl 1 rfl) ?_
        refine lv_aload_n hx hb dL_law_247 rfl (lv_at hl 0 rfl) ?_
        refine lv_iload_n hx hb dL_law_248 rfl (lv_at hl 3 rfl) ?_
        refine lv_iconst (v := nI 1) hx hb dL_law_249 (by decide) ?_
        refine n_add hx hb dL_law_250 ?_
        refine l_sld hx hb hX hbl hbA I (by omega) (by omega) dL_law_251 ?_
        refine ct_callL (As := [.int (xs (i + 1))]) (rest := []) C I (kX_firstFailing l D d h1 n G mk sz wy kn fK fP fN fO fD fI fR fH fT fF fE fM hXI (xs (i + 1))) (cwV 1 C.1.2.2.2.2 (lw_V q166 q167 q168 q21 q169) rfl rfl rfl (by decide +kernel) ⟨Nat.le_of_ble_eq_true rfl, Nat.le_of_ble_eq_true rfl⟩) rfl rfl rfl hl.1 rfl (Nat.le_of_ble_eq_true rfl) dL_law_252 ⟨Nat.le_of_ble_eq_true rfl, Nat.le_of_ble_eq_true rfl⟩ (fun r1 w1 H locs hp1 I => ?_)
        refine lv_aload_n hx hb dL_law_255 rfl (lv_at hl 2 rfl) ?_
        refine lv_aload_n hx hb dL_law_256 rfl (lv_at hl 0 rfl) ?_
        refine lv_iload_n hx hb dL_law_257 rfl (lv_at hl 3 rfl) ?_
        refine lv_iconst (v := nI 1) hx hb dL_law_258 (by decide) ?_
        refine n_add hx hb dL_law_259 ?_
        refine l_sld hx hb hX hbl hbA I (by omega) (by omega) dL_law_260 ?_
        have I := I.swap
        refine ct_callL (As := [.int (xs (i + 1))]) (rest := [.int r1]) C I (kM_firstFailing l D d h2 n G mk sz2 gK gA gB gN gM gT gF gE hMI (xs (i + 1))) (cwV 1 C.1.2.2.2.2 (lw_V q288 q289 q290 q22 q291) rfl rfl rfl (by decide +kernel) ⟨Nat.le_of_ble_eq_true rfl, Nat.le_of_ble_eq_true rfl⟩) rfl rfl rfl hl.1 rfl (Nat.le_of_ble_eq_true rfl) dL_law_261 ⟨Nat.le_of_ble_eq_true rfl, Nat.le_of_ble_eq_true rfl⟩ (fun r2 w2 H locs hp2 I => ?_)
        have I := I.swap
        refine lv_icmp_eq (tgt := 453) hx hb dL_law_264 (by decide) (fun c_264 => ?_) (fun c_264 => ?_)
        · refine lv_iinc (v := (nI (i + 4))) (lv' := [(3, .int (nI (i + 4))), (0, .ref b), (1, .ref (h1 0)), (2, .ref (h2 0))]) hx hb dL_law_453 hl (k := 3) rfl (n_inc4 _) (by decide) rfl (fun ls hl => ?_)
          refine lv_goto (tgt := 18) hx hb dL_law_456 (by decide) ?_
          exact ih (i + 4) n G mk w1 w2 _ _ _ (by omega) (by omega) hp1.2 hp2.2 hHit I (lv_sub hl [1, 2, 3, 0] rfl)
        · skip
          exact absurd (Fnd.one hp1.1 hp2.1) c_264
      · refine lv_tableIn (off := 237) (tgt := 269) hx hb dL_law_32 (by decide) (by decide) (by decide) (by decide) ?_
        obtain ⟨sz, wy, kn, fK, fP, fN, fO, fD, fI, fR, fH, fT, fF, fE, fM, hXI, rfl⟩ := hXW
        obtain ⟨sz2, gK, gA, gB, gN, gM, gT, gF, gE, hMI, rfl⟩ := hMW
        refine lv_aload_n hx hb dL_law_269 rfl (lv_at hl 1 rfl) ?_
        refine ct_callL (As := []) (rest := []) C I (kX_paths l D d h1 n G mk sz wy kn fK fP fN fO fD fI fR fH fT fF fE fM hXI ) (cwV 0 C.1.2.2.2.2 (lw_V q170 q171 q172 q21 q173) rfl rfl rfl (by decide +kernel) ⟨Nat.le_of_ble_eq_true rfl, Nat.le_of_ble_eq_true rfl⟩) rfl rfl rfl hl.1 rfl (Nat.le_of_ble_eq_true rfl) dL_law_270 ⟨Nat.le_of_ble_eq_true rfl, Nat.le_of_ble_eq_true rfl⟩ (fun r1 w1 H locs hp1 I => ?_)
        refine lv_aload_n hx hb dL_law_273 rfl (lv_at hl 2 rfl) ?_
        have I := I.swap
        refine ct_callL (As := []) (rest := [.int r1]) C I (kM_paths l D d h2 n G mk sz2 gK gA gB gN gM gT gF gE hMI ) (cwV 0 C.1.2.2.2.2 (lw_V q292 q293 q294 q22 q295) rfl rfl rfl (by decide +kernel) ⟨Nat.le_of_ble_eq_true rfl, Nat.le_of_ble_eq_true rfl⟩) rfl rfl rfl hl.1 rfl (Nat.le_of_ble_eq_true rfl) dL_law_274 ⟨Nat.le_of_ble_eq_true rfl, Nat.le_of_ble_eq_true rfl⟩ (fun r2 w2 H locs hp2 I => ?_)
        have I := I.swap
        refine lv_icmp_eq (tgt := 453) hx hb dL_law_277 (by decide) (fun c_277 => ?_) (fun c_277 => ?_)
        · refine lv_iinc (v := (nI (i + 4))) (lv' := [(3, .int (nI (i + 4))), (0, .ref b), (1, .ref (h1 0)), (2, .ref (h2 0))]) hx hb dL_law_453 hl (k := 3) rfl (n_inc4 _) (by decide) rfl (fun ls hl => ?_)
          refine lv_goto (tgt := 18) hx hb dL_law_456 (by decide) ?_
          exact ih (i + 4) n G mk w1 w2 _ _ _ (by omega) (by omega) hp1.2 hp2.2 hHit I (lv_sub hl [1, 2, 3, 0] rfl)
        · skip
          exact absurd (hp1.1.trans hp2.1.symm) c_277
      · refine lv_tableIn (off := 250) (tgt := 282) hx hb dL_law_32 (by decide) (by decide) (by decide) (by decide) ?_
        obtain ⟨sz, wy, kn, fK, fP, fN, fO, fD, fI, fR, fH, fT, fF, fE, fM, hXI, rfl⟩ := hXW
        obtain ⟨sz2, gK, gA, gB, gN, gM, gT, gF, gE, hMI, rfl⟩ := hMW
        refine lv_aload_n hx hb dL_law_282 rfl (lv_at hl 1 rfl) ?_
        refine lv_aload_n hx hb dL_law_283 rfl (lv_at hl 0 rfl) ?_
        refine lv_iload_n hx hb dL_law_284 rfl (lv_at hl 3 rfl) ?_
        refine lv_iconst (v := nI 1) hx hb dL_law_285 (by decide) ?_
        refine n_add hx hb dL_law_286 ?_
        refine l_sld hx hb hX hbl hbA I (by omega) (by omega) dL_law_287 ?_
        refine ct_callL (As := [.int (xs (i + 1))]) (rest := []) C I (kX_alike l D d h1 n G mk sz wy kn fK fP fN fO fD fI fR fH fT fF fE fM hXI (xs (i + 1))) (cwV 1 C.1.2.2.2.2 (lw_V q178 q179 q180 q21 q181) rfl rfl rfl (by decide +kernel) ⟨Nat.le_of_ble_eq_true rfl, Nat.le_of_ble_eq_true rfl⟩) rfl rfl rfl hl.1 rfl (Nat.le_of_ble_eq_true rfl) dL_law_288 ⟨Nat.le_of_ble_eq_true rfl, Nat.le_of_ble_eq_true rfl⟩ (fun r1 w1 H locs hp1 I => ?_)
        refine lv_aload_n hx hb dL_law_291 rfl (lv_at hl 2 rfl) ?_
        refine lv_aload_n hx hb dL_law_292 rfl (lv_at hl 0 rfl) ?_
        refine lv_iload_n hx hb dL_law_293 rfl (lv_at hl 3 rfl) ?_
        refine lv_iconst (v := nI 1) hx hb dL_law_294 (by decide) ?_
        refine n_add hx hb dL_law_295 ?_
        refine l_sld hx hb hX hbl hbA I (by omega) (by omega) dL_law_296 ?_
        have I := I.swap
        refine ct_callL (As := [.int (xs (i + 1))]) (rest := [.int r1]) C I (kM_alike l D d h2 n G mk sz2 gK gA gB gN gM gT gF gE hMI (xs (i + 1))) (cwV 1 C.1.2.2.2.2 (lw_V q300 q301 q302 q22 q303) rfl rfl rfl (by decide +kernel) ⟨Nat.le_of_ble_eq_true rfl, Nat.le_of_ble_eq_true rfl⟩) rfl rfl rfl hl.1 rfl (Nat.le_of_ble_eq_true rfl) dL_law_297 ⟨Nat.le_of_ble_eq_true rfl, Nat.le_of_ble_eq_true rfl⟩ (fun r2 w2 H locs hp2 I => ?_)
        have I := I.swap
        refine lv_icmp_eq (tgt := 453) hx hb dL_law_300 (by decide) (fun c_300 => ?_) (fun c_300 => ?_)
        · refine lv_iinc (v := (nI (i + 4))) (lv' := [(3, .int (nI (i + 4))), (0, .ref b), (1, .ref (h1 0)), (2, .ref (h2 0))]) hx hb dL_law_453 hl (k := 3) rfl (n_inc4 _) (by decide) rfl (fun ls hl => ?_)
          refine lv_goto (tgt := 18) hx hb dL_law_456 (by decide) ?_
          exact ih (i + 4) n G mk w1 w2 _ _ _ (by omega) (by omega) hp1.2 hp2.2 hHit I (lv_sub hl [1, 2, 3, 0] rfl)
        · skip
          exact absurd (QR.one (fun _ _ _ z z2 => z.trans z2.symm) hp1.1 hp2.1) c_300
      · refine lv_tableIn (off := 273) (tgt := 305) hx hb dL_law_32 (by decide) (by decide) (by decide) (by decide) ?_
        obtain ⟨sz, wy, kn, fK, fP, fN, fO, fD, fI, fR, fH, fT, fF, fE, fM, hXI, rfl⟩ := hXW
        obtain ⟨sz2, gK, gA, gB, gN, gM, gT, gF, gE, hMI, rfl⟩ := hMW
        refine lv_aload_n hx hb dL_law_305 rfl (lv_at hl 1 rfl) ?_
        refine lv_aload_n hx hb dL_law_306 rfl (lv_at hl 0 rfl) ?_
        refine lv_iload_n hx hb dL_law_307 rfl (lv_at hl 3 rfl) ?_
        refine lv_iconst (v := nI 1) hx hb dL_law_308 (by decide) ?_
        refine n_add hx hb dL_law_309 ?_
        refine l_sld hx hb hX hbl hbA I (by omega) (by omega) dL_law_310 ?_
        refine ct_callL (As := [.int (xs (i + 1))]) (rest := []) C I (kX_first l D d h1 n G mk sz wy kn fK fP fN fO fD fI fR fH fT fF fE fM hXI (xs (i + 1))) (cwV 1 C.1.2.2.2.2 (lw_V q185 q186 q187 q21 q188) rfl rfl rfl (by decide +kernel) ⟨Nat.le_of_ble_eq_true rfl, Nat.le_of_ble_eq_true rfl⟩) rfl rfl rfl hl.1 rfl (Nat.le_of_ble_eq_true rfl) dL_law_311 ⟨Nat.le_of_ble_eq_true rfl, Nat.le_of_ble_eq_true rfl⟩ (fun r1 w1 H locs hp1 I => ?_)
        refine lv_aload_n hx hb dL_law_314 rfl (lv_at hl 2 rfl) ?_
        refine lv_aload_n hx hb dL_law_315 rfl (lv_at hl 0 rfl) ?_
        refine lv_iload_n hx hb dL_law_316 rfl (lv_at hl 3 rfl) ?_
        refine lv_iconst (v := nI 1) hx hb dL_law_317 (by decide) ?_
        refine n_add hx hb dL_law_318 ?_
        refine l_sld hx hb hX hbl hbA I (by omega) (by omega) dL_law_319 ?_
        have I := I.swap
        refine ct_callL (As := [.int (xs (i + 1))]) (rest := [.int r1]) C I (kM_first l D d h2 n G mk sz2 gK gA gB gN gM gT gF gE hMI (xs (i + 1))) (cwV 1 C.1.2.2.2.2 (lw_V q308 q309 q310 q22 q311) rfl rfl rfl (by decide +kernel) ⟨Nat.le_of_ble_eq_true rfl, Nat.le_of_ble_eq_true rfl⟩) rfl rfl rfl hl.1 rfl (Nat.le_of_ble_eq_true rfl) dL_law_320 ⟨Nat.le_of_ble_eq_true rfl, Nat.le_of_ble_eq_true rfl⟩ (fun r2 w2 H locs hp2 I => ?_)
        have I := I.swap
        refine lv_icmp_eq (tgt := 453) hx hb dL_law_323 (by decide) (fun c_323 => ?_) (fun c_323 => ?_)
        · refine lv_iinc (v := (nI (i + 4))) (lv' := [(3, .int (nI (i + 4))), (0, .ref b), (1, .ref (h1 0)), (2, .ref (h2 0))]) hx hb dL_law_453 hl (k := 3) rfl (n_inc4 _) (by decide) rfl (fun ls hl => ?_)
          refine lv_goto (tgt := 18) hx hb dL_law_456 (by decide) ?_
          exact ih (i + 4) n G mk w1 w2 _ _ _ (by omega) (by omega) hp1.2 hp2.2 hHit I (lv_sub hl [1, 2, 3, 0] rfl)
        · skip
          exact absurd (QR.oneF (fun j k => pt n G k = pt n G j) hp1.1 hp2.1) c_323
      · refine lv_tableIn (off := 296) (tgt := 328) hx hb dL_law_32 (by decide) (by decide) (by decide) (by decide) ?_
        obtain ⟨sz, wy, kn, fK, fP, fN, fO, fD, fI, fR, fH, fT, fF, fE, fM, hXI, rfl⟩ := hXW
        obtain ⟨sz2, gK, gA, gB, gN, gM, gT, gF, gE, hMI, rfl⟩ := hMW
        refine lv_aload_n hx hb dL_law_328 rfl (lv_at hl 1 rfl) ?_
        refine lv_aload_n hx hb dL_law_329 rfl (lv_at hl 0 rfl) ?_
        refine lv_iload_n hx hb dL_law_330 rfl (lv_at hl 3 rfl) ?_
        refine lv_iconst (v := nI 1) hx hb dL_law_331 (by decide) ?_
        refine n_add hx hb dL_law_332 ?_
        refine l_sld hx hb hX hbl hbA I (by omega) (by omega) dL_law_333 ?_
        refine ct_callL (As := [.int (xs (i + 1))]) (rest := []) C I (kX_mark l D d h1 n G mk sz wy kn fK fP fN fO fD fI fR fH fT fF fE fM hXI (xs (i + 1))) (cwV 1 C.1.2.2.2.2 (lw_V q189 q190 q191 q21 q192) rfl rfl rfl (by decide +kernel) ⟨Nat.le_of_ble_eq_true rfl, Nat.le_of_ble_eq_true rfl⟩) rfl rfl rfl hl.1 rfl (Nat.le_of_ble_eq_true rfl) dL_law_334 ⟨Nat.le_of_ble_eq_true rfl, Nat.le_of_ble_eq_true rfl⟩ (fun r1 w1 H locs hp1 I => ?_)
        refine lv_aload_n hx hb dL_law_337 rfl (lv_at hl 2 rfl) ?_
        refine lv_aload_n hx hb dL_law_338 rfl (lv_at hl 0 rfl) ?_
        refine lv_iload_n hx hb dL_law_339 rfl (lv_at hl 3 rfl) ?_
        refine lv_iconst (v := nI 1) hx hb dL_law_340 (by decide) ?_
        refine n_add hx hb dL_law_341 ?_
        refine l_sld hx hb hX hbl hbA I (by omega) (by omega) dL_law_342 ?_
        have I := I.swap
        refine ct_callL (As := [.int (xs (i + 1))]) (rest := [.int r1]) C I (kM_mark l D d h2 n G mk sz2 gK gA gB gN gM gT gF gE hMI (xs (i + 1))) (cwV 1 C.1.2.2.2.2 (lw_V q312 q313 q314 q22 q315) rfl rfl rfl (by decide +kernel) ⟨Nat.le_of_ble_eq_true rfl, Nat.le_of_ble_eq_true rfl⟩) rfl rfl rfl hl.1 rfl (Nat.le_of_ble_eq_true rfl) dL_law_343 ⟨Nat.le_of_ble_eq_true rfl, Nat.le_of_ble_eq_true rfl⟩ (fun r2 w2 H locs hp2 I => ?_)
        have I := I.swap
        refine lv_icmp_eq (tgt := 453) hx hb dL_law_346 (by decide) (fun c_346 => ?_) (fun c_346 => ?_)
        · refine lv_iinc (v := (nI (i + 4))) (lv' := [(3, .int (nI (i + 4))), (0, .ref b), (1, .ref (h1 0)), (2, .ref (h2 0))]) hx hb dL_law_453 hl (k := 3) rfl (n_inc4 _) (by decide) rfl (fun ls hl => ?_)
          refine lv_goto (tgt := 18) hx hb dL_law_456 (by decide) ?_
          cases hv9 : inR (xs (i + 1)) 256
          · exact ih (i + 4) n G mk w1 w2 _ _ _ (by omega) (by omega) (hp1.2.1 hv9) (hp2.2.1 hv9) hHit I (lv_sub hl [1, 2, 3, 0] rfl)
          · obtain ⟨j, hj, ej⟩ := inR_t (n := 256) hv9
            exact ih (i + 4) n G _ w1 w2 _ _ _ (by omega) (by omega) (hp1.2.2 j hj ej) (hp2.2.2 j hj ej) (hHit.mark hj) I (lv_sub hl [1, 2, 3, 0] rfl)
        · skip
          exact absurd (QR.one (fun _ _ _ z z2 => z.trans z2.symm) (QR.mono (fun p hp z => by rw [z, mark_all hXI.pw (hHit.mark hp)]) hp1.1) hp2.1) c_346
      · refine lv_tableIn (off := 319) (tgt := 351) hx hb dL_law_32 (by decide) (by decide) (by decide) (by decide) ?_
        obtain ⟨sz, wy, kn, fK, fP, fN, fO, fD, fI, fR, fH, fT, fF, fE, fM, hXI, rfl⟩ := hXW
        obtain ⟨sz2, gK, gA, gB, gN, gM, gT, gF, gE, hMI, rfl⟩ := hMW
        refine lv_aload_n hx hb dL_law_351 rfl (lv_at hl 1 rfl) ?_
        refine ct_callL (As := []) (rest := []) C I (kX_unmarked l D d h1 n G mk sz wy kn fK fP fN fO fD fI fR fH fT fF fE fM hXI ) (cwV 0 C.1.2.2.2.2 (lw_V q193 q194 q195 q21 q196) rfl rfl rfl (by decide +kernel) ⟨Nat.le_of_ble_eq_true rfl, Nat.le_of_ble_eq_true rfl⟩) rfl rfl rfl hl.1 rfl (Nat.le_of_ble_eq_true rfl) dL_law_352 ⟨Nat.le_of_ble_eq_true rfl, Nat.le_of_ble_eq_true rfl⟩ (fun r1 w1 H locs hp1 I => ?_)
        refine lv_aload_n hx hb dL_law_355 rfl (lv_at hl 2 rfl) ?_
        have I := I.swap
        refine ct_callL (As := []) (rest := [.int r1]) C I (kM_unmarked l D d h2 n G mk sz2 gK gA gB gN gM gT gF gE hMI ) (cwV 0 C.1.2.2.2.2 (lw_V q316 q317 q318 q22 q319) rfl rfl rfl (by decide +kernel) ⟨Nat.le_of_ble_eq_true rfl, Nat.le_of_ble_eq_true rfl⟩) rfl rfl rfl hl.1 rfl (Nat.le_of_ble_eq_true rfl) dL_law_356 ⟨Nat.le_of_ble_eq_true rfl, Nat.le_of_ble_eq_true rfl⟩ (fun r2 w2 H locs hp2 I => ?_)
        have I := I.swap
        refine lv_icmp_eq (tgt := 453) hx hb dL_law_359 (by decide) (fun c_359 => ?_) (fun c_359 => ?_)
        · refine lv_iinc (v := (nI (i + 4))) (lv' := [(3, .int (nI (i + 4))), (0, .ref b), (1, .ref (h1 0)), (2, .ref (h2 0))]) hx hb dL_law_453 hl (k := 3) rfl (n_inc4 _) (by decide) rfl (fun ls hl => ?_)
          refine lv_goto (tgt := 18) hx hb dL_law_456 (by decide) ?_
          exact ih (i + 4) n G mk w1 w2 _ _ _ (by omega) (by omega) hp1.2 hp2.2 hHit I (lv_sub hl [1, 2, 3, 0] rfl)
        · skip
          exact absurd (Fnd.one hp1.1 hp2.1) c_359
      · refine lv_tableIn (off := 332) (tgt := 364) hx hb dL_law_32 (by decide) (by decide) (by decide) (by decide) ?_
        obtain ⟨sz, wy, kn, fK, fP, fN, fO, fD, fI, fR, fH, fT, fF, fE, fM, hXI, rfl⟩ := hXW
        obtain ⟨sz2, gK, gA, gB, gN, gM, gT, gF, gE, hMI, rfl⟩ := hMW
        refine lv_aload_n hx hb dL_law_364 rfl (lv_at hl 1 rfl) ?_
        refine lv_aload_n hx hb dL_law_365 rfl (lv_at hl 0 rfl) ?_
        refine lv_iload_n hx hb dL_law_366 rfl (lv_at hl 3 rfl) ?_
        refine lv_iconst (v := nI 1) hx hb dL_law_367 (by decide) ?_
        refine n_add hx hb dL_law_368 ?_
        refine l_sld hx hb hX hbl hbA I (by omega) (by omega) dL_law_369 ?_
        refine lv_aload_n hx hb dL_law_370 rfl (lv_at hl 0 rfl) ?_
        refine lv_iload_n hx hb dL_law_371 rfl (lv_at hl 3 rfl) ?_
        refine lv_iconst (v := nI 2) hx hb dL_law_372 (by decide) ?_
        refine n_add hx hb dL_law_373 ?_
        refine l_sld hx hb hX hbl hbA I (by omega) (by omega) dL_law_374 ?_
        refine ct_callL (As := [.int (xs (i + 1)), .int (xs (i + 2))]) (rest := []) C I (kX_extreme l D d h1 n G mk sz wy kn fK fP fN fO fD fI fR fH fT fF fE fM hXI (xs (i + 1)) (xs (i + 2))) (cwV 2 C.1.2.2.2.2 (lw_V q197 q198 q199 q21 q200) rfl rfl rfl (by decide +kernel) ⟨Nat.le_of_ble_eq_true rfl, Nat.le_of_ble_eq_true rfl⟩) rfl rfl rfl hl.1 rfl (Nat.le_of_ble_eq_true rfl) dL_law_375 ⟨Nat.le_of_ble_eq_true rfl, Nat.le_of_ble_eq_true rfl⟩ (fun r1 w1 H locs hp1 I => ?_)
        refine lv_aload_n hx hb dL_law_378 rfl (lv_at hl 2 rfl) ?_
        refine lv_aload_n hx hb dL_law_379 rfl (lv_at hl 0 rfl) ?_
        refine lv_iload_n hx hb dL_law_380 rfl (lv_at hl 3 rfl) ?_
        refine lv_iconst (v := nI 1) hx hb dL_law_381 (by decide) ?_
        refine n_add hx hb dL_law_382 ?_
        refine l_sld hx hb hX hbl hbA I (by omega) (by omega) dL_law_383 ?_
        refine lv_aload_n hx hb dL_law_384 rfl (lv_at hl 0 rfl) ?_
        refine lv_iload_n hx hb dL_law_385 rfl (lv_at hl 3 rfl) ?_
        refine lv_iconst (v := nI 2) hx hb dL_law_386 (by decide) ?_
        refine n_add hx hb dL_law_387 ?_
        refine l_sld hx hb hX hbl hbA I (by omega) (by omega) dL_law_388 ?_
        have I := I.swap
        refine ct_callL (As := [.int (xs (i + 1)), .int (xs (i + 2))]) (rest := [.int r1]) C I (kM_extreme l D d h2 n G mk sz2 gK gA gB gN gM gT gF gE hMI (xs (i + 1)) (xs (i + 2))) (cwV 2 C.1.2.2.2.2 (lw_V q320 q321 q322 q22 q323) rfl rfl rfl (by decide +kernel) ⟨Nat.le_of_ble_eq_true rfl, Nat.le_of_ble_eq_true rfl⟩) rfl rfl rfl hl.1 rfl (Nat.le_of_ble_eq_true rfl) dL_law_389 ⟨Nat.le_of_ble_eq_true rfl, Nat.le_of_ble_eq_true rfl⟩ (fun r2 w2 H locs hp2 I => ?_)
        have I := I.swap
        refine lv_icmp_eq (tgt := 453) hx hb dL_law_392 (by decide) (fun c_392 => ?_) (fun c_392 => ?_)
        · refine lv_iinc (v := (nI (i + 4))) (lv' := [(3, .int (nI (i + 4))), (0, .ref b), (1, .ref (h1 0)), (2, .ref (h2 0))]) hx hb dL_law_453 hl (k := 3) rfl (n_inc4 _) (by decide) rfl (fun ls hl => ?_)
          refine lv_goto (tgt := 18) hx hb dL_law_456 (by decide) ?_
          exact ih (i + 4) n G mk w1 w2 _ _ _ (by omega) (by omega) hp1.2 hp2.2 hHit I (lv_sub hl [1, 2, 3, 0] rfl)
        · skip
          exact absurd (by have z1 := hp1.1; have z2 := hp2.1; by_cases hw : xs (i + 2) = 0 ∨ xs (i + 2) = 1; rw [if_pos hw] at z1 z2; exact QR.one (fun _ _ _ y y2 => y.trans y2.symm) z1 z2; rw [if_neg hw] at z1 z2; rw [z1, z2]) c_392
      · refine lv_tableIn (off := 365) (tgt := 397) hx hb dL_law_32 (by decide) (by decide) (by decide) (by decide) ?_
        obtain ⟨sz, wy, kn, fK, fP, fN, fO, fD, fI, fR, fH, fT, fF, fE, fM, hXI, rfl⟩ := hXW
        obtain ⟨sz2, gK, gA, gB, gN, gM, gT, gF, gE, hMI, rfl⟩ := hMW
        refine lv_aload_n hx hb dL_law_397 rfl (lv_at hl 1 rfl) ?_
        refine lv_aload_n hx hb dL_law_398 rfl (lv_at hl 0 rfl) ?_
        refine lv_iload_n hx hb dL_law_399 rfl (lv_at hl 3 rfl) ?_
        refine lv_iconst (v := nI 1) hx hb dL_law_400 (by decide) ?_
        refine n_add hx hb dL_law_401 ?_
        refine l_sld hx hb hX hbl hbA I (by omega) (by omega) dL_law_402 ?_
        refine lv_aload_n hx hb dL_law_403 rfl (lv_at hl 0 rfl) ?_
        refine lv_iload_n hx hb dL_law_404 rfl (lv_at hl 3 rfl) ?_
        refine lv_iconst (v := nI 2) hx hb dL_law_405 (by decide) ?_
        refine n_add hx hb dL_law_406 ?_
        refine l_sld hx hb hX hbl hbA I (by omega) (by omega) dL_law_407 ?_
        refine ct_callL (As := [.int (xs (i + 1)), .int (xs (i + 2))]) (rest := []) C I (kX_ending l D d h1 n G mk sz wy kn fK fP fN fO fD fI fR fH fT fF fE fM hXI (xs (i + 1)) (xs (i + 2))) (cwV 2 C.1.2.2.2.2 (lw_V q202 q203 q204 q21 q205) rfl rfl rfl (by decide +kernel) ⟨Nat.le_of_ble_eq_true rfl, Nat.le_of_ble_eq_true rfl⟩) rfl rfl rfl hl.1 rfl (Nat.le_of_ble_eq_true rfl) dL_law_408 ⟨Nat.le_of_ble_eq_true rfl, Nat.le_of_ble_eq_true rfl⟩ (fun r1 w1 H locs hp1 I => ?_)
        refine lv_aload_n hx hb dL_law_411 rfl (lv_at hl 2 rfl) ?_
        refine lv_aload_n hx hb dL_law_412 rfl (lv_at hl 0 rfl) ?_
        refine lv_iload_n hx hb dL_law_413 rfl (lv_at hl 3 rfl) ?_
        refine lv_iconst (v := nI 1) hx hb dL_law_414 (by decide) ?_
        refine n_add hx hb dL_law_415 ?_
        refine l_sld hx hb hX hbl hbA I (by omega) (by omega) dL_law_416 ?_
        refine lv_aload_n hx hb dL_law_417 rfl (lv_at hl 0 rfl) ?_
        refine lv_iload_n hx hb dL_law_418 rfl (lv_at hl 3 rfl) ?_
        refine lv_iconst (v := nI 2) hx hb dL_law_419 (by decide) ?_
        refine n_add hx hb dL_law_420 ?_
        refine l_sld hx hb hX hbl hbA I (by omega) (by omega) dL_law_421 ?_
        have I := I.swap
        refine ct_callL (As := [.int (xs (i + 1)), .int (xs (i + 2))]) (rest := [.int r1]) C I (kM_ending l D d h2 n G mk sz2 gK gA gB gN gM gT gF gE hMI (xs (i + 1)) (xs (i + 2))) (cwV 2 C.1.2.2.2.2 (lw_V q325 q326 q327 q22 q328) rfl rfl rfl (by decide +kernel) ⟨Nat.le_of_ble_eq_true rfl, Nat.le_of_ble_eq_true rfl⟩) rfl rfl rfl hl.1 rfl (Nat.le_of_ble_eq_true rfl) dL_law_422 ⟨Nat.le_of_ble_eq_true rfl, Nat.le_of_ble_eq_true rfl⟩ (fun r2 w2 H locs hp2 I => ?_)
        have I := I.swap
        refine lv_icmp_eq (tgt := 453) hx hb dL_law_425 (by decide) (fun c_425 => ?_) (fun c_425 => ?_)
        · refine lv_iinc (v := (nI (i + 4))) (lv' := [(3, .int (nI (i + 4))), (0, .ref b), (1, .ref (h1 0)), (2, .ref (h2 0))]) hx hb dL_law_453 hl (k := 3) rfl (n_inc4 _) (by decide) rfl (fun ls hl => ?_)
          refine lv_goto (tgt := 18) hx hb dL_law_456 (by decide) ?_
          exact ih (i + 4) n G mk w1 w2 _ _ _ (by omega) (by omega) hp1.2 hp2.2 hHit I (lv_sub hl [1, 2, 3, 0] rfl)
        · skip
          exact absurd (QR.one (fun _ _ _ z z2 => z.trans z2.symm) hp1.1 hp2.1) c_425
      · refine lv_tableIn (off := 398) (tgt := 430) hx hb dL_law_32 (by decide) (by decide) (by decide) (by decide) ?_
        obtain ⟨sz, wy, kn, fK, fP, fN, fO, fD, fI, fR, fH, fT, fF, fE, fM, hXI, rfl⟩ := hXW
        obtain ⟨sz2, gK, gA, gB, gN, gM, gT, gF, gE, hMI, rfl⟩ := hMW
        refine lv_aload_n hx hb dL_law_430 rfl (lv_at hl 1 rfl) ?_
        refine lv_aload_n hx hb dL_law_431 rfl (lv_at hl 0 rfl) ?_
        refine lv_iload_n hx hb dL_law_432 rfl (lv_at hl 3 rfl) ?_
        refine lv_iconst (v := nI 1) hx hb dL_law_433 (by decide) ?_
        refine n_add hx hb dL_law_434 ?_
        refine l_sld hx hb hX hbl hbA I (by omega) (by omega) dL_law_435 ?_
        refine ct_callL (As := [.int (xs (i + 1))]) (rest := []) C I (kX_steps l D d h1 n G mk sz wy kn fK fP fN fO fD fI fR fH fT fF fE fM hXI (xs (i + 1))) (cwV 1 C.1.2.2.2.2 (lw_V q206 q207 q208 q21 q209) rfl rfl rfl (by decide +kernel) ⟨Nat.le_of_ble_eq_true rfl, Nat.le_of_ble_eq_true rfl⟩) rfl rfl rfl hl.1 rfl (Nat.le_of_ble_eq_true rfl) dL_law_436 ⟨Nat.le_of_ble_eq_true rfl, Nat.le_of_ble_eq_true rfl⟩ (fun r1 w1 H locs hp1 I => ?_)
        refine lv_aload_n hx hb dL_law_439 rfl (lv_at hl 2 rfl) ?_
        refine lv_aload_n hx hb dL_law_440 rfl (lv_at hl 0 rfl) ?_
        refine lv_iload_n hx hb dL_law_441 rfl (lv_at hl 3 rfl) ?_
        refine lv_iconst (v := nI 1) hx hb dL_law_442 (by decide) ?_
        refine n_add hx hb dL_law_443 ?_
        refine l_sld hx hb hX hbl hbA I (by omega) (by omega) dL_law_444 ?_
        have I := I.swap
        refine ct_callL (As := [.int (xs (i + 1))]) (rest := [.int r1]) C I (kM_steps l D d h2 n G mk sz2 gK gA gB gN gM gT gF gE hMI (xs (i + 1))) (cwV 1 C.1.2.2.2.2 (lw_V q329 q330 q331 q22 q332) rfl rfl rfl (by decide +kernel) ⟨Nat.le_of_ble_eq_true rfl, Nat.le_of_ble_eq_true rfl⟩) rfl rfl rfl hl.1 rfl (Nat.le_of_ble_eq_true rfl) dL_law_445 ⟨Nat.le_of_ble_eq_true rfl, Nat.le_of_ble_eq_true rfl⟩ (fun r2 w2 H locs hp2 I => ?_)
        have I := I.swap
        refine lv_icmp_eq (tgt := 453) hx hb dL_law_448 (by decide) (fun c_448 => ?_) (fun c_448 => ?_)
        · refine lv_iinc (v := (nI (i + 4))) (lv' := [(3, .int (nI (i + 4))), (0, .ref b), (1, .ref (h1 0)), (2, .ref (h2 0))]) hx hb dL_law_453 hl (k := 3) rfl (n_inc4 _) (by decide) rfl (fun ls hl => ?_)
          refine lv_goto (tgt := 18) hx hb dL_law_456 (by decide) ?_
          exact ih (i + 4) n G mk w1 w2 _ _ _ (by omega) (by omega) hp1.2 hp2.2 hHit I (lv_sub hl [1, 2, 3, 0] rfl)
        · skip
          exact absurd (QR.one (fun _ _ _ z z2 => z.trans z2.symm) hp1.1 hp2.1) c_448
      · refine lv_tableOut (tgt := 453) hx hb dL_law_32 (by decide) (by decide) ?_
        refine lv_iinc (v := (nI (i + 4))) (lv' := [(3, .int (nI (i + 4))), (0, .ref b), (1, .ref (h1 0)), (2, .ref (h2 0))]) hx hb dL_law_453 hl (k := 3) rfl (n_inc4 _) (by decide) rfl (fun ls hl => ?_)
        refine lv_goto (tgt := 18) hx hb dL_law_456 (by decide) ?_
        exact ih (i + 4) n G mk wx wm _ _ _ (by omega) (by omega) hXW hMW hHit I (lv_sub hl [1, 2, 3, 0] rfl)
end
section
set_option maxHeartbeats 4000000 in
set_option maxRecDepth 100000 in
/-- THE LAW, from its entry -/
theorem whole_start {p : Program} {e : Env} {s : State} {m : MethodId} {below : List Frame} {meth : Method} {c : Code} (l : Launch) {b L : Nat} {xs : Nat → Int32} (hL : L ≤ 256) (C0 : lw_At p s m meth c b L xs) : W p l e room_1 s m #[Value.ref b] below meth c s.heap [] 0 0 (lw_Z below #[Value.ref b] s) (entryFrame m ([Value.ref b] : List Value).toArray 4) := by
  obtain ⟨hx, hb, hr, hml, hown, hts0, hX, hbl, hlocks, hgv⟩ := id C0
  have hts : ∀ w ∈ lw_all, w.before #[Value.ref b] s = true := fun w h => hts0 w (lw_all_tbl h)
  obtain ⟨c0, iS0, hKn0⟩ := u_known (C := RX0) (T := TX0) (N := 15) (n := 15) hts in_X0 (hts _ q24)
  obtain ⟨c1, iS1, hKn1⟩ := u_known (C := RX1) (T := TX1) (N := 9) (n := 9) hts in_X1 (hts _ q211)
  obtain ⟨dC, dI, hKc⟩ : ∃ (dC : Nat → ClassId) (dI : Nat → Nat → Nat), ∀ (k : Nat) (q : vw_C), iCl[k]? = some q → u_Kn s q.1 q.2.1 q.2.2 (dC k) (dI k) := by
    refine ⟨fun k => if k = 0 then c0 else c1, fun k => if k = 0 then iS0 else iS1, ?_⟩
    intro k q hq
    match k, hq with
    | 0, hq => cases hq; exact hKn0
    | 1, hq => cases hq; exact hKn1
    | k + 2, hq => simp [iCl] at hq
  obtain ⟨aI, hI1⟩ := arr_known (ty := .int) (by intro C h; cases h) (hts _ q79)
  obtain ⟨aB, hB1⟩ := arr_known (ty := .byte) (by intro C h; cases h) (hts _ q77)
  obtain ⟨aS, hS1⟩ := arr_known (ty := .short) (by intro C h; cases h) (hts _ q78)
  obtain ⟨aZ, hZ1⟩ := arr_known (ty := .boolean) (by intro C h; cases h) (hts _ q80)
  obtain ⟨d, hd0, hd1, hd2, hd3⟩ : ∃ d : Nat → ClassId, d 0 = aI ∧ d 1 = aB ∧ d 2 = aS ∧ d 3 = aZ := ⟨fun k => if k = 0 then aI else if k = 1 then aB else if k = 2 then aS else aZ, rfl, rfl, rfl, rfl⟩
  have hK : va_K (dC, dI) iCl (iTy d) s := by
    refine ⟨hKc, fun k q h => ?_⟩
    match k, h with
    | 0, h => cases h; rw [hd0]; exact hI1
    | 1, h => cases h; rw [hd1]; exact hB1
    | 2, h => cases h; rw [hd2]; exact hS1
    | 3, h => cases h; rw [hd3]; exact hZ1
    | k + 4, h => simp [iTy] at h
  have C : CX p c cL_law 4 s m #[Value.ref b] R_law (dC, dI) d := ⟨⟨hx, hb, hml, hown, hts⟩, hK⟩
  have hA : ∀ q : Nat, s.heap.size ≤ q → (fun q : Nat => s.heap.size ≤ q) q := fun _ h => h
  have hS : va_S (fun q : Nat => s.heap.size ≤ q) s.heap s.heap [] := va_S.rf
  have hP : va_P (dC, dI) iCl [] s.heap := fun k q h => by simp at h
  have hD : va_D (fun q : Nat => s.heap.size ≤ q) [] := ⟨fun i j p q h => by simp at h, fun k q h => by simp at h⟩
  have hl := lv_entry ([.ref b]) (n := 4) (Nat.le_of_ble_eq_true rfl)
  rw [lg_entry_eq]
  generalize (lg_sl ([.ref b]) ++ List.replicate (4 - (lg_sl ([.ref b])).length) Slot.unset).toArray = ls at hl ⊢
  have hl : lv_has ls 4 [(0, .ref b)] := hl
  refine va_new (ci := 0) (fs := [.null, .null, .null, .int 0, .int 0, .null, .null, .null, .null, .null, .int 0, .null, .null, .null, .null]) (C := RX0) (T := TX0) (N := 15) hx hb hts in_X0 tyX0 tyX0_ok hown (hts _ q23) (hts _ q24) (hts _ q21) hK hP hD hS hA rfl (fun j hj => by rcases (show j = 0 ∨ j = 1 ∨ j = 2 ∨ j = 3 ∨ j = 4 ∨ j = 5 ∨ j = 6 ∨ j = 7 ∨ j = 8 ∨ j = 9 ∨ j = 10 ∨ j = 11 ∨ j = 12 ∨ j = 13 ∨ j = 14 by omega) with rfl | rfl | rfl | rfl | rfl | rfl | rfl | rfl | rfl | rfl | rfl | rfl | rfl | rfl | rfl <;> rfl) (Nat.le_of_ble_eq_true rfl) (Nat.le_of_ble_eq_true rfl) dL_law_0 (fun qx H hP hD hS => ?_)
  have I : IW (dC, dI) (fun q : Nat => s.heap.size ≤ q) s.heap ([(qx, .inr (0, [.null, .null, .null, .int 0, .int 0, .null, .null, .null, .null, .null, .int 0, .null, .null, .null, .null]))] ++ []) H _ := ⟨hP, hD, hS, hA⟩
  refine W.widen (k := 1) (n := 15) (Nat.le_of_ble_eq_true rfl) (Nat.le_of_ble_eq_true rfl) ?_
  refine lv_dup hx hb dL_law_3 rfl ?_
  refine cn_callL (rest := [.ref qx]) C I (kX_init l (dC, dI) d qx) (cwI 0 hts (lw_meth q27) rfl rfl rfl (hts _ q21) (hts _ q25) (hts _ q26) rfl (by decide +kernel) ⟨Nat.le_of_ble_eq_true rfl, Nat.le_of_ble_eq_true rfl⟩) hl.1 rfl (Nat.le_of_ble_eq_true rfl) dL_law_4 ⟨Nat.le_of_ble_eq_true rfl, Nat.le_of_ble_eq_true rfl⟩ (fun w1 H locs hp1 I => ?_)
  obtain ⟨h1, rfl, rfl⟩ := hp1
  refine lv_astore_n (lv' := [(1, .ref (h1 0)), (0, .ref b)]) hx hb dL_law_7 rfl hl (by decide) rfl (fun ls hl => ?_)
  have I : IW (dC, dI) (fun q : Nat => s.heap.size ≤ q) s.heap (wX h1 d 0 0 0 (fun _ => 0) (fun _ => 0) (fun _ => 0) (fun _ => 0) (fun _ => 0) (fun _ => 0) (fun _ => 0) (fun _ => 0) (fun _ => 0) (fun _ => 0) (fun _ => 0) (fun _ => 0)) H locs := I.left
  refine va_new (ci := 1) (fs := [.int 0, .null, .null, .null, .null, .null, .null, .null, .null]) (C := RX1) (T := TX1) (N := 9) hx hb hts in_X1 tyX1 tyX1_ok hown (hts _ q210) (hts _ q211) (hts _ q22) hK I.1 I.2.1 I.2.2.1 hA rfl (fun j hj => by rcases (show j = 0 ∨ j = 1 ∨ j = 2 ∨ j = 3 ∨ j = 4 ∨ j = 5 ∨ j = 6 ∨ j = 7 ∨ j = 8 by omega) with rfl | rfl | rfl | rfl | rfl | rfl | rfl | rfl | rfl <;> rfl) (Nat.le_of_ble_eq_true rfl) (Nat.le_of_ble_eq_true rfl) dL_law_8 (fun qm H hP hD hS => ?_)
  have I : IW (dC, dI) (fun q : Nat => s.heap.size ≤ q) s.heap ((wX h1 d 0 0 0 (fun _ => 0) (fun _ => 0) (fun _ => 0) (fun _ => 0) (fun _ => 0) (fun _ => 0) (fun _ => 0) (fun _ => 0) (fun _ => 0) (fun _ => 0) (fun _ => 0) (fun _ => 0)) ++ [(qm, .inr (1, [.int 0, .null, .null, .null, .null, .null, .null, .null, .null]))]) H _ := ⟨hP, hD, hS, hA⟩
  have I := I.swap
  refine W.widen (k := 14) (n := 2348) (Nat.le_of_ble_eq_true rfl) (Nat.le_of_ble_eq_true rfl) ?_
  refine lv_dup hx hb dL_law_11 rfl ?_
  refine cn_callL (rest := [.ref qm]) C I (kM_init l (dC, dI) d qm) (cwI 0 hts (lw_meth q214) rfl rfl rfl (hts _ q22) (hts _ q212) (hts _ q213) rfl (by decide +kernel) ⟨Nat.le_of_ble_eq_true rfl, Nat.le_of_ble_eq_true rfl⟩) hl.1 rfl (Nat.le_of_ble_eq_true rfl) dL_law_12 ⟨Nat.le_of_ble_eq_true rfl, Nat.le_of_ble_eq_true rfl⟩ (fun w2 H locs hp2 I => ?_)
  obtain ⟨h2, rfl, rfl⟩ := hp2
  have I := I.swap
  refine W.widen (k := 22) (n := 8028) (Nat.le_of_ble_eq_true rfl) (Nat.le_of_ble_eq_true rfl) ?_
  refine lv_astore_n (lv' := [(2, .ref (h2 0)), (1, .ref (h1 0)), (0, .ref b)]) hx hb dL_law_15 rfl hl (by decide) rfl (fun ls hl => ?_)
  refine lv_iconst (v := nI 0) hx hb dL_law_16 (by decide) ?_
  refine lv_istore_n (lv' := [(3, .int (nI 0)), (2, .ref (h2 0)), (1, .ref (h1 0)), (0, .ref b)]) hx hb dL_law_17 rfl hl (by decide) rfl (fun ls hl => ?_)
  have hPW : PW 0 (fun _ => (0, 0, 0, 0)) := ⟨by omega, fun p hp => absurd hp (by omega)⟩
  exact law_loop hL C0 hK 257 0 0 (fun _ => (0, 0, 0, 0)) (fun _ => false) _ _ _ _ _ (by omega) (by omega) ⟨_, _, _, _, _, _, _, _, _, _, _, _, _, _, _, ⟨rfl, hPW, fun p hp => absurd hp (by omega), Or.inl rfl, fun _ _ => rfl⟩, rfl⟩ ⟨_, _, _, _, _, _, _, _, _, ⟨rfl, hPW, fun p hp => absurd hp (by omega), fun _ _ => rfl⟩, rfl⟩ (fun q hq => by cases hq) I (lv_sub hl [3, 2, 1, 0] rfl)
end
section
set_option maxRecDepth 100000
set_option maxHeartbeats 4000000 in
theorem lw_walk (l : Launch) (b : Addr) (xs : List Int32) : MetFree l x (headSpec (Jvm.Cond.code x code maxLocals ret :: tables_1) room_1) (lw_P b xs) (fun _ _ _ _ _ => True) lw_Q := by
  refine MetFree.of_bodyS (code := code) (maxLocals := maxLocals) (ret := ret) (by decide) ?_ ?_
  · intro args s m h hn
    obtain ⟨meth, c, h1, h2, h3, h4, h5, h6, -, -⟩ := Cond.code_spec hn (atoms_spec (ws := Jvm.Cond.code x code maxLocals ret :: tables_1) h _ List.mem_cons_self)
    exact ⟨meth, c, h1, h2, h3, h4, h5, h6⟩
  · intro p e s m args below meth c s₁ B hml0 hP _
    obtain ⟨rfl, hx, hbd, hgv⟩ := hP
    obtain ⟨scr, harrAt, hlist, hof, hsmall⟩ := hx
    obtain ⟨hcb, hkn, -, -⟩ := State.arrayAt?_spec harrAt
    have hown : s.vm.findClass R_law = some m.cls := findClass_of_methodNamed B.named
    have hts0 : ∀ c ∈ (Jvm.Cond.code x code maxLocals ret :: tables_1), c.before #[Value.ref b] s = true := atoms_spec (ws := Jvm.Cond.code x code maxLocals ret :: tables_1) B.pre
    have hts : ∀ w ∈ lw_tbl, w.before #[Value.ref b] s = true := k2_hts_sels lw_privs (fun w hw => hts0 w (List.mem_cons_of_mem _ hw)) lw_privs_ok
    have hml : c.maxLocals = 4 := B.maxLocals_eq (hts0 _ List.mem_cons_self)
    have X₀ : Stand p l e room_1 s m #[Value.ref b] below meth c s₁ [] 0 0 := Stand.of_body B
    have hh0 : s₁.heap = s.heap := by rw [B.state]; rfl
    have hsz : scr.slots.size = xs.length := by rw [← Array.length_toList, hlist, List.length_map]
    have hval : ∀ j : Nat, j < xs.length → scr.slots[j]? = some (.int (xs.getD j 0)) := fun j hj => by
      rw [← Array.getElem?_toList, hlist]
      simp [hj]
    have hbl : b < s.heap.size := (Array.getElem?_eq_some_iff.mp hcb).1
    have hX : va_X b xs.length (fun j => xs.getD j 0) s s.heap := ⟨scr, hcb, hof, hkn, hsz, hval⟩
    have K : W p l e room_1 s m #[Value.ref b] below meth c s₁.heap [] 0 0 (lw_Z below #[Value.ref b] s) (entryFrame m ([Value.ref b] : List Value).toArray 4) := by
      rw [hh0]
      exact whole_start l hbd ⟨B.exec, B.bytes, B.returns, hml, hown, hts, hX, hbl, B.notSynchronized, hgv⟩
    obtain ⟨t, a1, o, b1, b2, b3⟩ := K s₁ rfl X₀
    exact ⟨t, o, a1, b1, b2, b3⟩
theorem lw_pre_spec {args : Array Value} {s : State} (h : (Jvm.Cond.and given_1 narrow_1).before args s = true) (hr : rest_1_c.before args s = true) : ∃ (b : Addr) (xs : List Int32), lw_P b xs args s := by
  have hs := flat_of_before _ h
  have hq := flat_of_before _ hr
  have hc : (Cond.count 1).before args s = true := hs _ (by decide +kernel)
  have harr : (Cond.arrayOf (.arg 0) .int).before args s = true := hs _ (by decide +kernel)
  have hle : (Cond.le (.length (.arg 0)) (.int 256)).before args s = true := hs _ (by decide +kernel)
  have hlen : (Cond.isInt (.length (.arg 0))).before args s = true := hq _ (by decide +kernel)
  have hall : (Cond.all (.arg 0) (.isInt (.elem (.arg 0) (.index 0)))).before args s = true := hq _ (by decide +kernel)
  obtain ⟨b, xs, hb, hx⟩ := State.ints_of_pre rfl harr hlen hall
  have hsm : xs.length < 2 ^ 31 := hx.choose_spec.2.2.2
  have hev : (Term.length (.arg 0)).eval args s none [] s = some (.int xs.length.toInt32) := hx.length_eval hb
  have hv := Cond.le_ints hev (show (Term.int 256).eval args s none [] s = some (.int 256) from rfl)
  have hd : xs.length.toInt32 ≤ 256 := by
    simpa [Cond.before, Cond.holds, hv] using hle
  have hN : xs.length ≤ 256 := (Int32.ofNat_le_ofNat hsm (by decide)).mp (show Int32.ofNat xs.length ≤ Int32.ofNat 256 from hd)
  exact ⟨b, xs, Cond.one_arg hc (show args[0]? = some (.ref b) from hb), hx, hN, h⟩
theorem lw_comes (l : Launch) : Comes l x (Jvm.Cond.code x code maxLocals ret :: tables_1) room_1 (fun tb e args s => Calls_1 tb e args s ∧ rest_1 tb e args s ∧ Pre_1 tb e args s)
    (fun _ _ args s o t => lw_Q args s o t) := by
  intro p e ha hc hk s m args below hf hfit hheap happ hpre
  obtain ⟨b, xs, hP⟩ := lw_pre_spec hpre.2.2 hpre.2.1
  obtain ⟨k, o, h1, h2, h3, hQ⟩ := lw_walk l b xs p e ha hc hk s m args below hf ((Spec.applies_iff_loose hf).mp happ).1 hP trivial
  exact ⟨k, o, h1, h2, h3, hQ⟩
theorem lw_frame {s t : State} {o : Outcome} {args : Array Value} (h : Framed s o t [] 600000 7290000) :
    Framed s o t (fieldLocs frame_1_writes args s ++ arrayLocs frame_1_arrays args s ++ staticLocs frame_1_statics s) 600000 7290000 := h
theorem lw_limb (L : Cond) (hL : ∀ (args : Array Value) (s t : State), L.after args s (.returned (some (.int 1))) t = true) :
    ArmFor flags0 classFile x code maxLocals ret World_1 tables_1 room_1 Calls_1 rest_1 Pre_1
      (fun tb e a s o t => postC L tb e a s o t ∧ Framed s o t (fieldLocs frame_1_writes a s ++ arrayLocs frame_1_arrays a s ++ staticLocs frame_1_statics s) 600000 7290000) := by
  intro l _ _ _ p e ha hc hk s m args below hf hfit hheap happ hpre
  obtain ⟨k, o, h1, h2, h3, rfl, hF⟩ := lw_comes l p e ha hc hk s m args below hf hfit hheap happ hpre
  exact ⟨k, _, h1, h2, h3, hL args s _, lw_frame hF⟩
theorem i_vc : Claimed_1_1 ∧ Claimed_1_2 := ⟨lw_limb limb_1_1 (fun args s t => by simp [limb_1_1, Cond.after, Cond.holds, Cond.value]), lw_limb limb_1_2 (fun args s t => Cond.after_iff.mpr (by
  first | (rw [show limb_1_2 = Cond.eq .result (.int 1) from rfl, Cond.eq_ints (x := 1) (y := 1) rfl rfl]; simp; done) | (simp [limb_1_2, Cond.value, Term.eval]; done)))⟩
end
