section
-- ===== PART A: goes FIRST, ahead of the names: the tables' words, and 'selects' of the private methods out of them =====
/-- a private method of a class that the tables say can be made, by its rows of tables_1 -/
def lw_okq (q : MethodName × Nat) : Prop := (q.1.cls ≠ "java/lang/invoke/MethodHandle" ∧ q.1.cls ≠ "java/lang/invoke/VarHandle") ∧ Cond.instantiable q.1.cls q.2 ∈ tables_1 ∧ Cond.privateMethod q.1 ∈ tables_1 ∧ Cond.instanceMethod q.1 ∈ tables_1
set_option maxRecDepth 100000
theorem lw_t1 {w : Cond} (h : w ∈ tables_1_1) : w ∈ tables_1 := List.mem_append_left _ h
theorem lw_t2 {w : Cond} (h : w ∈ tables_1_2) : w ∈ tables_1 := List.mem_append_right _ h
theorem lw_p0 : lw_okq (⟨"DedupBlocks", "bad", "(I)Z"⟩, 14) := ⟨⟨by decide +kernel, by decide +kernel⟩, lw_t1 (List.mem_of_getElem? (i := 4) rfl), lw_t1 (List.mem_of_getElem? (i := 60) rfl), lw_t1 (List.mem_of_getElem? (i := 61) rfl)⟩
theorem lw_p1 : lw_okq (⟨"DedupBlocks", "contentOf", "(I)I"⟩, 14) := ⟨⟨by decide +kernel, by decide +kernel⟩, lw_t1 (List.mem_of_getElem? (i := 4) rfl), lw_t1 (List.mem_of_getElem? (i := 64) rfl), lw_t1 (List.mem_of_getElem? (i := 65) rfl)⟩
theorem lw_p2 : lw_okq (⟨"DedupBlocks", "find", "(I)I"⟩, 14) := ⟨⟨by decide +kernel, by decide +kernel⟩, lw_t1 (List.mem_of_getElem? (i := 4) rfl), lw_t1 (List.mem_of_getElem? (i := 72) rfl), lw_t1 (List.mem_of_getElem? (i := 73) rfl)⟩
theorem lw_p3 : lw_okq (⟨"DedupBlocks", "placeInTable", "(I)I"⟩, 14) := ⟨⟨by decide +kernel, by decide +kernel⟩, lw_t1 (List.mem_of_getElem? (i := 4) rfl), lw_t1 (List.mem_of_getElem? (i := 76) rfl), lw_t1 (List.mem_of_getElem? (i := 77) rfl)⟩
theorem lw_p4 : lw_okq (⟨"DedupBlocks", "hash", "(I)I"⟩, 14) := ⟨⟨by decide +kernel, by decide +kernel⟩, lw_t1 (List.mem_of_getElem? (i := 4) rfl), lw_t1 (List.mem_of_getElem? (i := 80) rfl), lw_t1 (List.mem_of_getElem? (i := 81) rfl)⟩
theorem lw_p5 : lw_okq (⟨"DedupBlocks", "roomOf", "(I)I"⟩, 14) := ⟨⟨by decide +kernel, by decide +kernel⟩, lw_t1 (List.mem_of_getElem? (i := 4) rfl), lw_t1 (List.mem_of_getElem? (i := 85) rfl), lw_t1 (List.mem_of_getElem? (i := 86) rfl)⟩
theorem lw_p6 : lw_okq (⟨"DedupBlocks", "pack", "(I)V"⟩, 14) := ⟨⟨by decide +kernel, by decide +kernel⟩, lw_t1 (List.mem_of_getElem? (i := 4) rfl), lw_t1 (List.mem_of_getElem? (i := 89) rfl), lw_t1 (List.mem_of_getElem? (i := 90) rfl)⟩
theorem lw_p7 : lw_okq (⟨"DedupBlocks", "hold", "(II)V"⟩, 14) := ⟨⟨by decide +kernel, by decide +kernel⟩, lw_t1 (List.mem_of_getElem? (i := 4) rfl), lw_t1 (List.mem_of_getElem? (i := 93) rfl), lw_t1 (List.mem_of_getElem? (i := 94) rfl)⟩
theorem lw_p8 : lw_okq (⟨"DedupBlocks", "release", "(I)V"⟩, 14) := ⟨⟨by decide +kernel, by decide +kernel⟩, lw_t1 (List.mem_of_getElem? (i := 4) rfl), lw_t1 (List.mem_of_getElem? (i := 97) rfl), lw_t1 (List.mem_of_getElem? (i := 98) rfl)⟩
theorem lw_p9 : lw_okq (⟨"DedupBlocks", "provide", "(I)V"⟩, 14) := ⟨⟨by decide +kernel, by decide +kernel⟩, lw_t1 (List.mem_of_getElem? (i := 4) rfl), lw_t1 (List.mem_of_getElem? (i := 101) rfl), lw_t1 (List.mem_of_getElem? (i := 102) rfl)⟩
theorem lw_p10 : lw_okq (⟨"DedupBlocks", "openRoom", "()Z"⟩, 14) := ⟨⟨by decide +kernel, by decide +kernel⟩, lw_t1 (List.mem_of_getElem? (i := 4) rfl), lw_t1 (List.mem_of_getElem? (i := 105) rfl), lw_t1 (List.mem_of_getElem? (i := 106) rfl)⟩
theorem lw_p11 : lw_okq (⟨"DedupBlocks", "clean", "()Z"⟩, 14) := ⟨⟨by decide +kernel, by decide +kernel⟩, lw_t1 (List.mem_of_getElem? (i := 4) rfl), lw_t1 (List.mem_of_getElem? (i := 109) rfl), lw_t1 (List.mem_of_getElem? (i := 110) rfl)⟩
theorem lw_p12 : lw_okq (⟨"DedupBlocks", "append", "(I)V"⟩, 14) := ⟨⟨by decide +kernel, by decide +kernel⟩, lw_t1 (List.mem_of_getElem? (i := 4) rfl), lw_t1 (List.mem_of_getElem? (i := 113) rfl), lw_t1 (List.mem_of_getElem? (i := 114) rfl)⟩
theorem lw_p13 : lw_okq (⟨"DedupBlocks", "rewrite", "()V"⟩, 14) := ⟨⟨by decide +kernel, by decide +kernel⟩, lw_t1 (List.mem_of_getElem? (i := 4) rfl), lw_t1 (List.mem_of_getElem? (i := 117) rfl), lw_t1 (List.mem_of_getElem? (i := 118) rfl)⟩
theorem lw_p14 : lw_okq (⟨"DedupBlocks", "freshPiece", "()I"⟩, 14) := ⟨⟨by decide +kernel, by decide +kernel⟩, lw_t1 (List.mem_of_getElem? (i := 4) rfl), lw_t1 (List.mem_of_getElem? (i := 121) rfl), lw_t1 (List.mem_of_getElem? (i := 122) rfl)⟩
theorem lw_p15 : lw_okq (⟨"DedupBlocks", "enter", "(II)V"⟩, 14) := ⟨⟨by decide +kernel, by decide +kernel⟩, lw_t1 (List.mem_of_getElem? (i := 4) rfl), lw_t1 (List.mem_of_getElem? (i := 125) rfl), lw_t1 (List.mem_of_getElem? (i := 126) rfl)⟩
def lw_privs_1 : List (MethodName × Nat) := [(⟨"DedupBlocks", "bad", "(I)Z"⟩, 14), (⟨"DedupBlocks", "contentOf", "(I)I"⟩, 14), (⟨"DedupBlocks", "find", "(I)I"⟩, 14), (⟨"DedupBlocks", "placeInTable", "(I)I"⟩, 14), (⟨"DedupBlocks", "hash", "(I)I"⟩, 14), (⟨"DedupBlocks", "roomOf", "(I)I"⟩, 14), (⟨"DedupBlocks", "pack", "(I)V"⟩, 14), (⟨"DedupBlocks", "hold", "(II)V"⟩, 14), (⟨"DedupBlocks", "release", "(I)V"⟩, 14), (⟨"DedupBlocks", "provide", "(I)V"⟩, 14), (⟨"DedupBlocks", "openRoom", "()Z"⟩, 14), (⟨"DedupBlocks", "clean", "()Z"⟩, 14), (⟨"DedupBlocks", "append", "(I)V"⟩, 14), (⟨"DedupBlocks", "rewrite", "()V"⟩, 14), (⟨"DedupBlocks", "freshPiece", "()I"⟩, 14), (⟨"DedupBlocks", "enter", "(II)V"⟩, 14)]
theorem lw_r1 : ∀ q ∈ lw_privs_1, lw_okq q := List.forall_mem_cons.mpr ⟨lw_p0, List.forall_mem_cons.mpr ⟨lw_p1, List.forall_mem_cons.mpr ⟨lw_p2, List.forall_mem_cons.mpr ⟨lw_p3, List.forall_mem_cons.mpr ⟨lw_p4, List.forall_mem_cons.mpr ⟨lw_p5, List.forall_mem_cons.mpr ⟨lw_p6, List.forall_mem_cons.mpr ⟨lw_p7, List.forall_mem_cons.mpr ⟨lw_p8, List.forall_mem_cons.mpr ⟨lw_p9, List.forall_mem_cons.mpr ⟨lw_p10, List.forall_mem_cons.mpr ⟨lw_p11, List.forall_mem_cons.mpr ⟨lw_p12, List.forall_mem_cons.mpr ⟨lw_p13, List.forall_mem_cons.mpr ⟨lw_p14, List.forall_mem_cons.mpr ⟨lw_p15, fun _ h => absurd h List.not_mem_nil⟩⟩⟩⟩⟩⟩⟩⟩⟩⟩⟩⟩⟩⟩⟩⟩
theorem lw_p16 : lw_okq (⟨"DedupBlocks", "badVolume", "(I)Z"⟩, 14) := ⟨⟨by decide +kernel, by decide +kernel⟩, lw_t1 (List.mem_of_getElem? (i := 4) rfl), lw_t1 (List.mem_of_getElem? (i := 146) rfl), lw_t1 (List.mem_of_getElem? (i := 147) rfl)⟩
theorem lw_p17 : lw_okq (⟨"DedupBlocksModel", "isBlock", "(I)Z"⟩, 2) := ⟨⟨by decide +kernel, by decide +kernel⟩, lw_t1 (List.mem_of_getElem? (i := 187) rfl), lw_t1 (List.mem_of_getElem? (i := 204) rfl), lw_t1 (List.mem_of_getElem? (i := 205) rfl)⟩
theorem lw_p18 : lw_okq (⟨"DedupBlocksModel", "isContent", "(I)Z"⟩, 2) := ⟨⟨by decide +kernel, by decide +kernel⟩, lw_t1 (List.mem_of_getElem? (i := 187) rfl), lw_t1 (List.mem_of_getElem? (i := 208) rfl), lw_t1 (List.mem_of_getElem? (i := 209) rfl)⟩
theorem lw_p19 : lw_okq (⟨"DedupBlocksModel", "keep", "()V"⟩, 2) := ⟨⟨by decide +kernel, by decide +kernel⟩, lw_t1 (List.mem_of_getElem? (i := 187) rfl), lw_t1 (List.mem_of_getElem? (i := 212) rfl), lw_t1 (List.mem_of_getElem? (i := 213) rfl)⟩
theorem lw_p20 : lw_okq (⟨"DedupBlocksModel", "isFull", "()Z"⟩, 2) := ⟨⟨by decide +kernel, by decide +kernel⟩, lw_t1 (List.mem_of_getElem? (i := 187) rfl), lw_t1 (List.mem_of_getElem? (i := 216) rfl), lw_t1 (List.mem_of_getElem? (i := 217) rfl)⟩
theorem lw_p21 : lw_okq (⟨"DedupBlocksModel", "isFirst", "(I)Z"⟩, 2) := ⟨⟨by decide +kernel, by decide +kernel⟩, lw_t1 (List.mem_of_getElem? (i := 187) rfl), lw_t1 (List.mem_of_getElem? (i := 224) rfl), lw_t1 (List.mem_of_getElem? (i := 225) rfl)⟩
theorem lw_p22 : lw_okq (⟨"DedupBlocksModel", "roomOf", "(I)I"⟩, 2) := ⟨⟨by decide +kernel, by decide +kernel⟩, lw_t1 (List.mem_of_getElem? (i := 187) rfl), lw_t1 (List.mem_of_getElem? (i := 228) rfl), lw_t1 (List.mem_of_getElem? (i := 229) rfl)⟩
theorem lw_p23 : lw_okq (⟨"DedupBlocksModel", "isVolume", "(I)Z"⟩, 2) := ⟨⟨by decide +kernel, by decide +kernel⟩, lw_t1 (List.mem_of_getElem? (i := 187) rfl), lw_t2 (List.mem_of_getElem? (i := 8) rfl), lw_t2 (List.mem_of_getElem? (i := 9) rfl)⟩
theorem lw_p24 : lw_okq (⟨"DedupBlocksModel", "count", "(I)I"⟩, 2) := ⟨⟨by decide +kernel, by decide +kernel⟩, lw_t1 (List.mem_of_getElem? (i := 187) rfl), lw_t2 (List.mem_of_getElem? (i := 20) rfl), lw_t2 (List.mem_of_getElem? (i := 21) rfl)⟩
def lw_privs_2 : List (MethodName × Nat) := [(⟨"DedupBlocks", "badVolume", "(I)Z"⟩, 14), (⟨"DedupBlocksModel", "isBlock", "(I)Z"⟩, 2), (⟨"DedupBlocksModel", "isContent", "(I)Z"⟩, 2), (⟨"DedupBlocksModel", "keep", "()V"⟩, 2), (⟨"DedupBlocksModel", "isFull", "()Z"⟩, 2), (⟨"DedupBlocksModel", "isFirst", "(I)Z"⟩, 2), (⟨"DedupBlocksModel", "roomOf", "(I)I"⟩, 2), (⟨"DedupBlocksModel", "isVolume", "(I)Z"⟩, 2), (⟨"DedupBlocksModel", "count", "(I)I"⟩, 2)]
theorem lw_r2 : ∀ q ∈ lw_privs_2, lw_okq q := List.forall_mem_cons.mpr ⟨lw_p16, List.forall_mem_cons.mpr ⟨lw_p17, List.forall_mem_cons.mpr ⟨lw_p18, List.forall_mem_cons.mpr ⟨lw_p19, List.forall_mem_cons.mpr ⟨lw_p20, List.forall_mem_cons.mpr ⟨lw_p21, List.forall_mem_cons.mpr ⟨lw_p22, List.forall_mem_cons.mpr ⟨lw_p23, List.forall_mem_cons.mpr ⟨lw_p24, fun _ h => absurd h List.not_mem_nil⟩⟩⟩⟩⟩⟩⟩⟩⟩
def lw_privs : List (MethodName × Nat) := lw_privs_1 ++ (lw_privs_2)
def lw_tbl : List Cond := k2_sels lw_privs ++ tables_1
theorem lw_privs_ok : ∀ q ∈ lw_privs, lw_okq q := by
  show ∀ q ∈ lw_privs_1 ++ (lw_privs_2), lw_okq q
  exact List.forall_mem_append.mpr ⟨lw_r1, lw_r2⟩
-- ===== ONE list of words for every method: the tables' words that hold all through a run =====
def lw_all : List Cond := lw_tbl.filter goodWord
/-- a word of the tables by its place: claim/WORDS.tsv -/
theorem lw_w {w : Cond} (i : Nat) (h : lw_tbl[i]? = some w) (g : goodWord w = true) : w ∈ lw_all := List.mem_filter.mpr ⟨List.mem_of_getElem? h, g⟩
theorem lw_all_tbl {w : Cond} (h : w ∈ lw_all) : w ∈ lw_tbl := (List.mem_filter.mp h).1
theorem lw_self : GoodIn lw_all lw_all := fun w h => ⟨h, good_of_word (List.mem_filter.mp h).2⟩
/-- a class's field words, by their places -/
theorem lw_in (ws : List Cond) (ps : List Nat) (hp : ws = ps.filterMap (fun i => lw_tbl[i]?)) (hg : ws.all goodWord = true) : ∀ w ∈ ws, w ∈ lw_all := by
  intro w h
  have h1 := List.all_eq_true.mp hg w h
  rw [hp] at h
  obtain ⟨i, -, hi⟩ := List.mem_filterMap.mp h
  exact lw_w i hi h1
/-- the words of a contract for the method y with code b, L locals, answer r -/
abbrev ws_ (y : MethodName) (b : ByteArray) (L : Nat) (r : Option FieldType) : List Cond := Cond.code y b L r :: lw_all
theorem lw_meth {y : MethodName} {b : ByteArray} {L : Nat} {r : Option FieldType} (h : Cond.code y b L r ∈ lw_all) : GoodIn lw_all (ws_ y b L r) := by
  intro w hw
  rcases List.mem_cons.mp hw with e | e
  · rw [e]
    exact lw_self _ h
  · exact lw_self _ e
theorem lw_app {a c : List Cond} (ha : ∀ w ∈ a, w ∈ lw_all) (hc : GoodIn lw_all c) : GoodIn lw_all (a ++ c) := by
  intro w hw
  rcases List.mem_append.mp hw with e | e
  · exact lw_self w (ha w e)
  · exact hc w e
/-- what a call through an object asks: cwV n hts (lw_V ..) -/
theorem lw_V {own : String} {idx : Nat} {C : String} {y : MethodName} {b : ByteArray} {L : Nat} {r : Option FieldType} (h1 : Cond.methodLink own idx y ∈ lw_all) (h2 : Cond.instanceMethod y ∈ lw_all) (h3 : Cond.selects C y y ∈ lw_all) (h4 : Cond.initialized C ∈ lw_all) (h5 : Cond.code y b L r ∈ lw_all) : GoodIn lw_all (wsV own idx C y (ws_ y b L r)) := by
  refine lw_app ?_ (lw_meth h5)
  intro w hw
  simp only [List.mem_cons, List.not_mem_nil, or_false] at hw
  rcases hw with e | e | e | e
  · rw [e]; exact h1
  · rw [e]; exact h2
  · rw [e]; exact h3
  · rw [e]; exact h4
/-- what a static call asks: va_cwS n hts (lw_S ..) -/
theorem lw_S {own : String} {idx : Nat} {y : MethodName} {b : ByteArray} {L : Nat} {r : Option FieldType} (h1 : Cond.methodLink own idx y ∈ lw_all) (h2 : Cond.static y ∈ lw_all) (h3 : Cond.initialized y.cls ∈ lw_all) (h4 : Cond.code y b L r ∈ lw_all) : GoodIn lw_all (va_wsS own idx y (ws_ y b L r)) := by
  refine lw_app ?_ (lw_meth h4)
  intro w hw
  simp only [List.mem_cons, List.not_mem_nil, or_false] at hw
  rcases hw with e | e | e
  · rw [e]; exact h1
  · rw [e]; exact h2
  · rw [e]; exact h3
/-- the words of a contract for a method WITH HANDLERS (hh: its table) -/
abbrev wsW_ (y : MethodName) (b : ByteArray) (L : Nat) (r : Option FieldType) (hh : List (Nat × Nat × Nat × Nat)) : List Cond := Cond.codeWith y b L r hh :: lw_all
theorem lw_methW {y : MethodName} {b : ByteArray} {L : Nat} {r : Option FieldType} {hh : List (Nat × Nat × Nat × Nat)} (h : Cond.codeWith y b L r hh ∈ lw_all) : GoodIn lw_all (wsW_ y b L r hh) := by
  intro w hw
  rcases List.mem_cons.mp hw with e | e
  · rw [e]
    exact lw_self _ h
  · exact lw_self _ e
/-- any list of words by their places (lw_in), good -/
theorem lw_good {ws : List Cond} (h : ∀ w ∈ ws, w ∈ lw_all) : GoodIn lw_all ws := fun w hw => lw_self w (h w hw)
/-- what a call of a method with handlers asks: vx_cwVW n hts (lw_VW ..), vx_cwSW n hts (lw_SW ..) -/
theorem lw_VW {own : String} {idx : Nat} {C : String} {y : MethodName} {b : ByteArray} {L : Nat} {r : Option FieldType} {hh : List (Nat × Nat × Nat × Nat)} (h1 : Cond.methodLink own idx y ∈ lw_all) (h2 : Cond.instanceMethod y ∈ lw_all) (h3 : Cond.selects C y y ∈ lw_all) (h4 : Cond.initialized C ∈ lw_all) (h5 : Cond.codeWith y b L r hh ∈ lw_all) : GoodIn lw_all (wsV own idx C y (wsW_ y b L r hh)) := by
  refine lw_app ?_ (lw_methW h5)
  intro w hw
  simp only [List.mem_cons, List.not_mem_nil, or_false] at hw
  rcases hw with e | e | e | e
  · rw [e]; exact h1
  · rw [e]; exact h2
  · rw [e]; exact h3
  · rw [e]; exact h4
theorem lw_SW {own : String} {idx : Nat} {y : MethodName} {b : ByteArray} {L : Nat} {r : Option FieldType} {hh : List (Nat × Nat × Nat × Nat)} (h1 : Cond.methodLink own idx y ∈ lw_all) (h2 : Cond.static y ∈ lw_all) (h3 : Cond.initialized y.cls ∈ lw_all) (h4 : Cond.codeWith y b L r hh ∈ lw_all) : GoodIn lw_all (va_wsS own idx y (wsW_ y b L r hh)) := by
  refine lw_app ?_ (lw_methW h4)
  intro w hw
  simp only [List.mem_cons, List.not_mem_nil, or_false] at hw
  rcases hw with e | e | e
  · rw [e]; exact h1
  · rw [e]; exact h2
  · rw [e]; exact h3
/-- a word by its place in its run of the tables -/
theorem lw_at {r : List Cond} (hr : ∀ w ∈ r, w ∈ lw_tbl) {w : Cond} (i : Nat) (h : r[i]? = some w) : w ∈ lw_tbl := hr w (List.mem_of_getElem? h)
theorem lw_g {w : Cond} (h : w ∈ lw_tbl) (g : goodWord w = true) : w ∈ lw_all := List.mem_filter.mpr ⟨h, g⟩
theorem lw_ms : ∀ w ∈ k2_sels lw_privs, w ∈ lw_tbl := fun w h => show w ∈ k2_sels lw_privs ++ tables_1 from List.mem_append_left _ h
theorem lw_m1 : ∀ w ∈ tables_1_1, w ∈ lw_tbl := fun w h => show w ∈ k2_sels lw_privs ++ tables_1 from List.mem_append_right (k2_sels lw_privs) (show w ∈ tables_1 from List.mem_append_left _ h)
theorem lw_m2 : ∀ w ∈ tables_1_2, w ∈ lw_tbl := fun w h => show w ∈ k2_sels lw_privs ++ tables_1 from List.mem_append_right (k2_sels lw_privs) (show w ∈ tables_1 from List.mem_append_right _ h)
theorem qs0 : (Cond.selects "DedupBlocks" ⟨"DedupBlocks", "bad", "(I)Z"⟩ ⟨"DedupBlocks", "bad", "(I)Z"⟩) ∈ lw_all := lw_g (lw_at lw_ms 0 rfl) rfl
theorem qs1 : (Cond.selects "DedupBlocks" ⟨"DedupBlocks", "contentOf", "(I)I"⟩ ⟨"DedupBlocks", "contentOf", "(I)I"⟩) ∈ lw_all := lw_g (lw_at lw_ms 1 rfl) rfl
theorem qs2 : (Cond.selects "DedupBlocks" ⟨"DedupBlocks", "find", "(I)I"⟩ ⟨"DedupBlocks", "find", "(I)I"⟩) ∈ lw_all := lw_g (lw_at lw_ms 2 rfl) rfl
theorem qs3 : (Cond.selects "DedupBlocks" ⟨"DedupBlocks", "placeInTable", "(I)I"⟩ ⟨"DedupBlocks", "placeInTable", "(I)I"⟩) ∈ lw_all := lw_g (lw_at lw_ms 3 rfl) rfl
theorem qs4 : (Cond.selects "DedupBlocks" ⟨"DedupBlocks", "hash", "(I)I"⟩ ⟨"DedupBlocks", "hash", "(I)I"⟩) ∈ lw_all := lw_g (lw_at lw_ms 4 rfl) rfl
theorem qs5 : (Cond.selects "DedupBlocks" ⟨"DedupBlocks", "roomOf", "(I)I"⟩ ⟨"DedupBlocks", "roomOf", "(I)I"⟩) ∈ lw_all := lw_g (lw_at lw_ms 5 rfl) rfl
theorem qs6 : (Cond.selects "DedupBlocks" ⟨"DedupBlocks", "pack", "(I)V"⟩ ⟨"DedupBlocks", "pack", "(I)V"⟩) ∈ lw_all := lw_g (lw_at lw_ms 6 rfl) rfl
theorem qs7 : (Cond.selects "DedupBlocks" ⟨"DedupBlocks", "hold", "(II)V"⟩ ⟨"DedupBlocks", "hold", "(II)V"⟩) ∈ lw_all := lw_g (lw_at lw_ms 7 rfl) rfl
theorem qs8 : (Cond.selects "DedupBlocks" ⟨"DedupBlocks", "release", "(I)V"⟩ ⟨"DedupBlocks", "release", "(I)V"⟩) ∈ lw_all := lw_g (lw_at lw_ms 8 rfl) rfl
theorem qs9 : (Cond.selects "DedupBlocks" ⟨"DedupBlocks", "provide", "(I)V"⟩ ⟨"DedupBlocks", "provide", "(I)V"⟩) ∈ lw_all := lw_g (lw_at lw_ms 9 rfl) rfl
theorem qs10 : (Cond.selects "DedupBlocks" ⟨"DedupBlocks", "openRoom", "()Z"⟩ ⟨"DedupBlocks", "openRoom", "()Z"⟩) ∈ lw_all := lw_g (lw_at lw_ms 10 rfl) rfl
theorem qs11 : (Cond.selects "DedupBlocks" ⟨"DedupBlocks", "clean", "()Z"⟩ ⟨"DedupBlocks", "clean", "()Z"⟩) ∈ lw_all := lw_g (lw_at lw_ms 11 rfl) rfl
theorem qs12 : (Cond.selects "DedupBlocks" ⟨"DedupBlocks", "append", "(I)V"⟩ ⟨"DedupBlocks", "append", "(I)V"⟩) ∈ lw_all := lw_g (lw_at lw_ms 12 rfl) rfl
theorem qs13 : (Cond.selects "DedupBlocks" ⟨"DedupBlocks", "rewrite", "()V"⟩ ⟨"DedupBlocks", "rewrite", "()V"⟩) ∈ lw_all := lw_g (lw_at lw_ms 13 rfl) rfl
theorem qs14 : (Cond.selects "DedupBlocks" ⟨"DedupBlocks", "freshPiece", "()I"⟩ ⟨"DedupBlocks", "freshPiece", "()I"⟩) ∈ lw_all := lw_g (lw_at lw_ms 14 rfl) rfl
theorem qs15 : (Cond.selects "DedupBlocks" ⟨"DedupBlocks", "enter", "(II)V"⟩ ⟨"DedupBlocks", "enter", "(II)V"⟩) ∈ lw_all := lw_g (lw_at lw_ms 15 rfl) rfl
theorem qs16 : (Cond.selects "DedupBlocks" ⟨"DedupBlocks", "badVolume", "(I)Z"⟩ ⟨"DedupBlocks", "badVolume", "(I)Z"⟩) ∈ lw_all := lw_g (lw_at lw_ms 16 rfl) rfl
theorem qs17 : (Cond.selects "DedupBlocksModel" ⟨"DedupBlocksModel", "isBlock", "(I)Z"⟩ ⟨"DedupBlocksModel", "isBlock", "(I)Z"⟩) ∈ lw_all := lw_g (lw_at lw_ms 17 rfl) rfl
theorem qs18 : (Cond.selects "DedupBlocksModel" ⟨"DedupBlocksModel", "isContent", "(I)Z"⟩ ⟨"DedupBlocksModel", "isContent", "(I)Z"⟩) ∈ lw_all := lw_g (lw_at lw_ms 18 rfl) rfl
theorem qs19 : (Cond.selects "DedupBlocksModel" ⟨"DedupBlocksModel", "keep", "()V"⟩ ⟨"DedupBlocksModel", "keep", "()V"⟩) ∈ lw_all := lw_g (lw_at lw_ms 19 rfl) rfl
theorem qs20 : (Cond.selects "DedupBlocksModel" ⟨"DedupBlocksModel", "isFull", "()Z"⟩ ⟨"DedupBlocksModel", "isFull", "()Z"⟩) ∈ lw_all := lw_g (lw_at lw_ms 20 rfl) rfl
theorem qs21 : (Cond.selects "DedupBlocksModel" ⟨"DedupBlocksModel", "isFirst", "(I)Z"⟩ ⟨"DedupBlocksModel", "isFirst", "(I)Z"⟩) ∈ lw_all := lw_g (lw_at lw_ms 21 rfl) rfl
theorem qs22 : (Cond.selects "DedupBlocksModel" ⟨"DedupBlocksModel", "roomOf", "(I)I"⟩ ⟨"DedupBlocksModel", "roomOf", "(I)I"⟩) ∈ lw_all := lw_g (lw_at lw_ms 22 rfl) rfl
theorem qs23 : (Cond.selects "DedupBlocksModel" ⟨"DedupBlocksModel", "isVolume", "(I)Z"⟩ ⟨"DedupBlocksModel", "isVolume", "(I)Z"⟩) ∈ lw_all := lw_g (lw_at lw_ms 23 rfl) rfl
theorem qs24 : (Cond.selects "DedupBlocksModel" ⟨"DedupBlocksModel", "count", "(I)I"⟩ ⟨"DedupBlocksModel", "count", "(I)I"⟩) ∈ lw_all := lw_g (lw_at lw_ms 24 rfl) rfl
end
section
/-! DedupBlocks -/
set_option maxRecDepth 100000
def RX0 : String := "DedupBlocks"
def TX0 : u_T := fun k => match k with
  | 0 => ("DedupBlocks", "holds", "[I", true)
  | 1 => ("DedupBlocks", "uses", "[I", true)
  | 2 => ("DedupBlocks", "segmentOf", "[I", true)
  | 3 => ("DedupBlocks", "placeOf", "[I", true)
  | 4 => ("DedupBlocks", "sizeOf", "[I", true)
  | 5 => ("DedupBlocks", "cell", "[I", true)
  | 6 => ("DedupBlocks", "filled", "[I", true)
  | 7 => ("DedupBlocks", "live", "[I", true)
  | 8 => ("DedupBlocks", "open", "I", false)
  | 9 => ("DedupBlocks", "used", "I", false)
  | 10 => ("DedupBlocks", "table", "[I", true)
  | 11 => ("DedupBlocks", "kept", "[I", true)
  | 12 => ("DedupBlocks", "packed", "[I", true)
  | _ => ("DedupBlocks", "packedSize", "I", false)
def tyX0 : Nat → FieldType := fun k => match k with
  | 0 => .array .int
  | 1 => .array .int
  | 2 => .array .int
  | 3 => .array .int
  | 4 => .array .int
  | 5 => .array .int
  | 6 => .array .int
  | 7 => .array .int
  | 8 => .int
  | 9 => .int
  | 10 => .array .int
  | 11 => .array .int
  | 12 => .array .int
  | _ => .int
abbrev wsX00 : List Cond := u_ws RX0 TX0 14
set_option maxRecDepth 100000 in
theorem nmX0 : ∀ a, a < 14 → ∀ b, b < 14 → a ≠ b → (TX0 a).2.1 ≠ (TX0 b).2.1 := by decide +kernel
set_option maxRecDepth 100000 in
theorem tyX0_ok : ∀ k, k < 14 → parseFieldDescriptor (TX0 k).2.2.1 = some (tyX0 k) := by decide +kernel
abbrev cX0_init : ByteArray := prog_1_method_1_code
def yX0_init : MethodName := ⟨RX0, "<init>", "()V"⟩
abbrev cX0_write : ByteArray := prog_1_method_18_code
def yX0_write : MethodName := ⟨RX0, "write", "(II)I"⟩
abbrev cX0_bad : ByteArray := prog_1_method_17_code
def yX0_bad : MethodName := ⟨RX0, "bad", "(I)Z"⟩
abbrev cX0_contentOf : ByteArray := prog_1_method_3_code
def yX0_contentOf : MethodName := ⟨RX0, "contentOf", "(I)I"⟩
abbrev cX0_alone : ByteArray := prog_1_method_29_code
def yX0_alone : MethodName := ⟨RX0, "alone", "(I)I"⟩
abbrev cX0_find : ByteArray := prog_1_method_7_code
def yX0_find : MethodName := ⟨RX0, "find", "(I)I"⟩
abbrev cX0_placeInTable : ByteArray := prog_1_method_6_code
def yX0_placeInTable : MethodName := ⟨RX0, "placeInTable", "(I)I"⟩
abbrev cX0_hash : ByteArray := prog_1_method_5_code
def yX0_hash : MethodName := ⟨RX0, "hash", "(I)I"⟩
abbrev cX0_roomOf : ByteArray := prog_1_method_4_code
def yX0_roomOf : MethodName := ⟨RX0, "roomOf", "(I)I"⟩
abbrev cX0_pack : ByteArray := prog_1_method_2_code
def yX0_pack : MethodName := ⟨RX0, "pack", "(I)V"⟩
abbrev cX0_hold : ByteArray := prog_1_method_16_code
def yX0_hold : MethodName := ⟨RX0, "hold", "(II)V"⟩
abbrev cX0_release : ByteArray := prog_1_method_14_code
def yX0_release : MethodName := ⟨RX0, "release", "(I)V"⟩
abbrev cX0_provide : ByteArray := prog_1_method_13_code
def yX0_provide : MethodName := ⟨RX0, "provide", "(I)V"⟩
abbrev cX0_openRoom : ByteArray := prog_1_method_10_code
def yX0_openRoom : MethodName := ⟨RX0, "openRoom", "()Z"⟩
abbrev cX0_clean : ByteArray := prog_1_method_11_code
def yX0_clean : MethodName := ⟨RX0, "clean", "()Z"⟩
abbrev cX0_append : ByteArray := prog_1_method_9_code
def yX0_append : MethodName := ⟨RX0, "append", "(I)V"⟩
abbrev cX0_rewrite : ByteArray := prog_1_method_12_code
def yX0_rewrite : MethodName := ⟨RX0, "rewrite", "()V"⟩
abbrev cX0_freshPiece : ByteArray := prog_1_method_15_code
def yX0_freshPiece : MethodName := ⟨RX0, "freshPiece", "()I"⟩
abbrev cX0_enter : ByteArray := prog_1_method_8_code
def yX0_enter : MethodName := ⟨RX0, "enter", "(II)V"⟩
abbrev cX0_read : ByteArray := prog_1_method_19_code
def yX0_read : MethodName := ⟨RX0, "read", "(I)I"⟩
abbrev cX0_patch : ByteArray := prog_1_method_20_code
def yX0_patch : MethodName := ⟨RX0, "patch", "(III)I"⟩
abbrev cX0_spread : ByteArray := prog_1_method_21_code
def yX0_spread : MethodName := ⟨RX0, "spread", "(III)I"⟩
abbrev cX0_clone : ByteArray := prog_1_method_23_code
def yX0_clone : MethodName := ⟨RX0, "clone", "(II)I"⟩
abbrev cX0_badVolume : ByteArray := prog_1_method_22_code
def yX0_badVolume : MethodName := ⟨RX0, "badVolume", "(I)Z"⟩
abbrev cX0_erase : ByteArray := prog_1_method_24_code
def yX0_erase : MethodName := ⟨RX0, "erase", "(I)I"⟩
abbrev cX0_holders : ByteArray := prog_1_method_25_code
def yX0_holders : MethodName := ⟨RX0, "holders", "(I)I"⟩
abbrev cX0_distinct : ByteArray := prog_1_method_26_code
def yX0_distinct : MethodName := ⟨RX0, "distinct", "()I"⟩
abbrev cX0_used : ByteArray := prog_1_method_27_code
def yX0_used : MethodName := ⟨RX0, "used", "()I"⟩
abbrev cX0_saved : ByteArray := prog_1_method_28_code
def yX0_saved : MethodName := ⟨RX0, "saved", "()I"⟩
abbrev cX0_aloneIn : ByteArray := prog_1_method_30_code
def yX0_aloneIn : MethodName := ⟨RX0, "aloneIn", "(I)I"⟩
abbrev cX0_twin : ByteArray := prog_1_method_31_code
def yX0_twin : MethodName := ⟨RX0, "twin", "(I)I"⟩
abbrev cX0_favourite : ByteArray := prog_1_method_32_code
def yX0_favourite : MethodName := ⟨RX0, "favourite", "()I"⟩
abbrev cX0_tidy : ByteArray := prog_1_method_33_code
def yX0_tidy : MethodName := ⟨RX0, "tidy", "()V"⟩
theorem q26 : (Jvm.Cond.initialized "DedupBlocks") ∈ lw_all := lw_g (lw_at lw_m1 1 rfl) rfl
theorem q29 : (Jvm.Cond.instantiable "DedupBlocks" (14 : Nat)) ∈ lw_all := lw_g (lw_at lw_m1 4 rfl) rfl
theorem q31 : (Jvm.Cond.instanceMethod ({ cls := "DedupBlocks", name := "<init>", desc := "()V" } : Jvm.MethodName)) ∈ lw_all := lw_g (lw_at lw_m1 6 rfl) rfl
theorem q32 : (Jvm.Cond.code ({ cls := "DedupBlocks", name := "<init>", desc := "()V" } : Jvm.MethodName) prog_1_method_1_code (2 : Nat) (Option.none : Option Jvm.ClassFile.FieldType)) ∈ lw_all := lw_g (lw_at lw_m1 7 rfl) rfl
theorem q33 : (Jvm.Cond.methodLink "DedupBlocks" (1 : Nat) ({ cls := "java/lang/Object", name := "<init>", desc := "()V" } : Jvm.MethodName)) ∈ lw_all := lw_g (lw_at lw_m1 8 rfl) rfl
theorem q36 : (Jvm.Cond.fieldLink "DedupBlocks" (7 : Nat) "DedupBlocks" "holds" "[I") ∈ lw_all := lw_g (lw_at lw_m1 11 rfl) rfl
theorem q37 : (Jvm.Cond.fieldLink "DedupBlocks" (13 : Nat) "DedupBlocks" "uses" "[I") ∈ lw_all := lw_g (lw_at lw_m1 12 rfl) rfl
theorem q38 : (Jvm.Cond.fieldLink "DedupBlocks" (16 : Nat) "DedupBlocks" "segmentOf" "[I") ∈ lw_all := lw_g (lw_at lw_m1 13 rfl) rfl
theorem q39 : (Jvm.Cond.fieldLink "DedupBlocks" (19 : Nat) "DedupBlocks" "placeOf" "[I") ∈ lw_all := lw_g (lw_at lw_m1 14 rfl) rfl
theorem q40 : (Jvm.Cond.fieldLink "DedupBlocks" (22 : Nat) "DedupBlocks" "sizeOf" "[I") ∈ lw_all := lw_g (lw_at lw_m1 15 rfl) rfl
theorem q41 : (Jvm.Cond.fieldLink "DedupBlocks" (25 : Nat) "DedupBlocks" "cell" "[I") ∈ lw_all := lw_g (lw_at lw_m1 16 rfl) rfl
theorem q42 : (Jvm.Cond.fieldLink "DedupBlocks" (28 : Nat) "DedupBlocks" "filled" "[I") ∈ lw_all := lw_g (lw_at lw_m1 17 rfl) rfl
theorem q43 : (Jvm.Cond.fieldLink "DedupBlocks" (31 : Nat) "DedupBlocks" "live" "[I") ∈ lw_all := lw_g (lw_at lw_m1 18 rfl) rfl
theorem q44 : (Jvm.Cond.fieldLink "DedupBlocks" (62 : Nat) "DedupBlocks" "open" "I") ∈ lw_all := lw_g (lw_at lw_m1 19 rfl) rfl
theorem q45 : (Jvm.Cond.fieldLink "DedupBlocks" (78 : Nat) "DedupBlocks" "used" "I") ∈ lw_all := lw_g (lw_at lw_m1 20 rfl) rfl
theorem q46 : (Jvm.Cond.fieldLink "DedupBlocks" (34 : Nat) "DedupBlocks" "table" "[I") ∈ lw_all := lw_g (lw_at lw_m1 21 rfl) rfl
theorem q47 : (Jvm.Cond.fieldLink "DedupBlocks" (37 : Nat) "DedupBlocks" "kept" "[I") ∈ lw_all := lw_g (lw_at lw_m1 22 rfl) rfl
theorem q48 : (Jvm.Cond.fieldLink "DedupBlocks" (40 : Nat) "DedupBlocks" "packed" "[I") ∈ lw_all := lw_g (lw_at lw_m1 23 rfl) rfl
theorem q49 : (Jvm.Cond.fieldLink "DedupBlocks" (43 : Nat) "DedupBlocks" "packedSize" "I") ∈ lw_all := lw_g (lw_at lw_m1 24 rfl) rfl
theorem q50 : (Jvm.Cond.laysFinal "DedupBlocks" "DedupBlocks" "holds" "[I") ∈ lw_all := lw_g (lw_at lw_m1 25 rfl) rfl
theorem q51 : (Jvm.Cond.soleField "DedupBlocks" "holds") ∈ lw_all := lw_g (lw_at lw_m1 26 rfl) rfl
theorem q52 : (Jvm.Cond.laysFinal "DedupBlocks" "DedupBlocks" "uses" "[I") ∈ lw_all := lw_g (lw_at lw_m1 27 rfl) rfl
theorem q53 : (Jvm.Cond.soleField "DedupBlocks" "uses") ∈ lw_all := lw_g (lw_at lw_m1 28 rfl) rfl
theorem q54 : (Jvm.Cond.laysFinal "DedupBlocks" "DedupBlocks" "segmentOf" "[I") ∈ lw_all := lw_g (lw_at lw_m1 29 rfl) rfl
theorem q55 : (Jvm.Cond.soleField "DedupBlocks" "segmentOf") ∈ lw_all := lw_g (lw_at lw_m1 30 rfl) rfl
theorem q56 : (Jvm.Cond.laysFinal "DedupBlocks" "DedupBlocks" "placeOf" "[I") ∈ lw_all := lw_g (lw_at lw_m1 31 rfl) rfl
theorem q57 : (Jvm.Cond.soleField "DedupBlocks" "placeOf") ∈ lw_all := lw_g (lw_at lw_m1 32 rfl) rfl
theorem q58 : (Jvm.Cond.laysFinal "DedupBlocks" "DedupBlocks" "sizeOf" "[I") ∈ lw_all := lw_g (lw_at lw_m1 33 rfl) rfl
theorem q59 : (Jvm.Cond.soleField "DedupBlocks" "sizeOf") ∈ lw_all := lw_g (lw_at lw_m1 34 rfl) rfl
theorem q60 : (Jvm.Cond.laysFinal "DedupBlocks" "DedupBlocks" "cell" "[I") ∈ lw_all := lw_g (lw_at lw_m1 35 rfl) rfl
theorem q61 : (Jvm.Cond.soleField "DedupBlocks" "cell") ∈ lw_all := lw_g (lw_at lw_m1 36 rfl) rfl
theorem q62 : (Jvm.Cond.laysFinal "DedupBlocks" "DedupBlocks" "filled" "[I") ∈ lw_all := lw_g (lw_at lw_m1 37 rfl) rfl
theorem q63 : (Jvm.Cond.soleField "DedupBlocks" "filled") ∈ lw_all := lw_g (lw_at lw_m1 38 rfl) rfl
theorem q64 : (Jvm.Cond.laysFinal "DedupBlocks" "DedupBlocks" "live" "[I") ∈ lw_all := lw_g (lw_at lw_m1 39 rfl) rfl
theorem q65 : (Jvm.Cond.soleField "DedupBlocks" "live") ∈ lw_all := lw_g (lw_at lw_m1 40 rfl) rfl
theorem q66 : (Jvm.Cond.lays "DedupBlocks" "DedupBlocks" "open" "I") ∈ lw_all := lw_g (lw_at lw_m1 41 rfl) rfl
theorem q67 : (Jvm.Cond.soleField "DedupBlocks" "open") ∈ lw_all := lw_g (lw_at lw_m1 42 rfl) rfl
theorem q68 : (Jvm.Cond.lays "DedupBlocks" "DedupBlocks" "used" "I") ∈ lw_all := lw_g (lw_at lw_m1 43 rfl) rfl
theorem q69 : (Jvm.Cond.soleField "DedupBlocks" "used") ∈ lw_all := lw_g (lw_at lw_m1 44 rfl) rfl
theorem q70 : (Jvm.Cond.laysFinal "DedupBlocks" "DedupBlocks" "table" "[I") ∈ lw_all := lw_g (lw_at lw_m1 45 rfl) rfl
theorem q71 : (Jvm.Cond.soleField "DedupBlocks" "table") ∈ lw_all := lw_g (lw_at lw_m1 46 rfl) rfl
theorem q72 : (Jvm.Cond.laysFinal "DedupBlocks" "DedupBlocks" "kept" "[I") ∈ lw_all := lw_g (lw_at lw_m1 47 rfl) rfl
theorem q73 : (Jvm.Cond.soleField "DedupBlocks" "kept") ∈ lw_all := lw_g (lw_at lw_m1 48 rfl) rfl
theorem q74 : (Jvm.Cond.laysFinal "DedupBlocks" "DedupBlocks" "packed" "[I") ∈ lw_all := lw_g (lw_at lw_m1 49 rfl) rfl
theorem q75 : (Jvm.Cond.soleField "DedupBlocks" "packed") ∈ lw_all := lw_g (lw_at lw_m1 50 rfl) rfl
theorem q76 : (Jvm.Cond.lays "DedupBlocks" "DedupBlocks" "packedSize" "I") ∈ lw_all := lw_g (lw_at lw_m1 51 rfl) rfl
theorem q77 : (Jvm.Cond.soleField "DedupBlocks" "packedSize") ∈ lw_all := lw_g (lw_at lw_m1 52 rfl) rfl
theorem q78 : (Jvm.Cond.superclass "DedupBlocks" "java/lang/Object") ∈ lw_all := lw_g (lw_at lw_m1 53 rfl) rfl
theorem q81 : (Jvm.Cond.instanceMethod ({ cls := "DedupBlocks", name := "write", desc := "(II)I" } : Jvm.MethodName)) ∈ lw_all := lw_g (lw_at lw_m1 56 rfl) rfl
theorem q82 : (Jvm.Cond.selects "DedupBlocks" ({ cls := "DedupBlocks", name := "write", desc := "(II)I" } : Jvm.MethodName) ({ cls := "DedupBlocks", name := "write", desc := "(II)I" } : Jvm.MethodName)) ∈ lw_all := lw_g (lw_at lw_m1 57 rfl) rfl
theorem q83 : (Jvm.Cond.code ({ cls := "DedupBlocks", name := "write", desc := "(II)I" } : Jvm.MethodName) prog_1_method_18_code (7 : Nat) (Option.some Jvm.ClassFile.FieldType.int)) ∈ lw_all := lw_g (lw_at lw_m1 58 rfl) rfl
theorem q84 : (Jvm.Cond.methodLink "DedupBlocks" (98 : Nat) ({ cls := "DedupBlocks", name := "bad", desc := "(I)Z" } : Jvm.MethodName)) ∈ lw_all := lw_g (lw_at lw_m1 59 rfl) rfl
theorem q85 : (Jvm.Cond.privateMethod ({ cls := "DedupBlocks", name := "bad", desc := "(I)Z" } : Jvm.MethodName)) ∈ lw_tbl := lw_at lw_m1 60 rfl
theorem q86 : (Jvm.Cond.instanceMethod ({ cls := "DedupBlocks", name := "bad", desc := "(I)Z" } : Jvm.MethodName)) ∈ lw_all := lw_g (lw_at lw_m1 61 rfl) rfl
theorem q87 : (Jvm.Cond.code ({ cls := "DedupBlocks", name := "bad", desc := "(I)Z" } : Jvm.MethodName) prog_1_method_17_code (2 : Nat) (Option.some Jvm.ClassFile.FieldType.boolean)) ∈ lw_all := lw_g (lw_at lw_m1 62 rfl) rfl
theorem q88 : (Jvm.Cond.methodLink "DedupBlocks" (56 : Nat) ({ cls := "DedupBlocks", name := "contentOf", desc := "(I)I" } : Jvm.MethodName)) ∈ lw_all := lw_g (lw_at lw_m1 63 rfl) rfl
theorem q89 : (Jvm.Cond.privateMethod ({ cls := "DedupBlocks", name := "contentOf", desc := "(I)I" } : Jvm.MethodName)) ∈ lw_tbl := lw_at lw_m1 64 rfl
theorem q90 : (Jvm.Cond.instanceMethod ({ cls := "DedupBlocks", name := "contentOf", desc := "(I)I" } : Jvm.MethodName)) ∈ lw_all := lw_g (lw_at lw_m1 65 rfl) rfl
theorem q91 : (Jvm.Cond.code ({ cls := "DedupBlocks", name := "contentOf", desc := "(I)I" } : Jvm.MethodName) prog_1_method_3_code (8 : Nat) (Option.some Jvm.ClassFile.FieldType.int)) ∈ lw_all := lw_g (lw_at lw_m1 66 rfl) rfl
theorem q92 : (Jvm.Cond.methodLink "DedupBlocks" (102 : Nat) ({ cls := "DedupBlocks", name := "alone", desc := "(I)I" } : Jvm.MethodName)) ∈ lw_all := lw_g (lw_at lw_m1 67 rfl) rfl
theorem q93 : (Jvm.Cond.instanceMethod ({ cls := "DedupBlocks", name := "alone", desc := "(I)I" } : Jvm.MethodName)) ∈ lw_all := lw_g (lw_at lw_m1 68 rfl) rfl
theorem q94 : (Jvm.Cond.selects "DedupBlocks" ({ cls := "DedupBlocks", name := "alone", desc := "(I)I" } : Jvm.MethodName) ({ cls := "DedupBlocks", name := "alone", desc := "(I)I" } : Jvm.MethodName)) ∈ lw_all := lw_g (lw_at lw_m1 69 rfl) rfl
theorem q95 : (Jvm.Cond.code ({ cls := "DedupBlocks", name := "alone", desc := "(I)I" } : Jvm.MethodName) prog_1_method_29_code (3 : Nat) (Option.some Jvm.ClassFile.FieldType.int)) ∈ lw_all := lw_g (lw_at lw_m1 70 rfl) rfl
theorem q96 : (Jvm.Cond.methodLink "DedupBlocks" (84 : Nat) ({ cls := "DedupBlocks", name := "find", desc := "(I)I" } : Jvm.MethodName)) ∈ lw_all := lw_g (lw_at lw_m1 71 rfl) rfl
theorem q97 : (Jvm.Cond.privateMethod ({ cls := "DedupBlocks", name := "find", desc := "(I)I" } : Jvm.MethodName)) ∈ lw_tbl := lw_at lw_m1 72 rfl
theorem q98 : (Jvm.Cond.instanceMethod ({ cls := "DedupBlocks", name := "find", desc := "(I)I" } : Jvm.MethodName)) ∈ lw_all := lw_g (lw_at lw_m1 73 rfl) rfl
theorem q99 : (Jvm.Cond.code ({ cls := "DedupBlocks", name := "find", desc := "(I)I" } : Jvm.MethodName) prog_1_method_7_code (3 : Nat) (Option.some Jvm.ClassFile.FieldType.int)) ∈ lw_all := lw_g (lw_at lw_m1 74 rfl) rfl
theorem q100 : (Jvm.Cond.methodLink "DedupBlocks" (59 : Nat) ({ cls := "DedupBlocks", name := "placeInTable", desc := "(I)I" } : Jvm.MethodName)) ∈ lw_all := lw_g (lw_at lw_m1 75 rfl) rfl
theorem q101 : (Jvm.Cond.privateMethod ({ cls := "DedupBlocks", name := "placeInTable", desc := "(I)I" } : Jvm.MethodName)) ∈ lw_tbl := lw_at lw_m1 76 rfl
theorem q102 : (Jvm.Cond.instanceMethod ({ cls := "DedupBlocks", name := "placeInTable", desc := "(I)I" } : Jvm.MethodName)) ∈ lw_all := lw_g (lw_at lw_m1 77 rfl) rfl
theorem q103 : (Jvm.Cond.code ({ cls := "DedupBlocks", name := "placeInTable", desc := "(I)I" } : Jvm.MethodName) prog_1_method_6_code (5 : Nat) (Option.some Jvm.ClassFile.FieldType.int)) ∈ lw_all := lw_g (lw_at lw_m1 78 rfl) rfl
theorem q104 : (Jvm.Cond.methodLink "DedupBlocks" (52 : Nat) ({ cls := "DedupBlocks", name := "hash", desc := "(I)I" } : Jvm.MethodName)) ∈ lw_all := lw_g (lw_at lw_m1 79 rfl) rfl
theorem q105 : (Jvm.Cond.privateMethod ({ cls := "DedupBlocks", name := "hash", desc := "(I)I" } : Jvm.MethodName)) ∈ lw_tbl := lw_at lw_m1 80 rfl
theorem q106 : (Jvm.Cond.instanceMethod ({ cls := "DedupBlocks", name := "hash", desc := "(I)I" } : Jvm.MethodName)) ∈ lw_all := lw_g (lw_at lw_m1 81 rfl) rfl
theorem q107 : (Jvm.Cond.code ({ cls := "DedupBlocks", name := "hash", desc := "(I)I" } : Jvm.MethodName) prog_1_method_5_code (3 : Nat) (Option.some Jvm.ClassFile.FieldType.int)) ∈ lw_all := lw_g (lw_at lw_m1 82 rfl) rfl
theorem q108 : (Jvm.Cond.constant "DedupBlocks" (51 : Nat) (40503 : Int32)) ∈ lw_all := lw_g (lw_at lw_m1 83 rfl) rfl
theorem q109 : (Jvm.Cond.methodLink "DedupBlocks" (105 : Nat) ({ cls := "DedupBlocks", name := "roomOf", desc := "(I)I" } : Jvm.MethodName)) ∈ lw_all := lw_g (lw_at lw_m1 84 rfl) rfl
theorem q110 : (Jvm.Cond.privateMethod ({ cls := "DedupBlocks", name := "roomOf", desc := "(I)I" } : Jvm.MethodName)) ∈ lw_tbl := lw_at lw_m1 85 rfl
theorem q111 : (Jvm.Cond.instanceMethod ({ cls := "DedupBlocks", name := "roomOf", desc := "(I)I" } : Jvm.MethodName)) ∈ lw_all := lw_g (lw_at lw_m1 86 rfl) rfl
theorem q112 : (Jvm.Cond.code ({ cls := "DedupBlocks", name := "roomOf", desc := "(I)I" } : Jvm.MethodName) prog_1_method_4_code (2 : Nat) (Option.some Jvm.ClassFile.FieldType.int)) ∈ lw_all := lw_g (lw_at lw_m1 87 rfl) rfl
theorem q113 : (Jvm.Cond.methodLink "DedupBlocks" (47 : Nat) ({ cls := "DedupBlocks", name := "pack", desc := "(I)V" } : Jvm.MethodName)) ∈ lw_all := lw_g (lw_at lw_m1 88 rfl) rfl
theorem q114 : (Jvm.Cond.privateMethod ({ cls := "DedupBlocks", name := "pack", desc := "(I)V" } : Jvm.MethodName)) ∈ lw_tbl := lw_at lw_m1 89 rfl
theorem q115 : (Jvm.Cond.instanceMethod ({ cls := "DedupBlocks", name := "pack", desc := "(I)V" } : Jvm.MethodName)) ∈ lw_all := lw_g (lw_at lw_m1 90 rfl) rfl
theorem q116 : (Jvm.Cond.code ({ cls := "DedupBlocks", name := "pack", desc := "(I)V" } : Jvm.MethodName) prog_1_method_2_code (5 : Nat) (Option.none : Option Jvm.ClassFile.FieldType)) ∈ lw_all := lw_g (lw_at lw_m1 91 rfl) rfl
theorem q117 : (Jvm.Cond.methodLink "DedupBlocks" (108 : Nat) ({ cls := "DedupBlocks", name := "hold", desc := "(II)V" } : Jvm.MethodName)) ∈ lw_all := lw_g (lw_at lw_m1 92 rfl) rfl
theorem q118 : (Jvm.Cond.privateMethod ({ cls := "DedupBlocks", name := "hold", desc := "(II)V" } : Jvm.MethodName)) ∈ lw_tbl := lw_at lw_m1 93 rfl
theorem q119 : (Jvm.Cond.instanceMethod ({ cls := "DedupBlocks", name := "hold", desc := "(II)V" } : Jvm.MethodName)) ∈ lw_all := lw_g (lw_at lw_m1 94 rfl) rfl
theorem q120 : (Jvm.Cond.code ({ cls := "DedupBlocks", name := "hold", desc := "(II)V" } : Jvm.MethodName) prog_1_method_16_code (4 : Nat) (Option.none : Option Jvm.ClassFile.FieldType)) ∈ lw_all := lw_g (lw_at lw_m1 95 rfl) rfl
theorem q121 : (Jvm.Cond.methodLink "DedupBlocks" (81 : Nat) ({ cls := "DedupBlocks", name := "release", desc := "(I)V" } : Jvm.MethodName)) ∈ lw_all := lw_g (lw_at lw_m1 96 rfl) rfl
theorem q122 : (Jvm.Cond.privateMethod ({ cls := "DedupBlocks", name := "release", desc := "(I)V" } : Jvm.MethodName)) ∈ lw_tbl := lw_at lw_m1 97 rfl
theorem q123 : (Jvm.Cond.instanceMethod ({ cls := "DedupBlocks", name := "release", desc := "(I)V" } : Jvm.MethodName)) ∈ lw_all := lw_g (lw_at lw_m1 98 rfl) rfl
theorem q124 : (Jvm.Cond.code ({ cls := "DedupBlocks", name := "release", desc := "(I)V" } : Jvm.MethodName) prog_1_method_14_code (5 : Nat) (Option.none : Option Jvm.ClassFile.FieldType)) ∈ lw_all := lw_g (lw_at lw_m1 99 rfl) rfl
theorem q125 : (Jvm.Cond.methodLink "DedupBlocks" (87 : Nat) ({ cls := "DedupBlocks", name := "provide", desc := "(I)V" } : Jvm.MethodName)) ∈ lw_all := lw_g (lw_at lw_m1 100 rfl) rfl
theorem q126 : (Jvm.Cond.privateMethod ({ cls := "DedupBlocks", name := "provide", desc := "(I)V" } : Jvm.MethodName)) ∈ lw_tbl := lw_at lw_m1 101 rfl
theorem q127 : (Jvm.Cond.instanceMethod ({ cls := "DedupBlocks", name := "provide", desc := "(I)V" } : Jvm.MethodName)) ∈ lw_all := lw_g (lw_at lw_m1 102 rfl) rfl
theorem q128 : (Jvm.Cond.code ({ cls := "DedupBlocks", name := "provide", desc := "(I)V" } : Jvm.MethodName) prog_1_method_13_code (5 : Nat) (Option.none : Option Jvm.ClassFile.FieldType)) ∈ lw_all := lw_g (lw_at lw_m1 103 rfl) rfl
theorem q129 : (Jvm.Cond.methodLink "DedupBlocks" (65 : Nat) ({ cls := "DedupBlocks", name := "openRoom", desc := "()Z" } : Jvm.MethodName)) ∈ lw_all := lw_g (lw_at lw_m1 104 rfl) rfl
theorem q130 : (Jvm.Cond.privateMethod ({ cls := "DedupBlocks", name := "openRoom", desc := "()Z" } : Jvm.MethodName)) ∈ lw_tbl := lw_at lw_m1 105 rfl
theorem q131 : (Jvm.Cond.instanceMethod ({ cls := "DedupBlocks", name := "openRoom", desc := "()Z" } : Jvm.MethodName)) ∈ lw_all := lw_g (lw_at lw_m1 106 rfl) rfl
theorem q132 : (Jvm.Cond.code ({ cls := "DedupBlocks", name := "openRoom", desc := "()Z" } : Jvm.MethodName) prog_1_method_10_code (3 : Nat) (Option.some Jvm.ClassFile.FieldType.boolean)) ∈ lw_all := lw_g (lw_at lw_m1 107 rfl) rfl
theorem q133 : (Jvm.Cond.methodLink "DedupBlocks" (72 : Nat) ({ cls := "DedupBlocks", name := "clean", desc := "()Z" } : Jvm.MethodName)) ∈ lw_all := lw_g (lw_at lw_m1 108 rfl) rfl
theorem q134 : (Jvm.Cond.privateMethod ({ cls := "DedupBlocks", name := "clean", desc := "()Z" } : Jvm.MethodName)) ∈ lw_tbl := lw_at lw_m1 109 rfl
theorem q135 : (Jvm.Cond.instanceMethod ({ cls := "DedupBlocks", name := "clean", desc := "()Z" } : Jvm.MethodName)) ∈ lw_all := lw_g (lw_at lw_m1 110 rfl) rfl
theorem q136 : (Jvm.Cond.code ({ cls := "DedupBlocks", name := "clean", desc := "()Z" } : Jvm.MethodName) prog_1_method_11_code (3 : Nat) (Option.some Jvm.ClassFile.FieldType.boolean)) ∈ lw_all := lw_g (lw_at lw_m1 111 rfl) rfl
theorem q137 : (Jvm.Cond.methodLink "DedupBlocks" (69 : Nat) ({ cls := "DedupBlocks", name := "append", desc := "(I)V" } : Jvm.MethodName)) ∈ lw_all := lw_g (lw_at lw_m1 112 rfl) rfl
theorem q138 : (Jvm.Cond.privateMethod ({ cls := "DedupBlocks", name := "append", desc := "(I)V" } : Jvm.MethodName)) ∈ lw_tbl := lw_at lw_m1 113 rfl
theorem q139 : (Jvm.Cond.instanceMethod ({ cls := "DedupBlocks", name := "append", desc := "(I)V" } : Jvm.MethodName)) ∈ lw_all := lw_g (lw_at lw_m1 114 rfl) rfl
theorem q140 : (Jvm.Cond.code ({ cls := "DedupBlocks", name := "append", desc := "(I)V" } : Jvm.MethodName) prog_1_method_9_code (3 : Nat) (Option.none : Option Jvm.ClassFile.FieldType)) ∈ lw_all := lw_g (lw_at lw_m1 115 rfl) rfl
theorem q141 : (Jvm.Cond.methodLink "DedupBlocks" (75 : Nat) ({ cls := "DedupBlocks", name := "rewrite", desc := "()V" } : Jvm.MethodName)) ∈ lw_all := lw_g (lw_at lw_m1 116 rfl) rfl
theorem q142 : (Jvm.Cond.privateMethod ({ cls := "DedupBlocks", name := "rewrite", desc := "()V" } : Jvm.MethodName)) ∈ lw_tbl := lw_at lw_m1 117 rfl
theorem q143 : (Jvm.Cond.instanceMethod ({ cls := "DedupBlocks", name := "rewrite", desc := "()V" } : Jvm.MethodName)) ∈ lw_all := lw_g (lw_at lw_m1 118 rfl) rfl
theorem q144 : (Jvm.Cond.code ({ cls := "DedupBlocks", name := "rewrite", desc := "()V" } : Jvm.MethodName) prog_1_method_12_code (3 : Nat) (Option.none : Option Jvm.ClassFile.FieldType)) ∈ lw_all := lw_g (lw_at lw_m1 119 rfl) rfl
theorem q145 : (Jvm.Cond.methodLink "DedupBlocks" (90 : Nat) ({ cls := "DedupBlocks", name := "freshPiece", desc := "()I" } : Jvm.MethodName)) ∈ lw_all := lw_g (lw_at lw_m1 120 rfl) rfl
theorem q146 : (Jvm.Cond.privateMethod ({ cls := "DedupBlocks", name := "freshPiece", desc := "()I" } : Jvm.MethodName)) ∈ lw_tbl := lw_at lw_m1 121 rfl
theorem q147 : (Jvm.Cond.instanceMethod ({ cls := "DedupBlocks", name := "freshPiece", desc := "()I" } : Jvm.MethodName)) ∈ lw_all := lw_g (lw_at lw_m1 122 rfl) rfl
theorem q148 : (Jvm.Cond.code ({ cls := "DedupBlocks", name := "freshPiece", desc := "()I" } : Jvm.MethodName) prog_1_method_15_code (3 : Nat) (Option.some Jvm.ClassFile.FieldType.int)) ∈ lw_all := lw_g (lw_at lw_m1 123 rfl) rfl
theorem q149 : (Jvm.Cond.methodLink "DedupBlocks" (94 : Nat) ({ cls := "DedupBlocks", name := "enter", desc := "(II)V" } : Jvm.MethodName)) ∈ lw_all := lw_g (lw_at lw_m1 124 rfl) rfl
theorem q150 : (Jvm.Cond.privateMethod ({ cls := "DedupBlocks", name := "enter", desc := "(II)V" } : Jvm.MethodName)) ∈ lw_tbl := lw_at lw_m1 125 rfl
theorem q151 : (Jvm.Cond.instanceMethod ({ cls := "DedupBlocks", name := "enter", desc := "(II)V" } : Jvm.MethodName)) ∈ lw_all := lw_g (lw_at lw_m1 126 rfl) rfl
theorem q152 : (Jvm.Cond.code ({ cls := "DedupBlocks", name := "enter", desc := "(II)V" } : Jvm.MethodName) prog_1_method_8_code (5 : Nat) (Option.none : Option Jvm.ClassFile.FieldType)) ∈ lw_all := lw_g (lw_at lw_m1 127 rfl) rfl
theorem q154 : (Jvm.Cond.instanceMethod ({ cls := "DedupBlocks", name := "read", desc := "(I)I" } : Jvm.MethodName)) ∈ lw_all := lw_g (lw_at lw_m1 129 rfl) rfl
theorem q155 : (Jvm.Cond.selects "DedupBlocks" ({ cls := "DedupBlocks", name := "read", desc := "(I)I" } : Jvm.MethodName) ({ cls := "DedupBlocks", name := "read", desc := "(I)I" } : Jvm.MethodName)) ∈ lw_all := lw_g (lw_at lw_m1 130 rfl) rfl
theorem q156 : (Jvm.Cond.code ({ cls := "DedupBlocks", name := "read", desc := "(I)I" } : Jvm.MethodName) prog_1_method_19_code (2 : Nat) (Option.some Jvm.ClassFile.FieldType.int)) ∈ lw_all := lw_g (lw_at lw_m1 131 rfl) rfl
theorem q158 : (Jvm.Cond.instanceMethod ({ cls := "DedupBlocks", name := "patch", desc := "(III)I" } : Jvm.MethodName)) ∈ lw_all := lw_g (lw_at lw_m1 133 rfl) rfl
theorem q159 : (Jvm.Cond.selects "DedupBlocks" ({ cls := "DedupBlocks", name := "patch", desc := "(III)I" } : Jvm.MethodName) ({ cls := "DedupBlocks", name := "patch", desc := "(III)I" } : Jvm.MethodName)) ∈ lw_all := lw_g (lw_at lw_m1 134 rfl) rfl
theorem q160 : (Jvm.Cond.code ({ cls := "DedupBlocks", name := "patch", desc := "(III)I" } : Jvm.MethodName) prog_1_method_20_code (7 : Nat) (Option.some Jvm.ClassFile.FieldType.int)) ∈ lw_all := lw_g (lw_at lw_m1 135 rfl) rfl
theorem q161 : (Jvm.Cond.methodLink "DedupBlocks" (111 : Nat) ({ cls := "DedupBlocks", name := "write", desc := "(II)I" } : Jvm.MethodName)) ∈ lw_all := lw_g (lw_at lw_m1 136 rfl) rfl
theorem q163 : (Jvm.Cond.instanceMethod ({ cls := "DedupBlocks", name := "spread", desc := "(III)I" } : Jvm.MethodName)) ∈ lw_all := lw_g (lw_at lw_m1 138 rfl) rfl
theorem q164 : (Jvm.Cond.selects "DedupBlocks" ({ cls := "DedupBlocks", name := "spread", desc := "(III)I" } : Jvm.MethodName) ({ cls := "DedupBlocks", name := "spread", desc := "(III)I" } : Jvm.MethodName)) ∈ lw_all := lw_g (lw_at lw_m1 139 rfl) rfl
theorem q165 : (Jvm.Cond.code ({ cls := "DedupBlocks", name := "spread", desc := "(III)I" } : Jvm.MethodName) prog_1_method_21_code (7 : Nat) (Option.some Jvm.ClassFile.FieldType.int)) ∈ lw_all := lw_g (lw_at lw_m1 140 rfl) rfl
theorem q167 : (Jvm.Cond.instanceMethod ({ cls := "DedupBlocks", name := "clone", desc := "(II)I" } : Jvm.MethodName)) ∈ lw_all := lw_g (lw_at lw_m1 142 rfl) rfl
theorem q168 : (Jvm.Cond.selects "DedupBlocks" ({ cls := "DedupBlocks", name := "clone", desc := "(II)I" } : Jvm.MethodName) ({ cls := "DedupBlocks", name := "clone", desc := "(II)I" } : Jvm.MethodName)) ∈ lw_all := lw_g (lw_at lw_m1 143 rfl) rfl
theorem q169 : (Jvm.Cond.code ({ cls := "DedupBlocks", name := "clone", desc := "(II)I" } : Jvm.MethodName) prog_1_method_23_code (6 : Nat) (Option.some Jvm.ClassFile.FieldType.int)) ∈ lw_all := lw_g (lw_at lw_m1 144 rfl) rfl
theorem q170 : (Jvm.Cond.methodLink "DedupBlocks" (115 : Nat) ({ cls := "DedupBlocks", name := "badVolume", desc := "(I)Z" } : Jvm.MethodName)) ∈ lw_all := lw_g (lw_at lw_m1 145 rfl) rfl
theorem q171 : (Jvm.Cond.privateMethod ({ cls := "DedupBlocks", name := "badVolume", desc := "(I)Z" } : Jvm.MethodName)) ∈ lw_tbl := lw_at lw_m1 146 rfl
theorem q172 : (Jvm.Cond.instanceMethod ({ cls := "DedupBlocks", name := "badVolume", desc := "(I)Z" } : Jvm.MethodName)) ∈ lw_all := lw_g (lw_at lw_m1 147 rfl) rfl
theorem q173 : (Jvm.Cond.code ({ cls := "DedupBlocks", name := "badVolume", desc := "(I)Z" } : Jvm.MethodName) prog_1_method_22_code (2 : Nat) (Option.some Jvm.ClassFile.FieldType.boolean)) ∈ lw_all := lw_g (lw_at lw_m1 148 rfl) rfl
theorem q175 : (Jvm.Cond.instanceMethod ({ cls := "DedupBlocks", name := "erase", desc := "(I)I" } : Jvm.MethodName)) ∈ lw_all := lw_g (lw_at lw_m1 150 rfl) rfl
theorem q176 : (Jvm.Cond.selects "DedupBlocks" ({ cls := "DedupBlocks", name := "erase", desc := "(I)I" } : Jvm.MethodName) ({ cls := "DedupBlocks", name := "erase", desc := "(I)I" } : Jvm.MethodName)) ∈ lw_all := lw_g (lw_at lw_m1 151 rfl) rfl
theorem q177 : (Jvm.Cond.code ({ cls := "DedupBlocks", name := "erase", desc := "(I)I" } : Jvm.MethodName) prog_1_method_24_code (4 : Nat) (Option.some Jvm.ClassFile.FieldType.int)) ∈ lw_all := lw_g (lw_at lw_m1 152 rfl) rfl
theorem q179 : (Jvm.Cond.instanceMethod ({ cls := "DedupBlocks", name := "holders", desc := "(I)I" } : Jvm.MethodName)) ∈ lw_all := lw_g (lw_at lw_m1 154 rfl) rfl
theorem q180 : (Jvm.Cond.selects "DedupBlocks" ({ cls := "DedupBlocks", name := "holders", desc := "(I)I" } : Jvm.MethodName) ({ cls := "DedupBlocks", name := "holders", desc := "(I)I" } : Jvm.MethodName)) ∈ lw_all := lw_g (lw_at lw_m1 155 rfl) rfl
theorem q181 : (Jvm.Cond.code ({ cls := "DedupBlocks", name := "holders", desc := "(I)I" } : Jvm.MethodName) prog_1_method_25_code (4 : Nat) (Option.some Jvm.ClassFile.FieldType.int)) ∈ lw_all := lw_g (lw_at lw_m1 156 rfl) rfl
theorem q183 : (Jvm.Cond.instanceMethod ({ cls := "DedupBlocks", name := "distinct", desc := "()I" } : Jvm.MethodName)) ∈ lw_all := lw_g (lw_at lw_m1 158 rfl) rfl
theorem q184 : (Jvm.Cond.selects "DedupBlocks" ({ cls := "DedupBlocks", name := "distinct", desc := "()I" } : Jvm.MethodName) ({ cls := "DedupBlocks", name := "distinct", desc := "()I" } : Jvm.MethodName)) ∈ lw_all := lw_g (lw_at lw_m1 159 rfl) rfl
theorem q185 : (Jvm.Cond.code ({ cls := "DedupBlocks", name := "distinct", desc := "()I" } : Jvm.MethodName) prog_1_method_26_code (3 : Nat) (Option.some Jvm.ClassFile.FieldType.int)) ∈ lw_all := lw_g (lw_at lw_m1 160 rfl) rfl
theorem q187 : (Jvm.Cond.instanceMethod ({ cls := "DedupBlocks", name := "used", desc := "()I" } : Jvm.MethodName)) ∈ lw_all := lw_g (lw_at lw_m1 162 rfl) rfl
theorem q188 : (Jvm.Cond.selects "DedupBlocks" ({ cls := "DedupBlocks", name := "used", desc := "()I" } : Jvm.MethodName) ({ cls := "DedupBlocks", name := "used", desc := "()I" } : Jvm.MethodName)) ∈ lw_all := lw_g (lw_at lw_m1 163 rfl) rfl
theorem q189 : (Jvm.Cond.code ({ cls := "DedupBlocks", name := "used", desc := "()I" } : Jvm.MethodName) prog_1_method_27_code (1 : Nat) (Option.some Jvm.ClassFile.FieldType.int)) ∈ lw_all := lw_g (lw_at lw_m1 164 rfl) rfl
theorem q191 : (Jvm.Cond.instanceMethod ({ cls := "DedupBlocks", name := "saved", desc := "()I" } : Jvm.MethodName)) ∈ lw_all := lw_g (lw_at lw_m1 166 rfl) rfl
theorem q192 : (Jvm.Cond.selects "DedupBlocks" ({ cls := "DedupBlocks", name := "saved", desc := "()I" } : Jvm.MethodName) ({ cls := "DedupBlocks", name := "saved", desc := "()I" } : Jvm.MethodName)) ∈ lw_all := lw_g (lw_at lw_m1 167 rfl) rfl
theorem q193 : (Jvm.Cond.code ({ cls := "DedupBlocks", name := "saved", desc := "()I" } : Jvm.MethodName) prog_1_method_28_code (3 : Nat) (Option.some Jvm.ClassFile.FieldType.int)) ∈ lw_all := lw_g (lw_at lw_m1 168 rfl) rfl
theorem q196 : (Jvm.Cond.instanceMethod ({ cls := "DedupBlocks", name := "aloneIn", desc := "(I)I" } : Jvm.MethodName)) ∈ lw_all := lw_g (lw_at lw_m1 171 rfl) rfl
theorem q197 : (Jvm.Cond.selects "DedupBlocks" ({ cls := "DedupBlocks", name := "aloneIn", desc := "(I)I" } : Jvm.MethodName) ({ cls := "DedupBlocks", name := "aloneIn", desc := "(I)I" } : Jvm.MethodName)) ∈ lw_all := lw_g (lw_at lw_m1 172 rfl) rfl
theorem q198 : (Jvm.Cond.code ({ cls := "DedupBlocks", name := "aloneIn", desc := "(I)I" } : Jvm.MethodName) prog_1_method_30_code (6 : Nat) (Option.some Jvm.ClassFile.FieldType.int)) ∈ lw_all := lw_g (lw_at lw_m1 173 rfl) rfl
theorem q200 : (Jvm.Cond.instanceMethod ({ cls := "DedupBlocks", name := "twin", desc := "(I)I" } : Jvm.MethodName)) ∈ lw_all := lw_g (lw_at lw_m1 175 rfl) rfl
theorem q201 : (Jvm.Cond.selects "DedupBlocks" ({ cls := "DedupBlocks", name := "twin", desc := "(I)I" } : Jvm.MethodName) ({ cls := "DedupBlocks", name := "twin", desc := "(I)I" } : Jvm.MethodName)) ∈ lw_all := lw_g (lw_at lw_m1 176 rfl) rfl
theorem q202 : (Jvm.Cond.code ({ cls := "DedupBlocks", name := "twin", desc := "(I)I" } : Jvm.MethodName) prog_1_method_31_code (3 : Nat) (Option.some Jvm.ClassFile.FieldType.int)) ∈ lw_all := lw_g (lw_at lw_m1 177 rfl) rfl
theorem q204 : (Jvm.Cond.instanceMethod ({ cls := "DedupBlocks", name := "favourite", desc := "()I" } : Jvm.MethodName)) ∈ lw_all := lw_g (lw_at lw_m1 179 rfl) rfl
theorem q205 : (Jvm.Cond.selects "DedupBlocks" ({ cls := "DedupBlocks", name := "favourite", desc := "()I" } : Jvm.MethodName) ({ cls := "DedupBlocks", name := "favourite", desc := "()I" } : Jvm.MethodName)) ∈ lw_all := lw_g (lw_at lw_m1 180 rfl) rfl
theorem q206 : (Jvm.Cond.code ({ cls := "DedupBlocks", name := "favourite", desc := "()I" } : Jvm.MethodName) prog_1_method_32_code (5 : Nat) (Option.some Jvm.ClassFile.FieldType.int)) ∈ lw_all := lw_g (lw_at lw_m1 181 rfl) rfl
theorem q208 : (Jvm.Cond.instanceMethod ({ cls := "DedupBlocks", name := "tidy", desc := "()V" } : Jvm.MethodName)) ∈ lw_all := lw_g (lw_at lw_m1 183 rfl) rfl
theorem q209 : (Jvm.Cond.selects "DedupBlocks" ({ cls := "DedupBlocks", name := "tidy", desc := "()V" } : Jvm.MethodName) ({ cls := "DedupBlocks", name := "tidy", desc := "()V" } : Jvm.MethodName)) ∈ lw_all := lw_g (lw_at lw_m1 184 rfl) rfl
theorem q210 : (Jvm.Cond.code ({ cls := "DedupBlocks", name := "tidy", desc := "()V" } : Jvm.MethodName) prog_1_method_33_code (1 : Nat) (Option.none : Option Jvm.ClassFile.FieldType)) ∈ lw_all := lw_g (lw_at lw_m1 185 rfl) rfl
theorem in_X0 : ∀ w ∈ wsX00, w ∈ lw_all := lw_in wsX00 [50, 52, 54, 56, 58, 60, 62, 64, 66, 68, 70, 72, 74, 76] (by decide +kernel) (by decide +kernel)

/-! DedupBlocksModel -/
set_option maxRecDepth 100000
def RX1 : String := "DedupBlocksModel"
def TX1 : u_T := fun k => match k with
  | 0 => ("DedupBlocksModel", "contents", "[I", true)
  | _ => ("DedupBlocksModel", "kept", "[I", true)
def tyX1 : Nat → FieldType := fun k => match k with
  | 0 => .array .int
  | _ => .array .int
abbrev wsX10 : List Cond := u_ws RX1 TX1 2
theorem nmX1 : ∀ a, a < 2 → ∀ b, b < 2 → a ≠ b → (TX1 a).2.1 ≠ (TX1 b).2.1 := by decide +kernel
theorem tyX1_ok : ∀ k, k < 2 → parseFieldDescriptor (TX1 k).2.2.1 = some (tyX1 k) := by decide +kernel
abbrev cX1_init : ByteArray := prog_3_method_1_code
def yX1_init : MethodName := ⟨RX1, "<init>", "()V"⟩
abbrev cX1_write : ByteArray := prog_3_method_8_code
def yX1_write : MethodName := ⟨RX1, "write", "(II)I"⟩
abbrev cX1_isBlock : ByteArray := prog_3_method_2_code
def yX1_isBlock : MethodName := ⟨RX1, "isBlock", "(I)Z"⟩
abbrev cX1_isContent : ByteArray := prog_3_method_4_code
def yX1_isContent : MethodName := ⟨RX1, "isContent", "(I)Z"⟩
abbrev cX1_keep : ByteArray := prog_3_method_6_code
def yX1_keep : MethodName := ⟨RX1, "keep", "()V"⟩
abbrev cX1_isFull : ByteArray := prog_3_method_7_code
def yX1_isFull : MethodName := ⟨RX1, "isFull", "()Z"⟩
abbrev cX1_used : ByteArray := prog_3_method_18_code
def yX1_used : MethodName := ⟨RX1, "used", "()I"⟩
abbrev cX1_isFirst : ByteArray := prog_3_method_16_code
def yX1_isFirst : MethodName := ⟨RX1, "isFirst", "(I)Z"⟩
abbrev cX1_roomOf : ByteArray := prog_3_method_5_code
def yX1_roomOf : MethodName := ⟨RX1, "roomOf", "(I)I"⟩
abbrev cX1_read : ByteArray := prog_3_method_9_code
def yX1_read : MethodName := ⟨RX1, "read", "(I)I"⟩
abbrev cX1_patch : ByteArray := prog_3_method_10_code
def yX1_patch : MethodName := ⟨RX1, "patch", "(III)I"⟩
abbrev cX1_spread : ByteArray := prog_3_method_11_code
def yX1_spread : MethodName := ⟨RX1, "spread", "(III)I"⟩
abbrev cX1_clone : ByteArray := prog_3_method_12_code
def yX1_clone : MethodName := ⟨RX1, "clone", "(II)I"⟩
abbrev cX1_isVolume : ByteArray := prog_3_method_3_code
def yX1_isVolume : MethodName := ⟨RX1, "isVolume", "(I)Z"⟩
abbrev cX1_erase : ByteArray := prog_3_method_13_code
def yX1_erase : MethodName := ⟨RX1, "erase", "(I)I"⟩
abbrev cX1_holders : ByteArray := prog_3_method_15_code
def yX1_holders : MethodName := ⟨RX1, "holders", "(I)I"⟩
abbrev cX1_count : ByteArray := prog_3_method_14_code
def yX1_count : MethodName := ⟨RX1, "count", "(I)I"⟩
abbrev cX1_distinct : ByteArray := prog_3_method_17_code
def yX1_distinct : MethodName := ⟨RX1, "distinct", "()I"⟩
abbrev cX1_saved : ByteArray := prog_3_method_19_code
def yX1_saved : MethodName := ⟨RX1, "saved", "()I"⟩
abbrev cX1_alone : ByteArray := prog_3_method_20_code
def yX1_alone : MethodName := ⟨RX1, "alone", "(I)I"⟩
abbrev cX1_aloneIn : ByteArray := prog_3_method_21_code
def yX1_aloneIn : MethodName := ⟨RX1, "aloneIn", "(I)I"⟩
abbrev cX1_twin : ByteArray := prog_3_method_22_code
def yX1_twin : MethodName := ⟨RX1, "twin", "(I)I"⟩
abbrev cX1_favourite : ByteArray := prog_3_method_23_code
def yX1_favourite : MethodName := ⟨RX1, "favourite", "()I"⟩
abbrev cX1_tidy : ByteArray := prog_3_method_24_code
def yX1_tidy : MethodName := ⟨RX1, "tidy", "()V"⟩
theorem q27 : (Jvm.Cond.initialized "DedupBlocksModel") ∈ lw_all := lw_g (lw_at lw_m1 2 rfl) rfl
theorem q212 : (Jvm.Cond.instantiable "DedupBlocksModel" (2 : Nat)) ∈ lw_all := lw_g (lw_at lw_m1 187 rfl) rfl
theorem q214 : (Jvm.Cond.instanceMethod ({ cls := "DedupBlocksModel", name := "<init>", desc := "()V" } : Jvm.MethodName)) ∈ lw_all := lw_g (lw_at lw_m1 189 rfl) rfl
theorem q215 : (Jvm.Cond.code ({ cls := "DedupBlocksModel", name := "<init>", desc := "()V" } : Jvm.MethodName) prog_3_method_1_code (1 : Nat) (Option.none : Option Jvm.ClassFile.FieldType)) ∈ lw_all := lw_g (lw_at lw_m1 190 rfl) rfl
theorem q216 : (Jvm.Cond.methodLink "DedupBlocksModel" (1 : Nat) ({ cls := "java/lang/Object", name := "<init>", desc := "()V" } : Jvm.MethodName)) ∈ lw_all := lw_g (lw_at lw_m1 191 rfl) rfl
theorem q217 : (Jvm.Cond.fieldLink "DedupBlocksModel" (7 : Nat) "DedupBlocksModel" "contents" "[I") ∈ lw_all := lw_g (lw_at lw_m1 192 rfl) rfl
theorem q218 : (Jvm.Cond.fieldLink "DedupBlocksModel" (13 : Nat) "DedupBlocksModel" "kept" "[I") ∈ lw_all := lw_g (lw_at lw_m1 193 rfl) rfl
theorem q219 : (Jvm.Cond.laysFinal "DedupBlocksModel" "DedupBlocksModel" "contents" "[I") ∈ lw_all := lw_g (lw_at lw_m1 194 rfl) rfl
theorem q220 : (Jvm.Cond.soleField "DedupBlocksModel" "contents") ∈ lw_all := lw_g (lw_at lw_m1 195 rfl) rfl
theorem q221 : (Jvm.Cond.laysFinal "DedupBlocksModel" "DedupBlocksModel" "kept" "[I") ∈ lw_all := lw_g (lw_at lw_m1 196 rfl) rfl
theorem q222 : (Jvm.Cond.soleField "DedupBlocksModel" "kept") ∈ lw_all := lw_g (lw_at lw_m1 197 rfl) rfl
theorem q223 : (Jvm.Cond.superclass "DedupBlocksModel" "java/lang/Object") ∈ lw_all := lw_g (lw_at lw_m1 198 rfl) rfl
theorem q225 : (Jvm.Cond.instanceMethod ({ cls := "DedupBlocksModel", name := "write", desc := "(II)I" } : Jvm.MethodName)) ∈ lw_all := lw_g (lw_at lw_m1 200 rfl) rfl
theorem q226 : (Jvm.Cond.selects "DedupBlocksModel" ({ cls := "DedupBlocksModel", name := "write", desc := "(II)I" } : Jvm.MethodName) ({ cls := "DedupBlocksModel", name := "write", desc := "(II)I" } : Jvm.MethodName)) ∈ lw_all := lw_g (lw_at lw_m1 201 rfl) rfl
theorem q227 : (Jvm.Cond.code ({ cls := "DedupBlocksModel", name := "write", desc := "(II)I" } : Jvm.MethodName) prog_3_method_8_code (3 : Nat) (Option.some Jvm.ClassFile.FieldType.int)) ∈ lw_all := lw_g (lw_at lw_m1 202 rfl) rfl
theorem q228 : (Jvm.Cond.methodLink "DedupBlocksModel" (20 : Nat) ({ cls := "DedupBlocksModel", name := "isBlock", desc := "(I)Z" } : Jvm.MethodName)) ∈ lw_all := lw_g (lw_at lw_m1 203 rfl) rfl
theorem q229 : (Jvm.Cond.privateMethod ({ cls := "DedupBlocksModel", name := "isBlock", desc := "(I)Z" } : Jvm.MethodName)) ∈ lw_tbl := lw_at lw_m1 204 rfl
theorem q230 : (Jvm.Cond.instanceMethod ({ cls := "DedupBlocksModel", name := "isBlock", desc := "(I)Z" } : Jvm.MethodName)) ∈ lw_all := lw_g (lw_at lw_m1 205 rfl) rfl
theorem q231 : (Jvm.Cond.code ({ cls := "DedupBlocksModel", name := "isBlock", desc := "(I)Z" } : Jvm.MethodName) prog_3_method_2_code (2 : Nat) (Option.some Jvm.ClassFile.FieldType.boolean)) ∈ lw_all := lw_g (lw_at lw_m1 206 rfl) rfl
theorem q232 : (Jvm.Cond.methodLink "DedupBlocksModel" (24 : Nat) ({ cls := "DedupBlocksModel", name := "isContent", desc := "(I)Z" } : Jvm.MethodName)) ∈ lw_all := lw_g (lw_at lw_m1 207 rfl) rfl
theorem q233 : (Jvm.Cond.privateMethod ({ cls := "DedupBlocksModel", name := "isContent", desc := "(I)Z" } : Jvm.MethodName)) ∈ lw_tbl := lw_at lw_m1 208 rfl
theorem q234 : (Jvm.Cond.instanceMethod ({ cls := "DedupBlocksModel", name := "isContent", desc := "(I)Z" } : Jvm.MethodName)) ∈ lw_all := lw_g (lw_at lw_m1 209 rfl) rfl
theorem q235 : (Jvm.Cond.code ({ cls := "DedupBlocksModel", name := "isContent", desc := "(I)Z" } : Jvm.MethodName) prog_3_method_4_code (2 : Nat) (Option.some Jvm.ClassFile.FieldType.boolean)) ∈ lw_all := lw_g (lw_at lw_m1 210 rfl) rfl
theorem q236 : (Jvm.Cond.methodLink "DedupBlocksModel" (27 : Nat) ({ cls := "DedupBlocksModel", name := "keep", desc := "()V" } : Jvm.MethodName)) ∈ lw_all := lw_g (lw_at lw_m1 211 rfl) rfl
theorem q237 : (Jvm.Cond.privateMethod ({ cls := "DedupBlocksModel", name := "keep", desc := "()V" } : Jvm.MethodName)) ∈ lw_tbl := lw_at lw_m1 212 rfl
theorem q238 : (Jvm.Cond.instanceMethod ({ cls := "DedupBlocksModel", name := "keep", desc := "()V" } : Jvm.MethodName)) ∈ lw_all := lw_g (lw_at lw_m1 213 rfl) rfl
theorem q239 : (Jvm.Cond.code ({ cls := "DedupBlocksModel", name := "keep", desc := "()V" } : Jvm.MethodName) prog_3_method_6_code (2 : Nat) (Option.none : Option Jvm.ClassFile.FieldType)) ∈ lw_all := lw_g (lw_at lw_m1 214 rfl) rfl
theorem q240 : (Jvm.Cond.methodLink "DedupBlocksModel" (30 : Nat) ({ cls := "DedupBlocksModel", name := "isFull", desc := "()Z" } : Jvm.MethodName)) ∈ lw_all := lw_g (lw_at lw_m1 215 rfl) rfl
theorem q241 : (Jvm.Cond.privateMethod ({ cls := "DedupBlocksModel", name := "isFull", desc := "()Z" } : Jvm.MethodName)) ∈ lw_tbl := lw_at lw_m1 216 rfl
theorem q242 : (Jvm.Cond.instanceMethod ({ cls := "DedupBlocksModel", name := "isFull", desc := "()Z" } : Jvm.MethodName)) ∈ lw_all := lw_g (lw_at lw_m1 217 rfl) rfl
theorem q243 : (Jvm.Cond.code ({ cls := "DedupBlocksModel", name := "isFull", desc := "()Z" } : Jvm.MethodName) prog_3_method_7_code (2 : Nat) (Option.some Jvm.ClassFile.FieldType.boolean)) ∈ lw_all := lw_g (lw_at lw_m1 218 rfl) rfl
theorem q244 : (Jvm.Cond.methodLink "DedupBlocksModel" (16 : Nat) ({ cls := "DedupBlocksModel", name := "used", desc := "()I" } : Jvm.MethodName)) ∈ lw_all := lw_g (lw_at lw_m1 219 rfl) rfl
theorem q245 : (Jvm.Cond.instanceMethod ({ cls := "DedupBlocksModel", name := "used", desc := "()I" } : Jvm.MethodName)) ∈ lw_all := lw_g (lw_at lw_m1 220 rfl) rfl
theorem q246 : (Jvm.Cond.selects "DedupBlocksModel" ({ cls := "DedupBlocksModel", name := "used", desc := "()I" } : Jvm.MethodName) ({ cls := "DedupBlocksModel", name := "used", desc := "()I" } : Jvm.MethodName)) ∈ lw_all := lw_g (lw_at lw_m1 221 rfl) rfl
theorem q247 : (Jvm.Cond.code ({ cls := "DedupBlocksModel", name := "used", desc := "()I" } : Jvm.MethodName) prog_3_method_18_code (3 : Nat) (Option.some Jvm.ClassFile.FieldType.int)) ∈ lw_all := lw_g (lw_at lw_m1 222 rfl) rfl
theorem q248 : (Jvm.Cond.methodLink "DedupBlocksModel" (41 : Nat) ({ cls := "DedupBlocksModel", name := "isFirst", desc := "(I)Z" } : Jvm.MethodName)) ∈ lw_all := lw_g (lw_at lw_m1 223 rfl) rfl
theorem q249 : (Jvm.Cond.privateMethod ({ cls := "DedupBlocksModel", name := "isFirst", desc := "(I)Z" } : Jvm.MethodName)) ∈ lw_tbl := lw_at lw_m1 224 rfl
theorem q250 : (Jvm.Cond.instanceMethod ({ cls := "DedupBlocksModel", name := "isFirst", desc := "(I)Z" } : Jvm.MethodName)) ∈ lw_all := lw_g (lw_at lw_m1 225 rfl) rfl
theorem q251 : (Jvm.Cond.code ({ cls := "DedupBlocksModel", name := "isFirst", desc := "(I)Z" } : Jvm.MethodName) prog_3_method_16_code (3 : Nat) (Option.some Jvm.ClassFile.FieldType.boolean)) ∈ lw_all := lw_g (lw_at lw_m1 226 rfl) rfl
theorem q252 : (Jvm.Cond.methodLink "DedupBlocksModel" (44 : Nat) ({ cls := "DedupBlocksModel", name := "roomOf", desc := "(I)I" } : Jvm.MethodName)) ∈ lw_all := lw_g (lw_at lw_m1 227 rfl) rfl
theorem q253 : (Jvm.Cond.privateMethod ({ cls := "DedupBlocksModel", name := "roomOf", desc := "(I)I" } : Jvm.MethodName)) ∈ lw_tbl := lw_at lw_m1 228 rfl
theorem q254 : (Jvm.Cond.instanceMethod ({ cls := "DedupBlocksModel", name := "roomOf", desc := "(I)I" } : Jvm.MethodName)) ∈ lw_all := lw_g (lw_at lw_m1 229 rfl) rfl
theorem q255 : (Jvm.Cond.code ({ cls := "DedupBlocksModel", name := "roomOf", desc := "(I)I" } : Jvm.MethodName) prog_3_method_5_code (6 : Nat) (Option.some Jvm.ClassFile.FieldType.int)) ∈ lw_all := lw_g (lw_at lw_m1 230 rfl) rfl
theorem q257 : (Jvm.Cond.instanceMethod ({ cls := "DedupBlocksModel", name := "read", desc := "(I)I" } : Jvm.MethodName)) ∈ lw_all := lw_g (lw_at lw_m1 232 rfl) rfl
theorem q258 : (Jvm.Cond.selects "DedupBlocksModel" ({ cls := "DedupBlocksModel", name := "read", desc := "(I)I" } : Jvm.MethodName) ({ cls := "DedupBlocksModel", name := "read", desc := "(I)I" } : Jvm.MethodName)) ∈ lw_all := lw_g (lw_at lw_m1 233 rfl) rfl
theorem q259 : (Jvm.Cond.code ({ cls := "DedupBlocksModel", name := "read", desc := "(I)I" } : Jvm.MethodName) prog_3_method_9_code (2 : Nat) (Option.some Jvm.ClassFile.FieldType.int)) ∈ lw_all := lw_g (lw_at lw_m1 234 rfl) rfl
theorem q261 : (Jvm.Cond.instanceMethod ({ cls := "DedupBlocksModel", name := "patch", desc := "(III)I" } : Jvm.MethodName)) ∈ lw_all := lw_g (lw_at lw_m1 236 rfl) rfl
theorem q262 : (Jvm.Cond.selects "DedupBlocksModel" ({ cls := "DedupBlocksModel", name := "patch", desc := "(III)I" } : Jvm.MethodName) ({ cls := "DedupBlocksModel", name := "patch", desc := "(III)I" } : Jvm.MethodName)) ∈ lw_all := lw_g (lw_at lw_m1 237 rfl) rfl
theorem q263 : (Jvm.Cond.code ({ cls := "DedupBlocksModel", name := "patch", desc := "(III)I" } : Jvm.MethodName) prog_3_method_10_code (4 : Nat) (Option.some Jvm.ClassFile.FieldType.int)) ∈ lw_all := lw_g (lw_at lw_m1 238 rfl) rfl
theorem q265 : (Jvm.Cond.instanceMethod ({ cls := "DedupBlocksModel", name := "spread", desc := "(III)I" } : Jvm.MethodName)) ∈ lw_all := lw_g (lw_at lw_m2 0 rfl) rfl
theorem q266 : (Jvm.Cond.selects "DedupBlocksModel" ({ cls := "DedupBlocksModel", name := "spread", desc := "(III)I" } : Jvm.MethodName) ({ cls := "DedupBlocksModel", name := "spread", desc := "(III)I" } : Jvm.MethodName)) ∈ lw_all := lw_g (lw_at lw_m2 1 rfl) rfl
theorem q267 : (Jvm.Cond.code ({ cls := "DedupBlocksModel", name := "spread", desc := "(III)I" } : Jvm.MethodName) prog_3_method_11_code (6 : Nat) (Option.some Jvm.ClassFile.FieldType.int)) ∈ lw_all := lw_g (lw_at lw_m2 2 rfl) rfl
theorem q269 : (Jvm.Cond.instanceMethod ({ cls := "DedupBlocksModel", name := "clone", desc := "(II)I" } : Jvm.MethodName)) ∈ lw_all := lw_g (lw_at lw_m2 4 rfl) rfl
theorem q270 : (Jvm.Cond.selects "DedupBlocksModel" ({ cls := "DedupBlocksModel", name := "clone", desc := "(II)I" } : Jvm.MethodName) ({ cls := "DedupBlocksModel", name := "clone", desc := "(II)I" } : Jvm.MethodName)) ∈ lw_all := lw_g (lw_at lw_m2 5 rfl) rfl
theorem q271 : (Jvm.Cond.code ({ cls := "DedupBlocksModel", name := "clone", desc := "(II)I" } : Jvm.MethodName) prog_3_method_12_code (5 : Nat) (Option.some Jvm.ClassFile.FieldType.int)) ∈ lw_all := lw_g (lw_at lw_m2 6 rfl) rfl
theorem q272 : (Jvm.Cond.methodLink "DedupBlocksModel" (34 : Nat) ({ cls := "DedupBlocksModel", name := "isVolume", desc := "(I)Z" } : Jvm.MethodName)) ∈ lw_all := lw_g (lw_at lw_m2 7 rfl) rfl
theorem q273 : (Jvm.Cond.privateMethod ({ cls := "DedupBlocksModel", name := "isVolume", desc := "(I)Z" } : Jvm.MethodName)) ∈ lw_tbl := lw_at lw_m2 8 rfl
theorem q274 : (Jvm.Cond.instanceMethod ({ cls := "DedupBlocksModel", name := "isVolume", desc := "(I)Z" } : Jvm.MethodName)) ∈ lw_all := lw_g (lw_at lw_m2 9 rfl) rfl
theorem q275 : (Jvm.Cond.code ({ cls := "DedupBlocksModel", name := "isVolume", desc := "(I)Z" } : Jvm.MethodName) prog_3_method_3_code (2 : Nat) (Option.some Jvm.ClassFile.FieldType.boolean)) ∈ lw_all := lw_g (lw_at lw_m2 10 rfl) rfl
theorem q277 : (Jvm.Cond.instanceMethod ({ cls := "DedupBlocksModel", name := "erase", desc := "(I)I" } : Jvm.MethodName)) ∈ lw_all := lw_g (lw_at lw_m2 12 rfl) rfl
theorem q278 : (Jvm.Cond.selects "DedupBlocksModel" ({ cls := "DedupBlocksModel", name := "erase", desc := "(I)I" } : Jvm.MethodName) ({ cls := "DedupBlocksModel", name := "erase", desc := "(I)I" } : Jvm.MethodName)) ∈ lw_all := lw_g (lw_at lw_m2 13 rfl) rfl
theorem q279 : (Jvm.Cond.code ({ cls := "DedupBlocksModel", name := "erase", desc := "(I)I" } : Jvm.MethodName) prog_3_method_13_code (4 : Nat) (Option.some Jvm.ClassFile.FieldType.int)) ∈ lw_all := lw_g (lw_at lw_m2 14 rfl) rfl
theorem q281 : (Jvm.Cond.instanceMethod ({ cls := "DedupBlocksModel", name := "holders", desc := "(I)I" } : Jvm.MethodName)) ∈ lw_all := lw_g (lw_at lw_m2 16 rfl) rfl
theorem q282 : (Jvm.Cond.selects "DedupBlocksModel" ({ cls := "DedupBlocksModel", name := "holders", desc := "(I)I" } : Jvm.MethodName) ({ cls := "DedupBlocksModel", name := "holders", desc := "(I)I" } : Jvm.MethodName)) ∈ lw_all := lw_g (lw_at lw_m2 17 rfl) rfl
theorem q283 : (Jvm.Cond.code ({ cls := "DedupBlocksModel", name := "holders", desc := "(I)I" } : Jvm.MethodName) prog_3_method_15_code (2 : Nat) (Option.some Jvm.ClassFile.FieldType.int)) ∈ lw_all := lw_g (lw_at lw_m2 18 rfl) rfl
theorem q284 : (Jvm.Cond.methodLink "DedupBlocksModel" (37 : Nat) ({ cls := "DedupBlocksModel", name := "count", desc := "(I)I" } : Jvm.MethodName)) ∈ lw_all := lw_g (lw_at lw_m2 19 rfl) rfl
theorem q285 : (Jvm.Cond.privateMethod ({ cls := "DedupBlocksModel", name := "count", desc := "(I)I" } : Jvm.MethodName)) ∈ lw_tbl := lw_at lw_m2 20 rfl
theorem q286 : (Jvm.Cond.instanceMethod ({ cls := "DedupBlocksModel", name := "count", desc := "(I)I" } : Jvm.MethodName)) ∈ lw_all := lw_g (lw_at lw_m2 21 rfl) rfl
theorem q287 : (Jvm.Cond.code ({ cls := "DedupBlocksModel", name := "count", desc := "(I)I" } : Jvm.MethodName) prog_3_method_14_code (4 : Nat) (Option.some Jvm.ClassFile.FieldType.int)) ∈ lw_all := lw_g (lw_at lw_m2 22 rfl) rfl
theorem q289 : (Jvm.Cond.instanceMethod ({ cls := "DedupBlocksModel", name := "distinct", desc := "()I" } : Jvm.MethodName)) ∈ lw_all := lw_g (lw_at lw_m2 24 rfl) rfl
theorem q290 : (Jvm.Cond.selects "DedupBlocksModel" ({ cls := "DedupBlocksModel", name := "distinct", desc := "()I" } : Jvm.MethodName) ({ cls := "DedupBlocksModel", name := "distinct", desc := "()I" } : Jvm.MethodName)) ∈ lw_all := lw_g (lw_at lw_m2 25 rfl) rfl
theorem q291 : (Jvm.Cond.code ({ cls := "DedupBlocksModel", name := "distinct", desc := "()I" } : Jvm.MethodName) prog_3_method_17_code (3 : Nat) (Option.some Jvm.ClassFile.FieldType.int)) ∈ lw_all := lw_g (lw_at lw_m2 26 rfl) rfl
theorem q294 : (Jvm.Cond.instanceMethod ({ cls := "DedupBlocksModel", name := "saved", desc := "()I" } : Jvm.MethodName)) ∈ lw_all := lw_g (lw_at lw_m2 29 rfl) rfl
theorem q295 : (Jvm.Cond.selects "DedupBlocksModel" ({ cls := "DedupBlocksModel", name := "saved", desc := "()I" } : Jvm.MethodName) ({ cls := "DedupBlocksModel", name := "saved", desc := "()I" } : Jvm.MethodName)) ∈ lw_all := lw_g (lw_at lw_m2 30 rfl) rfl
theorem q296 : (Jvm.Cond.code ({ cls := "DedupBlocksModel", name := "saved", desc := "()I" } : Jvm.MethodName) prog_3_method_19_code (3 : Nat) (Option.some Jvm.ClassFile.FieldType.int)) ∈ lw_all := lw_g (lw_at lw_m2 31 rfl) rfl
theorem q298 : (Jvm.Cond.instanceMethod ({ cls := "DedupBlocksModel", name := "alone", desc := "(I)I" } : Jvm.MethodName)) ∈ lw_all := lw_g (lw_at lw_m2 33 rfl) rfl
theorem q299 : (Jvm.Cond.selects "DedupBlocksModel" ({ cls := "DedupBlocksModel", name := "alone", desc := "(I)I" } : Jvm.MethodName) ({ cls := "DedupBlocksModel", name := "alone", desc := "(I)I" } : Jvm.MethodName)) ∈ lw_all := lw_g (lw_at lw_m2 34 rfl) rfl
theorem q300 : (Jvm.Cond.code ({ cls := "DedupBlocksModel", name := "alone", desc := "(I)I" } : Jvm.MethodName) prog_3_method_20_code (2 : Nat) (Option.some Jvm.ClassFile.FieldType.int)) ∈ lw_all := lw_g (lw_at lw_m2 35 rfl) rfl
theorem q302 : (Jvm.Cond.instanceMethod ({ cls := "DedupBlocksModel", name := "aloneIn", desc := "(I)I" } : Jvm.MethodName)) ∈ lw_all := lw_g (lw_at lw_m2 37 rfl) rfl
theorem q303 : (Jvm.Cond.selects "DedupBlocksModel" ({ cls := "DedupBlocksModel", name := "aloneIn", desc := "(I)I" } : Jvm.MethodName) ({ cls := "DedupBlocksModel", name := "aloneIn", desc := "(I)I" } : Jvm.MethodName)) ∈ lw_all := lw_g (lw_at lw_m2 38 rfl) rfl
theorem q304 : (Jvm.Cond.code ({ cls := "DedupBlocksModel", name := "aloneIn", desc := "(I)I" } : Jvm.MethodName) prog_3_method_21_code (5 : Nat) (Option.some Jvm.ClassFile.FieldType.int)) ∈ lw_all := lw_g (lw_at lw_m2 39 rfl) rfl
theorem q305 : (Jvm.Cond.methodLink "DedupBlocksModel" (47 : Nat) ({ cls := "DedupBlocksModel", name := "erase", desc := "(I)I" } : Jvm.MethodName)) ∈ lw_all := lw_g (lw_at lw_m2 40 rfl) rfl
theorem q307 : (Jvm.Cond.instanceMethod ({ cls := "DedupBlocksModel", name := "twin", desc := "(I)I" } : Jvm.MethodName)) ∈ lw_all := lw_g (lw_at lw_m2 42 rfl) rfl
theorem q308 : (Jvm.Cond.selects "DedupBlocksModel" ({ cls := "DedupBlocksModel", name := "twin", desc := "(I)I" } : Jvm.MethodName) ({ cls := "DedupBlocksModel", name := "twin", desc := "(I)I" } : Jvm.MethodName)) ∈ lw_all := lw_g (lw_at lw_m2 43 rfl) rfl
theorem q309 : (Jvm.Cond.code ({ cls := "DedupBlocksModel", name := "twin", desc := "(I)I" } : Jvm.MethodName) prog_3_method_22_code (3 : Nat) (Option.some Jvm.ClassFile.FieldType.int)) ∈ lw_all := lw_g (lw_at lw_m2 44 rfl) rfl
theorem q311 : (Jvm.Cond.instanceMethod ({ cls := "DedupBlocksModel", name := "favourite", desc := "()I" } : Jvm.MethodName)) ∈ lw_all := lw_g (lw_at lw_m2 46 rfl) rfl
theorem q312 : (Jvm.Cond.selects "DedupBlocksModel" ({ cls := "DedupBlocksModel", name := "favourite", desc := "()I" } : Jvm.MethodName) ({ cls := "DedupBlocksModel", name := "favourite", desc := "()I" } : Jvm.MethodName)) ∈ lw_all := lw_g (lw_at lw_m2 47 rfl) rfl
theorem q313 : (Jvm.Cond.code ({ cls := "DedupBlocksModel", name := "favourite", desc := "()I" } : Jvm.MethodName) prog_3_method_23_code (6 : Nat) (Option.some Jvm.ClassFile.FieldType.int)) ∈ lw_all := lw_g (lw_at lw_m2 48 rfl) rfl
theorem q315 : (Jvm.Cond.instanceMethod ({ cls := "DedupBlocksModel", name := "tidy", desc := "()V" } : Jvm.MethodName)) ∈ lw_all := lw_g (lw_at lw_m2 50 rfl) rfl
theorem q316 : (Jvm.Cond.selects "DedupBlocksModel" ({ cls := "DedupBlocksModel", name := "tidy", desc := "()V" } : Jvm.MethodName) ({ cls := "DedupBlocksModel", name := "tidy", desc := "()V" } : Jvm.MethodName)) ∈ lw_all := lw_g (lw_at lw_m2 51 rfl) rfl
theorem q317 : (Jvm.Cond.code ({ cls := "DedupBlocksModel", name := "tidy", desc := "()V" } : Jvm.MethodName) prog_3_method_24_code (1 : Nat) (Option.none : Option Jvm.ClassFile.FieldType)) ∈ lw_all := lw_g (lw_at lw_m2 52 rfl) rfl
theorem in_X1 : ∀ w ∈ wsX10, w ∈ lw_all := lw_in wsX10 [219, 221] (by decide +kernel) (by decide +kernel)

/-! java/lang/Object -/
set_option maxRecDepth 100000
def RJ0 : String := "java/lang/Object"
abbrev cJ0_init : ByteArray := object_method_1_code
def yJ0_init : MethodName := ⟨RJ0, "<init>", "()V"⟩
theorem q34 : (Jvm.Cond.instanceMethod ({ cls := "java/lang/Object", name := "<init>", desc := "()V" } : Jvm.MethodName)) ∈ lw_all := lw_g (lw_at lw_m1 9 rfl) rfl
theorem q35 : (Jvm.Cond.code ({ cls := "java/lang/Object", name := "<init>", desc := "()V" } : Jvm.MethodName) object_method_1_code (1 : Nat) (Option.none : Option Jvm.ClassFile.FieldType)) ∈ lw_all := lw_g (lw_at lw_m1 10 rfl) rfl

theorem q79 : (Jvm.Cond.arrayClass Jvm.ClassFile.FieldType.int) ∈ lw_all := lw_g (lw_at lw_m1 54 rfl) rfl
set_option maxRecDepth 100000

theorem q25 : (Jvm.Cond.initialized "DedupBlocksLaw") ∈ lw_all := lw_g (lw_at lw_m1 0 rfl) rfl
set_option maxRecDepth 100000
theorem q28 : (Jvm.Cond.classLink "DedupBlocksLaw" (7 : Nat) "DedupBlocks") ∈ lw_all := lw_g (lw_at lw_m1 3 rfl) rfl
theorem q30 : (Jvm.Cond.methodLink "DedupBlocksLaw" (9 : Nat) ({ cls := "DedupBlocks", name := "<init>", desc := "()V" } : Jvm.MethodName)) ∈ lw_all := lw_g (lw_at lw_m1 5 rfl) rfl
theorem q80 : (Jvm.Cond.methodLink "DedupBlocksLaw" (13 : Nat) ({ cls := "DedupBlocks", name := "write", desc := "(II)I" } : Jvm.MethodName)) ∈ lw_all := lw_g (lw_at lw_m1 55 rfl) rfl
theorem q153 : (Jvm.Cond.methodLink "DedupBlocksLaw" (18 : Nat) ({ cls := "DedupBlocks", name := "read", desc := "(I)I" } : Jvm.MethodName)) ∈ lw_all := lw_g (lw_at lw_m1 128 rfl) rfl
theorem q157 : (Jvm.Cond.methodLink "DedupBlocksLaw" (23 : Nat) ({ cls := "DedupBlocks", name := "patch", desc := "(III)I" } : Jvm.MethodName)) ∈ lw_all := lw_g (lw_at lw_m1 132 rfl) rfl
theorem q162 : (Jvm.Cond.methodLink "DedupBlocksLaw" (28 : Nat) ({ cls := "DedupBlocks", name := "spread", desc := "(III)I" } : Jvm.MethodName)) ∈ lw_all := lw_g (lw_at lw_m1 137 rfl) rfl
theorem q166 : (Jvm.Cond.methodLink "DedupBlocksLaw" (32 : Nat) ({ cls := "DedupBlocks", name := "clone", desc := "(II)I" } : Jvm.MethodName)) ∈ lw_all := lw_g (lw_at lw_m1 141 rfl) rfl
theorem q174 : (Jvm.Cond.methodLink "DedupBlocksLaw" (36 : Nat) ({ cls := "DedupBlocks", name := "erase", desc := "(I)I" } : Jvm.MethodName)) ∈ lw_all := lw_g (lw_at lw_m1 149 rfl) rfl
theorem q178 : (Jvm.Cond.methodLink "DedupBlocksLaw" (40 : Nat) ({ cls := "DedupBlocks", name := "holders", desc := "(I)I" } : Jvm.MethodName)) ∈ lw_all := lw_g (lw_at lw_m1 153 rfl) rfl
theorem q182 : (Jvm.Cond.methodLink "DedupBlocksLaw" (44 : Nat) ({ cls := "DedupBlocks", name := "distinct", desc := "()I" } : Jvm.MethodName)) ∈ lw_all := lw_g (lw_at lw_m1 157 rfl) rfl
theorem q186 : (Jvm.Cond.methodLink "DedupBlocksLaw" (49 : Nat) ({ cls := "DedupBlocks", name := "used", desc := "()I" } : Jvm.MethodName)) ∈ lw_all := lw_g (lw_at lw_m1 161 rfl) rfl
theorem q190 : (Jvm.Cond.methodLink "DedupBlocksLaw" (53 : Nat) ({ cls := "DedupBlocks", name := "saved", desc := "()I" } : Jvm.MethodName)) ∈ lw_all := lw_g (lw_at lw_m1 165 rfl) rfl
theorem q194 : (Jvm.Cond.methodLink "DedupBlocksLaw" (57 : Nat) ({ cls := "DedupBlocks", name := "alone", desc := "(I)I" } : Jvm.MethodName)) ∈ lw_all := lw_g (lw_at lw_m1 169 rfl) rfl
theorem q195 : (Jvm.Cond.methodLink "DedupBlocksLaw" (61 : Nat) ({ cls := "DedupBlocks", name := "aloneIn", desc := "(I)I" } : Jvm.MethodName)) ∈ lw_all := lw_g (lw_at lw_m1 170 rfl) rfl
theorem q199 : (Jvm.Cond.methodLink "DedupBlocksLaw" (65 : Nat) ({ cls := "DedupBlocks", name := "twin", desc := "(I)I" } : Jvm.MethodName)) ∈ lw_all := lw_g (lw_at lw_m1 174 rfl) rfl
theorem q203 : (Jvm.Cond.methodLink "DedupBlocksLaw" (69 : Nat) ({ cls := "DedupBlocks", name := "favourite", desc := "()I" } : Jvm.MethodName)) ∈ lw_all := lw_g (lw_at lw_m1 178 rfl) rfl
theorem q207 : (Jvm.Cond.methodLink "DedupBlocksLaw" (73 : Nat) ({ cls := "DedupBlocks", name := "tidy", desc := "()V" } : Jvm.MethodName)) ∈ lw_all := lw_g (lw_at lw_m1 182 rfl) rfl
theorem q211 : (Jvm.Cond.classLink "DedupBlocksLaw" (10 : Nat) "DedupBlocksModel") ∈ lw_all := lw_g (lw_at lw_m1 186 rfl) rfl
theorem q213 : (Jvm.Cond.methodLink "DedupBlocksLaw" (12 : Nat) ({ cls := "DedupBlocksModel", name := "<init>", desc := "()V" } : Jvm.MethodName)) ∈ lw_all := lw_g (lw_at lw_m1 188 rfl) rfl
theorem q224 : (Jvm.Cond.methodLink "DedupBlocksLaw" (17 : Nat) ({ cls := "DedupBlocksModel", name := "write", desc := "(II)I" } : Jvm.MethodName)) ∈ lw_all := lw_g (lw_at lw_m1 199 rfl) rfl
theorem q256 : (Jvm.Cond.methodLink "DedupBlocksLaw" (22 : Nat) ({ cls := "DedupBlocksModel", name := "read", desc := "(I)I" } : Jvm.MethodName)) ∈ lw_all := lw_g (lw_at lw_m1 231 rfl) rfl
theorem q260 : (Jvm.Cond.methodLink "DedupBlocksLaw" (27 : Nat) ({ cls := "DedupBlocksModel", name := "patch", desc := "(III)I" } : Jvm.MethodName)) ∈ lw_all := lw_g (lw_at lw_m1 235 rfl) rfl
theorem q264 : (Jvm.Cond.methodLink "DedupBlocksLaw" (31 : Nat) ({ cls := "DedupBlocksModel", name := "spread", desc := "(III)I" } : Jvm.MethodName)) ∈ lw_all := lw_g (lw_at lw_m1 239 rfl) rfl
theorem q268 : (Jvm.Cond.methodLink "DedupBlocksLaw" (35 : Nat) ({ cls := "DedupBlocksModel", name := "clone", desc := "(II)I" } : Jvm.MethodName)) ∈ lw_all := lw_g (lw_at lw_m2 3 rfl) rfl
theorem q276 : (Jvm.Cond.methodLink "DedupBlocksLaw" (39 : Nat) ({ cls := "DedupBlocksModel", name := "erase", desc := "(I)I" } : Jvm.MethodName)) ∈ lw_all := lw_g (lw_at lw_m2 11 rfl) rfl
theorem q280 : (Jvm.Cond.methodLink "DedupBlocksLaw" (43 : Nat) ({ cls := "DedupBlocksModel", name := "holders", desc := "(I)I" } : Jvm.MethodName)) ∈ lw_all := lw_g (lw_at lw_m2 15 rfl) rfl
theorem q288 : (Jvm.Cond.methodLink "DedupBlocksLaw" (48 : Nat) ({ cls := "DedupBlocksModel", name := "distinct", desc := "()I" } : Jvm.MethodName)) ∈ lw_all := lw_g (lw_at lw_m2 23 rfl) rfl
theorem q292 : (Jvm.Cond.methodLink "DedupBlocksLaw" (52 : Nat) ({ cls := "DedupBlocksModel", name := "used", desc := "()I" } : Jvm.MethodName)) ∈ lw_all := lw_g (lw_at lw_m2 27 rfl) rfl
theorem q293 : (Jvm.Cond.methodLink "DedupBlocksLaw" (56 : Nat) ({ cls := "DedupBlocksModel", name := "saved", desc := "()I" } : Jvm.MethodName)) ∈ lw_all := lw_g (lw_at lw_m2 28 rfl) rfl
theorem q297 : (Jvm.Cond.methodLink "DedupBlocksLaw" (60 : Nat) ({ cls := "DedupBlocksModel", name := "alone", desc := "(I)I" } : Jvm.MethodName)) ∈ lw_all := lw_g (lw_at lw_m2 32 rfl) rfl
theorem q301 : (Jvm.Cond.methodLink "DedupBlocksLaw" (64 : Nat) ({ cls := "DedupBlocksModel", name := "aloneIn", desc := "(I)I" } : Jvm.MethodName)) ∈ lw_all := lw_g (lw_at lw_m2 36 rfl) rfl
theorem q306 : (Jvm.Cond.methodLink "DedupBlocksLaw" (68 : Nat) ({ cls := "DedupBlocksModel", name := "twin", desc := "(I)I" } : Jvm.MethodName)) ∈ lw_all := lw_g (lw_at lw_m2 41 rfl) rfl
theorem q310 : (Jvm.Cond.methodLink "DedupBlocksLaw" (72 : Nat) ({ cls := "DedupBlocksModel", name := "favourite", desc := "()I" } : Jvm.MethodName)) ∈ lw_all := lw_g (lw_at lw_m2 45 rfl) rfl
theorem q314 : (Jvm.Cond.methodLink "DedupBlocksLaw" (76 : Nat) ({ cls := "DedupBlocksModel", name := "tidy", desc := "()V" } : Jvm.MethodName)) ∈ lw_all := lw_g (lw_at lw_m2 49 rfl) rfl
end
section
/-! THE WALK'S OWN ROWS: the machine over integers. A state of a method: pc, locals vs, operand stack st (integers .inl, references .inr), the object's fields τ (τ k j: place j of the array in field k; τ k 0: the number in field k). WX κ M pc vs st τ: from there the machine comes to M's end. κ = 0: DedupBlocks, else DedupBlocksModel. -/
set_option maxRecDepth 100000
abbrev St : Type := Nat → Int → Int
abbrev AV : Type := Int ⊕ Nat
def jI (a : Int) : Int32 := Int32.ofInt a
def rg (a : Int) : Prop := -2147483648 ≤ a ∧ a ≤ 2147483647
theorem jI_add (a b : Int) : jI a + jI b = jI (a + b) := (Int32.ofInt_add a b).symm
theorem jI_sub (a b : Int) : jI a - jI b = jI (a - b) := (Int32.ofInt_sub a b).symm
theorem jI_mul (a b : Int) : jI a * jI b = jI (a * b) := (Int32.ofInt_mul a b).symm
theorem jI_lo : Int32.minValue.toInt = -2147483648 := by decide
theorem jI_hi : Int32.maxValue.toInt = 2147483647 := by decide
theorem jI_lt {a b : Int} (ha : rg a) (hb : rg b) : jI a < jI b ↔ a < b := Int32.ofInt_lt_iff_lt (by rw [jI_lo]; exact ha.1) (by rw [jI_hi]; exact ha.2) (by rw [jI_lo]; exact hb.1) (by rw [jI_hi]; exact hb.2)
theorem jI_le {a b : Int} (ha : rg a) (hb : rg b) : jI a ≤ jI b ↔ a ≤ b := Int32.ofInt_le_iff_le (by rw [jI_lo]; exact ha.1) (by rw [jI_hi]; exact ha.2) (by rw [jI_lo]; exact hb.1) (by rw [jI_hi]; exact hb.2)
theorem jI_toInt {a : Int} (ha : rg a) : (jI a).toInt = a := Int32.toInt_ofInt_of_le (by have := ha.1; omega) (by have := ha.2; omega)
theorem jI_eq {a b : Int} (ha : rg a) (hb : rg b) : jI a = jI b ↔ a = b := by
  constructor
  · intro h
    rw [← jI_toInt ha, ← jI_toInt hb, h]
  · intro h
    rw [h]
theorem jI_clamp {a : Int} (h0 : 0 ≤ a) (h1 : a ≤ 2147483647) : (jI a).toNatClampNeg = a.toNat := Int32.toNatClampNeg_ofInt_of_le (by omega) (by omega)
theorem jI_of (x : Int32) : x = jI x.toInt := (Int32.ofInt_toInt x).symm
theorem jI_rg (x : Int32) : rg x.toInt := by
  have h1 := x.minValue_le_toInt
  have h2 := x.toInt_le
  rw [jI_lo] at h1
  rw [jI_hi] at h2
  exact ⟨h1, h2⟩
theorem jI_0 : (0 : Int32) = jI 0 := by decide
theorem jI_in {a : Int} {n : Nat} (h0 : 0 ≤ a) (h1 : a < n) (hn : n ≤ 2147483647) : vp_in (jI a) n := by
  rw [vp_in_iff, jI_toInt ⟨by omega, by omega⟩]
  exact ⟨h0, h1⟩
theorem jI_bi {n : Int} (h : -128 ≤ n ∧ n ≤ 127) : (Int8.ofInt n).toInt32 = jI n := by
  have h1 : Int8.minValue.toInt = -128 := by decide
  have h2 : Int8.maxValue.toInt = 127 := by decide
  exact Int8.toInt32_ofInt (by omega) (by omega)
theorem jI_si {n : Int} (h : -32768 ≤ n ∧ n ≤ 32767) : (Int16.ofInt n).toInt32 = jI n := by
  have h1 : Int16.minValue.toInt = -32768 := by decide
  have h2 : Int16.maxValue.toInt = 32767 := by decide
  exact Int16.toInt32_ofInt (by omega) (by omega)
def cv (ad : Nat → Nat) (v : AV) : Value := match v with
  | .inl a => .int (jI a)
  | .inr k => .ref (ad k)
theorem cv_cat (ad : Nat → Nat) (v : AV) : (cv ad v).category = 1 := by
  cases v <;> rfl
def lz : Nat → List Value → List (Nat × Value)
  | _, [] => []
  | i, v :: l => (i, v) :: lz (i + 1) l
theorem lz_get : ∀ (l : List Value) (j i : Nat), (lz j l)[i]? = (l[i]?).map (fun v => (j + i, v))
  | [], j, i => by simp [lz]
  | a :: l, j, 0 => by simp [lz]
  | a :: l, j, i + 1 => by
    have h := lz_get l (j + 1) i
    simp only [lz, List.getElem?_cons_succ]
    rw [h, show j + 1 + i = j + (i + 1) by omega]
theorem lz_inv {l : List Value} {j : Nat} {q : Nat × Value} (h : q ∈ lz j l) : ∃ i : Nat, l[i]? = some q.2 ∧ q.1 = j + i := by
  obtain ⟨i, hi⟩ := List.getElem?_of_mem h
  rw [lz_get] at hi
  cases hl : l[i]? with
  | none => rw [hl] at hi; cases hi
  | some v =>
    rw [hl] at hi
    cases hi
    exact ⟨i, hl, rfl⟩
theorem lz_at {ls : Array Slot} {nL : Nat} {ad : Nat → Nat} {vs : List AV} (h : lv_has ls nL (lz 0 (vs.map (cv ad)))) {i : Nat} {v : AV} (hv : vs[i]? = some v) : ls[i]? = some (.val (cv ad v)) := by
  have hm : (i, cv ad v) ∈ lz 0 (vs.map (cv ad)) := by
    refine List.mem_of_getElem? (i := i) ?_
    rw [lz_get, List.getElem?_map, hv]
    simp
  exact h.2.2 _ hm
theorem lz_args (ad : Nat → Nat) : ∀ (l : List AV) (i : Nat), lv_args i (l.map (cv ad)) = lz i (l.map (cv ad))
  | [], i => rfl
  | a :: l, i => by
    show (i, cv ad a) :: lv_args (if (cv ad a).category = 2 then i + 2 else i + 1) (l.map (cv ad)) = (i, cv ad a) :: lz (i + 1) (l.map (cv ad))
    rw [cv_cat, if_neg (by decide), lz_args ad l (i + 1)]
theorem lz_len (ad : Nat → Nat) : ∀ (l : List AV), (lg_sl (l.map (cv ad))).length = l.length
  | [] => rfl
  | a :: l => by
    have h := lz_len ad l
    simp only [lg_sl] at h ⊢
    rw [List.map_cons, List.flatMap_cons, List.length_append, h, cv_cat, if_neg (by decide), List.length_cons, List.length_cons, List.length_nil]
    omega
theorem lz_sum (ad : Nat → Nat) : ∀ (l : List AV), ((l.map (cv ad)).map fun v => v.category).sum = l.length
  | [] => rfl
  | a :: l => by
    have h := lz_sum ad l
    rw [List.map_cons, List.map_cons, List.sum_cons, h, cv_cat, List.length_cons]
    omega
def setL : List AV → Nat → AV → List AV
  | [], _, v => [v]
  | _ :: l, 0, v => v :: l
  | a :: l, i + 1, v => a :: setL l i v
theorem setL_get : ∀ (l : List AV) (i : Nat) (v : AV), i ≤ l.length → ∀ j : Nat, (setL l i v)[j]? = if j = i then some v else l[j]?
  | [], i, v, h, j => by
    have hi : i = 0 := by simpa using h
    subst hi
    cases j <;> simp [setL]
  | a :: l, 0, v, h, j => by
    cases j <;> simp [setL]
  | a :: l, i + 1, v, h, j => by
    cases j with
    | zero => simp [setL]
    | succ j =>
      have h2 := setL_get l i v (by simpa using h) j
      simp only [setL, List.getElem?_cons_succ, h2]
      by_cases hj : j = i
      · simp [hj]
      · simp [hj]
theorem setL_has {ls : Array Slot} {nL i : Nat} {ad : Nat → Nat} {vs : List AV} {v : AV} (hi : i ≤ vs.length) (h : lv_has ls nL ((i, cv ad v) :: (lz 0 (vs.map (cv ad))).filter (fun q => !(q.1 == i) && !(q.1 + 1 == i && q.2.category == 2)))) : lv_has ls nL (lz 0 ((setL vs i v).map (cv ad))) := by
  refine ⟨h.1, h.2.1, fun q hq => ?_⟩
  obtain ⟨j, h1, h2⟩ := lz_inv hq
  rw [List.getElem?_map, setL_get vs i v hi j] at h1
  have hj : q.1 = j := by omega
  by_cases e : j = i
  · rw [if_pos e] at h1
    have h3 : cv ad v = q.2 := Option.some.inj h1
    have : q = (i, cv ad v) := Prod.ext (by omega) h3.symm
    rw [this]
    exact h.2.2 _ List.mem_cons_self
  · rw [if_neg e] at h1
    refine h.2.2 q (List.mem_cons_of_mem _ (List.mem_filter.mpr ⟨?_, ?_⟩))
    · refine List.mem_of_getElem? (i := j) ?_
      rw [lz_get, List.getElem?_map, h1]
      simp [← hj]
    · cases hv : vs[j]? with
      | none => rw [hv] at h1; cases h1
      | some w =>
        rw [hv] at h1
        have h3 : cv ad w = q.2 := Option.some.inj h1
        have h4 : ¬ q.1 = i := by omega
        simp [h4, ← h3, cv_cat]
def sml (τ : St) : Prop := ∀ (k : Nat) (j : Int), -100000 ≤ τ k j ∧ τ k j ≤ 100000
def up (τ : St) (k : Nat) (i v : Int) : St := fun k' j => if k' = k ∧ j = i then v else τ k' j
theorem up_ne {τ : St} {k k' : Nat} {i v j : Int} (h : k' ≠ k) : up τ k i v k' j = τ k' j := by
  unfold up
  rw [if_neg (fun e => h e.1)]
theorem up_eq {τ : St} {k : Nat} {i v : Int} : up τ k i v k i = v := by
  unfold up
  rw [if_pos ⟨rfl, rfl⟩]
theorem up_nj {τ : St} {k k' : Nat} {i v j : Int} (h : j ≠ i) : up τ k i v k' j = τ k' j := by
  unfold up
  rw [if_neg (fun e => h e.2)]
theorem up_if {τ : St} {k : Nat} {i v j : Int} : up τ k i v k j = if j = i then v else τ k j := by
  unfold up
  by_cases h : j = i
  · rw [if_pos ⟨rfl, h⟩, if_pos h]
  · rw [if_neg (fun e => h e.2), if_neg h]
theorem up_sml {τ : St} {k : Nat} {i v : Int} (h : sml τ) (hv : -100000 ≤ v ∧ v ≤ 100000) : sml (up τ k i v) := by
  intro k' j
  unfold up
  by_cases e : k' = k ∧ j = i
  · rw [if_pos e]; exact hv
  · rw [if_neg e]; exact h k' j
abbrev vwCl : List vw_C := [(RX0, TX0, 14), (RX1, TX1, 2)]
def c0 (d0 : ClassId) (ad : Nat → Nat) (τ : St) : va_W := [
  (ad 0, .inr (0, [.ref (ad 1), .ref (ad 2), .ref (ad 3), .ref (ad 4), .ref (ad 5), .ref (ad 6), .ref (ad 7), .ref (ad 8), .int (jI (τ 8 0)), .int (jI (τ 9 0)), .ref (ad 11), .ref (ad 12), .ref (ad 13), .int (jI (τ 13 0))])),
  (ad 1, .inl (d0, 32, .inl (fun j : Nat => jI (τ 0 j)))),
  (ad 2, .inl (d0, 33, .inl (fun j : Nat => jI (τ 1 j)))),
  (ad 3, .inl (d0, 33, .inl (fun j : Nat => jI (τ 2 j)))),
  (ad 4, .inl (d0, 33, .inl (fun j : Nat => jI (τ 3 j)))),
  (ad 5, .inl (d0, 33, .inl (fun j : Nat => jI (τ 4 j)))),
  (ad 6, .inl (d0, 80, .inl (fun j : Nat => jI (τ 5 j)))),
  (ad 7, .inl (d0, 10, .inl (fun j : Nat => jI (τ 6 j)))),
  (ad 8, .inl (d0, 10, .inl (fun j : Nat => jI (τ 7 j)))),
  (ad 11, .inl (d0, 64, .inl (fun j : Nat => jI (τ 10 j)))),
  (ad 12, .inl (d0, 33, .inl (fun j : Nat => jI (τ 11 j)))),
  (ad 13, .inl (d0, 5, .inl (fun j : Nat => jI (τ 12 j))))]
def c1 (d0 : ClassId) (ad : Nat → Nat) (τ : St) : va_W := [
  (ad 0, .inr (1, [.ref (ad 1), .ref (ad 2)])),
  (ad 1, .inl (d0, 32, .inl (fun j : Nat => jI (τ 0 j)))),
  (ad 2, .inl (d0, 32, .inl (fun j : Nat => jI (τ 1 j))))]
/-- the law's two objects: addresses and fields of the one and of the other -/
def aX (ad : Nat → Nat) (k : Nat) : Nat := match k with
  | 0 => ad 1
  | k + 1 => ad (10 + k)
def aM (ad : Nat → Nat) (k : Nat) : Nat := match k with
  | 0 => ad 2
  | k + 1 => ad (30 + k)
def tM (τ : St) (k : Nat) : Int → Int := τ (20 + k)
def mrg (τ0 τ1 : St) : St := fun k => if k < 20 then τ0 k else τ1 (k - 20)
def cs (κ : Nat) (d0 : ClassId) (ad : Nat → Nat) (τ : St) : va_W := match κ with
  | 0 => c0 d0 ad τ
  | 1 => c1 d0 ad τ
  | _ => c0 d0 (aX ad) τ ++ c1 d0 (aM ad) (tM τ)
def ow (κ : Nat) : String := match κ with
  | 0 => RX0
  | 1 => RX1
  | _ => "DedupBlocksLaw"
/-- the array fields: place among the cells, length -/
def ar0 (k : Nat) : Option (Nat × Nat) := match k with
  | 0 => some (1, 32)
  | 1 => some (2, 33)
  | 2 => some (3, 33)
  | 3 => some (4, 33)
  | 4 => some (5, 33)
  | 5 => some (6, 80)
  | 6 => some (7, 10)
  | 7 => some (8, 10)
  | 10 => some (9, 64)
  | 11 => some (10, 33)
  | 12 => some (11, 5)
  | _ => none
def ar1 (k : Nat) : Option (Nat × Nat) := match k with
  | 0 => some (1, 32)
  | 1 => some (2, 32)
  | _ => none
def ar (κ k : Nat) : Option (Nat × Nat) := match κ with
  | 0 => ar0 k
  | 1 => ar1 k
  | _ => none
theorem ar0_cases {k : Nat} {qn : Nat × Nat} (h : ar0 k = some qn) : (k = 0 ∧ qn = (1, 32)) ∨ (k = 1 ∧ qn = (2, 33)) ∨ (k = 2 ∧ qn = (3, 33)) ∨ (k = 3 ∧ qn = (4, 33)) ∨ (k = 4 ∧ qn = (5, 33)) ∨ (k = 5 ∧ qn = (6, 80)) ∨ (k = 6 ∧ qn = (7, 10)) ∨ (k = 7 ∧ qn = (8, 10)) ∨ (k = 10 ∧ qn = (9, 64)) ∨ (k = 11 ∧ qn = (10, 33)) ∨ (k = 12 ∧ qn = (11, 5)) := by
  unfold ar0 at h
  split at h <;> simp_all
theorem ar1_cases {k : Nat} {qn : Nat × Nat} (h : ar1 k = some qn) : (k = 0 ∧ qn = (1, 32)) ∨ (k = 1 ∧ qn = (2, 32)) := by
  unfold ar1 at h
  split at h <;> simp_all
theorem cs_at {κ k q0 n : Nat} {d0 : ClassId} {ad : Nat → Nat} {τ : St} (h : ar κ k = some (q0, n)) : (cs κ d0 ad τ)[q0]? = some (ad (k + 1), .inl (d0, n, .inl (fun j : Nat => jI (τ k j)))) := by
  match κ, h with
  | 0, h =>
    rcases ar0_cases h with ⟨rfl, e⟩ | ⟨rfl, e⟩ | ⟨rfl, e⟩ | ⟨rfl, e⟩ | ⟨rfl, e⟩ | ⟨rfl, e⟩ | ⟨rfl, e⟩ | ⟨rfl, e⟩ | ⟨rfl, e⟩ | ⟨rfl, e⟩ | ⟨rfl, e⟩ <;> (cases e; rfl)
  | 1, h =>
    rcases ar1_cases h with ⟨rfl, e⟩ | ⟨rfl, e⟩ <;> (cases e; rfl)
  | κ + 2, h => cases h
theorem ar_len {κ k q0 n : Nat} (h : ar κ k = some (q0, n)) : n ≤ 80 := by
  match κ, h with
  | 0, h =>
    rcases ar0_cases h with ⟨-, e⟩ | ⟨-, e⟩ | ⟨-, e⟩ | ⟨-, e⟩ | ⟨-, e⟩ | ⟨-, e⟩ | ⟨-, e⟩ | ⟨-, e⟩ | ⟨-, e⟩ | ⟨-, e⟩ | ⟨-, e⟩ <;> (cases e; decide)
  | 1, h =>
    rcases ar1_cases h with ⟨-, e⟩ | ⟨-, e⟩ <;> (cases e; decide)
  | κ + 2, h => cases h
theorem upd_up {τ : St} {k i : Nat} {v : Int} : upd (fun j : Nat => jI (τ k j)) i (jI v) = fun j : Nat => jI (up τ k i v k j) := by
  funext j
  rw [up_if]
  unfold upd
  by_cases h : j = i
  · rw [if_pos h, if_pos (by omega)]
  · rw [if_neg h, if_neg (by omega)]
theorem cs_set {κ k q0 n : Nat} {d0 : ClassId} {ad : Nat → Nat} {τ : St} (h : ar κ k = some (q0, n)) (i : Nat) (v : Int) : (cs κ d0 ad τ).set q0 (ad (k + 1), .inl (d0, n, .inl (upd (fun j : Nat => jI (τ k j)) i (jI v)))) = cs κ d0 ad (up τ k i v) := by
  rw [upd_up]
  match κ, h with
  | 0, h =>
    rcases ar0_cases h with ⟨rfl, e⟩ | ⟨rfl, e⟩ | ⟨rfl, e⟩ | ⟨rfl, e⟩ | ⟨rfl, e⟩ | ⟨rfl, e⟩ | ⟨rfl, e⟩ | ⟨rfl, e⟩ | ⟨rfl, e⟩ | ⟨rfl, e⟩ | ⟨rfl, e⟩ <;> (cases e; simp [cs, c0, up_ne])
  | 1, h =>
    rcases ar1_cases h with ⟨rfl, e⟩ | ⟨rfl, e⟩ <;> (cases e; simp [cs, c1, up_ne])
  | κ + 2, h => cases h
theorem TX0_1 (k : Nat) : (TX0 k).1 = RX0 := by
  unfold TX0
  split <;> rfl
theorem TX1_1 (k : Nat) : (TX1 k).1 = RX1 := by
  unfold TX1
  split <;> rfl
abbrev Mx : Type := Program × Launch × Env × Room × State × MethodId × Array Value × List Frame × Method × Code × va_G × ClassId × (Nat → Prop) × (Nat → Nat) × (State → Prop) × Nat × Nat × Nat
def WX (κ : Nat) (M : Mx) (pc : Nat) (vs st : List AV) (τ : St) : Prop := match M with
  | (p, l, e, R, s, m, args, below, meth, c, D, d0, A, ad, Q, nL, nc, ns) => sml τ → ∀ (H : Heap) (locs : List Loc) (ls : Array Slot), lv_has ls nL (lz 0 (vs.map (cv ad))) → va_P D vwCl (cs κ d0 ad τ) H → va_D A (cs κ d0 ad τ) → va_S A s.heap H locs → W p l e R s m args below meth c H locs nc ns Q (F0 m pc ls (st.map (cv ad)))
def Cx (κ : Nat) (M : Mx) (cc : ByteArray) (nL0 F : Nat) : Prop := match M with
  | (p, l, e, R, s, m, args, below, meth, c, D, d0, A, ad, Q, nL, nc, ns) => p.tables.exec = Jvm.exec ∧ c.code = cc ∧ c.maxLocals = nL ∧ nL = nL0 ∧ s.vm.findClass (ow κ) = some m.cls ∧ (∀ w ∈ lw_all, w.before args s = true) ∧ va_K D vwCl [(d0, .int)] s ∧ F ≤ R.frames ∧ 27 * F ≤ R.locals ∧ (∀ q : Nat, s.heap.size ≤ q → A q) ∧ nc ≤ R.cells ∧ ns ≤ R.slots
def QxI (κ : Nat) (D : va_G) (d0 : ClassId) (ad : Nat → Nat) (Po : Int → St → Prop) (A : Nat → Prop) : Array Value → State → Outcome → State → Prop := va_Qi (fun (r : Int32) (τ' : St) => ∃ z : Int, r = jI z ∧ rg z ∧ sml τ' ∧ Po z τ') (fun τ' t => va_P D vwCl (cs κ d0 ad τ') t.heap ∧ va_K D vwCl [(d0, .int)] t ∧ va_D A (cs κ d0 ad τ')) A
def QxV (κ : Nat) (D : va_G) (d0 : ClassId) (ad : Nat → Nat) (Po : St → Prop) (A : Nat → Prop) : Array Value → State → Outcome → State → Prop := va_Qv (fun (τ' : St) => sml τ' ∧ Po τ') (fun τ' t => va_P D vwCl (cs κ d0 ad τ') t.heap ∧ va_K D vwCl [(d0, .int)] t ∧ va_D A (cs κ d0 ad τ')) A
def RtI (κ : Nat) (M : Mx) (ty : FieldType) (Po : Int → St → Prop) : Prop := match M with
  | (p, l, e, R, s, m, args, below, meth, c, D, d0, A, ad, Q, nL, nc, ns) => meth.sig.returnType = some ty ∧ meth.locks = false ∧ Q = MQ below (QxI κ D d0 ad Po A) args s nc ns A
def RtV (κ : Nat) (M : Mx) (Po : St → Prop) : Prop := match M with
  | (p, l, e, R, s, m, args, below, meth, c, D, d0, A, ad, Q, nL, nc, ns) => meth.sig.returnType = none ∧ meth.locks = false ∧ Q = MQ below (QxV κ D d0 ad Po A) args s nc ns A
section XR
variable {κ : Nat} {M : Mx} {cc : ByteArray} {nL F pc q : Nat} {vs st : List AV} {τ : St}
theorem x_iconst {n : Int} (h : Cx κ M cc nL F) (d : decode cc pc = .ok (.iconst n, 1)) (hq : pc + 1 = q) (kk : WX κ M q vs (.inl n :: st) τ) : WX κ M pc vs st τ := by
  subst hq
  obtain ⟨p, l, e, R, s, m, args, below, meth, c, D, d0, A, ad, Q, nL', nc, ns⟩ := M
  obtain ⟨hx, hb, -⟩ := h
  intro hs H locs ls hl hP hD hS
  exact lv_iconst hx hb d rfl (kk hs H locs ls hl hP hD hS)
theorem x_bipush {n : Int} (h : Cx κ M cc nL F) (d : decode cc pc = .ok (.bipush n, 2)) (hq : pc + 2 = q) (hn : -128 ≤ n ∧ n ≤ 127) (kk : WX κ M q vs (.inl n :: st) τ) : WX κ M pc vs st τ := by
  subst hq
  obtain ⟨p, l, e, R, s, m, args, below, meth, c, D, d0, A, ad, Q, nL', nc, ns⟩ := M
  obtain ⟨hx, hb, -⟩ := h
  intro hs H locs ls hl hP hD hS
  exact lv_bipush hx hb d (jI_bi hn) (kk hs H locs ls hl hP hD hS)
theorem x_sipush {n : Int} (h : Cx κ M cc nL F) (d : decode cc pc = .ok (.sipush n, 3)) (hq : pc + 3 = q) (hn : -32768 ≤ n ∧ n ≤ 32767) (kk : WX κ M q vs (.inl n :: st) τ) : WX κ M pc vs st τ := by
  subst hq
  obtain ⟨p, l, e, R, s, m, args, below, meth, c, D, d0, A, ad, Q, nL', nc, ns⟩ := M
  obtain ⟨hx, hb, -⟩ := h
  intro hs H locs ls hl hP hD hS
  exact lv_sipush hx hb d (jI_si hn) (kk hs H locs ls hl hP hD hS)
theorem x_ldc {idx : Nat} {v : Int32} {n : Int} (h : Cx κ M cc nL F) (hw : Cond.constant (ow κ) idx v ∈ lw_all) (hv : v = jI n) (d : decode cc pc = .ok (.ldc idx, 2)) (hq : pc + 2 = q) (kk : WX κ M q vs (.inl n :: st) τ) : WX κ M pc vs st τ := by
  subst hq
  subst hv
  obtain ⟨p, l, e, R, s, m, args, below, meth, c, D, d0, A, ad, Q, nL', nc, ns⟩ := M
  obtain ⟨hx, hb, hml, hnL, hown, hts, -⟩ := h
  intro hs H locs ls hl hP hD hS
  exact lv_ldc hx hb hown (hts _ hw) d (kk hs H locs ls hl hP hD hS)
theorem x_iload_n {k : Fin 4} {i : Nat} {a : Int} (h : Cx κ M cc nL F) (d : decode cc pc = .ok (.iload_n k, 1)) (hi : (k : Nat) = i) (hv : vs[i]? = some (.inl a)) (hq : pc + 1 = q) (kk : WX κ M q vs (.inl a :: st) τ) : WX κ M pc vs st τ := by
  subst hq
  obtain ⟨p, l, e, R, s, m, args, below, meth, c, D, d0, A, ad, Q, nL', nc, ns⟩ := M
  obtain ⟨hx, hb, -⟩ := h
  intro hs H locs ls hl hP hD hS
  exact lv_iload_n hx hb d hi (lz_at hl hv) (kk hs H locs ls hl hP hD hS)
theorem x_iload {i : Nat} {a : Int} (h : Cx κ M cc nL F) (d : decode cc pc = .ok (.iload i, 2)) (hv : vs[i]? = some (.inl a)) (hq : pc + 2 = q) (kk : WX κ M q vs (.inl a :: st) τ) : WX κ M pc vs st τ := by
  subst hq
  obtain ⟨p, l, e, R, s, m, args, below, meth, c, D, d0, A, ad, Q, nL', nc, ns⟩ := M
  obtain ⟨hx, hb, -⟩ := h
  intro hs H locs ls hl hP hD hS
  exact lv_iload hx hb d (lz_at hl hv) (kk hs H locs ls hl hP hD hS)
theorem x_aload_n {k : Fin 4} {i : Nat} {a : Nat} (h : Cx κ M cc nL F) (d : decode cc pc = .ok (.aload_n k, 1)) (hi : (k : Nat) = i) (hv : vs[i]? = some (.inr a)) (hq : pc + 1 = q) (kk : WX κ M q vs (.inr a :: st) τ) : WX κ M pc vs st τ := by
  subst hq
  obtain ⟨p, l, e, R, s, m, args, below, meth, c, D, d0, A, ad, Q, nL', nc, ns⟩ := M
  obtain ⟨hx, hb, -⟩ := h
  intro hs H locs ls hl hP hD hS
  exact lv_aload_n hx hb d hi (lz_at hl hv) (kk hs H locs ls hl hP hD hS)
theorem x_istore_n {k : Fin 4} {i : Nat} {a : Int} {vs' : List AV} (h : Cx κ M cc nL F) (d : decode cc pc = .ok (.istore_n k, 1)) (hi : (k : Nat) = i) (hn : i < nL) (hv : i ≤ vs.length) (he : setL vs i (.inl a) = vs') (hq : pc + 1 = q) (kk : WX κ M q vs' st τ) : WX κ M pc vs (.inl a :: st) τ := by
  subst hq
  subst he
  obtain ⟨p, l, e, R, s, m, args, below, meth, c, D, d0, A, ad, Q, nL', nc, ns⟩ := M
  obtain ⟨hx, hb, hml, hnL, -⟩ := h
  intro hs H locs ls hl hP hD hS
  exact lv_istore_n hx hb d hi hl (hnL ▸ hn) rfl (fun ls' hl' => kk hs H locs ls' (setL_has (v := .inl a) hv hl') hP hD hS)
theorem x_istore {i : Nat} {a : Int} {vs' : List AV} (h : Cx κ M cc nL F) (d : decode cc pc = .ok (.istore i, 2)) (hn : i < nL) (hv : i ≤ vs.length) (he : setL vs i (.inl a) = vs') (hq : pc + 2 = q) (kk : WX κ M q vs' st τ) : WX κ M pc vs (.inl a :: st) τ := by
  subst hq
  subst he
  obtain ⟨p, l, e, R, s, m, args, below, meth, c, D, d0, A, ad, Q, nL', nc, ns⟩ := M
  obtain ⟨hx, hb, hml, hnL, -⟩ := h
  intro hs H locs ls hl hP hD hS
  exact lv_istore hx hb d hl (hnL ▸ hn) rfl (fun ls' hl' => kk hs H locs ls' (setL_has (v := .inl a) hv hl') hP hD hS)
theorem x_iinc {i : Nat} {n a : Int} {vs' : List AV} (h : Cx κ M cc nL F) (d : decode cc pc = .ok (.iinc i n, 3)) (hn : i < nL) (hv : vs[i]? = some (.inl a)) (he : setL vs i (.inl (a + n)) = vs') (hq : pc + 3 = q) (kk : WX κ M q vs' st τ) : WX κ M pc vs st τ := by
  subst hq
  subst he
  obtain ⟨p, l, e, R, s, m, args, below, meth, c, D, d0, A, ad, Q, nL', nc, ns⟩ := M
  obtain ⟨hx, hb, hml, hnL, -⟩ := h
  intro hs H locs ls hl hP hD hS
  have hi : i ≤ vs.length := Nat.le_of_lt (List.getElem?_eq_some_iff.mp hv).1
  exact lv_iinc (x := jI a) (v := jI (a + n)) (k := i) hx hb d hl (by rw [lz_get, List.getElem?_map, hv]; simp [cv]) (jI_add a n) (hnL ▸ hn) rfl (fun ls' hl' => kk hs H locs ls' (setL_has (v := .inl (a + n)) hi hl') hP hD hS)
theorem x_iadd {a b : Int} (h : Cx κ M cc nL F) (d : decode cc pc = .ok (.iadd, 1)) (hq : pc + 1 = q) (kk : WX κ M q vs (.inl (a + b) :: st) τ) : WX κ M pc vs (.inl b :: .inl a :: st) τ := by
  subst hq
  obtain ⟨p, l, e, R, s, m, args, below, meth, c, D, d0, A, ad, Q, nL', nc, ns⟩ := M
  obtain ⟨hx, hb, -⟩ := h
  intro hs H locs ls hl hP hD hS
  refine lv_iadd (x := jI a) (y := jI b) hx hb d ?_
  rw [jI_add]
  exact kk hs H locs ls hl hP hD hS
theorem x_isub {a b : Int} (h : Cx κ M cc nL F) (d : decode cc pc = .ok (.isub, 1)) (hq : pc + 1 = q) (kk : WX κ M q vs (.inl (a - b) :: st) τ) : WX κ M pc vs (.inl b :: .inl a :: st) τ := by
  subst hq
  obtain ⟨p, l, e, R, s, m, args, below, meth, c, D, d0, A, ad, Q, nL', nc, ns⟩ := M
  obtain ⟨hx, hb, -⟩ := h
  intro hs H locs ls hl hP hD hS
  refine lv_isub (x := jI a) (y := jI b) hx hb d ?_
  rw [jI_sub]
  exact kk hs H locs ls hl hP hD hS
theorem x_imul {a b : Int} (h : Cx κ M cc nL F) (d : decode cc pc = .ok (.imul, 1)) (hq : pc + 1 = q) (kk : WX κ M q vs (.inl (a * b) :: st) τ) : WX κ M pc vs (.inl b :: .inl a :: st) τ := by
  subst hq
  obtain ⟨p, l, e, R, s, m, args, below, meth, c, D, d0, A, ad, Q, nL', nc, ns⟩ := M
  obtain ⟨hx, hb, -⟩ := h
  intro hs H locs ls hl hP hD hS
  refine lv_imul (x := jI a) (y := jI b) hx hb d ?_
  rw [jI_mul]
  exact kk hs H locs ls hl hP hD hS
theorem x_iand {a b : Int} (z : Int) (h : Cx κ M cc nL F) (d : decode cc pc = .ok (.iand, 1)) (hz : jI a &&& jI b = jI z) (hq : pc + 1 = q) (kk : WX κ M q vs (.inl z :: st) τ) : WX κ M pc vs (.inl b :: .inl a :: st) τ := by
  subst hq
  obtain ⟨p, l, e, R, s, m, args, below, meth, c, D, d0, A, ad, Q, nL', nc, ns⟩ := M
  obtain ⟨hx, hb, -⟩ := h
  intro hs H locs ls hl hP hD hS
  refine lv_iand (x := jI a) (y := jI b) hx hb d ?_
  rw [hz]
  exact kk hs H locs ls hl hP hD hS
theorem x_ior {a b : Int} (z : Int) (h : Cx κ M cc nL F) (d : decode cc pc = .ok (.ior, 1)) (hz : jI a ||| jI b = jI z) (hq : pc + 1 = q) (kk : WX κ M q vs (.inl z :: st) τ) : WX κ M pc vs (.inl b :: .inl a :: st) τ := by
  subst hq
  obtain ⟨p, l, e, R, s, m, args, below, meth, c, D, d0, A, ad, Q, nL', nc, ns⟩ := M
  obtain ⟨hx, hb, -⟩ := h
  intro hs H locs ls hl hP hD hS
  refine lv_ior (x := jI a) (y := jI b) hx hb d ?_
  rw [hz]
  exact kk hs H locs ls hl hP hD hS
theorem x_ixor {a b : Int} (z : Int) (h : Cx κ M cc nL F) (d : decode cc pc = .ok (.ixor, 1)) (hz : jI a ^^^ jI b = jI z) (hq : pc + 1 = q) (kk : WX κ M q vs (.inl z :: st) τ) : WX κ M pc vs (.inl b :: .inl a :: st) τ := by
  subst hq
  obtain ⟨p, l, e, R, s, m, args, below, meth, c, D, d0, A, ad, Q, nL', nc, ns⟩ := M
  obtain ⟨hx, hb, -⟩ := h
  intro hs H locs ls hl hP hD hS
  refine lv_ixor (x := jI a) (y := jI b) hx hb d ?_
  rw [hz]
  exact kk hs H locs ls hl hP hD hS
theorem x_ishl {a b : Int} (z : Int) (h : Cx κ M cc nL F) (d : decode cc pc = .ok (.ishl, 1)) (hz : jI a <<< (jI b &&& 31) = jI z) (hq : pc + 1 = q) (kk : WX κ M q vs (.inl z :: st) τ) : WX κ M pc vs (.inl b :: .inl a :: st) τ := by
  subst hq
  obtain ⟨p, l, e, R, s, m, args, below, meth, c, D, d0, A, ad, Q, nL', nc, ns⟩ := M
  obtain ⟨hx, hb, -⟩ := h
  intro hs H locs ls hl hP hD hS
  refine lv_ishl (x := jI a) (y := jI b) hx hb d ?_
  rw [hz]
  exact kk hs H locs ls hl hP hD hS
theorem x_ishr {a b : Int} (z : Int) (h : Cx κ M cc nL F) (d : decode cc pc = .ok (.ishr, 1)) (hz : jI a >>> (jI b &&& 31) = jI z) (hq : pc + 1 = q) (kk : WX κ M q vs (.inl z :: st) τ) : WX κ M pc vs (.inl b :: .inl a :: st) τ := by
  subst hq
  obtain ⟨p, l, e, R, s, m, args, below, meth, c, D, d0, A, ad, Q, nL', nc, ns⟩ := M
  obtain ⟨hx, hb, -⟩ := h
  intro hs H locs ls hl hP hD hS
  refine lv_ishr (x := jI a) (y := jI b) hx hb d ?_
  rw [hz]
  exact kk hs H locs ls hl hP hD hS
theorem x_idiv {a b : Int} (z : Int) (h : Cx κ M cc nL F) (d : decode cc pc = .ok (.idiv, 1)) (h0 : ¬ jI b = 0) (hz : jI a / jI b = jI z) (hq : pc + 1 = q) (kk : WX κ M q vs (.inl z :: st) τ) : WX κ M pc vs (.inl b :: .inl a :: st) τ := by
  subst hq
  obtain ⟨p, l, e, R, s, m, args, below, meth, c, D, d0, A, ad, Q, nL', nc, ns⟩ := M
  obtain ⟨hx, hb, -⟩ := h
  intro hs H locs ls hl hP hD hS
  refine lv_idiv (x := jI a) (y := jI b) hx hb d h0 ?_
  rw [hz]
  exact kk hs H locs ls hl hP hD hS
theorem x_goto {off : Int} {tgt : Nat} (h : Cx κ M cc nL F) (d : decode cc pc = .ok (.goto off, 3)) (ht : (pc : Int) + off = (tgt : Int)) (kk : WX κ M tgt vs st τ) : WX κ M pc vs st τ := by
  obtain ⟨p, l, e, R, s, m, args, below, meth, c, D, d0, A, ad, Q, nL', nc, ns⟩ := M
  obtain ⟨hx, hb, -⟩ := h
  intro hs H locs ls hl hP hD hS
  exact lv_goto hx hb d ht (kk hs H locs ls hl hP hD hS)
theorem x_pop {v : AV} (h : Cx κ M cc nL F) (d : decode cc pc = .ok (.pop, 1)) (hq : pc + 1 = q) (kk : WX κ M q vs st τ) : WX κ M pc vs (v :: st) τ := by
  subst hq
  obtain ⟨p, l, e, R, s, m, args, below, meth, c, D, d0, A, ad, Q, nL', nc, ns⟩ := M
  obtain ⟨hx, hb, -⟩ := h
  intro hs H locs ls hl hP hD hS
  exact lv_pop hx hb d (cv_cat ad v) (kk hs H locs ls hl hP hD hS)
theorem x_dup {v : AV} (h : Cx κ M cc nL F) (d : decode cc pc = .ok (.dup, 1)) (hq : pc + 1 = q) (kk : WX κ M q vs (v :: v :: st) τ) : WX κ M pc vs (v :: st) τ := by
  subst hq
  obtain ⟨p, l, e, R, s, m, args, below, meth, c, D, d0, A, ad, Q, nL', nc, ns⟩ := M
  obtain ⟨hx, hb, -⟩ := h
  intro hs H locs ls hl hP hD hS
  exact lv_dup hx hb d (cv_cat ad v) (kk hs H locs ls hl hP hD hS)
theorem rg_0 : rg 0 := ⟨by decide, by decide⟩
theorem x_icmp_eq {a b off : Int} {tgt : Nat} (h : Cx κ M cc nL F) (d : decode cc pc = .ok (.if_icmp .eq off, 3)) (ht : (pc : Int) + off = (tgt : Int)) (hq : pc + 3 = q) (hra : -2147483648 ≤ a ∧ a ≤ 2147483647) (hrb : -2147483648 ≤ b ∧ b ≤ 2147483647) (kt : a = b → WX κ M tgt vs st τ) (kf : a ≠ b → WX κ M q vs st τ) : WX κ M pc vs (.inl b :: .inl a :: st) τ := by
  subst hq
  obtain ⟨p, l, e, R, s, m, args, below, meth, c, D, d0, A, ad, Q, nL', nc, ns⟩ := M
  obtain ⟨hx, hb, -⟩ := h
  intro hs H locs ls hl hP hD hS
  exact lv_icmp_eq (x := jI a) (y := jI b) hx hb d ht (fun hc => kt ((jI_eq hra hrb).mp hc) hs H locs ls hl hP hD hS) (fun hc => kf (fun e => hc ((jI_eq hra hrb).mpr e)) hs H locs ls hl hP hD hS)
theorem x_if_eq {a off : Int} {tgt : Nat} (h : Cx κ M cc nL F) (d : decode cc pc = .ok (.ifCond .eq off, 3)) (ht : (pc : Int) + off = (tgt : Int)) (hq : pc + 3 = q) (hra : -2147483648 ≤ a ∧ a ≤ 2147483647) (kt : a = 0 → WX κ M tgt vs st τ) (kf : a ≠ 0 → WX κ M q vs st τ) : WX κ M pc vs (.inl a :: st) τ := by
  subst hq
  obtain ⟨p, l, e, R, s, m, args, below, meth, c, D, d0, A, ad, Q, nL', nc, ns⟩ := M
  obtain ⟨hx, hb, -⟩ := h
  intro hs H locs ls hl hP hD hS
  exact lv_if_eq (x := jI a) hx hb d ht (fun hc => kt ((jI_eq hra rg_0).mp hc) hs H locs ls hl hP hD hS) (fun hc => kf (fun e => hc ((jI_eq hra rg_0).mpr e)) hs H locs ls hl hP hD hS)
theorem x_icmp_ne {a b off : Int} {tgt : Nat} (h : Cx κ M cc nL F) (d : decode cc pc = .ok (.if_icmp .ne off, 3)) (ht : (pc : Int) + off = (tgt : Int)) (hq : pc + 3 = q) (hra : -2147483648 ≤ a ∧ a ≤ 2147483647) (hrb : -2147483648 ≤ b ∧ b ≤ 2147483647) (kt : a ≠ b → WX κ M tgt vs st τ) (kf : a = b → WX κ M q vs st τ) : WX κ M pc vs (.inl b :: .inl a :: st) τ := by
  subst hq
  obtain ⟨p, l, e, R, s, m, args, below, meth, c, D, d0, A, ad, Q, nL', nc, ns⟩ := M
  obtain ⟨hx, hb, -⟩ := h
  intro hs H locs ls hl hP hD hS
  exact lv_icmp_ne (x := jI a) (y := jI b) hx hb d ht (fun hc => kt (fun e => hc ((jI_eq hra hrb).mpr e)) hs H locs ls hl hP hD hS) (fun hc => kf ((jI_eq hra hrb).mp hc) hs H locs ls hl hP hD hS)
theorem x_if_ne {a off : Int} {tgt : Nat} (h : Cx κ M cc nL F) (d : decode cc pc = .ok (.ifCond .ne off, 3)) (ht : (pc : Int) + off = (tgt : Int)) (hq : pc + 3 = q) (hra : -2147483648 ≤ a ∧ a ≤ 2147483647) (kt : a ≠ 0 → WX κ M tgt vs st τ) (kf : a = 0 → WX κ M q vs st τ) : WX κ M pc vs (.inl a :: st) τ := by
  subst hq
  obtain ⟨p, l, e, R, s, m, args, below, meth, c, D, d0, A, ad, Q, nL', nc, ns⟩ := M
  obtain ⟨hx, hb, -⟩ := h
  intro hs H locs ls hl hP hD hS
  exact lv_if_ne (x := jI a) hx hb d ht (fun hc => kt (fun e => hc ((jI_eq hra rg_0).mpr e)) hs H locs ls hl hP hD hS) (fun hc => kf ((jI_eq hra rg_0).mp hc) hs H locs ls hl hP hD hS)
theorem x_icmp_lt {a b off : Int} {tgt : Nat} (h : Cx κ M cc nL F) (d : decode cc pc = .ok (.if_icmp .lt off, 3)) (ht : (pc : Int) + off = (tgt : Int)) (hq : pc + 3 = q) (hra : -2147483648 ≤ a ∧ a ≤ 2147483647) (hrb : -2147483648 ≤ b ∧ b ≤ 2147483647) (kt : a < b → WX κ M tgt vs st τ) (kf : b ≤ a → WX κ M q vs st τ) : WX κ M pc vs (.inl b :: .inl a :: st) τ := by
  subst hq
  obtain ⟨p, l, e, R, s, m, args, below, meth, c, D, d0, A, ad, Q, nL', nc, ns⟩ := M
  obtain ⟨hx, hb, -⟩ := h
  intro hs H locs ls hl hP hD hS
  exact lv_icmp_lt (x := jI a) (y := jI b) hx hb d ht (fun hc => kt ((jI_lt hra hrb).mp hc) hs H locs ls hl hP hD hS) (fun hc => kf (by have h9 := mt (jI_lt hra hrb).mpr hc; omega) hs H locs ls hl hP hD hS)
theorem x_if_lt {a off : Int} {tgt : Nat} (h : Cx κ M cc nL F) (d : decode cc pc = .ok (.ifCond .lt off, 3)) (ht : (pc : Int) + off = (tgt : Int)) (hq : pc + 3 = q) (hra : -2147483648 ≤ a ∧ a ≤ 2147483647) (kt : a < 0 → WX κ M tgt vs st τ) (kf : 0 ≤ a → WX κ M q vs st τ) : WX κ M pc vs (.inl a :: st) τ := by
  subst hq
  obtain ⟨p, l, e, R, s, m, args, below, meth, c, D, d0, A, ad, Q, nL', nc, ns⟩ := M
  obtain ⟨hx, hb, -⟩ := h
  intro hs H locs ls hl hP hD hS
  exact lv_if_lt (x := jI a) hx hb d ht (fun hc => kt ((jI_lt hra rg_0).mp hc) hs H locs ls hl hP hD hS) (fun hc => kf (by have h9 := mt (jI_lt hra rg_0).mpr hc; omega) hs H locs ls hl hP hD hS)
theorem x_icmp_ge {a b off : Int} {tgt : Nat} (h : Cx κ M cc nL F) (d : decode cc pc = .ok (.if_icmp .ge off, 3)) (ht : (pc : Int) + off = (tgt : Int)) (hq : pc + 3 = q) (hra : -2147483648 ≤ a ∧ a ≤ 2147483647) (hrb : -2147483648 ≤ b ∧ b ≤ 2147483647) (kt : b ≤ a → WX κ M tgt vs st τ) (kf : a < b → WX κ M q vs st τ) : WX κ M pc vs (.inl b :: .inl a :: st) τ := by
  subst hq
  obtain ⟨p, l, e, R, s, m, args, below, meth, c, D, d0, A, ad, Q, nL', nc, ns⟩ := M
  obtain ⟨hx, hb, -⟩ := h
  intro hs H locs ls hl hP hD hS
  exact lv_icmp_ge (x := jI a) (y := jI b) hx hb d ht (fun hc => kt ((jI_le hrb hra).mp hc) hs H locs ls hl hP hD hS) (fun hc => kf (by have h9 := mt (jI_le hrb hra).mpr hc; omega) hs H locs ls hl hP hD hS)
theorem x_if_ge {a off : Int} {tgt : Nat} (h : Cx κ M cc nL F) (d : decode cc pc = .ok (.ifCond .ge off, 3)) (ht : (pc : Int) + off = (tgt : Int)) (hq : pc + 3 = q) (hra : -2147483648 ≤ a ∧ a ≤ 2147483647) (kt : 0 ≤ a → WX κ M tgt vs st τ) (kf : a < 0 → WX κ M q vs st τ) : WX κ M pc vs (.inl a :: st) τ := by
  subst hq
  obtain ⟨p, l, e, R, s, m, args, below, meth, c, D, d0, A, ad, Q, nL', nc, ns⟩ := M
  obtain ⟨hx, hb, -⟩ := h
  intro hs H locs ls hl hP hD hS
  exact lv_if_ge (x := jI a) hx hb d ht (fun hc => kt ((jI_le rg_0 hra).mp hc) hs H locs ls hl hP hD hS) (fun hc => kf (by have h9 := mt (jI_le rg_0 hra).mpr hc; omega) hs H locs ls hl hP hD hS)
theorem x_icmp_gt {a b off : Int} {tgt : Nat} (h : Cx κ M cc nL F) (d : decode cc pc = .ok (.if_icmp .gt off, 3)) (ht : (pc : Int) + off = (tgt : Int)) (hq : pc + 3 = q) (hra : -2147483648 ≤ a ∧ a ≤ 2147483647) (hrb : -2147483648 ≤ b ∧ b ≤ 2147483647) (kt : b < a → WX κ M tgt vs st τ) (kf : a ≤ b → WX κ M q vs st τ) : WX κ M pc vs (.inl b :: .inl a :: st) τ := by
  subst hq
  obtain ⟨p, l, e, R, s, m, args, below, meth, c, D, d0, A, ad, Q, nL', nc, ns⟩ := M
  obtain ⟨hx, hb, -⟩ := h
  intro hs H locs ls hl hP hD hS
  exact lv_icmp_gt (x := jI a) (y := jI b) hx hb d ht (fun hc => kt ((jI_lt hrb hra).mp hc) hs H locs ls hl hP hD hS) (fun hc => kf (by have h9 := mt (jI_lt hrb hra).mpr hc; omega) hs H locs ls hl hP hD hS)
theorem x_if_gt {a off : Int} {tgt : Nat} (h : Cx κ M cc nL F) (d : decode cc pc = .ok (.ifCond .gt off, 3)) (ht : (pc : Int) + off = (tgt : Int)) (hq : pc + 3 = q) (hra : -2147483648 ≤ a ∧ a ≤ 2147483647) (kt : 0 < a → WX κ M tgt vs st τ) (kf : a ≤ 0 → WX κ M q vs st τ) : WX κ M pc vs (.inl a :: st) τ := by
  subst hq
  obtain ⟨p, l, e, R, s, m, args, below, meth, c, D, d0, A, ad, Q, nL', nc, ns⟩ := M
  obtain ⟨hx, hb, -⟩ := h
  intro hs H locs ls hl hP hD hS
  exact lv_if_gt (x := jI a) hx hb d ht (fun hc => kt ((jI_lt rg_0 hra).mp hc) hs H locs ls hl hP hD hS) (fun hc => kf (by have h9 := mt (jI_lt rg_0 hra).mpr hc; omega) hs H locs ls hl hP hD hS)
theorem x_icmp_le {a b off : Int} {tgt : Nat} (h : Cx κ M cc nL F) (d : decode cc pc = .ok (.if_icmp .le off, 3)) (ht : (pc : Int) + off = (tgt : Int)) (hq : pc + 3 = q) (hra : -2147483648 ≤ a ∧ a ≤ 2147483647) (hrb : -2147483648 ≤ b ∧ b ≤ 2147483647) (kt : a ≤ b → WX κ M tgt vs st τ) (kf : b < a → WX κ M q vs st τ) : WX κ M pc vs (.inl b :: .inl a :: st) τ := by
  subst hq
  obtain ⟨p, l, e, R, s, m, args, below, meth, c, D, d0, A, ad, Q, nL', nc, ns⟩ := M
  obtain ⟨hx, hb, -⟩ := h
  intro hs H locs ls hl hP hD hS
  exact lv_icmp_le (x := jI a) (y := jI b) hx hb d ht (fun hc => kt ((jI_le hra hrb).mp hc) hs H locs ls hl hP hD hS) (fun hc => kf (by have h9 := mt (jI_le hra hrb).mpr hc; omega) hs H locs ls hl hP hD hS)
theorem x_if_le {a off : Int} {tgt : Nat} (h : Cx κ M cc nL F) (d : decode cc pc = .ok (.ifCond .le off, 3)) (ht : (pc : Int) + off = (tgt : Int)) (hq : pc + 3 = q) (hra : -2147483648 ≤ a ∧ a ≤ 2147483647) (kt : a ≤ 0 → WX κ M tgt vs st τ) (kf : 0 < a → WX κ M q vs st τ) : WX κ M pc vs (.inl a :: st) τ := by
  subst hq
  obtain ⟨p, l, e, R, s, m, args, below, meth, c, D, d0, A, ad, Q, nL', nc, ns⟩ := M
  obtain ⟨hx, hb, -⟩ := h
  intro hs H locs ls hl hP hD hS
  exact lv_if_le (x := jI a) hx hb d ht (fun hc => kt ((jI_le hra rg_0).mp hc) hs H locs ls hl hP hD hS) (fun hc => kf (by have h9 := mt (jI_le hra rg_0).mpr hc; omega) hs H locs ls hl hP hD hS)
/-- an array's element, and how large it can be -/
theorem x_iald {k q0 n : Nat} {i : Int} (h : Cx κ M cc nL F) (ha : ar κ k = some (q0, n)) (d : decode cc pc = .ok (.iaload, 1)) (hq : pc + 1 = q) (hi : 0 ≤ i ∧ i < n) (kk : ∀ v : Int, v = τ k i → -100000 ≤ v → v ≤ 100000 → WX κ M q vs (.inl v :: st) τ) : WX κ M pc vs (.inl i :: .inr (k + 1) :: st) τ := by
  subst hq
  obtain ⟨p, l, e, R, s, m, args, below, meth, c, D, d0, A, ad, Q, nL', nc, ns⟩ := M
  obtain ⟨hx, hb, hml, hnL, hown, hts, hK, -⟩ := h
  intro hs H locs ls hl hP hD hS
  have hn := ar_len ha
  have hin : vp_in (jI i) n := jI_in hi.1 hi.2 (by omega)
  refine va_iald hx hb hK hP q0 0 (cs_at ha) rfl hin d ?_
  rw [jI_clamp hi.1 (by omega), Int.toNat_of_nonneg hi.1]
  exact kk (τ k i) rfl (hs k i).1 (hs k i).2 hs H locs ls hl hP hD hS
theorem x_iast {k q0 n : Nat} {i v : Int} (h : Cx κ M cc nL F) (ha : ar κ k = some (q0, n)) (d : decode cc pc = .ok (.iastore, 1)) (hq : pc + 1 = q) (hi : 0 ≤ i ∧ i < n) (hv : -100000 ≤ v ∧ v ≤ 100000) (kk : WX κ M q vs st (up τ k i v)) : WX κ M pc vs (.inl v :: .inl i :: .inr (k + 1) :: st) τ := by
  subst hq
  obtain ⟨p, l, e, R, s, m, args, below, meth, c, D, d0, A, ad, Q, nL', nc, ns⟩ := M
  obtain ⟨hx, hb, hml, hnL, hown, hts, hK, -⟩ := h
  intro hs H locs ls hl hP hD hS
  have hn := ar_len ha
  have hin : vp_in (jI i) n := jI_in hi.1 hi.2 (by omega)
  refine va_iast hx hb hK hP hD hS q0 0 (cs_at ha) rfl hin d (fun H1 locs1 hP1 hD1 hS1 => ?_)
  rw [jI_clamp hi.1 (by omega), cs_set ha, Int.toNat_of_nonneg hi.1] at hP1 hD1
  exact kk (up_sml hs hv) H1 locs1 ls hl hP1 hD1 hS1
theorem c0_fld {d0 : ClassId} {ad : Nat → Nat} {τ : St} {k : Nat} {qn : Nat × Nat} (h : ar 0 k = some qn) : ([.ref (ad 1), .ref (ad 2), .ref (ad 3), .ref (ad 4), .ref (ad 5), .ref (ad 6), .ref (ad 7), .ref (ad 8), .int (jI (τ 8 0)), .int (jI (τ 9 0)), .ref (ad 11), .ref (ad 12), .ref (ad 13), .int (jI (τ 13 0))] : List Value)[k]? = some (.ref (ad (k + 1))) ∧ k < 14 := by
  rcases ar0_cases h with ⟨rfl, e⟩ | ⟨rfl, e⟩ | ⟨rfl, e⟩ | ⟨rfl, e⟩ | ⟨rfl, e⟩ | ⟨rfl, e⟩ | ⟨rfl, e⟩ | ⟨rfl, e⟩ | ⟨rfl, e⟩ | ⟨rfl, e⟩ | ⟨rfl, e⟩ <;> exact ⟨rfl, by decide⟩
/-- DedupBlocks: a field that is an array -/
theorem x0_geta {k idx : Nat} {qn : Nat × Nat} (h : Cx 0 M cc nL F) (ha : ar 0 k = some qn) (hw : Cond.fieldLink RX0 idx RX0 (TX0 k).2.1 (TX0 k).2.2.1 ∈ lw_all) (d : decode cc pc = .ok (.getfield idx, 3)) (hq : pc + 3 = q) (kk : WX 0 M q vs (.inr (k + 1) :: st) τ) : WX 0 M pc vs (.inr 0 :: st) τ := by
  subst hq
  obtain ⟨p, l, e, R, s, m, args, below, meth, c, D, d0, A, ad, Q, nL', nc, ns⟩ := M
  obtain ⟨hx, hb, hml, hnL, hown, hts, hK, -⟩ := h
  intro hs H locs ls hl hP hD hS
  exact va_get (D := D) (ci := 0) (v := .ref (ad (k + 1))) (C := RX0) (T := TX0) (N := 14) hx hb hts in_X0 hown hK hP 0 rfl rfl k (c0_fld (d0 := d0) (ad := ad) (τ := τ) ha).2 (hts _ hw) (fun _ h9 => by rw [TX0_1] at h9; exact h9) (c0_fld (d0 := d0) (ad := ad) (τ := τ) ha).1 d (kk hs H locs ls hl hP hD hS)
/-- DedupBlocks: a field that is a number -/
theorem x0_geti {k idx : Nat} (h : Cx 0 M cc nL F) (hk : k = 8 ∨ k = 9 ∨ k = 13) (hw : Cond.fieldLink RX0 idx RX0 (TX0 k).2.1 (TX0 k).2.2.1 ∈ lw_all) (d : decode cc pc = .ok (.getfield idx, 3)) (hq : pc + 3 = q) (kk : ∀ v : Int, v = τ k 0 → -100000 ≤ v → v ≤ 100000 → WX 0 M q vs (.inl v :: st) τ) : WX 0 M pc vs (.inr 0 :: st) τ := by
  subst hq
  obtain ⟨p, l, e, R, s, m, args, below, meth, c, D, d0, A, ad, Q, nL', nc, ns⟩ := M
  obtain ⟨hx, hb, hml, hnL, hown, hts, hK, -⟩ := h
  intro hs H locs ls hl hP hD hS
  have hk2 : k < 14 := by omega
  refine va_get (D := D) (ci := 0) (v := .int (jI (τ k 0))) (C := RX0) (T := TX0) (N := 14) hx hb hts in_X0 hown hK hP 0 rfl rfl k hk2 (hts _ hw) (fun _ h9 => by rw [TX0_1] at h9; exact h9) ?_ d (kk (τ k 0) rfl (hs k 0).1 (hs k 0).2 hs H locs ls hl hP hD hS)
  rcases hk with rfl | rfl | rfl <;> rfl
theorem x0_puti {k idx : Nat} {v : Int} (h : Cx 0 M cc nL F) (hk : k = 8 ∨ k = 9 ∨ k = 13) (hw : Cond.fieldLink RX0 idx RX0 (TX0 k).2.1 (TX0 k).2.2.1 ∈ lw_all) (d : decode cc pc = .ok (.putfield idx, 3)) (hq : pc + 3 = q) (hv : -100000 ≤ v ∧ v ≤ 100000) (kk : WX 0 M q vs st (up τ k 0 v)) : WX 0 M pc vs (.inl v :: .inr 0 :: st) τ := by
  subst hq
  obtain ⟨p, l, e, R, s, m, args, below, meth, c, D, d0, A, ad, Q, nL', nc, ns⟩ := M
  obtain ⟨hx, hb, hml, hnL, hown, hts, hK, -⟩ := h
  intro hs H locs ls hl hP hD hS
  have hk2 : k < 14 := by omega
  refine va_put (D := D) (ci := 0) (v := .int (jI v)) (ty := .int) (C := RX0) (T := TX0) (N := 14) hx hb hts in_X0 tyX0 tyX0_ok nmX0 hown hK hP hD hS 0 rfl rfl k hk2 (hts _ hw) (fun _ h9 => by rw [TX0_1] at h9; exact h9) ?_ ?_ rfl rfl hk2 d (fun H1 locs1 hP1 hD1 hS1 => ?_)
  · rcases hk with rfl | rfl | rfl <;> rfl
  · rcases hk with rfl | rfl | rfl <;> decide +kernel
  · have e : (cs 0 d0 ad τ).set 0 (ad 0, .inr (0, ([.ref (ad 1), .ref (ad 2), .ref (ad 3), .ref (ad 4), .ref (ad 5), .ref (ad 6), .ref (ad 7), .ref (ad 8), .int (jI (τ 8 0)), .int (jI (τ 9 0)), .ref (ad 11), .ref (ad 12), .ref (ad 13), .int (jI (τ 13 0))] : List Value).set k (.int (jI v)))) = cs 0 d0 ad (up τ k 0 v) := by
      rcases hk with rfl | rfl | rfl <;> simp [cs, c0, up_ne, up_eq]
    exact kk (up_sml hs hv) H1 locs1 ls hl (e ▸ hP1) (e ▸ hD1) hS1
theorem x1_geta {k idx : Nat} {qn : Nat × Nat} (h : Cx 1 M cc nL F) (ha : ar 1 k = some qn) (hw : Cond.fieldLink RX1 idx RX1 (TX1 k).2.1 (TX1 k).2.2.1 ∈ lw_all) (d : decode cc pc = .ok (.getfield idx, 3)) (hq : pc + 3 = q) (kk : WX 1 M q vs (.inr (k + 1) :: st) τ) : WX 1 M pc vs (.inr 0 :: st) τ := by
  subst hq
  obtain ⟨p, l, e, R, s, m, args, below, meth, c, D, d0, A, ad, Q, nL', nc, ns⟩ := M
  obtain ⟨hx, hb, hml, hnL, hown, hts, hK, -⟩ := h
  intro hs H locs ls hl hP hD hS
  have hk2 : k < 2 ∧ ([.ref (ad 1), .ref (ad 2)] : List Value)[k]? = some (.ref (ad (k + 1))) := by
    rcases ar1_cases ha with ⟨rfl, e⟩ | ⟨rfl, e⟩ <;> exact ⟨by decide, rfl⟩
  exact va_get (D := D) (ci := 1) (v := .ref (ad (k + 1))) (C := RX1) (T := TX1) (N := 2) hx hb hts in_X1 hown hK hP 0 rfl rfl k hk2.1 (hts _ hw) (fun _ h9 => by rw [TX1_1] at h9; exact h9) hk2.2 d (kk hs H locs ls hl hP hD hS)
theorem x_iret {Po : Int → St → Prop} {z : Int} (h : Cx κ M cc nL F) (hr : RtI κ M .int Po) (d : decode cc pc = .ok (.ireturn, 1)) (hz : -2147483648 ≤ z ∧ z ≤ 2147483647) (hp : Po z τ) : WX κ M pc vs [.inl z] τ := by
  obtain ⟨p, l, e, R, s, m, args, below, meth, c, D, d0, A, ad, Q, nL', nc, ns⟩ := M
  obtain ⟨hx, hb, hml, hnL, hown, hts, hK, -⟩ := h
  obtain ⟨hrt, hlk, rfl⟩ := hr
  intro hs H locs ls hl hP hD hS
  exact W.iret (v := jI z) hx hb hrt (fun t ht hW => ⟨⟨jI z, τ, rfl, ⟨z, rfl, hz, hs, hp⟩, by rw [ht]; exact hP, va_K.moved hW.alike hK, hD⟩, hS.F ht⟩) hS.2.2 d hlk
theorem x_zret {Po : Int → St → Prop} {z : Int} (h : Cx κ M cc nL F) (hr : RtI κ M .boolean Po) (d : decode cc pc = .ok (.ireturn, 1)) (hz : z = 0 ∨ z = 1) (hp : Po z τ) : WX κ M pc vs [.inl z] τ := by
  obtain ⟨p, l, e, R, s, m, args, below, meth, c, D, d0, A, ad, Q, nL', nc, ns⟩ := M
  obtain ⟨hx, hb, hml, hnL, hown, hts, hK, -⟩ := h
  obtain ⟨hrt, hlk, rfl⟩ := hr
  intro hs H locs ls hl hP hD hS
  have hrz : rg z := by unfold rg; omega
  exact W.zret (v := jI z) hx hb hrt (by rcases hz with rfl | rfl <;> rfl) (fun t ht hW => ⟨⟨jI z, τ, rfl, ⟨z, rfl, hrz, hs, hp⟩, by rw [ht]; exact hP, va_K.moved hW.alike hK, hD⟩, hS.F ht⟩) hS.2.2 d hlk
theorem x_vret {Po : St → Prop} (h : Cx κ M cc nL F) (hr : RtV κ M Po) (d : decode cc pc = .ok (.return_, 1)) (hp : Po τ) : WX κ M pc vs [] τ := by
  obtain ⟨p, l, e, R, s, m, args, below, meth, c, D, d0, A, ad, Q, nL', nc, ns⟩ := M
  obtain ⟨hx, hb, hml, hnL, hown, hts, hK, -⟩ := h
  obtain ⟨hrt, hlk, rfl⟩ := hr
  intro hs H locs ls hl hP hD hS
  exact W.vret hx hb hrt (fun t ht hW => ⟨⟨τ, rfl, ⟨hs, hp⟩, by rw [ht]; exact hP, va_K.moved hW.alike hK, hD⟩, hS.F ht⟩) hS.2.2 d hlk
/-- what is small stays small: the walk may ask for it -/
theorem x_sml (kk : sml τ → WX κ M pc vs st τ) : WX κ M pc vs st τ := by
  obtain ⟨p, l, e, R, s, m, args, below, meth, c, D, d0, A, ad, Q, nL', nc, ns⟩ := M
  intro hs H locs ls hl hP hD hS
  exact kk hs hs H locs ls hl hP hD hS
/-- fewer locals -/
theorem x_drop {vs' : List AV} (n : Nat) (he : vs.take n = vs') (kk : WX κ M pc vs' st τ) : WX κ M pc vs st τ := by
  subst he
  obtain ⟨p, l, e, R, s, m, args, below, meth, c, D, d0, A, ad, Q, nL', nc, ns⟩ := M
  intro hs H locs ls hl hP hD hS
  refine kk hs H locs ls ⟨hl.1, hl.2.1, fun q hq => hl.2.2 q ?_⟩ hP hD hS
  obtain ⟨i, h1, h2⟩ := lz_inv hq
  rw [List.getElem?_map] at h1
  have h3 : (vs.map (cv ad))[i]? = some q.2 := by
    rw [List.getElem?_map]
    by_cases hi : i < n
    · rw [List.getElem?_take_of_lt hi] at h1
      exact h1
    · rw [List.getElem?_take_eq_none (by omega)] at h1
      cases h1
  refine List.mem_of_getElem? (i := i) ?_
  rw [lz_get, h3]
  simp [← h2]
end XR
/-- a method's contract: called with the ints xs on an object in the state τ it answers z and leaves τ' with Po z τ' -/
def CtI (κ : Nat) (y : MethodName) (cc : ByteArray) (nL F : Nat) (ty : FieldType) (xs : List Int) (τ : St) (Po : Int → St → Prop) : Prop :=
  sml τ → ∀ (l : Launch) (D : va_G) (d0 : ClassId) (ad : Nat → Nat) (sz : Nat), Met l y (ws_ y cc nL (some ty)) ({ frames := F, cells := 0, slots := 0, locals := 27 * F }) (va_Pc (((.inr 0 : AV) :: xs.map Sum.inl).map (cv ad)) (fun U => U.heap.size = sz ∧ va_P D vwCl (cs κ d0 ad τ) U.heap ∧ va_K D vwCl [(d0, .int)] U ∧ va_D (fun _ => True) (cs κ d0 ad τ))) (QxI κ D d0 ad Po (va_A (cs κ d0 ad τ) sz)) 0 0 (va_A (cs κ d0 ad τ) sz)
def CtV (κ : Nat) (y : MethodName) (cc : ByteArray) (nL F : Nat) (xs : List Int) (τ : St) (Po : St → Prop) : Prop :=
  sml τ → ∀ (l : Launch) (D : va_G) (d0 : ClassId) (ad : Nat → Nat) (sz : Nat), Met l y (ws_ y cc nL none) ({ frames := F, cells := 0, slots := 0, locals := 27 * F }) (va_Pc (((.inr 0 : AV) :: xs.map Sum.inl).map (cv ad)) (fun U => U.heap.size = sz ∧ va_P D vwCl (cs κ d0 ad τ) U.heap ∧ va_K D vwCl [(d0, .int)] U ∧ va_D (fun _ => True) (cs κ d0 ad τ))) (QxV κ D d0 ad Po (va_A (cs κ d0 ad τ) sz)) 0 0 (va_A (cs κ d0 ad τ) sz)
theorem CtI.of {κ : Nat} {y : MethodName} {cc : ByteArray} {nL F : Nat} {ty : FieldType} {xs : List Int} {τ : St} {Po : Int → St → Prop} (hy : plainName y.cls = true) (hyc : y.cls = ow κ) (hn : xs.length + 1 ≤ nL) (body : ∀ M : Mx, Cx κ M cc nL F → RtI κ M ty Po → WX κ M 0 (.inr 0 :: xs.map Sum.inl) [] τ) : CtI κ y cc nL F ty xs τ Po := by
  intro hs l D d0 ad sz
  refine Met.ofW (cc := cc) (maxL := nL) (ret := some ty) hy rfl ?_
  intro p e s m args below meth c s₁ B hml hv
  obtain ⟨rfl, hsz, hP, hK, hD0⟩ := hv
  have hts := atoms_spec (ws := ws_ y cc nL (some ty)) B.pre
  have hts : ∀ w ∈ lw_all, w.before _ s = true := fun w h => hts w (List.mem_cons_of_mem _ h)
  have hown : s.vm.findClass (ow κ) = some m.cls := by rw [← hyc]; exact findClass_of_methodNamed B.named
  subst hsz
  have hD := hD0.self (sz := s.heap.size)
  have hS : va_S (va_A (cs κ d0 ad τ) s.heap.size) s.heap s.heap [] := va_S.rf
  have hl := lv_entry (((.inr 0 : AV) :: xs.map Sum.inl).map (cv ad)) (n := nL) (by rw [lz_len]; simpa using hn)
  rw [lz_args] at hl
  rw [lg_entry_eq]
  exact body (p, l, e, _, s, m, _, below, meth, c, D, d0, va_A (cs κ d0 ad τ) s.heap.size, ad, _, nL, 0, 0) ⟨B.exec, B.bytes, hml, rfl, hown, hts, hK, Nat.le_refl F, Nat.le_refl (27 * F), fun q h => Or.inr h, Nat.le_refl 0, Nat.le_refl 0⟩ ⟨B.returns, B.notSynchronized, rfl⟩ hs s.heap [] _ hl hP hD hS
theorem CtV.of {κ : Nat} {y : MethodName} {cc : ByteArray} {nL F : Nat} {xs : List Int} {τ : St} {Po : St → Prop} (hy : plainName y.cls = true) (hyc : y.cls = ow κ) (hn : xs.length + 1 ≤ nL) (body : ∀ M : Mx, Cx κ M cc nL F → RtV κ M Po → WX κ M 0 (.inr 0 :: xs.map Sum.inl) [] τ) : CtV κ y cc nL F xs τ Po := by
  intro hs l D d0 ad sz
  refine Met.ofW (cc := cc) (maxL := nL) (ret := none) hy rfl ?_
  intro p e s m args below meth c s₁ B hml hv
  obtain ⟨rfl, hsz, hP, hK, hD0⟩ := hv
  have hts := atoms_spec (ws := ws_ y cc nL none) B.pre
  have hts : ∀ w ∈ lw_all, w.before _ s = true := fun w h => hts w (List.mem_cons_of_mem _ h)
  have hown : s.vm.findClass (ow κ) = some m.cls := by rw [← hyc]; exact findClass_of_methodNamed B.named
  subst hsz
  have hD := hD0.self (sz := s.heap.size)
  have hS : va_S (va_A (cs κ d0 ad τ) s.heap.size) s.heap s.heap [] := va_S.rf
  have hl := lv_entry (((.inr 0 : AV) :: xs.map Sum.inl).map (cv ad)) (n := nL) (by rw [lz_len]; simpa using hn)
  rw [lz_args] at hl
  rw [lg_entry_eq]
  exact body (p, l, e, _, s, m, _, below, meth, c, D, d0, va_A (cs κ d0 ad τ) s.heap.size, ad, _, nL, 0, 0) ⟨B.exec, B.bytes, hml, rfl, hown, hts, hK, Nat.le_refl F, Nat.le_refl (27 * F), fun q h => Or.inr h, Nat.le_refl 0, Nat.le_refl 0⟩ ⟨B.returns, B.notSynchronized, rfl⟩ hs s.heap [] _ hl hP hD hS
theorem cs_recv {κ : Nat} (hκ : κ < 2) {D : va_G} {d0 : ClassId} {ad : Nat → Nat} {τ : St} {s : State} {H : Heap} {tys : List (ClassId × FieldType)} (hK : va_K D vwCl tys s) (hP : va_P D vwCl (cs κ d0 ad τ) H) : ∃ cell : Cell, H[ad 0]? = some cell ∧ cell.vm.isStatics = false ∧ s.vm.findClass (ow κ) = some cell.cls := by
  match κ, hκ, hP with
  | 0, _, hP => exact va_recv hK hP (ci := 0) (q0 := 0) rfl rfl
  | 1, _, hP => exact va_recv hK hP (ci := 1) (q0 := 0) rfl rfl
theorem Pc_blind {κ : Nat} {D : va_G} {d0 : ClassId} {ad : Nat → Nat} {τ : St} {sz : Nat} {av : List Value} : FrameBlind (va_Pc av (fun U => U.heap.size = sz ∧ va_P D vwCl (cs κ d0 ad τ) U.heap ∧ va_K D vwCl [(d0, .int)] U ∧ va_D (fun _ => True) (cs κ d0 ad τ))) := by
  intro a U g mk q
  obtain ⟨q0, q1, qP, qK, qD⟩ := q
  exact ⟨q0, q1, qP, va_K.moved (u := U) (U := U.calling g mk a) (Vm.Alike.refl U.vm) qK, qD⟩
section XC
variable {κ : Nat} {M : Mx} {cc : ByteArray} {nL F pc q : Nat} {vs st st0 : List AV} {τ : St} {y : MethodName} {ccy : ByteArray} {nLy Fy idx n : Nat} {ty : FieldType} {xs : List Int}
theorem x_calli {Po : Int → St → Prop} (h : Cx κ M cc nL F) (hM : CtI κ y ccy nLy Fy ty xs τ Po) (hG : GoodIn lw_all (wsV (ow κ) idx (ow κ) y (ws_ y ccy nLy (some ty))) ∧ y.cls = ow κ ∧ y.cls ≠ "java/lang/invoke/MethodHandle" ∧ y.cls ≠ "java/lang/invoke/VarHandle" ∧ (parseMethodDescriptor y.desc).map (fun d => d.parameters.length) = some n) (hxs : xs.length = n) (hF : Fy + 1 ≤ F) (hL : nLy ≤ 8) (d : decode cc pc = .ok (.invokevirtual idx, 3)) (hq : pc + 3 = q) (hlen : st.length ≤ 8) (hst : st0 = xs.reverse.map Sum.inl ++ .inr 0 :: st) (kk : ∀ (z : Int) (τ' : St), sml τ' → -2147483648 ≤ z ∧ z ≤ 2147483647 → Po z τ' → WX κ M q vs (.inl z :: st) τ') (hκ : κ < 2 := by decide) : WX κ M pc vs st0 τ := by
  subst hq
  subst hst
  obtain ⟨p, l, e, R, s, m, args, below, meth, c, D, d0, A, ad, Q, nL', nc, ns⟩ := M
  obtain ⟨hx, hb, hml, hnL, hown, hts, hK, hfr, hlo, hA, hnc, hns⟩ := h
  intro hs H locs ls hl hP hD hS
  have hFc : ∀ q, va_A (cs κ d0 ad τ) H.size q → A q := by
    intro q hq
    rcases hq with ⟨k, e, hk⟩ | hz
    · exact hD.2 k _ hk
    · exact hA q (Nat.le_trans hS.1 hz)
  refine va_calli (va_runV (As := (xs.map Sum.inl).map (cv ad)) (rest := st.map (cv ad)) ⟨hx, hb, hml, hown, hts⟩ (hM hs l D d0 ad H.size) (cwV n hts hG.1 rfl rfl rfl hG.2 ⟨by show Fy + 1 ≤ R.frames; omega, by show 8 + (nLy + 11) + 27 * Fy ≤ R.locals; omega⟩) ⟨Pc_blind, cs_recv hκ hK hP, fun U hU hW => ⟨rfl, by rw [hU], by rw [hU]; exact hP, va_K.moved hW.alike hK, hD.weaken (fun _ _ _ _ => trivial)⟩⟩ rfl (by simpa using hxs) hl.1 (by simp [cv]) (lv_room (by rw [lz_sum]; exact hlen)) d ⟨hnc, hns⟩) hS (fun q _ h => hFc q h) hFc (fun r u t H1 locs1 ht hvm hpost hB hz1 hk1 hS1 => ?_)
  obtain ⟨z, rfl, hrz, hsu, hpo⟩ := hpost
  obtain ⟨hP1, hK1, hD1⟩ := hB
  rw [ht] at hP1
  exact kk z u hsu hrz hpo hsu H1 locs1 ls hl hP1 (hD1.weaken (fun _ q _ h => hFc q.1 h)) hS1
theorem x_callv {Po : St → Prop} (h : Cx κ M cc nL F) (hM : CtV κ y ccy nLy Fy xs τ Po) (hG : GoodIn lw_all (wsV (ow κ) idx (ow κ) y (ws_ y ccy nLy none)) ∧ y.cls = ow κ ∧ y.cls ≠ "java/lang/invoke/MethodHandle" ∧ y.cls ≠ "java/lang/invoke/VarHandle" ∧ (parseMethodDescriptor y.desc).map (fun d => d.parameters.length) = some n) (hxs : xs.length = n) (hF : Fy + 1 ≤ F) (hL : nLy ≤ 8) (d : decode cc pc = .ok (.invokevirtual idx, 3)) (hq : pc + 3 = q) (hlen : st.length ≤ 8) (hst : st0 = xs.reverse.map Sum.inl ++ .inr 0 :: st) (kk : ∀ (τ' : St), sml τ' → Po τ' → WX κ M q vs st τ') (hκ : κ < 2 := by decide) : WX κ M pc vs st0 τ := by
  subst hq
  subst hst
  obtain ⟨p, l, e, R, s, m, args, below, meth, c, D, d0, A, ad, Q, nL', nc, ns⟩ := M
  obtain ⟨hx, hb, hml, hnL, hown, hts, hK, hfr, hlo, hA, hnc, hns⟩ := h
  intro hs H locs ls hl hP hD hS
  have hFc : ∀ q, va_A (cs κ d0 ad τ) H.size q → A q := by
    intro q hq
    rcases hq with ⟨k, e, hk⟩ | hz
    · exact hD.2 k _ hk
    · exact hA q (Nat.le_trans hS.1 hz)
  refine va_callv (va_runV (As := (xs.map Sum.inl).map (cv ad)) (rest := st.map (cv ad)) ⟨hx, hb, hml, hown, hts⟩ (hM hs l D d0 ad H.size) (cwV n hts hG.1 rfl rfl rfl hG.2 ⟨by show Fy + 1 ≤ R.frames; omega, by show 8 + (nLy + 11) + 27 * Fy ≤ R.locals; omega⟩) ⟨Pc_blind, cs_recv hκ hK hP, fun U hU hW => ⟨rfl, by rw [hU], by rw [hU]; exact hP, va_K.moved hW.alike hK, hD.weaken (fun _ _ _ _ => trivial)⟩⟩ rfl (by simpa using hxs) hl.1 (by simp [cv]) (lv_room (by rw [lz_sum]; exact hlen)) d ⟨hnc, hns⟩) hS (fun q _ h => hFc q h) hFc (fun u t H1 locs1 ht hvm hpost hB hz1 hk1 hS1 => ?_)
  obtain ⟨hsu, hpo⟩ := hpost
  obtain ⟨hP1, hK1, hD1⟩ := hB
  rw [ht] at hP1
  exact kk u hsu hpo hsu H1 locs1 ls hl hP1 (hD1.weaken (fun _ q _ h => hFc q.1 h)) hS1
end XC
end
section
/-! bits of small numbers, sums, counts -/
set_option maxRecDepth 100000
theorem jI_nat (n : Nat) : jI (n : Int) = nI n := Int32.ofInt_eq_ofNat
theorem jI_toNat {a : Int} (h : 0 ≤ a) : jI a = nI a.toNat := by
  rw [← jI_nat, Int.toNat_of_nonneg h]
theorem s_l32 : ∀ n, n < 32 → ((nI n &&& 31).toBitVec.smod 32).toNat = n := by decide +kernel
theorem jI_shr {a : Int} {k : Nat} (h0 : 0 ≤ a) (h1 : a ≤ 2147483647) (hk : k < 32) : jI a >>> (jI (k : Int) &&& 31) = jI (a / 2 ^ k) := by
  rw [jI_toNat h0, jI_nat, pk_shrN (by omega) _ k (s_l32 k hk), ← jI_nat]
  congr 1
  rw [Int.natCast_ediv, Int.toNat_of_nonneg h0]
  norm_cast
theorem jI_shl {a : Int} {k : Nat} (h0 : 0 ≤ a) (h1 : a * 2 ^ k < 2147483648) (hk : k < 32) : jI a <<< (jI (k : Int) &&& 31) = jI (a * 2 ^ k) := by
  have e : ((a.toNat * 2 ^ k : Nat) : Int) = a * 2 ^ k := by
    rw [Int.natCast_mul, Int.toNat_of_nonneg h0]
    norm_cast
  rw [jI_toNat h0, jI_nat, pk_shlN _ k (s_l32 k hk) (by omega), ← jI_nat, e]
theorem jI_and {a : Int} {b : Int} (k : Nat) (h0 : 0 ≤ a) (h1 : a ≤ 2147483647) (hb : (jI b).toBitVec.toNat = 2 ^ k - 1) : jI a &&& jI b = jI (a % 2 ^ k) := by
  rw [jI_toNat h0, pk_andN (by omega) k hb, ← jI_nat]
  congr 1
  rw [Int.natCast_emod, Int.toNat_of_nonneg h0]
  norm_cast
theorem jI_or {a b : Int} (k : Nat) (h0 : 0 ≤ a) (h1 : a < 2 ^ k) (hb : 0 ≤ b) (h2 : b * 2 ^ k < 2147483648) : jI a ||| jI (b * 2 ^ k) = jI (a + b * 2 ^ k) := by
  obtain ⟨x, rfl⟩ := Int.eq_ofNat_of_zero_le h0
  obtain ⟨y, rfl⟩ := Int.eq_ofNat_of_zero_le hb
  have h3 : x < 2 ^ k := by exact_mod_cast h1
  have e1 : ((y : Int) * 2 ^ k) = ((2 ^ k * y : Nat) : Int) := by
    push_cast
    exact Int.mul_comm _ _
  have e2 : (x : Int) + (y : Int) * 2 ^ k = ((2 ^ k * y + x : Nat) : Int) := by
    rw [e1, Int.natCast_add, Int.add_comm]
  rw [e2, e1, jI_nat, jI_nat, jI_nat, Nat.two_pow_add_eq_or_of_lt h3]
  apply Int32.toBitVec_inj.mp
  show BitVec.ofNat 32 x ||| BitVec.ofNat 32 (2 ^ k * y) = BitVec.ofNat 32 (2 ^ k * y ||| x)
  rw [Nat.or_comm, BitVec.ofNat_or]
theorem jI_div {a b : Int} (h0 : 0 ≤ a) (h1 : a ≤ 2147483647) (hb : 0 < b) (hb1 : b ≤ 2147483647) : jI a / jI b = jI (a / b) := by
  rw [← Int.tdiv_eq_ediv_of_nonneg h0]
  exact (Int32.ofInt_tdiv (by rw [jI_lo]; omega) (by rw [jI_hi]; omega) (by rw [jI_lo]; omega) (by rw [jI_hi]; omega)).symm
theorem x_top {κ : Nat} {M : Mx} {pc : Nat} {vs st : List AV} {τ : St} {a b : Int} (e : a = b) (kk : WX κ M pc vs (.inl b :: st) τ) : WX κ M pc vs (.inl a :: st) τ := by
  rw [e]; exact kk
theorem up_fne {τ : St} {k k' : Nat} {i v : Int} (h : k' ≠ k) : up τ k i v k' = τ k' := by
  funext j
  exact up_ne h
def sm (f : Int → Int) : Nat → Int
  | 0 => 0
  | n + 1 => sm f n + f n
theorem sm_congr {f g : Int → Int} : ∀ (n : Nat), (∀ j : Int, 0 ≤ j → j < n → f j = g j) → sm f n = sm g n
  | 0, _ => rfl
  | n + 1, h => by
    have h1 := sm_congr (f := f) (g := g) n (fun j h0 h1 => h j h0 (by omega))
    have h2 := h n (by omega) (by omega)
    simp only [sm, h1, h2]
theorem sm_le {f g : Int → Int} : ∀ (n : Nat), (∀ j : Int, 0 ≤ j → j < n → f j ≤ g j) → sm f n ≤ sm g n
  | 0, _ => Int.le_refl _
  | n + 1, h => by
    have h1 := sm_le (f := f) (g := g) n (fun j h0 h1 => h j h0 (by omega))
    have h2 := h n (by omega) (by omega)
    simp only [sm]
    omega
theorem sm_add (f g : Int → Int) : ∀ n : Nat, sm (fun j => f j + g j) n = sm f n + sm g n
  | 0 => rfl
  | n + 1 => by
    have h := sm_add f g n
    simp only [sm, h]
    omega
theorem sm_sub (f g : Int → Int) : ∀ n : Nat, sm (fun j => f j - g j) n = sm f n - sm g n
  | 0 => rfl
  | n + 1 => by
    have h := sm_sub f g n
    simp only [sm, h]
    omega
theorem sm_zero {f : Int → Int} : ∀ n : Nat, (∀ j : Int, 0 ≤ j → j < n → f j = 0) → sm f n = 0
  | 0, _ => rfl
  | n + 1, h => by
    have h1 := sm_zero (f := f) n (fun j h0 h1 => h j h0 (by omega))
    have h2 := h n (by omega) (by omega)
    simp only [sm, h1, h2]
    rfl
theorem sm_const (x : Int) : ∀ n : Nat, sm (fun _ => x) n = n * x
  | 0 => by simp [sm]
  | n + 1 => by
    have h := sm_const x n
    simp only [sm, h]
    rw [Int.natCast_add, Int.add_mul]
    omega
/-- one term alone -/
theorem sm_one {p : Int} {x : Int} : ∀ n : Nat, sm (fun j => if j = p then x else 0) n = if 0 ≤ p ∧ p < n then x else 0
  | 0 => by
    rw [if_neg (by omega)]
    rfl
  | n + 1 => by
    have h := sm_one (p := p) (x := x) n
    simp only [sm, h]
    by_cases e : (n : Int) = p
    · rw [if_pos e, if_neg (by omega), if_pos (by omega)]
      omega
    · rw [if_neg e]
      by_cases e2 : 0 ≤ p ∧ p < n
      · rw [if_pos e2, if_pos (by omega)]
        omega
      · rw [if_neg e2, if_neg (by omega)]
        rfl
/-- a sum changed at one place -/
theorem sm_upd {f g : Int → Int} {p : Int} {n : Nat} (h0 : 0 ≤ p) (h1 : p < n) (h : ∀ j : Int, 0 ≤ j → j < n → j ≠ p → g j = f j) : sm g n = sm f n + (g p - f p) := by
  have e : sm g n = sm (fun j => f j + (if j = p then g p - f p else 0)) n := by
    apply sm_congr
    intro j a b
    by_cases e : j = p
    · rw [if_pos e, e]; omega
    · rw [if_neg e, h j a b e]; omega
  rw [e, sm_add, sm_one, if_pos ⟨h0, h1⟩]
theorem sm_pos_ex {f : Int → Int} : ∀ n : Nat, 0 < sm f n → ∃ j : Int, 0 ≤ j ∧ j < n ∧ 0 < f j
  | 0, h => by simp [sm] at h
  | n + 1, h => by
    simp only [sm] at h
    by_cases e : 0 < f n
    · exact ⟨n, by omega, by omega, e⟩
    · obtain ⟨j, a, b, c⟩ := sm_pos_ex (f := f) n (by omega)
      exact ⟨j, a, by omega, c⟩
theorem sm_mem_le {f : Int → Int} {p : Int} {n : Nat} (hf : ∀ j : Int, 0 ≤ j → j < n → 0 ≤ f j) (h0 : 0 ≤ p) (h1 : p < n) : f p ≤ sm f n := by
  have e : sm (fun j => if j = p then f p else 0) n ≤ sm f n := by
    apply sm_le
    intro j a b
    by_cases e : j = p
    · rw [if_pos e, e]; omega
    · rw [if_neg e]; exact hf j a b
  rw [sm_one, if_pos ⟨h0, h1⟩] at e
  exact e
theorem sm_nonneg {f : Int → Int} {n : Nat} (hf : ∀ j : Int, 0 ≤ j → j < n → 0 ≤ f j) : 0 ≤ sm f n := by
  have h := sm_le (f := fun _ => 0) (g := f) n hf
  rw [sm_zero n (fun _ _ _ => rfl)] at h
  exact h
def cnt (f : Int → Int) (z : Int) (n : Nat) : Int := sm (fun j => if f j = z then 1 else 0) n
theorem cnt_0 (f : Int → Int) (z : Int) : cnt f z 0 = 0 := rfl
theorem cnt_s (f : Int → Int) (z : Int) (n : Nat) : cnt f z (n + 1) = cnt f z n + (if f n = z then 1 else 0) := rfl
theorem cnt_congr {f g : Int → Int} {z : Int} {n : Nat} (h : ∀ j : Int, 0 ≤ j → j < n → f j = g j) : cnt f z n = cnt g z n := by
  unfold cnt
  apply sm_congr
  intro j a b
  show (if f j = z then (1 : Int) else 0) = if g j = z then 1 else 0
  rw [h j a b]
theorem cnt_le (f : Int → Int) (z : Int) : ∀ n : Nat, 0 ≤ cnt f z n ∧ cnt f z n ≤ n
  | 0 => by simp [cnt_0]
  | n + 1 => by
    have h := cnt_le f z n
    rw [cnt_s]
    split <;> omega
theorem cnt_pos {f : Int → Int} {z : Int} {n : Nat} {j : Int} (h0 : 0 ≤ j) (h1 : j < n) (h : f j = z) : 0 < cnt f z n := by
  have e := sm_mem_le (f := fun j => if f j = z then 1 else 0) (p := j) (n := n) (fun j _ _ => by show 0 ≤ if f j = z then (1 : Int) else 0; split <;> omega) h0 h1
  rw [if_pos h] at e
  show 0 < sm _ n
  omega
theorem cnt_ex {f : Int → Int} {z : Int} {n : Nat} (h : 0 < cnt f z n) : ∃ j : Int, 0 ≤ j ∧ j < n ∧ f j = z := by
  obtain ⟨j, a, b, c⟩ := sm_pos_ex n h
  refine ⟨j, a, b, ?_⟩
  by_cases e : f j = z
  · exact e
  · rw [if_neg e] at c; omega
theorem cnt_none {f : Int → Int} {z : Int} {n : Nat} (h : ∀ j : Int, 0 ≤ j → j < n → f j ≠ z) : cnt f z n = 0 := by
  apply sm_zero
  intro j a b
  exact if_neg (h j a b)
/-- 1 if z isn't among the first n values, else 0 -/
def fs (f : Int → Int) (z : Int) : Nat → Int
  | 0 => 1
  | n + 1 => if f n = z then 0 else fs f z n
theorem fs_01 (f : Int → Int) (z : Int) : ∀ n : Nat, fs f z n = 0 ∨ fs f z n = 1
  | 0 => Or.inr rfl
  | n + 1 => by
    have h := fs_01 f z n
    simp only [fs]
    split
    · exact Or.inl rfl
    · exact h
theorem fs_cnt (f : Int → Int) (z : Int) : ∀ n : Nat, fs f z n = if 0 < cnt f z n then 0 else 1
  | 0 => rfl
  | n + 1 => by
    have h := fs_cnt f z n
    have h2 := cnt_le f z n
    simp only [fs]
    rw [cnt_s, h]
    by_cases e : f n = z
    · rw [if_pos e, if_pos e, if_pos (by omega)]
    · rw [if_neg e, if_neg e, Int.add_zero]
theorem fs_congr {f g : Int → Int} {z : Int} : ∀ {n : Nat}, (∀ j : Int, 0 ≤ j → j < n → f j = g j) → fs f z n = fs g z n
  | 0, _ => rfl
  | n + 1, h => by
    have h1 := fs_congr (f := f) (g := g) (z := z) (n := n) (fun j a b => h j a (by omega))
    simp only [fs, h1, h n (by omega) (by omega)]
/-- the sum of g over the different values of f -/
def fsum (f g : Int → Int) : Nat → Int
  | 0 => 0
  | n + 1 => fsum f g n + (if fs f (f n) n = 1 then g (f n) else 0)
theorem fsum_congr {f f' g : Int → Int} : ∀ {n : Nat}, (∀ j : Int, 0 ≤ j → j < n → f j = f' j) → fsum f g n = fsum f' g n
  | 0, _ => rfl
  | n + 1, h => by
    have h1 := fsum_congr (f := f) (f' := f') (g := g) (n := n) (fun j a b => h j a (by omega))
    have h2 := fs_congr (f := f) (g := f') (z := f' n) (n := n) (fun j a b => h j a (by omega))
    simp only [fsum, h1, h n (by omega) (by omega), h2]
/-- the sum over the different values, by the values -/
theorem fsum_val {f g : Int → Int} {B : Nat} : ∀ (n : Nat), (∀ j : Int, 0 ≤ j → j < n → 0 ≤ f j ∧ f j < B) → fsum f g n = sm (fun v => if 0 < cnt f v n then g v else 0) B
  | 0, _ => by
    rw [sm_zero]
    · rfl
    · intro j _ _
      exact if_neg (by rw [cnt_0]; omega)
  | n + 1, h => by
    have h1 := fsum_val (f := f) (g := g) (B := B) n (fun j a b => h j a (by omega))
    have h2 := h n (by omega) (by omega)
    have h3 := cnt_le f (f n) n
    have e : sm (fun v => if 0 < cnt f v (n + 1) then g v else 0) B = sm (fun v => if 0 < cnt f v n then g v else 0) B + ((if 0 < cnt f (f n) (n + 1) then g (f n) else 0) - (if 0 < cnt f (f n) n then g (f n) else 0)) := by
      refine sm_upd h2.1 h2.2 ?_
      intro j _ _ hj
      show (if 0 < cnt f j (n + 1) then g j else 0) = if 0 < cnt f j n then g j else 0
      rw [cnt_s, if_neg (show ¬ f n = j from fun q => hj q.symm), Int.add_zero]
    rw [e, cnt_s, if_pos rfl, if_pos (show 0 < cnt f (f n) n + 1 by omega)]
    simp only [fsum]
    rw [h1, fs_cnt]
    by_cases q : 0 < cnt f (f n) n
    · rw [if_pos q, if_pos q, if_neg (by omega)]
      omega
    · rw [if_neg q, if_neg q, if_pos rfl]
      omega
end
section
/-! the law's words: contents f of the 32 blocks, what each call answers and leaves -/
set_option maxRecDepth 100000
def upF (f : Int → Int) (n z : Int) : Int → Int := fun j => if j = n then z else f j
theorem upF_eq {f : Int → Int} {n z : Int} : upF f n z n = z := if_pos rfl
theorem upF_ne {f : Int → Int} {n z j : Int} (h : j ≠ n) : upF f n z j = f j := if_neg h
def okC (f : Int → Int) : Prop := ∀ j : Int, 0 ≤ j → j < 32 → 0 ≤ f j ∧ f j ≤ 4095
def eqC (f g : Int → Int) : Prop := ∀ j : Int, 0 ≤ j → j < 32 → f j = g j
def dgt (z : Int) (i : Nat) : Int := z / 2 ^ (3 * i) % 8
def rn (z : Int) : Nat → Int
  | 0 => 1
  | i + 1 => rn z i + (if dgt z (i + 1) = dgt z i then 0 else 1)
def room (z : Int) : Int := if z = 0 then 0 else rn z 3 + 1
def used (f : Int → Int) : Int := fsum f room 32
theorem shr_rg {z : Int} (h0 : 0 ≤ z) (h1 : z ≤ 4095) (k : Nat) : 0 ≤ z / 2 ^ k ∧ z / 2 ^ k ≤ 4095 := by
  have h2 : (0 : Int) ≤ 2 ^ k := Int.pow_nonneg (by decide)
  refine ⟨Int.ediv_nonneg h0 h2, ?_⟩
  have h3 := Int.ediv_le_self (2 ^ k) h0
  omega
theorem jI_and7 {a : Int} (h0 : 0 ≤ a) (h1 : a ≤ 2147483647) : jI a &&& jI 7 = jI (a % 8) := jI_and 3 h0 h1 (by decide)
theorem jI_and63 {a : Int} (h0 : 0 ≤ a) (h1 : a ≤ 2147483647) : jI a &&& jI 63 = jI (a % 64) := jI_and 6 h0 h1 (by decide)
theorem rn_rg (z : Int) : ∀ i : Nat, 1 ≤ rn z i ∧ rn z i ≤ i + 1
  | 0 => by simp [rn]
  | i + 1 => by
    have h := rn_rg z i
    simp only [rn]
    split <;> omega
theorem room_rg (z : Int) : 0 ≤ room z ∧ room z ≤ 5 := by
  have h := rn_rg z 3
  unfold room
  split <;> omega
theorem room_pos {z : Int} (h : z ≠ 0) : 2 ≤ room z := by
  have h2 := rn_rg z 3
  unfold room
  rw [if_neg h]
  omega
theorem room_0 : room 0 = 0 := rfl
theorem fsum_rg {f g : Int → Int} {b : Int} (hg : ∀ z, 0 ≤ g z ∧ g z ≤ b) (hb : 0 ≤ b) : ∀ n : Nat, 0 ≤ fsum f g n ∧ fsum f g n ≤ n * b
  | 0 => by simp [fsum]
  | n + 1 => by
    have h := fsum_rg (f := f) hg hb n
    have h2 := hg (f n)
    simp only [fsum]
    rw [Int.natCast_add, Int.add_mul]
    split <;> omega
theorem used_rg (f : Int → Int) : 0 ≤ used f ∧ used f ≤ 160 := by
  have h := fsum_rg (f := f) (b := 5) room_rg (by decide) 32
  exact ⟨h.1, by have := h.2; unfold used; omega⟩
theorem used_congr {f g : Int → Int} (h : eqC f g) : used f = used g := fsum_congr h
theorem okC_congr {f g : Int → Int} (h : eqC f g) (hg : okC g) : okC f := fun j a b => by rw [h j a b]; exact hg j a b
theorem eqC_up {f g : Int → Int} {n z : Int} (h : eqC f g) : eqC (upF f n z) (upF g n z) := by
  intro j a b
  unfold upF
  rw [h j a b]
theorem okC_up {f : Int → Int} {n z : Int} (h : okC f) (hz : 0 ≤ z ∧ z ≤ 4095) : okC (upF f n z) := by
  intro j a b
  unfold upF
  by_cases e : j = n
  · rw [if_pos e]; exact hz
  · rw [if_neg e]; exact h j a b
/-- the calls, by their contents before: (answer, contents behind) -/
def sWrite (f : Int → Int) (n z : Int) : Int × (Int → Int) := if n < 0 ∨ 31 < n ∨ z < 0 ∨ 4095 < z then (-1, f) else if used (upF f n z) ≤ 48 then (f n, upF f n z) else (-2, f)
def sRead (f : Int → Int) (n : Int) : Int := if n < 0 ∨ 31 < n then -1 else f n
def ptc (z i d : Int) : Int := z - dgt z i.toNat * 2 ^ (3 * i.toNat) + d * 2 ^ (3 * i.toNat)
def sPatch (f : Int → Int) (n i d : Int) : Int × (Int → Int) := if n < 0 ∨ 31 < n ∨ i < 0 ∨ 3 < i ∨ d < 0 ∨ 7 < d then (-1, f) else if used (upF f n (ptc (f n) i d)) ≤ 48 then (dgt (f n) i.toNat, upF f n (ptc (f n) i d)) else (-2, f)
/-- blocks n, n+1 .. up to but without e take the content z -/
def fil (f : Int → Int) (n e z : Int) : Int → Int := fun j => if n ≤ j ∧ j < e then z else f j
def spE (n many : Int) : Int := if n + many ≤ 8 * (n / 8) + 8 then n + many else 8 * (n / 8) + 8
def sSpread (f : Int → Int) (n m many : Int) : Int × (Int → Int) := if n < 0 ∨ 31 < n ∨ m < 0 ∨ 31 < m ∨ many < 1 ∨ 8 < many then (-1, f) else (spE n many - n, fil f n (spE n many) (f m))
def cpV (f : Int → Int) (v w b : Int) : Int → Int := fun j => if 8 * v ≤ j ∧ j < 8 * v + b then f (8 * w + (j - 8 * v)) else f j
def dfV (f : Int → Int) (v w : Int) (b : Nat) : Int := sm (fun j => if f (8 * v + j) = f (8 * w + j) then 0 else 1) b
def sClone (f : Int → Int) (v w : Int) : Int × (Int → Int) := if v < 0 ∨ 3 < v ∨ w < 0 ∨ 3 < w then (-1, f) else (dfV f v w 8, cpV f v w 8)
def nzV (f : Int → Int) (v : Int) (b : Nat) : Int := sm (fun j => if f (8 * v + j) = 0 then 0 else 1) b
def sErase (f : Int → Int) (v : Int) : Int × (Int → Int) := if v < 0 ∨ 3 < v then (-1, f) else (nzV f v 8, fil f (8 * v) (8 * v + 8) 0)
def sHolders (f : Int → Int) (z : Int) : Int := if z < 0 ∨ 4095 < z then -1 else cnt f z 32
def sDistinct (f : Int → Int) : Int := fsum f (fun z => if z = 0 then 0 else 1) 32
def sSaved (f : Int → Int) : Int := sm (fun j => room (f j)) 32 - used f
def sAlone (f : Int → Int) (n : Int) : Int := if n < 0 ∨ 31 < n then -1 else if cnt f (f n) 32 = 1 then room (f n) else 0
def sAloneIn (f : Int → Int) (v : Int) : Int := if v < 0 ∨ 3 < v then -1 else used f - used (fil f (8 * v) (8 * v + 8) 0)
/-- r is the first block but n that holds what n holds, -4 if there is none; of blocks up to e -/
def isTwin (f : Int → Int) (n r : Int) : Prop := (r = -4 ∧ ∀ j : Int, 0 ≤ j → j < 32 → j ≠ n → f j ≠ f n) ∨ (0 ≤ r ∧ r < 32 ∧ r ≠ n ∧ f r = f n ∧ ∀ j : Int, 0 ≤ j → j < r → j ≠ n → f j ≠ f n)
/-- r is the content other than 0 that most blocks hold, of these the least; -4 if there is none -/
def isFav (f : Int → Int) (r : Int) : Prop := (r = -4 ∧ ∀ j : Int, 0 ≤ j → j < 32 → f j = 0) ∨ (r ≠ 0 ∧ 0 < cnt f r 32 ∧ ∀ j : Int, 0 ≤ j → j < 32 → f j ≠ 0 → cnt f (f j) 32 < cnt f r 32 ∨ (cnt f (f j) 32 = cnt f r 32 ∧ r ≤ f j))
end
section
/-! DedupBlocksModel: small methods, and those that look through all blocks -/
set_option maxRecDepth 100000
theorem fs_none {f : Int → Int} {z : Int} {n : Nat} (h : ∀ j : Int, 0 ≤ j → j < n → f j ≠ z) : fs f z n = 1 := by
  rw [fs_cnt, cnt_none h, if_neg (by decide)]
theorem fs_some {f : Int → Int} {z j : Int} {n : Nat} (h0 : 0 ≤ j) (h1 : j < n) (h : f j = z) : fs f z n = 0 := by
  rw [fs_cnt, if_pos (cnt_pos h0 h1 h)]
theorem dX1_isBlock_0 : decode cX1_isBlock 0 = .ok (.iload_n 1, 1) := by decide +kernel
theorem dX1_isBlock_1 : decode cX1_isBlock 1 = .ok (.ifCond .lt 13, 3) := by decide +kernel
theorem dX1_isBlock_4 : decode cX1_isBlock 4 = .ok (.iload_n 1, 1) := by decide +kernel
theorem dX1_isBlock_5 : decode cX1_isBlock 5 = .ok (.bipush 31, 2) := by decide +kernel
theorem dX1_isBlock_7 : decode cX1_isBlock 7 = .ok (.if_icmp .gt 7, 3) := by decide +kernel
theorem dX1_isBlock_10 : decode cX1_isBlock 10 = .ok (.iconst 1, 1) := by decide +kernel
theorem dX1_isBlock_11 : decode cX1_isBlock 11 = .ok (.goto 4, 3) := by decide +kernel
theorem dX1_isBlock_14 : decode cX1_isBlock 14 = .ok (.iconst 0, 1) := by decide +kernel
theorem dX1_isBlock_15 : decode cX1_isBlock 15 = .ok (.ireturn, 1) := by decide +kernel
theorem lkX1_isBlock : GoodIn lw_all (wsV RX1 20 RX1 yX1_isBlock (ws_ yX1_isBlock cX1_isBlock 2 (some .boolean))) ∧ yX1_isBlock.cls = RX1 ∧ yX1_isBlock.cls ≠ "java/lang/invoke/MethodHandle" ∧ yX1_isBlock.cls ≠ "java/lang/invoke/VarHandle" ∧ (parseMethodDescriptor yX1_isBlock.desc).map (fun d => d.parameters.length) = some 1 := ⟨lw_V q228 q230 qs17 q27 q231, by decide +kernel⟩
set_option maxHeartbeats 4000000 in
theorem mX1_isBlock {τ : St} (n : Int) (r_n : -2147483648 ≤ n ∧ n ≤ 2147483647) : CtI 1 yX1_isBlock cX1_isBlock 2 0 .boolean [n] τ (fun r τ' => τ = τ' ∧ ((r = 1 ∧ 0 ≤ n ∧ n ≤ 31) ∨ (r = 0 ∧ ¬ (0 ≤ n ∧ n ≤ 31)))) := by
  refine CtI.of (by decide) rfl (Nat.le_of_ble_eq_true rfl) (fun M h hr => ?_)
  show WX 1 M 0 [.inr 0, .inl n] [] τ
  refine x_iload_n (q := 1) h dX1_isBlock_0 rfl rfl rfl ?_
  refine x_if_lt (tgt := 14) (q := 4) h dX1_isBlock_1 (by decide) rfl (by omega) (fun c1 => ?_) (fun c1 => ?_)
  · refine x_iconst (q := 15) h dX1_isBlock_14 rfl ?_
    exact x_zret h hr dX1_isBlock_15 (by omega) (⟨rfl, by omega⟩)
  · refine x_iload_n (q := 5) h dX1_isBlock_4 rfl rfl rfl ?_
    refine x_bipush (q := 7) h dX1_isBlock_5 rfl (by decide) ?_
    refine x_icmp_gt (tgt := 14) (q := 10) h dX1_isBlock_7 (by decide) rfl (by omega) (by omega) (fun c7 => ?_) (fun c7 => ?_)
    · refine x_iconst (q := 15) h dX1_isBlock_14 rfl ?_
      exact x_zret h hr dX1_isBlock_15 (by omega) (⟨rfl, by omega⟩)
    · refine x_iconst (q := 11) h dX1_isBlock_10 rfl ?_
      refine x_goto (tgt := 15) h dX1_isBlock_11 (by decide) ?_
      exact x_zret h hr dX1_isBlock_15 (by omega) (⟨rfl, by omega⟩)

theorem dX1_isVolume_0 : decode cX1_isVolume 0 = .ok (.iload_n 1, 1) := by decide +kernel
theorem dX1_isVolume_1 : decode cX1_isVolume 1 = .ok (.ifCond .lt 12, 3) := by decide +kernel
theorem dX1_isVolume_4 : decode cX1_isVolume 4 = .ok (.iload_n 1, 1) := by decide +kernel
theorem dX1_isVolume_5 : decode cX1_isVolume 5 = .ok (.iconst 3, 1) := by decide +kernel
theorem dX1_isVolume_6 : decode cX1_isVolume 6 = .ok (.if_icmp .gt 7, 3) := by decide +kernel
theorem dX1_isVolume_9 : decode cX1_isVolume 9 = .ok (.iconst 1, 1) := by decide +kernel
theorem dX1_isVolume_10 : decode cX1_isVolume 10 = .ok (.goto 4, 3) := by decide +kernel
theorem dX1_isVolume_13 : decode cX1_isVolume 13 = .ok (.iconst 0, 1) := by decide +kernel
theorem dX1_isVolume_14 : decode cX1_isVolume 14 = .ok (.ireturn, 1) := by decide +kernel
theorem lkX1_isVolume : GoodIn lw_all (wsV RX1 34 RX1 yX1_isVolume (ws_ yX1_isVolume cX1_isVolume 2 (some .boolean))) ∧ yX1_isVolume.cls = RX1 ∧ yX1_isVolume.cls ≠ "java/lang/invoke/MethodHandle" ∧ yX1_isVolume.cls ≠ "java/lang/invoke/VarHandle" ∧ (parseMethodDescriptor yX1_isVolume.desc).map (fun d => d.parameters.length) = some 1 := ⟨lw_V q272 q274 qs23 q27 q275, by decide +kernel⟩
set_option maxHeartbeats 4000000 in
theorem mX1_isVolume {τ : St} (n : Int) (r_n : -2147483648 ≤ n ∧ n ≤ 2147483647) : CtI 1 yX1_isVolume cX1_isVolume 2 0 .boolean [n] τ (fun r τ' => τ = τ' ∧ ((r = 1 ∧ 0 ≤ n ∧ n ≤ 3) ∨ (r = 0 ∧ ¬ (0 ≤ n ∧ n ≤ 3)))) := by
  refine CtI.of (by decide) rfl (Nat.le_of_ble_eq_true rfl) (fun M h hr => ?_)
  show WX 1 M 0 [.inr 0, .inl n] [] τ
  refine x_iload_n (q := 1) h dX1_isVolume_0 rfl rfl rfl ?_
  refine x_if_lt (tgt := 13) (q := 4) h dX1_isVolume_1 (by decide) rfl (by omega) (fun c1 => ?_) (fun c1 => ?_)
  · refine x_iconst (q := 14) h dX1_isVolume_13 rfl ?_
    exact x_zret h hr dX1_isVolume_14 (by omega) (⟨rfl, by omega⟩)
  · refine x_iload_n (q := 5) h dX1_isVolume_4 rfl rfl rfl ?_
    refine x_iconst (q := 6) h dX1_isVolume_5 rfl ?_
    refine x_icmp_gt (tgt := 13) (q := 9) h dX1_isVolume_6 (by decide) rfl (by omega) (by omega) (fun c6 => ?_) (fun c6 => ?_)
    · refine x_iconst (q := 14) h dX1_isVolume_13 rfl ?_
      exact x_zret h hr dX1_isVolume_14 (by omega) (⟨rfl, by omega⟩)
    · refine x_iconst (q := 10) h dX1_isVolume_9 rfl ?_
      refine x_goto (tgt := 14) h dX1_isVolume_10 (by decide) ?_
      exact x_zret h hr dX1_isVolume_14 (by omega) (⟨rfl, by omega⟩)

theorem dX1_isContent_0 : decode cX1_isContent 0 = .ok (.iload_n 1, 1) := by decide +kernel
theorem dX1_isContent_1 : decode cX1_isContent 1 = .ok (.ifCond .lt 14, 3) := by decide +kernel
theorem dX1_isContent_4 : decode cX1_isContent 4 = .ok (.iload_n 1, 1) := by decide +kernel
theorem dX1_isContent_5 : decode cX1_isContent 5 = .ok (.sipush 4095, 3) := by decide +kernel
theorem dX1_isContent_8 : decode cX1_isContent 8 = .ok (.if_icmp .gt 7, 3) := by decide +kernel
theorem dX1_isContent_11 : decode cX1_isContent 11 = .ok (.iconst 1, 1) := by decide +kernel
theorem dX1_isContent_12 : decode cX1_isContent 12 = .ok (.goto 4, 3) := by decide +kernel
theorem dX1_isContent_15 : decode cX1_isContent 15 = .ok (.iconst 0, 1) := by decide +kernel
theorem dX1_isContent_16 : decode cX1_isContent 16 = .ok (.ireturn, 1) := by decide +kernel
theorem lkX1_isContent : GoodIn lw_all (wsV RX1 24 RX1 yX1_isContent (ws_ yX1_isContent cX1_isContent 2 (some .boolean))) ∧ yX1_isContent.cls = RX1 ∧ yX1_isContent.cls ≠ "java/lang/invoke/MethodHandle" ∧ yX1_isContent.cls ≠ "java/lang/invoke/VarHandle" ∧ (parseMethodDescriptor yX1_isContent.desc).map (fun d => d.parameters.length) = some 1 := ⟨lw_V q232 q234 qs18 q27 q235, by decide +kernel⟩
set_option maxHeartbeats 4000000 in
theorem mX1_isContent {τ : St} (n : Int) (r_n : -2147483648 ≤ n ∧ n ≤ 2147483647) : CtI 1 yX1_isContent cX1_isContent 2 0 .boolean [n] τ (fun r τ' => τ = τ' ∧ ((r = 1 ∧ 0 ≤ n ∧ n ≤ 4095) ∨ (r = 0 ∧ ¬ (0 ≤ n ∧ n ≤ 4095)))) := by
  refine CtI.of (by decide) rfl (Nat.le_of_ble_eq_true rfl) (fun M h hr => ?_)
  show WX 1 M 0 [.inr 0, .inl n] [] τ
  refine x_iload_n (q := 1) h dX1_isContent_0 rfl rfl rfl ?_
  refine x_if_lt (tgt := 15) (q := 4) h dX1_isContent_1 (by decide) rfl (by omega) (fun c1 => ?_) (fun c1 => ?_)
  · refine x_iconst (q := 16) h dX1_isContent_15 rfl ?_
    exact x_zret h hr dX1_isContent_16 (by omega) (⟨rfl, by omega⟩)
  · refine x_iload_n (q := 5) h dX1_isContent_4 rfl rfl rfl ?_
    refine x_sipush (q := 8) h dX1_isContent_5 rfl (by decide) ?_
    refine x_icmp_gt (tgt := 15) (q := 11) h dX1_isContent_8 (by decide) rfl (by omega) (by omega) (fun c8 => ?_) (fun c8 => ?_)
    · refine x_iconst (q := 16) h dX1_isContent_15 rfl ?_
      exact x_zret h hr dX1_isContent_16 (by omega) (⟨rfl, by omega⟩)
    · refine x_iconst (q := 12) h dX1_isContent_11 rfl ?_
      refine x_goto (tgt := 16) h dX1_isContent_12 (by decide) ?_
      exact x_zret h hr dX1_isContent_16 (by omega) (⟨rfl, by omega⟩)

theorem dX1_roomOf_0 : decode cX1_roomOf 0 = .ok (.iload_n 1, 1) := by decide +kernel
theorem dX1_roomOf_1 : decode cX1_roomOf 1 = .ok (.ifCond .ne 5, 3) := by decide +kernel
theorem dX1_roomOf_4 : decode cX1_roomOf 4 = .ok (.iconst 0, 1) := by decide +kernel
theorem dX1_roomOf_5 : decode cX1_roomOf 5 = .ok (.ireturn, 1) := by decide +kernel
theorem dX1_roomOf_6 : decode cX1_roomOf 6 = .ok (.iconst 1, 1) := by decide +kernel
theorem dX1_roomOf_7 : decode cX1_roomOf 7 = .ok (.istore_n 2, 1) := by decide +kernel
theorem dX1_roomOf_8 : decode cX1_roomOf 8 = .ok (.iconst 1, 1) := by decide +kernel
theorem dX1_roomOf_9 : decode cX1_roomOf 9 = .ok (.istore_n 3, 1) := by decide +kernel
theorem dX1_roomOf_10 : decode cX1_roomOf 10 = .ok (.iload_n 3, 1) := by decide +kernel
theorem dX1_roomOf_11 : decode cX1_roomOf 11 = .ok (.iconst 4, 1) := by decide +kernel
theorem dX1_roomOf_12 : decode cX1_roomOf 12 = .ok (.if_icmp .ge 46, 3) := by decide +kernel
theorem dX1_roomOf_15 : decode cX1_roomOf 15 = .ok (.iload_n 1, 1) := by decide +kernel
theorem dX1_roomOf_16 : decode cX1_roomOf 16 = .ok (.iconst 3, 1) := by decide +kernel
theorem dX1_roomOf_17 : decode cX1_roomOf 17 = .ok (.iload_n 3, 1) := by decide +kernel
theorem dX1_roomOf_18 : decode cX1_roomOf 18 = .ok (.imul, 1) := by decide +kernel
theorem dX1_roomOf_19 : decode cX1_roomOf 19 = .ok (.ishr, 1) := by decide +kernel
theorem dX1_roomOf_20 : decode cX1_roomOf 20 = .ok (.bipush 7, 2) := by decide +kernel
theorem dX1_roomOf_22 : decode cX1_roomOf 22 = .ok (.iand, 1) := by decide +kernel
theorem dX1_roomOf_23 : decode cX1_roomOf 23 = .ok (.istore 4, 2) := by decide +kernel
theorem dX1_roomOf_25 : decode cX1_roomOf 25 = .ok (.iload_n 1, 1) := by decide +kernel
theorem dX1_roomOf_26 : decode cX1_roomOf 26 = .ok (.iconst 3, 1) := by decide +kernel
theorem dX1_roomOf_27 : decode cX1_roomOf 27 = .ok (.iload_n 3, 1) := by decide +kernel
theorem dX1_roomOf_28 : decode cX1_roomOf 28 = .ok (.imul, 1) := by decide +kernel
theorem dX1_roomOf_29 : decode cX1_roomOf 29 = .ok (.iconst 3, 1) := by decide +kernel
theorem dX1_roomOf_30 : decode cX1_roomOf 30 = .ok (.isub, 1) := by decide +kernel
theorem dX1_roomOf_31 : decode cX1_roomOf 31 = .ok (.ishr, 1) := by decide +kernel
theorem dX1_roomOf_32 : decode cX1_roomOf 32 = .ok (.bipush 7, 2) := by decide +kernel
theorem dX1_roomOf_34 : decode cX1_roomOf 34 = .ok (.iand, 1) := by decide +kernel
theorem dX1_roomOf_35 : decode cX1_roomOf 35 = .ok (.istore 5, 2) := by decide +kernel
theorem dX1_roomOf_37 : decode cX1_roomOf 37 = .ok (.iload 4, 2) := by decide +kernel
theorem dX1_roomOf_39 : decode cX1_roomOf 39 = .ok (.iload 5, 2) := by decide +kernel
theorem dX1_roomOf_41 : decode cX1_roomOf 41 = .ok (.if_icmp .eq 9, 3) := by decide +kernel
theorem dX1_roomOf_44 : decode cX1_roomOf 44 = .ok (.iload_n 2, 1) := by decide +kernel
theorem dX1_roomOf_45 : decode cX1_roomOf 45 = .ok (.iconst 1, 1) := by decide +kernel
theorem dX1_roomOf_46 : decode cX1_roomOf 46 = .ok (.iadd, 1) := by decide +kernel
theorem dX1_roomOf_47 : decode cX1_roomOf 47 = .ok (.goto 4, 3) := by decide +kernel
theorem dX1_roomOf_50 : decode cX1_roomOf 50 = .ok (.iload_n 2, 1) := by decide +kernel
theorem dX1_roomOf_51 : decode cX1_roomOf 51 = .ok (.istore_n 2, 1) := by decide +kernel
theorem dX1_roomOf_52 : decode cX1_roomOf 52 = .ok (.iinc 3 1, 3) := by decide +kernel
theorem dX1_roomOf_55 : decode cX1_roomOf 55 = .ok (.goto (-45), 3) := by decide +kernel
theorem dX1_roomOf_58 : decode cX1_roomOf 58 = .ok (.iload_n 2, 1) := by decide +kernel
theorem dX1_roomOf_59 : decode cX1_roomOf 59 = .ok (.iconst 1, 1) := by decide +kernel
theorem dX1_roomOf_60 : decode cX1_roomOf 60 = .ok (.iadd, 1) := by decide +kernel
theorem dX1_roomOf_61 : decode cX1_roomOf 61 = .ok (.ireturn, 1) := by decide +kernel
theorem lkX1_roomOf : GoodIn lw_all (wsV RX1 44 RX1 yX1_roomOf (ws_ yX1_roomOf cX1_roomOf 6 (some .int))) ∧ yX1_roomOf.cls = RX1 ∧ yX1_roomOf.cls ≠ "java/lang/invoke/MethodHandle" ∧ yX1_roomOf.cls ≠ "java/lang/invoke/VarHandle" ∧ (parseMethodDescriptor yX1_roomOf.desc).map (fun d => d.parameters.length) = some 1 := ⟨lw_V q252 q254 qs22 q27 q255, by decide +kernel⟩
set_option maxHeartbeats 4000000 in
theorem lpX1_roomOf {M : Mx} {τ : St} {z : Int} (hz : 1 ≤ z ∧ z ≤ 4095) (h : Cx 1 M cX1_roomOf 6 0) (hr : RtI 1 M .int (fun r τ' => τ = τ' ∧ r = room z)) : ∀ (k j : Nat) (x s : Int), x = j + 1 → j ≤ 3 → 3 < j + k → s = rn z j → WX 1 M 10 [.inr 0, .inl z, .inl s, .inl x] [] τ := by
  have g : ∀ i : Nat, 0 ≤ z / 2 ^ (3 * i) ∧ z / 2 ^ (3 * i) ≤ 4095 := fun i => shr_rg (by omega) (by omega) (3 * i)
  have g8 : ∀ i : Nat, 0 ≤ z / 2 ^ (3 * i) % 8 ∧ z / 2 ^ (3 * i) % 8 < 8 := fun i => by omega
  intro k
  induction k with
  | zero => intro j x s h1 h2 h3; omega
  | succ k ih =>
    intro j x s hx hj hk hs2
    have g1 := g8 (j + 1)
    have g0 := g8 j
    have hrn := rn_rg z j
    refine x_iload_n (q := 11) h dX1_roomOf_10 rfl rfl rfl ?_
    refine x_iconst (q := 12) h dX1_roomOf_11 rfl ?_
    refine x_icmp_ge (tgt := 58) (q := 15) h dX1_roomOf_12 (by decide) rfl (by omega) (by omega) (fun c12 => ?_) (fun c12 => ?_)
    · refine x_iload_n (q := 59) h dX1_roomOf_58 rfl rfl rfl ?_
      refine x_iconst (q := 60) h dX1_roomOf_59 rfl ?_
      refine x_iadd (q := 61) h dX1_roomOf_60 rfl ?_
      exact x_iret h hr dX1_roomOf_61 (by omega) (⟨rfl, by unfold room; rw [if_neg (by omega), hs2, show j = 3 by omega]⟩)
    · refine x_iload_n (q := 16) h dX1_roomOf_15 rfl rfl rfl ?_
      refine x_iconst (q := 17) h dX1_roomOf_16 rfl ?_
      refine x_iload_n (q := 18) h dX1_roomOf_17 rfl rfl rfl ?_
      refine x_imul (q := 19) h dX1_roomOf_18 rfl ?_
      refine x_top (show (3 : Int) * x = ((3 * (j + 1) : Nat) : Int) by omega) ?_
      refine x_ishr (q := 20) (z / 2 ^ (3 * (j + 1))) h dX1_roomOf_19 (jI_shr (by omega) (by omega) (by omega)) rfl ?_
      refine x_bipush (q := 22) h dX1_roomOf_20 rfl (by decide) ?_
      refine x_iand (q := 23) (z / 2 ^ (3 * (j + 1)) % 8) h dX1_roomOf_22 (jI_and7 (g (j + 1)).1 (by have := (g (j + 1)).2; omega)) rfl ?_
      refine x_istore (q := 25) (vs' := [.inr 0, .inl z, .inl s, .inl x, .inl (z / 2 ^ (3 * (j + 1)) % 8)]) h dX1_roomOf_23 (by decide) (Nat.le_of_ble_eq_true rfl) rfl rfl ?_
      refine x_iload_n (q := 26) h dX1_roomOf_25 rfl rfl rfl ?_
      refine x_iconst (q := 27) h dX1_roomOf_26 rfl ?_
      refine x_iload_n (q := 28) h dX1_roomOf_27 rfl rfl rfl ?_
      refine x_imul (q := 29) h dX1_roomOf_28 rfl ?_
      refine x_iconst (q := 30) h dX1_roomOf_29 rfl ?_
      refine x_isub (q := 31) h dX1_roomOf_30 rfl ?_
      refine x_top (show (3 : Int) * x - 3 = ((3 * j : Nat) : Int) by omega) ?_
      refine x_ishr (q := 32) (z / 2 ^ (3 * j)) h dX1_roomOf_31 (jI_shr (by omega) (by omega) (by omega)) rfl ?_
      refine x_bipush (q := 34) h dX1_roomOf_32 rfl (by decide) ?_
      refine x_iand (q := 35) (z / 2 ^ (3 * j) % 8) h dX1_roomOf_34 (jI_and7 (g j).1 (by have := (g j).2; omega)) rfl ?_
      refine x_istore (q := 37) (vs' := [.inr 0, .inl z, .inl s, .inl x, .inl (z / 2 ^ (3 * (j + 1)) % 8), .inl (z / 2 ^ (3 * j) % 8)]) h dX1_roomOf_35 (by decide) (Nat.le_of_ble_eq_true rfl) rfl rfl ?_
      refine x_iload (q := 39) h dX1_roomOf_37 rfl rfl ?_
      refine x_iload (q := 41) h dX1_roomOf_39 rfl rfl ?_
      refine x_icmp_eq (tgt := 50) (q := 44) h dX1_roomOf_41 (by decide) rfl (by omega) (by omega) (fun c41 => ?_) (fun c41 => ?_)
      · refine x_iload_n (q := 51) h dX1_roomOf_50 rfl rfl rfl ?_
        refine x_istore_n (q := 52) (vs' := [.inr 0, .inl z, .inl s, .inl x, .inl (z / 2 ^ (3 * (j + 1)) % 8), .inl (z / 2 ^ (3 * j) % 8)]) h dX1_roomOf_51 rfl (by decide) (Nat.le_of_ble_eq_true rfl) rfl rfl ?_
        refine x_iinc (q := 55) (vs' := [.inr 0, .inl z, .inl s, .inl (x + 1), .inl (z / 2 ^ (3 * (j + 1)) % 8), .inl (z / 2 ^ (3 * j) % 8)]) h dX1_roomOf_52 (by decide) rfl rfl rfl ?_
        refine x_goto (tgt := 10) h dX1_roomOf_55 (by decide) ?_
        refine x_drop (vs' := [.inr 0, .inl z, .inl s, .inl (x + 1)]) 4 rfl ?_
        exact ih (j + 1) _ _ (by omega) (by omega) (by omega) (by simp only [rn]; first | rw [if_pos (show dgt z (j + 1) = dgt z j from c41)]; omega | rw [if_neg (show ¬ dgt z (j + 1) = dgt z j from c41)]; omega)
      · refine x_iload_n (q := 45) h dX1_roomOf_44 rfl rfl rfl ?_
        refine x_iconst (q := 46) h dX1_roomOf_45 rfl ?_
        refine x_iadd (q := 47) h dX1_roomOf_46 rfl ?_
        refine x_goto (tgt := 51) h dX1_roomOf_47 (by decide) ?_
        refine x_istore_n (q := 52) (vs' := [.inr 0, .inl z, .inl (s + 1), .inl x, .inl (z / 2 ^ (3 * (j + 1)) % 8), .inl (z / 2 ^ (3 * j) % 8)]) h dX1_roomOf_51 rfl (by decide) (Nat.le_of_ble_eq_true rfl) rfl rfl ?_
        refine x_iinc (q := 55) (vs' := [.inr 0, .inl z, .inl (s + 1), .inl (x + 1), .inl (z / 2 ^ (3 * (j + 1)) % 8), .inl (z / 2 ^ (3 * j) % 8)]) h dX1_roomOf_52 (by decide) rfl rfl rfl ?_
        refine x_goto (tgt := 10) h dX1_roomOf_55 (by decide) ?_
        refine x_drop (vs' := [.inr 0, .inl z, .inl (s + 1), .inl (x + 1)]) 4 rfl ?_
        exact ih (j + 1) _ _ (by omega) (by omega) (by omega) (by simp only [rn]; first | rw [if_pos (show dgt z (j + 1) = dgt z j from c41)]; omega | rw [if_neg (show ¬ dgt z (j + 1) = dgt z j from c41)]; omega)
set_option maxHeartbeats 4000000 in
theorem mX1_roomOf {τ : St} (z : Int) (hz : 0 ≤ z ∧ z ≤ 4095) : CtI 1 yX1_roomOf cX1_roomOf 6 0 .int [z] τ (fun r τ' => τ = τ' ∧ r = room z) := by
  refine CtI.of (by decide) rfl (Nat.le_of_ble_eq_true rfl) (fun M h hr => ?_)
  show WX 1 M 0 [.inr 0, .inl z] [] τ
  refine x_iload_n (q := 1) h dX1_roomOf_0 rfl rfl rfl ?_
  refine x_if_ne (tgt := 6) (q := 4) h dX1_roomOf_1 (by decide) rfl (by omega) (fun c1 => ?_) (fun c1 => ?_)
  · refine x_iconst (q := 7) h dX1_roomOf_6 rfl ?_
    refine x_istore_n (q := 8) (vs' := [.inr 0, .inl z, .inl 1]) h dX1_roomOf_7 rfl (by decide) (Nat.le_of_ble_eq_true rfl) rfl rfl ?_
    refine x_iconst (q := 9) h dX1_roomOf_8 rfl ?_
    refine x_istore_n (q := 10) (vs' := [.inr 0, .inl z, .inl 1, .inl 1]) h dX1_roomOf_9 rfl (by decide) (Nat.le_of_ble_eq_true rfl) rfl rfl ?_
    exact lpX1_roomOf (by omega) h hr 4 0 1 1 (by omega) (by omega) (by omega) rfl
  · refine x_iconst (q := 5) h dX1_roomOf_4 rfl ?_
    exact x_iret h hr dX1_roomOf_5 (by omega) (⟨rfl, by rw [c1]; rfl⟩)

theorem dX1_keep_0 : decode cX1_keep 0 = .ok (.iconst 0, 1) := by decide +kernel
theorem dX1_keep_1 : decode cX1_keep 1 = .ok (.istore_n 1, 1) := by decide +kernel
theorem dX1_keep_2 : decode cX1_keep 2 = .ok (.iload_n 1, 1) := by decide +kernel
theorem dX1_keep_3 : decode cX1_keep 3 = .ok (.bipush 32, 2) := by decide +kernel
theorem dX1_keep_5 : decode cX1_keep 5 = .ok (.if_icmp .ge 21, 3) := by decide +kernel
theorem dX1_keep_8 : decode cX1_keep 8 = .ok (.aload_n 0, 1) := by decide +kernel
theorem dX1_keep_9 : decode cX1_keep 9 = .ok (.getfield 13, 3) := by decide +kernel
theorem dX1_keep_12 : decode cX1_keep 12 = .ok (.iload_n 1, 1) := by decide +kernel
theorem dX1_keep_13 : decode cX1_keep 13 = .ok (.aload_n 0, 1) := by decide +kernel
theorem dX1_keep_14 : decode cX1_keep 14 = .ok (.getfield 7, 3) := by decide +kernel
theorem dX1_keep_17 : decode cX1_keep 17 = .ok (.iload_n 1, 1) := by decide +kernel
theorem dX1_keep_18 : decode cX1_keep 18 = .ok (.iaload, 1) := by decide +kernel
theorem dX1_keep_19 : decode cX1_keep 19 = .ok (.iastore, 1) := by decide +kernel
theorem dX1_keep_20 : decode cX1_keep 20 = .ok (.iinc 1 1, 3) := by decide +kernel
theorem dX1_keep_23 : decode cX1_keep 23 = .ok (.goto (-21), 3) := by decide +kernel
theorem dX1_keep_26 : decode cX1_keep 26 = .ok (.return_, 1) := by decide +kernel
theorem lkX1_keep : GoodIn lw_all (wsV RX1 27 RX1 yX1_keep (ws_ yX1_keep cX1_keep 2 none)) ∧ yX1_keep.cls = RX1 ∧ yX1_keep.cls ≠ "java/lang/invoke/MethodHandle" ∧ yX1_keep.cls ≠ "java/lang/invoke/VarHandle" ∧ (parseMethodDescriptor yX1_keep.desc).map (fun d => d.parameters.length) = some 0 := ⟨lw_V q236 q238 qs19 q27 q239, by decide +kernel⟩
set_option maxHeartbeats 4000000 in
theorem lpX1_keep {M : Mx} {f : Int → Int} (h : Cx 1 M cX1_keep 2 0) (hr : RtV 1 M (fun τ' => τ' 0 = f ∧ eqC (τ' 1) f)) : ∀ (k : Nat) (x : Int) (τ : St), 0 ≤ x → x ≤ 32 → 32 - x < k → τ 0 = f → (∀ j : Int, 0 ≤ j → j < x → τ 1 j = f j) → WX 1 M 2 [.inr 0, .inl x] [] τ := by
  intro k
  induction k with
  | zero => intro x τ h1 h2 h3; omega
  | succ k ih =>
    intro x τ h0 hx hk h1 h2
    refine x_iload_n (q := 3) h dX1_keep_2 rfl rfl rfl ?_
    refine x_bipush (q := 5) h dX1_keep_3 rfl (by decide) ?_
    refine x_icmp_ge (tgt := 26) (q := 8) h dX1_keep_5 (by decide) rfl (by omega) (by omega) (fun c5 => ?_) (fun c5 => ?_)
    · exact x_vret h hr dX1_keep_26 (⟨h1, fun j a b => h2 j a (by omega)⟩)
    · refine x_aload_n (q := 9) h dX1_keep_8 rfl rfl rfl ?_
      refine x1_geta (k := 1) (q := 12) h rfl q218 dX1_keep_9 rfl ?_
      refine x_iload_n (q := 13) h dX1_keep_12 rfl rfl rfl ?_
      refine x_aload_n (q := 14) h dX1_keep_13 rfl rfl rfl ?_
      refine x1_geta (k := 0) (q := 17) h rfl q217 dX1_keep_14 rfl ?_
      refine x_iload_n (q := 18) h dX1_keep_17 rfl rfl rfl ?_
      refine x_iald (k := 0) (n := 32) (q := 19) h rfl dX1_keep_18 rfl (by omega) (fun v18 e18 l18 u18 => ?_)
      refine x_iast (k := 1) (n := 32) (q := 20) h rfl dX1_keep_19 rfl (by omega) (by omega) ?_
      refine x_iinc (q := 23) (vs' := [.inr 0, .inl (x + 1)]) h dX1_keep_20 (by decide) rfl rfl rfl ?_
      refine x_goto (tgt := 2) h dX1_keep_23 (by decide) ?_
      refine ih (x + 1) _ (by omega) (by omega) (by omega) (by rw [up_fne (by decide)]; exact h1) ?_
      intro j a b
      rw [up_if]
      by_cases e : j = x
      · rw [if_pos e, e18, e, h1]
      · rw [if_neg e]; exact h2 j a (by omega)
set_option maxHeartbeats 4000000 in
theorem mX1_keep {τ : St} : CtV 1 yX1_keep cX1_keep 2 0 [] τ (fun τ' => τ' 0 = τ 0 ∧ eqC (τ' 1) (τ 0)) := by
  refine CtV.of (by decide) rfl (Nat.le_of_ble_eq_true rfl) (fun M h hr => ?_)
  show WX 1 M 0 [.inr 0] [] τ
  refine x_iconst (q := 1) h dX1_keep_0 rfl ?_
  refine x_istore_n (q := 2) (vs' := [.inr 0, .inl 0]) h dX1_keep_1 rfl (by decide) (Nat.le_of_ble_eq_true rfl) rfl rfl ?_
  exact lpX1_keep h hr 33 0 τ (by omega) (by omega) (by omega) rfl (fun j a b => by omega)

theorem dX1_isFirst_0 : decode cX1_isFirst 0 = .ok (.iconst 0, 1) := by decide +kernel
theorem dX1_isFirst_1 : decode cX1_isFirst 1 = .ok (.istore_n 2, 1) := by decide +kernel
theorem dX1_isFirst_2 : decode cX1_isFirst 2 = .ok (.iload_n 2, 1) := by decide +kernel
theorem dX1_isFirst_3 : decode cX1_isFirst 3 = .ok (.iload_n 1, 1) := by decide +kernel
theorem dX1_isFirst_4 : decode cX1_isFirst 4 = .ok (.if_icmp .ge 26, 3) := by decide +kernel
theorem dX1_isFirst_7 : decode cX1_isFirst 7 = .ok (.aload_n 0, 1) := by decide +kernel
theorem dX1_isFirst_8 : decode cX1_isFirst 8 = .ok (.getfield 7, 3) := by decide +kernel
theorem dX1_isFirst_11 : decode cX1_isFirst 11 = .ok (.iload_n 2, 1) := by decide +kernel
theorem dX1_isFirst_12 : decode cX1_isFirst 12 = .ok (.iaload, 1) := by decide +kernel
theorem dX1_isFirst_13 : decode cX1_isFirst 13 = .ok (.aload_n 0, 1) := by decide +kernel
theorem dX1_isFirst_14 : decode cX1_isFirst 14 = .ok (.getfield 7, 3) := by decide +kernel
theorem dX1_isFirst_17 : decode cX1_isFirst 17 = .ok (.iload_n 1, 1) := by decide +kernel
theorem dX1_isFirst_18 : decode cX1_isFirst 18 = .ok (.iaload, 1) := by decide +kernel
theorem dX1_isFirst_19 : decode cX1_isFirst 19 = .ok (.if_icmp .ne 5, 3) := by decide +kernel
theorem dX1_isFirst_22 : decode cX1_isFirst 22 = .ok (.iconst 0, 1) := by decide +kernel
theorem dX1_isFirst_23 : decode cX1_isFirst 23 = .ok (.ireturn, 1) := by decide +kernel
theorem dX1_isFirst_24 : decode cX1_isFirst 24 = .ok (.iinc 2 1, 3) := by decide +kernel
theorem dX1_isFirst_27 : decode cX1_isFirst 27 = .ok (.goto (-25), 3) := by decide +kernel
theorem dX1_isFirst_30 : decode cX1_isFirst 30 = .ok (.iconst 1, 1) := by decide +kernel
theorem dX1_isFirst_31 : decode cX1_isFirst 31 = .ok (.ireturn, 1) := by decide +kernel
theorem lkX1_isFirst : GoodIn lw_all (wsV RX1 41 RX1 yX1_isFirst (ws_ yX1_isFirst cX1_isFirst 3 (some .boolean))) ∧ yX1_isFirst.cls = RX1 ∧ yX1_isFirst.cls ≠ "java/lang/invoke/MethodHandle" ∧ yX1_isFirst.cls ≠ "java/lang/invoke/VarHandle" ∧ (parseMethodDescriptor yX1_isFirst.desc).map (fun d => d.parameters.length) = some 1 := ⟨lw_V q248 q250 qs21 q27 q251, by decide +kernel⟩
set_option maxHeartbeats 4000000 in
theorem lpX1_isFirst {M : Mx} {τ : St} {n : Int} (hn : 0 ≤ n ∧ n < 32) (h : Cx 1 M cX1_isFirst 3 0) (hr : RtI 1 M .boolean (fun r τ' => τ = τ' ∧ r = fs (τ 0) (τ 0 n) n.toNat)) : ∀ (k : Nat) (x : Int), 0 ≤ x → x ≤ n → n - x < k → (∀ j : Int, 0 ≤ j → j < x → τ 0 j ≠ τ 0 n) → WX 1 M 2 [.inr 0, .inl n, .inl x] [] τ := by
  intro k
  induction k with
  | zero => intro x h1 h2 h3; omega
  | succ k ih =>
    intro x h0 hx hk h2
    refine x_iload_n (q := 3) h dX1_isFirst_2 rfl rfl rfl ?_
    refine x_iload_n (q := 4) h dX1_isFirst_3 rfl rfl rfl ?_
    refine x_icmp_ge (tgt := 30) (q := 7) h dX1_isFirst_4 (by decide) rfl (by omega) (by omega) (fun c4 => ?_) (fun c4 => ?_)
    · refine x_iconst (q := 31) h dX1_isFirst_30 rfl ?_
      exact x_zret h hr dX1_isFirst_31 (by omega) (⟨rfl, (fs_none (fun j a b => h2 j a (by omega))).symm⟩)
    · refine x_aload_n (q := 8) h dX1_isFirst_7 rfl rfl rfl ?_
      refine x1_geta (k := 0) (q := 11) h rfl q217 dX1_isFirst_8 rfl ?_
      refine x_iload_n (q := 12) h dX1_isFirst_11 rfl rfl rfl ?_
      refine x_iald (k := 0) (n := 32) (q := 13) h rfl dX1_isFirst_12 rfl (by omega) (fun v12 e12 l12 u12 => ?_)
      refine x_aload_n (q := 14) h dX1_isFirst_13 rfl rfl rfl ?_
      refine x1_geta (k := 0) (q := 17) h rfl q217 dX1_isFirst_14 rfl ?_
      refine x_iload_n (q := 18) h dX1_isFirst_17 rfl rfl rfl ?_
      refine x_iald (k := 0) (n := 32) (q := 19) h rfl dX1_isFirst_18 rfl (by omega) (fun v18 e18 l18 u18 => ?_)
      refine x_icmp_ne (tgt := 24) (q := 22) h dX1_isFirst_19 (by decide) rfl (by omega) (by omega) (fun c19 => ?_) (fun c19 => ?_)
      · refine x_iinc (q := 27) (vs' := [.inr 0, .inl n, .inl (x + 1)]) h dX1_isFirst_24 (by decide) rfl rfl rfl ?_
        refine x_goto (tgt := 2) h dX1_isFirst_27 (by decide) ?_
        refine ih (x + 1) (by omega) (by omega) (by omega) ?_
        intro j a b
        by_cases e : j = x
        · rw [e, ← e12, ← e18]; exact c19
        · exact h2 j a (by omega)
      · refine x_iconst (q := 23) h dX1_isFirst_22 rfl ?_
        exact x_zret h hr dX1_isFirst_23 (by omega) (⟨rfl, (fs_some (j := x) h0 (by omega) (by rw [← e12, ← e18, c19])).symm⟩)
set_option maxHeartbeats 4000000 in
theorem mX1_isFirst {τ : St} (n : Int) (hn : 0 ≤ n ∧ n < 32) : CtI 1 yX1_isFirst cX1_isFirst 3 0 .boolean [n] τ (fun r τ' => τ = τ' ∧ r = fs (τ 0) (τ 0 n) n.toNat) := by
  refine CtI.of (by decide) rfl (Nat.le_of_ble_eq_true rfl) (fun M h hr => ?_)
  show WX 1 M 0 [.inr 0, .inl n] [] τ
  refine x_iconst (q := 1) h dX1_isFirst_0 rfl ?_
  refine x_istore_n (q := 2) (vs' := [.inr 0, .inl n, .inl 0]) h dX1_isFirst_1 rfl (by decide) (Nat.le_of_ble_eq_true rfl) rfl rfl ?_
  exact lpX1_isFirst hn h hr 33 0 (by omega) (by omega) (by omega) (fun j a b => by omega)

theorem dX1_used_0 : decode cX1_used 0 = .ok (.iconst 0, 1) := by decide +kernel
theorem dX1_used_1 : decode cX1_used 1 = .ok (.istore_n 1, 1) := by decide +kernel
theorem dX1_used_2 : decode cX1_used 2 = .ok (.iconst 0, 1) := by decide +kernel
theorem dX1_used_3 : decode cX1_used 3 = .ok (.istore_n 2, 1) := by decide +kernel
theorem dX1_used_4 : decode cX1_used 4 = .ok (.iload_n 2, 1) := by decide +kernel
theorem dX1_used_5 : decode cX1_used 5 = .ok (.bipush 32, 2) := by decide +kernel
theorem dX1_used_7 : decode cX1_used 7 = .ok (.if_icmp .ge 30, 3) := by decide +kernel
theorem dX1_used_10 : decode cX1_used 10 = .ok (.aload_n 0, 1) := by decide +kernel
theorem dX1_used_11 : decode cX1_used 11 = .ok (.iload_n 2, 1) := by decide +kernel
theorem dX1_used_12 : decode cX1_used 12 = .ok (.invokevirtual 41, 3) := by decide +kernel
theorem dX1_used_15 : decode cX1_used 15 = .ok (.ifCond .eq 16, 3) := by decide +kernel
theorem dX1_used_18 : decode cX1_used 18 = .ok (.iload_n 1, 1) := by decide +kernel
theorem dX1_used_19 : decode cX1_used 19 = .ok (.aload_n 0, 1) := by decide +kernel
theorem dX1_used_20 : decode cX1_used 20 = .ok (.aload_n 0, 1) := by decide +kernel
theorem dX1_used_21 : decode cX1_used 21 = .ok (.getfield 7, 3) := by decide +kernel
theorem dX1_used_24 : decode cX1_used 24 = .ok (.iload_n 2, 1) := by decide +kernel
theorem dX1_used_25 : decode cX1_used 25 = .ok (.iaload, 1) := by decide +kernel
theorem dX1_used_26 : decode cX1_used 26 = .ok (.invokevirtual 44, 3) := by decide +kernel
theorem dX1_used_29 : decode cX1_used 29 = .ok (.iadd, 1) := by decide +kernel
theorem dX1_used_30 : decode cX1_used 30 = .ok (.istore_n 1, 1) := by decide +kernel
theorem dX1_used_31 : decode cX1_used 31 = .ok (.iinc 2 1, 3) := by decide +kernel
theorem dX1_used_34 : decode cX1_used 34 = .ok (.goto (-30), 3) := by decide +kernel
theorem dX1_used_37 : decode cX1_used 37 = .ok (.iload_n 1, 1) := by decide +kernel
theorem dX1_used_38 : decode cX1_used 38 = .ok (.ireturn, 1) := by decide +kernel
theorem lkX1_used : GoodIn lw_all (wsV RX1 16 RX1 yX1_used (ws_ yX1_used cX1_used 3 (some .int))) ∧ yX1_used.cls = RX1 ∧ yX1_used.cls ≠ "java/lang/invoke/MethodHandle" ∧ yX1_used.cls ≠ "java/lang/invoke/VarHandle" ∧ (parseMethodDescriptor yX1_used.desc).map (fun d => d.parameters.length) = some 0 := ⟨lw_V q244 q245 q246 q27 q247, by decide +kernel⟩
set_option maxHeartbeats 4000000 in
theorem lpX1_used {M : Mx} {τ : St} (hc : okC (τ 0)) (h : Cx 1 M cX1_used 3 1) (hr : RtI 1 M .int (fun r τ' => τ = τ' ∧ r = used (τ 0))) : ∀ (k i : Nat) (x s : Int), x = i → i ≤ 32 → 32 < i + k → s = fsum (τ 0) room i → WX 1 M 4 [.inr 0, .inl s, .inl x] [] τ := by
  intro k
  induction k with
  | zero => intro i x s h1 h2 h3; omega
  | succ k ih =>
    intro i x s hx hi hk hs2
    have hrg := fsum_rg (f := τ 0) (b := 5) room_rg (by decide) i
    refine x_iload_n (q := 5) h dX1_used_4 rfl rfl rfl ?_
    refine x_bipush (q := 7) h dX1_used_5 rfl (by decide) ?_
    refine x_icmp_ge (tgt := 37) (q := 10) h dX1_used_7 (by decide) rfl (by omega) (by omega) (fun c7 => ?_) (fun c7 => ?_)
    · refine x_iload_n (q := 38) h dX1_used_37 rfl rfl rfl ?_
      exact x_iret h hr dX1_used_38 (by omega) (⟨rfl, by rw [hs2, show i = 32 by omega]; rfl⟩)
    · refine x_aload_n (q := 11) h dX1_used_10 rfl rfl rfl ?_
      refine x_iload_n (q := 12) h dX1_used_11 rfl rfl rfl ?_
      refine x_calli (q := 15) (xs := [x]) (st := []) h (mX1_isFirst x (by omega)) lkX1_isFirst rfl (by decide) (by decide) dX1_used_12 rfl (by simp) rfl (fun z12 τ12 s12 r12 p12 => ?_)
      obtain ⟨rfl, p12⟩ := p12
      have f12 := fs_01 (τ 0) (τ 0 x) x.toNat
      refine x_if_eq (tgt := 31) (q := 18) h dX1_used_15 (by decide) rfl (by omega) (fun c15 => ?_) (fun c15 => ?_)
      · refine x_iinc (q := 34) (vs' := [.inr 0, .inl s, .inl (x + 1)]) h dX1_used_31 (by decide) rfl rfl rfl ?_
        refine x_goto (tgt := 4) h dX1_used_34 (by decide) ?_
        refine ih (i + 1) _ _ (by omega) (by omega) (by omega) ?_
        simp only [fsum]
        rw [hx] at p12
        have p12 : z12 = fs (τ 0) (τ 0 i) i := p12
        rw [← p12]
        rw [if_neg (by omega)]; omega
      · refine x_iload_n (q := 19) h dX1_used_18 rfl rfl rfl ?_
        refine x_aload_n (q := 20) h dX1_used_19 rfl rfl rfl ?_
        refine x_aload_n (q := 21) h dX1_used_20 rfl rfl rfl ?_
        refine x1_geta (k := 0) (q := 24) h rfl q217 dX1_used_21 rfl ?_
        refine x_iload_n (q := 25) h dX1_used_24 rfl rfl rfl ?_
        refine x_iald (k := 0) (n := 32) (q := 26) h rfl dX1_used_25 rfl (by omega) (fun v25 e25 l25 u25 => ?_)
        refine x_calli (q := 29) (xs := [v25]) (st := [.inl s]) h (mX1_roomOf v25 (by rw [e25]; exact hc x (by omega) (by omega))) lkX1_roomOf rfl (by decide) (by decide) dX1_used_26 rfl (by simp) rfl (fun z26 τ26 s26 r26 p26 => ?_)
        obtain ⟨rfl, p26⟩ := p26
        have g26 := room_rg v25
        refine x_iadd (q := 30) h dX1_used_29 rfl ?_
        refine x_istore_n (q := 31) (vs' := [.inr 0, .inl (s + z26), .inl x]) h dX1_used_30 rfl (by decide) (Nat.le_of_ble_eq_true rfl) rfl rfl ?_
        refine x_iinc (q := 34) (vs' := [.inr 0, .inl (s + z26), .inl (x + 1)]) h dX1_used_31 (by decide) rfl rfl rfl ?_
        refine x_goto (tgt := 4) h dX1_used_34 (by decide) ?_
        refine ih (i + 1) _ _ (by omega) (by omega) (by omega) ?_
        simp only [fsum]
        rw [hx] at p12
        have p12 : z12 = fs (τ 0) (τ 0 i) i := p12
        rw [← p12]
        rw [if_pos (by have := fs_01 (τ 0) (τ 0 i) i; omega), p26, e25, hx]; omega
set_option maxHeartbeats 4000000 in
theorem mX1_used {τ : St} (hc : okC (τ 0)) : CtI 1 yX1_used cX1_used 3 1 .int [] τ (fun r τ' => τ = τ' ∧ r = used (τ 0)) := by
  refine CtI.of (by decide) rfl (Nat.le_of_ble_eq_true rfl) (fun M h hr => ?_)
  show WX 1 M 0 [.inr 0] [] τ
  refine x_iconst (q := 1) h dX1_used_0 rfl ?_
  refine x_istore_n (q := 2) (vs' := [.inr 0, .inl 0]) h dX1_used_1 rfl (by decide) (Nat.le_of_ble_eq_true rfl) rfl rfl ?_
  refine x_iconst (q := 3) h dX1_used_2 rfl ?_
  refine x_istore_n (q := 4) (vs' := [.inr 0, .inl 0, .inl 0]) h dX1_used_3 rfl (by decide) (Nat.le_of_ble_eq_true rfl) rfl rfl ?_
  exact lpX1_used hc h hr 33 0 0 0 (by omega) (by omega) (by omega) rfl

theorem dX1_isFull_0 : decode cX1_isFull 0 = .ok (.aload_n 0, 1) := by decide +kernel
theorem dX1_isFull_1 : decode cX1_isFull 1 = .ok (.invokevirtual 16, 3) := by decide +kernel
theorem dX1_isFull_4 : decode cX1_isFull 4 = .ok (.bipush 48, 2) := by decide +kernel
theorem dX1_isFull_6 : decode cX1_isFull 6 = .ok (.if_icmp .gt 5, 3) := by decide +kernel
theorem dX1_isFull_9 : decode cX1_isFull 9 = .ok (.iconst 0, 1) := by decide +kernel
theorem dX1_isFull_10 : decode cX1_isFull 10 = .ok (.ireturn, 1) := by decide +kernel
theorem dX1_isFull_11 : decode cX1_isFull 11 = .ok (.iconst 0, 1) := by decide +kernel
theorem dX1_isFull_12 : decode cX1_isFull 12 = .ok (.istore_n 1, 1) := by decide +kernel
theorem dX1_isFull_13 : decode cX1_isFull 13 = .ok (.iload_n 1, 1) := by decide +kernel
theorem dX1_isFull_14 : decode cX1_isFull 14 = .ok (.bipush 32, 2) := by decide +kernel
theorem dX1_isFull_16 : decode cX1_isFull 16 = .ok (.if_icmp .ge 21, 3) := by decide +kernel
theorem dX1_isFull_19 : decode cX1_isFull 19 = .ok (.aload_n 0, 1) := by decide +kernel
theorem dX1_isFull_20 : decode cX1_isFull 20 = .ok (.getfield 7, 3) := by decide +kernel
theorem dX1_isFull_23 : decode cX1_isFull 23 = .ok (.iload_n 1, 1) := by decide +kernel
theorem dX1_isFull_24 : decode cX1_isFull 24 = .ok (.aload_n 0, 1) := by decide +kernel
theorem dX1_isFull_25 : decode cX1_isFull 25 = .ok (.getfield 13, 3) := by decide +kernel
theorem dX1_isFull_28 : decode cX1_isFull 28 = .ok (.iload_n 1, 1) := by decide +kernel
theorem dX1_isFull_29 : decode cX1_isFull 29 = .ok (.iaload, 1) := by decide +kernel
theorem dX1_isFull_30 : decode cX1_isFull 30 = .ok (.iastore, 1) := by decide +kernel
theorem dX1_isFull_31 : decode cX1_isFull 31 = .ok (.iinc 1 1, 3) := by decide +kernel
theorem dX1_isFull_34 : decode cX1_isFull 34 = .ok (.goto (-21), 3) := by decide +kernel
theorem dX1_isFull_37 : decode cX1_isFull 37 = .ok (.iconst 1, 1) := by decide +kernel
theorem dX1_isFull_38 : decode cX1_isFull 38 = .ok (.ireturn, 1) := by decide +kernel
theorem lkX1_isFull : GoodIn lw_all (wsV RX1 30 RX1 yX1_isFull (ws_ yX1_isFull cX1_isFull 2 (some .boolean))) ∧ yX1_isFull.cls = RX1 ∧ yX1_isFull.cls ≠ "java/lang/invoke/MethodHandle" ∧ yX1_isFull.cls ≠ "java/lang/invoke/VarHandle" ∧ (parseMethodDescriptor yX1_isFull.desc).map (fun d => d.parameters.length) = some 0 := ⟨lw_V q240 q242 qs20 q27 q243, by decide +kernel⟩
set_option maxHeartbeats 4000000 in
theorem lpX1_isFull {M : Mx} {f : Int → Int} {Po : Int → St → Prop} (h : Cx 1 M cX1_isFull 2 2) (hr : RtI 1 M .boolean Po) (hp : ∀ τ', eqC (τ' 0) f → Po 1 τ') : ∀ (k : Nat) (x : Int) (τ : St), 0 ≤ x → x ≤ 32 → 32 - x < k → τ 1 = f → (∀ j : Int, 0 ≤ j → j < x → τ 0 j = f j) → WX 1 M 13 [.inr 0, .inl x] [] τ := by
  intro k
  induction k with
  | zero => intro x τ h1 h2 h3; omega
  | succ k ih =>
    intro x τ h0 hx hk h1 h2
    refine x_iload_n (q := 14) h dX1_isFull_13 rfl rfl rfl ?_
    refine x_bipush (q := 16) h dX1_isFull_14 rfl (by decide) ?_
    refine x_icmp_ge (tgt := 37) (q := 19) h dX1_isFull_16 (by decide) rfl (by omega) (by omega) (fun c16 => ?_) (fun c16 => ?_)
    · refine x_iconst (q := 38) h dX1_isFull_37 rfl ?_
      exact x_zret h hr dX1_isFull_38 (by omega) (hp _ (fun j a b => h2 j a (by omega)))
    · refine x_aload_n (q := 20) h dX1_isFull_19 rfl rfl rfl ?_
      refine x1_geta (k := 0) (q := 23) h rfl q217 dX1_isFull_20 rfl ?_
      refine x_iload_n (q := 24) h dX1_isFull_23 rfl rfl rfl ?_
      refine x_aload_n (q := 25) h dX1_isFull_24 rfl rfl rfl ?_
      refine x1_geta (k := 1) (q := 28) h rfl q218 dX1_isFull_25 rfl ?_
      refine x_iload_n (q := 29) h dX1_isFull_28 rfl rfl rfl ?_
      refine x_iald (k := 1) (n := 32) (q := 30) h rfl dX1_isFull_29 rfl (by omega) (fun v29 e29 l29 u29 => ?_)
      refine x_iast (k := 0) (n := 32) (q := 31) h rfl dX1_isFull_30 rfl (by omega) (by omega) ?_
      refine x_iinc (q := 34) (vs' := [.inr 0, .inl (x + 1)]) h dX1_isFull_31 (by decide) rfl rfl rfl ?_
      refine x_goto (tgt := 13) h dX1_isFull_34 (by decide) ?_
      refine ih (x + 1) _ (by omega) (by omega) (by omega) (by rw [up_fne (by decide)]; exact h1) ?_
      intro j a b
      rw [up_if]
      by_cases e : j = x
      · rw [if_pos e, e29, e, h1]
      · rw [if_neg e]; exact h2 j a (by omega)
set_option maxHeartbeats 4000000 in
theorem mX1_isFull {τ : St} (hc : okC (τ 0)) : CtI 1 yX1_isFull cX1_isFull 2 2 .boolean [] τ (fun r τ' => (r = 0 ∧ τ = τ' ∧ used (τ 0) ≤ 48) ∨ (r = 1 ∧ 48 < used (τ 0) ∧ eqC (τ' 0) (τ 1))) := by
  refine CtI.of (by decide) rfl (Nat.le_of_ble_eq_true rfl) (fun M h hr => ?_)
  show WX 1 M 0 [.inr 0] [] τ
  refine x_aload_n (q := 1) h dX1_isFull_0 rfl rfl rfl ?_
  refine x_calli (q := 4) (xs := []) (st := []) h (mX1_used hc) lkX1_used rfl (by decide) (by decide) dX1_isFull_1 rfl (by simp) rfl (fun z1 τ1 s1 r1 p1 => ?_)
  obtain ⟨rfl, p1⟩ := p1
  have g1 := used_rg (τ 0)
  refine x_bipush (q := 6) h dX1_isFull_4 rfl (by decide) ?_
  refine x_icmp_gt (tgt := 11) (q := 9) h dX1_isFull_6 (by decide) rfl (by omega) (by omega) (fun c6 => ?_) (fun c6 => ?_)
  · refine x_iconst (q := 12) h dX1_isFull_11 rfl ?_
    refine x_istore_n (q := 13) (vs' := [.inr 0, .inl 0]) h dX1_isFull_12 rfl (by decide) (Nat.le_of_ble_eq_true rfl) rfl rfl ?_
    exact lpX1_isFull h hr (fun τ' q => Or.inr ⟨rfl, by omega, q⟩) 33 0 τ (by omega) (by omega) (by omega) rfl (fun j a b => by omega)
  · refine x_iconst (q := 10) h dX1_isFull_9 rfl ?_
    exact x_zret h hr dX1_isFull_10 (by omega) (Or.inl ⟨rfl, rfl, by omega⟩)

theorem dX1_count_0 : decode cX1_count 0 = .ok (.iconst 0, 1) := by decide +kernel
theorem dX1_count_1 : decode cX1_count 1 = .ok (.istore_n 2, 1) := by decide +kernel
theorem dX1_count_2 : decode cX1_count 2 = .ok (.iconst 0, 1) := by decide +kernel
theorem dX1_count_3 : decode cX1_count 3 = .ok (.istore_n 3, 1) := by decide +kernel
theorem dX1_count_4 : decode cX1_count 4 = .ok (.iload_n 3, 1) := by decide +kernel
theorem dX1_count_5 : decode cX1_count 5 = .ok (.bipush 32, 2) := by decide +kernel
theorem dX1_count_7 : decode cX1_count 7 = .ok (.if_icmp .ge 27, 3) := by decide +kernel
theorem dX1_count_10 : decode cX1_count 10 = .ok (.aload_n 0, 1) := by decide +kernel
theorem dX1_count_11 : decode cX1_count 11 = .ok (.getfield 7, 3) := by decide +kernel
theorem dX1_count_14 : decode cX1_count 14 = .ok (.iload_n 3, 1) := by decide +kernel
theorem dX1_count_15 : decode cX1_count 15 = .ok (.iaload, 1) := by decide +kernel
theorem dX1_count_16 : decode cX1_count 16 = .ok (.iload_n 1, 1) := by decide +kernel
theorem dX1_count_17 : decode cX1_count 17 = .ok (.if_icmp .ne 9, 3) := by decide +kernel
theorem dX1_count_20 : decode cX1_count 20 = .ok (.iload_n 2, 1) := by decide +kernel
theorem dX1_count_21 : decode cX1_count 21 = .ok (.iconst 1, 1) := by decide +kernel
theorem dX1_count_22 : decode cX1_count 22 = .ok (.iadd, 1) := by decide +kernel
theorem dX1_count_23 : decode cX1_count 23 = .ok (.goto 4, 3) := by decide +kernel
theorem dX1_count_26 : decode cX1_count 26 = .ok (.iload_n 2, 1) := by decide +kernel
theorem dX1_count_27 : decode cX1_count 27 = .ok (.istore_n 2, 1) := by decide +kernel
theorem dX1_count_28 : decode cX1_count 28 = .ok (.iinc 3 1, 3) := by decide +kernel
theorem dX1_count_31 : decode cX1_count 31 = .ok (.goto (-27), 3) := by decide +kernel
theorem dX1_count_34 : decode cX1_count 34 = .ok (.iload_n 2, 1) := by decide +kernel
theorem dX1_count_35 : decode cX1_count 35 = .ok (.ireturn, 1) := by decide +kernel
theorem lkX1_count : GoodIn lw_all (wsV RX1 37 RX1 yX1_count (ws_ yX1_count cX1_count 4 (some .int))) ∧ yX1_count.cls = RX1 ∧ yX1_count.cls ≠ "java/lang/invoke/MethodHandle" ∧ yX1_count.cls ≠ "java/lang/invoke/VarHandle" ∧ (parseMethodDescriptor yX1_count.desc).map (fun d => d.parameters.length) = some 1 := ⟨lw_V q284 q286 qs24 q27 q287, by decide +kernel⟩
set_option maxHeartbeats 4000000 in
theorem lpX1_count {M : Mx} {τ : St} {z : Int} (hz : -2147483648 ≤ z ∧ z ≤ 2147483647) (h : Cx 1 M cX1_count 4 0) (hr : RtI 1 M .int (fun r τ' => τ = τ' ∧ r = cnt (τ 0) z 32)) : ∀ (k i : Nat) (x s : Int), x = i → i ≤ 32 → 32 < i + k → s = cnt (τ 0) z i → WX 1 M 4 [.inr 0, .inl z, .inl s, .inl x] [] τ := by
  intro k
  induction k with
  | zero => intro i x s h1 h2 h3; omega
  | succ k ih =>
    intro i x s hx hi hk hs2
    have hrg := cnt_le (τ 0) z i
    refine x_iload_n (q := 5) h dX1_count_4 rfl rfl rfl ?_
    refine x_bipush (q := 7) h dX1_count_5 rfl (by decide) ?_
    refine x_icmp_ge (tgt := 34) (q := 10) h dX1_count_7 (by decide) rfl (by omega) (by omega) (fun c7 => ?_) (fun c7 => ?_)
    · refine x_iload_n (q := 35) h dX1_count_34 rfl rfl rfl ?_
      exact x_iret h hr dX1_count_35 (by omega) (⟨rfl, by rw [hs2, show i = 32 by omega]⟩)
    · refine x_aload_n (q := 11) h dX1_count_10 rfl rfl rfl ?_
      refine x1_geta (k := 0) (q := 14) h rfl q217 dX1_count_11 rfl ?_
      refine x_iload_n (q := 15) h dX1_count_14 rfl rfl rfl ?_
      refine x_iald (k := 0) (n := 32) (q := 16) h rfl dX1_count_15 rfl (by omega) (fun v15 e15 l15 u15 => ?_)
      refine x_iload_n (q := 17) h dX1_count_16 rfl rfl rfl ?_
      refine x_icmp_ne (tgt := 26) (q := 20) h dX1_count_17 (by decide) rfl (by omega) (by omega) (fun c17 => ?_) (fun c17 => ?_)
      · refine x_iload_n (q := 27) h dX1_count_26 rfl rfl rfl ?_
        refine x_istore_n (q := 28) (vs' := [.inr 0, .inl z, .inl s, .inl x]) h dX1_count_27 rfl (by decide) (Nat.le_of_ble_eq_true rfl) rfl rfl ?_
        refine x_iinc (q := 31) (vs' := [.inr 0, .inl z, .inl s, .inl (x + 1)]) h dX1_count_28 (by decide) rfl rfl rfl ?_
        refine x_goto (tgt := 4) h dX1_count_31 (by decide) ?_
        refine ih (i + 1) _ _ (by omega) (by omega) (by omega) ?_
        rw [cnt_s, ← hx, ← e15]
        rw [if_neg c17]; omega
      · refine x_iload_n (q := 21) h dX1_count_20 rfl rfl rfl ?_
        refine x_iconst (q := 22) h dX1_count_21 rfl ?_
        refine x_iadd (q := 23) h dX1_count_22 rfl ?_
        refine x_goto (tgt := 27) h dX1_count_23 (by decide) ?_
        refine x_istore_n (q := 28) (vs' := [.inr 0, .inl z, .inl (s + 1), .inl x]) h dX1_count_27 rfl (by decide) (Nat.le_of_ble_eq_true rfl) rfl rfl ?_
        refine x_iinc (q := 31) (vs' := [.inr 0, .inl z, .inl (s + 1), .inl (x + 1)]) h dX1_count_28 (by decide) rfl rfl rfl ?_
        refine x_goto (tgt := 4) h dX1_count_31 (by decide) ?_
        refine ih (i + 1) _ _ (by omega) (by omega) (by omega) ?_
        rw [cnt_s, ← hx, ← e15]
        rw [if_pos c17]; omega
set_option maxHeartbeats 4000000 in
theorem mX1_count {τ : St} (z : Int) (r_z : -2147483648 ≤ z ∧ z ≤ 2147483647) : CtI 1 yX1_count cX1_count 4 0 .int [z] τ (fun r τ' => τ = τ' ∧ r = cnt (τ 0) z 32) := by
  refine CtI.of (by decide) rfl (Nat.le_of_ble_eq_true rfl) (fun M h hr => ?_)
  show WX 1 M 0 [.inr 0, .inl z] [] τ
  refine x_iconst (q := 1) h dX1_count_0 rfl ?_
  refine x_istore_n (q := 2) (vs' := [.inr 0, .inl z, .inl 0]) h dX1_count_1 rfl (by decide) (Nat.le_of_ble_eq_true rfl) rfl rfl ?_
  refine x_iconst (q := 3) h dX1_count_2 rfl ?_
  refine x_istore_n (q := 4) (vs' := [.inr 0, .inl z, .inl 0, .inl 0]) h dX1_count_3 rfl (by decide) (Nat.le_of_ble_eq_true rfl) rfl rfl ?_
  exact lpX1_count r_z h hr 33 0 0 0 (by omega) (by omega) (by omega) rfl
end
section
/-! DedupBlocksModel: the calls -/
set_option maxRecDepth 100000
theorem up_upF {τ : St} {k : Nat} {n z : Int} : up τ k n z k = upF (τ k) n z := by
  funext j
  exact up_if
theorem pt_xor : ∀ i : Nat, i < 4 → jI (7 * 2 ^ (3 * i)) ^^^ jI (-1) = jI (-1 - 7 * 2 ^ (3 * i)) := by decide +kernel
theorem pt_and : ∀ i : Nat, i < 4 → ∀ a : Nat, a < 64 → ∀ b : Nat, b < 64 → jI ((64 * a + b : Nat) : Int) &&& jI (-1 - 7 * 2 ^ (3 * i)) = jI (((64 * a + b : Nat) : Int) - dgt ((64 * a + b : Nat) : Int) i * 2 ^ (3 * i)) := by decide +kernel
theorem pt_and' {i : Nat} (hi : i < 4) {v : Int} (h0 : 0 ≤ v) (h1 : v ≤ 4095) : jI v &&& jI (-1 - 7 * 2 ^ (3 * i)) = jI (v - dgt v i * 2 ^ (3 * i)) := by
  have h := pt_and i hi (v.toNat / 64) (by omega) (v.toNat % 64) (by omega)
  have e : ((64 * (v.toNat / 64) + v.toNat % 64 : Nat) : Int) = v := by omega
  rw [e] at h
  exact h
theorem pt_or {i : Nat} (hi : i < 4) {v d : Int} (h0 : 0 ≤ v) (h1 : v ≤ 4095) (hd0 : 0 ≤ d) (hd1 : d ≤ 7) : jI (v - dgt v i * 2 ^ (3 * i)) ||| jI (d * 2 ^ (3 * i)) = jI (v - dgt v i * 2 ^ (3 * i) + d * 2 ^ (3 * i)) := by
  have key : ∀ lo hi : Int, 0 ≤ lo → lo < 2 ^ (3 * i) → 0 ≤ hi → hi * 2 ^ (3 * i + 3) < 2147483648 → lo + d * 2 ^ (3 * i) < 2 ^ (3 * i + 3) → d * 2 ^ (3 * i) < 2147483648 → 0 ≤ d * 2 ^ (3 * i) → jI (lo + hi * 2 ^ (3 * i + 3)) ||| jI (d * 2 ^ (3 * i)) = jI (lo + hi * 2 ^ (3 * i + 3) + d * 2 ^ (3 * i)) := by
    intro lo hi a1 a2 a3 a4 a5 a6 a7
    have h1 := jI_or (a := lo) (b := hi) (3 * i + 3) a1 (by omega) a3 a4
    have h2 := jI_or (a := lo) (b := d) (3 * i) a1 a2 hd0 a6
    have h3 := jI_or (a := lo + d * 2 ^ (3 * i)) (b := hi) (3 * i + 3) (by omega) a5 a3 a4
    rw [← h1, Int32.or_assoc, Int32.or_comm (jI (hi * 2 ^ (3 * i + 3))), ← Int32.or_assoc, h2, h3]
    congr 1
    omega
  have hi4 : i = 0 ∨ i = 1 ∨ i = 2 ∨ i = 3 := by omega
  rcases hi4 with rfl | rfl | rfl | rfl
  · have k := key (v % 1) (v / 8) (by omega) (by simp only [Nat.mul_zero, Int.pow_zero]; omega) (by omega) (by simp; omega) (by simp; omega) (by simp; omega) (by simp; omega)
    have e : v % 1 + v / 8 * 2 ^ (3 * 0 + 3) = v - dgt v 0 * 2 ^ (3 * 0) := by simp [dgt]; omega
    rw [e] at k
    exact k
  · have k := key (v % 8) (v / 64) (by omega) (by simp; omega) (by omega) (by simp; omega) (by simp; omega) (by simp; omega) (by simp; omega)
    have e : v % 8 + v / 64 * 2 ^ (3 * 1 + 3) = v - dgt v 1 * 2 ^ (3 * 1) := by simp [dgt]; omega
    rw [e] at k
    exact k
  · have k := key (v % 64) (v / 512) (by omega) (by simp; omega) (by omega) (by simp; omega) (by simp; omega) (by simp; omega) (by simp; omega)
    have e : v % 64 + v / 512 * 2 ^ (3 * 2 + 3) = v - dgt v 2 * 2 ^ (3 * 2) := by simp [dgt]; omega
    rw [e] at k
    exact k
  · have k := key (v % 512) (v / 4096) (by omega) (by simp; omega) (by omega) (by simp; omega) (by simp; omega) (by simp; omega) (by simp; omega)
    have e : v % 512 + v / 4096 * 2 ^ (3 * 3 + 3) = v - dgt v 3 * 2 ^ (3 * 3) := by simp [dgt]; omega
    rw [e] at k
    exact k
theorem ptc_rg {v i d : Int} (h0 : 0 ≤ v) (h1 : v ≤ 4095) (hi0 : 0 ≤ i) (hi1 : i ≤ 3) (hd0 : 0 ≤ d) (hd1 : d ≤ 7) : 0 ≤ ptc v i d ∧ ptc v i d ≤ 4095 := by
  have hi4 : i = 0 ∨ i = 1 ∨ i = 2 ∨ i = 3 := by omega
  unfold ptc dgt
  rcases hi4 with rfl | rfl | rfl | rfl <;> simp <;> omega
theorem sh_rg {i : Int} (h0 : 0 ≤ i) (h1 : i ≤ 3) : ((7 : Int) * 2 ^ (3 * i.toNat) < 2147483648) ∧ ∀ d : Int, 0 ≤ d → d ≤ 7 → 0 ≤ d * 2 ^ (3 * i.toNat) ∧ d * 2 ^ (3 * i.toNat) < 2147483648 := by
  have hi4 : i = 0 ∨ i = 1 ∨ i = 2 ∨ i = 3 := by omega
  rcases hi4 with rfl | rfl | rfl | rfl <;> simp <;> intros <;> omega
theorem dX1_write_0 : decode cX1_write 0 = .ok (.aload_n 0, 1) := by decide +kernel
theorem dX1_write_1 : decode cX1_write 1 = .ok (.iload_n 1, 1) := by decide +kernel
theorem dX1_write_2 : decode cX1_write 2 = .ok (.invokevirtual 20, 3) := by decide +kernel
theorem dX1_write_5 : decode cX1_write 5 = .ok (.ifCond .eq 11, 3) := by decide +kernel
theorem dX1_write_8 : decode cX1_write 8 = .ok (.aload_n 0, 1) := by decide +kernel
theorem dX1_write_9 : decode cX1_write 9 = .ok (.iload_n 2, 1) := by decide +kernel
theorem dX1_write_10 : decode cX1_write 10 = .ok (.invokevirtual 24, 3) := by decide +kernel
theorem dX1_write_13 : decode cX1_write 13 = .ok (.ifCond .ne 5, 3) := by decide +kernel
theorem dX1_write_16 : decode cX1_write 16 = .ok (.iconst (-1), 1) := by decide +kernel
theorem dX1_write_17 : decode cX1_write 17 = .ok (.ireturn, 1) := by decide +kernel
theorem dX1_write_18 : decode cX1_write 18 = .ok (.aload_n 0, 1) := by decide +kernel
theorem dX1_write_19 : decode cX1_write 19 = .ok (.invokevirtual 27, 3) := by decide +kernel
theorem dX1_write_22 : decode cX1_write 22 = .ok (.aload_n 0, 1) := by decide +kernel
theorem dX1_write_23 : decode cX1_write 23 = .ok (.getfield 7, 3) := by decide +kernel
theorem dX1_write_26 : decode cX1_write 26 = .ok (.iload_n 1, 1) := by decide +kernel
theorem dX1_write_27 : decode cX1_write 27 = .ok (.iload_n 2, 1) := by decide +kernel
theorem dX1_write_28 : decode cX1_write 28 = .ok (.iastore, 1) := by decide +kernel
theorem dX1_write_29 : decode cX1_write 29 = .ok (.aload_n 0, 1) := by decide +kernel
theorem dX1_write_30 : decode cX1_write 30 = .ok (.invokevirtual 30, 3) := by decide +kernel
theorem dX1_write_33 : decode cX1_write 33 = .ok (.ifCond .eq 8, 3) := by decide +kernel
theorem dX1_write_36 : decode cX1_write 36 = .ok (.bipush (-2), 2) := by decide +kernel
theorem dX1_write_38 : decode cX1_write 38 = .ok (.goto 9, 3) := by decide +kernel
theorem dX1_write_41 : decode cX1_write 41 = .ok (.aload_n 0, 1) := by decide +kernel
theorem dX1_write_42 : decode cX1_write 42 = .ok (.getfield 13, 3) := by decide +kernel
theorem dX1_write_45 : decode cX1_write 45 = .ok (.iload_n 1, 1) := by decide +kernel
theorem dX1_write_46 : decode cX1_write 46 = .ok (.iaload, 1) := by decide +kernel
theorem dX1_write_47 : decode cX1_write 47 = .ok (.ireturn, 1) := by decide +kernel
set_option maxHeartbeats 4000000 in
theorem mX1_write {τ : St} (n z : Int) (r_n : -2147483648 ≤ n ∧ n ≤ 2147483647) (r_z : -2147483648 ≤ z ∧ z ≤ 2147483647) (hc : okC (τ 0)) : CtI 1 yX1_write cX1_write 3 3 .int [n, z] τ (fun r τ' => r = (sWrite (τ 0) n z).1 ∧ eqC (τ' 0) (sWrite (τ 0) n z).2) := by
  refine CtI.of (by decide) rfl (Nat.le_of_ble_eq_true rfl) (fun M h hr => ?_)
  show WX 1 M 0 [.inr 0, .inl n, .inl z] [] τ
  refine x_aload_n (q := 1) h dX1_write_0 rfl rfl rfl ?_
  refine x_iload_n (q := 2) h dX1_write_1 rfl rfl rfl ?_
  refine x_calli (q := 5) (xs := [n]) (st := []) h (mX1_isBlock n (by omega)) lkX1_isBlock rfl (by decide) (by decide) dX1_write_2 rfl (by simp) rfl (fun z2 τ2 s2 r2 p2 => ?_)
  obtain ⟨rfl, p2⟩ := p2
  refine x_if_eq (tgt := 16) (q := 8) h dX1_write_5 (by decide) rfl (by omega) (fun c5 => ?_) (fun c5 => ?_)
  · refine x_iconst (q := 17) h dX1_write_16 rfl ?_
    exact x_iret h hr dX1_write_17 (by omega) (⟨by unfold sWrite; rw [if_pos (by omega)], by unfold sWrite; rw [if_pos (by omega)]; exact fun _ _ _ => rfl⟩)
  · refine x_aload_n (q := 9) h dX1_write_8 rfl rfl rfl ?_
    refine x_iload_n (q := 10) h dX1_write_9 rfl rfl rfl ?_
    refine x_calli (q := 13) (xs := [z]) (st := []) h (mX1_isContent z (by omega)) lkX1_isContent rfl (by decide) (by decide) dX1_write_10 rfl (by simp) rfl (fun z10 τ10 s10 r10 p10 => ?_)
    obtain ⟨rfl, p10⟩ := p10
    refine x_if_ne (tgt := 18) (q := 16) h dX1_write_13 (by decide) rfl (by omega) (fun c13 => ?_) (fun c13 => ?_)
    · refine x_aload_n (q := 19) h dX1_write_18 rfl rfl rfl ?_
      refine x_callv (q := 22) (xs := []) (st := []) h (mX1_keep) lkX1_keep rfl (by decide) (by decide) dX1_write_19 rfl (by simp) rfl (fun τ19 s19 p19 => ?_)
      obtain ⟨k1, k2⟩ := p19
      refine x_aload_n (q := 23) h dX1_write_22 rfl rfl rfl ?_
      refine x1_geta (k := 0) (q := 26) h rfl q217 dX1_write_23 rfl ?_
      refine x_iload_n (q := 27) h dX1_write_26 rfl rfl rfl ?_
      refine x_iload_n (q := 28) h dX1_write_27 rfl rfl rfl ?_
      refine x_iast (k := 0) (n := 32) (q := 29) h rfl dX1_write_28 rfl (by omega) (by omega) ?_
      refine x_aload_n (q := 30) h dX1_write_29 rfl rfl rfl ?_
      have e30 : (up τ19 0 n z) 0 = upF (τ 0) n z := by rw [up_upF, k1]
      refine x_calli (q := 33) (xs := []) (st := []) h (mX1_isFull (by rw [e30]; exact okC_up hc (by omega))) lkX1_isFull rfl (by decide) (by decide) dX1_write_30 rfl (by simp) rfl (fun z30 τ30 s30 r30 p30 => ?_)
      refine x_if_eq (tgt := 41) (q := 36) h dX1_write_33 (by decide) rfl (by omega) (fun c33 => ?_) (fun c33 => ?_)
      · rcases p30 with ⟨-, q1, q2⟩ | ⟨q1, -⟩
        rotate_left
        · exfalso; omega
        refine x_aload_n (q := 42) h dX1_write_41 rfl rfl rfl ?_
        refine x1_geta (k := 1) (q := 45) h rfl q218 dX1_write_42 rfl ?_
        refine x_iload_n (q := 46) h dX1_write_45 rfl rfl rfl ?_
        refine x_iald (k := 1) (n := 32) (q := 47) h rfl dX1_write_46 rfl (by omega) (fun v46 e46 l46 u46 => ?_)
        rw [← q1, up_fne (by decide), k2 n (by omega) (by omega)] at e46
        exact x_iret h hr dX1_write_47 (by omega) (by unfold sWrite; rw [if_neg (by omega), if_pos (by rw [← e30]; exact q2)]; exact ⟨e46, by rw [← q1, e30]; exact fun _ _ _ => rfl⟩)
      · rcases p30 with ⟨q1, -⟩ | ⟨-, q1, q2⟩
        · exfalso; omega
        refine x_bipush (q := 38) h dX1_write_36 rfl (by decide) ?_
        refine x_goto (tgt := 47) h dX1_write_38 (by decide) ?_
        exact x_iret h hr dX1_write_47 (by omega) (by unfold sWrite; rw [if_neg (by omega), if_neg (by rw [← e30]; omega)]; exact ⟨rfl, by rw [up_fne (by decide)] at q2; exact fun j a b => (q2 j a b).trans (k2 j a b)⟩)
    · refine x_iconst (q := 17) h dX1_write_16 rfl ?_
      exact x_iret h hr dX1_write_17 (by omega) (⟨by unfold sWrite; rw [if_pos (by omega)], by unfold sWrite; rw [if_pos (by omega)]; exact fun _ _ _ => rfl⟩)

theorem dX1_read_0 : decode cX1_read 0 = .ok (.aload_n 0, 1) := by decide +kernel
theorem dX1_read_1 : decode cX1_read 1 = .ok (.iload_n 1, 1) := by decide +kernel
theorem dX1_read_2 : decode cX1_read 2 = .ok (.invokevirtual 20, 3) := by decide +kernel
theorem dX1_read_5 : decode cX1_read 5 = .ok (.ifCond .eq 12, 3) := by decide +kernel
theorem dX1_read_8 : decode cX1_read 8 = .ok (.aload_n 0, 1) := by decide +kernel
theorem dX1_read_9 : decode cX1_read 9 = .ok (.getfield 7, 3) := by decide +kernel
theorem dX1_read_12 : decode cX1_read 12 = .ok (.iload_n 1, 1) := by decide +kernel
theorem dX1_read_13 : decode cX1_read 13 = .ok (.iaload, 1) := by decide +kernel
theorem dX1_read_14 : decode cX1_read 14 = .ok (.goto 4, 3) := by decide +kernel
theorem dX1_read_17 : decode cX1_read 17 = .ok (.iconst (-1), 1) := by decide +kernel
theorem dX1_read_18 : decode cX1_read 18 = .ok (.ireturn, 1) := by decide +kernel
set_option maxHeartbeats 4000000 in
theorem mX1_read {τ : St} (n : Int) (r_n : -2147483648 ≤ n ∧ n ≤ 2147483647) : CtI 1 yX1_read cX1_read 2 1 .int [n] τ (fun r τ' => τ = τ' ∧ r = sRead (τ 0) n) := by
  refine CtI.of (by decide) rfl (Nat.le_of_ble_eq_true rfl) (fun M h hr => ?_)
  show WX 1 M 0 [.inr 0, .inl n] [] τ
  refine x_aload_n (q := 1) h dX1_read_0 rfl rfl rfl ?_
  refine x_iload_n (q := 2) h dX1_read_1 rfl rfl rfl ?_
  refine x_calli (q := 5) (xs := [n]) (st := []) h (mX1_isBlock n (by omega)) lkX1_isBlock rfl (by decide) (by decide) dX1_read_2 rfl (by simp) rfl (fun z2 τ2 s2 r2 p2 => ?_)
  obtain ⟨rfl, p2⟩ := p2
  refine x_if_eq (tgt := 17) (q := 8) h dX1_read_5 (by decide) rfl (by omega) (fun c5 => ?_) (fun c5 => ?_)
  · refine x_iconst (q := 18) h dX1_read_17 rfl ?_
    exact x_iret h hr dX1_read_18 (by omega) (⟨rfl, by unfold sRead; rw [if_pos (by omega)]⟩)
  · refine x_aload_n (q := 9) h dX1_read_8 rfl rfl rfl ?_
    refine x1_geta (k := 0) (q := 12) h rfl q217 dX1_read_9 rfl ?_
    refine x_iload_n (q := 13) h dX1_read_12 rfl rfl rfl ?_
    refine x_iald (k := 0) (n := 32) (q := 14) h rfl dX1_read_13 rfl (by omega) (fun v13 e13 l13 u13 => ?_)
    refine x_goto (tgt := 18) h dX1_read_14 (by decide) ?_
    exact x_iret h hr dX1_read_18 (by omega) (⟨rfl, by unfold sRead; rw [if_neg (by omega), e13]⟩)

theorem dX1_patch_0 : decode cX1_patch 0 = .ok (.aload_n 0, 1) := by decide +kernel
theorem dX1_patch_1 : decode cX1_patch 1 = .ok (.iload_n 1, 1) := by decide +kernel
theorem dX1_patch_2 : decode cX1_patch 2 = .ok (.invokevirtual 20, 3) := by decide +kernel
theorem dX1_patch_5 : decode cX1_patch 5 = .ok (.ifCond .eq 22, 3) := by decide +kernel
theorem dX1_patch_8 : decode cX1_patch 8 = .ok (.iload_n 2, 1) := by decide +kernel
theorem dX1_patch_9 : decode cX1_patch 9 = .ok (.ifCond .lt 18, 3) := by decide +kernel
theorem dX1_patch_12 : decode cX1_patch 12 = .ok (.iload_n 2, 1) := by decide +kernel
theorem dX1_patch_13 : decode cX1_patch 13 = .ok (.iconst 3, 1) := by decide +kernel
theorem dX1_patch_14 : decode cX1_patch 14 = .ok (.if_icmp .gt 13, 3) := by decide +kernel
theorem dX1_patch_17 : decode cX1_patch 17 = .ok (.iload_n 3, 1) := by decide +kernel
theorem dX1_patch_18 : decode cX1_patch 18 = .ok (.ifCond .lt 9, 3) := by decide +kernel
theorem dX1_patch_21 : decode cX1_patch 21 = .ok (.iload_n 3, 1) := by decide +kernel
theorem dX1_patch_22 : decode cX1_patch 22 = .ok (.bipush 7, 2) := by decide +kernel
theorem dX1_patch_24 : decode cX1_patch 24 = .ok (.if_icmp .le 5, 3) := by decide +kernel
theorem dX1_patch_27 : decode cX1_patch 27 = .ok (.iconst (-1), 1) := by decide +kernel
theorem dX1_patch_28 : decode cX1_patch 28 = .ok (.ireturn, 1) := by decide +kernel
theorem dX1_patch_29 : decode cX1_patch 29 = .ok (.aload_n 0, 1) := by decide +kernel
theorem dX1_patch_30 : decode cX1_patch 30 = .ok (.invokevirtual 27, 3) := by decide +kernel
theorem dX1_patch_33 : decode cX1_patch 33 = .ok (.aload_n 0, 1) := by decide +kernel
theorem dX1_patch_34 : decode cX1_patch 34 = .ok (.getfield 7, 3) := by decide +kernel
theorem dX1_patch_37 : decode cX1_patch 37 = .ok (.iload_n 1, 1) := by decide +kernel
theorem dX1_patch_38 : decode cX1_patch 38 = .ok (.aload_n 0, 1) := by decide +kernel
theorem dX1_patch_39 : decode cX1_patch 39 = .ok (.getfield 7, 3) := by decide +kernel
theorem dX1_patch_42 : decode cX1_patch 42 = .ok (.iload_n 1, 1) := by decide +kernel
theorem dX1_patch_43 : decode cX1_patch 43 = .ok (.iaload, 1) := by decide +kernel
theorem dX1_patch_44 : decode cX1_patch 44 = .ok (.bipush 7, 2) := by decide +kernel
theorem dX1_patch_46 : decode cX1_patch 46 = .ok (.iconst 3, 1) := by decide +kernel
theorem dX1_patch_47 : decode cX1_patch 47 = .ok (.iload_n 2, 1) := by decide +kernel
theorem dX1_patch_48 : decode cX1_patch 48 = .ok (.imul, 1) := by decide +kernel
theorem dX1_patch_49 : decode cX1_patch 49 = .ok (.ishl, 1) := by decide +kernel
theorem dX1_patch_50 : decode cX1_patch 50 = .ok (.iconst (-1), 1) := by decide +kernel
theorem dX1_patch_51 : decode cX1_patch 51 = .ok (.ixor, 1) := by decide +kernel
theorem dX1_patch_52 : decode cX1_patch 52 = .ok (.iand, 1) := by decide +kernel
theorem dX1_patch_53 : decode cX1_patch 53 = .ok (.iload_n 3, 1) := by decide +kernel
theorem dX1_patch_54 : decode cX1_patch 54 = .ok (.iconst 3, 1) := by decide +kernel
theorem dX1_patch_55 : decode cX1_patch 55 = .ok (.iload_n 2, 1) := by decide +kernel
theorem dX1_patch_56 : decode cX1_patch 56 = .ok (.imul, 1) := by decide +kernel
theorem dX1_patch_57 : decode cX1_patch 57 = .ok (.ishl, 1) := by decide +kernel
theorem dX1_patch_58 : decode cX1_patch 58 = .ok (.ior, 1) := by decide +kernel
theorem dX1_patch_59 : decode cX1_patch 59 = .ok (.iastore, 1) := by decide +kernel
theorem dX1_patch_60 : decode cX1_patch 60 = .ok (.aload_n 0, 1) := by decide +kernel
theorem dX1_patch_61 : decode cX1_patch 61 = .ok (.invokevirtual 30, 3) := by decide +kernel
theorem dX1_patch_64 : decode cX1_patch 64 = .ok (.ifCond .eq 8, 3) := by decide +kernel
theorem dX1_patch_67 : decode cX1_patch 67 = .ok (.bipush (-2), 2) := by decide +kernel
theorem dX1_patch_69 : decode cX1_patch 69 = .ok (.goto 16, 3) := by decide +kernel
theorem dX1_patch_72 : decode cX1_patch 72 = .ok (.aload_n 0, 1) := by decide +kernel
theorem dX1_patch_73 : decode cX1_patch 73 = .ok (.getfield 13, 3) := by decide +kernel
theorem dX1_patch_76 : decode cX1_patch 76 = .ok (.iload_n 1, 1) := by decide +kernel
theorem dX1_patch_77 : decode cX1_patch 77 = .ok (.iaload, 1) := by decide +kernel
theorem dX1_patch_78 : decode cX1_patch 78 = .ok (.iconst 3, 1) := by decide +kernel
theorem dX1_patch_79 : decode cX1_patch 79 = .ok (.iload_n 2, 1) := by decide +kernel
theorem dX1_patch_80 : decode cX1_patch 80 = .ok (.imul, 1) := by decide +kernel
theorem dX1_patch_81 : decode cX1_patch 81 = .ok (.ishr, 1) := by decide +kernel
theorem dX1_patch_82 : decode cX1_patch 82 = .ok (.bipush 7, 2) := by decide +kernel
theorem dX1_patch_84 : decode cX1_patch 84 = .ok (.iand, 1) := by decide +kernel
theorem dX1_patch_85 : decode cX1_patch 85 = .ok (.ireturn, 1) := by decide +kernel
set_option maxHeartbeats 4000000 in
theorem mX1_patch {τ : St} (n i d : Int) (r_n : -2147483648 ≤ n ∧ n ≤ 2147483647) (r_i : -2147483648 ≤ i ∧ i ≤ 2147483647) (r_d : -2147483648 ≤ d ∧ d ≤ 2147483647) (hc : okC (τ 0)) : CtI 1 yX1_patch cX1_patch 4 3 .int [n, i, d] τ (fun r τ' => r = (sPatch (τ 0) n i d).1 ∧ eqC (τ' 0) (sPatch (τ 0) n i d).2) := by
  refine CtI.of (by decide) rfl (Nat.le_of_ble_eq_true rfl) (fun M h hr => ?_)
  show WX 1 M 0 [.inr 0, .inl n, .inl i, .inl d] [] τ
  refine x_aload_n (q := 1) h dX1_patch_0 rfl rfl rfl ?_
  refine x_iload_n (q := 2) h dX1_patch_1 rfl rfl rfl ?_
  refine x_calli (q := 5) (xs := [n]) (st := []) h (mX1_isBlock n (by omega)) lkX1_isBlock rfl (by decide) (by decide) dX1_patch_2 rfl (by simp) rfl (fun z2 τ2 s2 r2 p2 => ?_)
  obtain ⟨rfl, p2⟩ := p2
  refine x_if_eq (tgt := 27) (q := 8) h dX1_patch_5 (by decide) rfl (by omega) (fun c5 => ?_) (fun c5 => ?_)
  · refine x_iconst (q := 28) h dX1_patch_27 rfl ?_
    exact x_iret h hr dX1_patch_28 (by omega) (⟨by unfold sPatch; rw [if_pos (by omega)], by unfold sPatch; rw [if_pos (by omega)]; exact fun _ _ _ => rfl⟩)
  · refine x_iload_n (q := 9) h dX1_patch_8 rfl rfl rfl ?_
    refine x_if_lt (tgt := 27) (q := 12) h dX1_patch_9 (by decide) rfl (by omega) (fun c9 => ?_) (fun c9 => ?_)
    · refine x_iconst (q := 28) h dX1_patch_27 rfl ?_
      exact x_iret h hr dX1_patch_28 (by omega) (⟨by unfold sPatch; rw [if_pos (by omega)], by unfold sPatch; rw [if_pos (by omega)]; exact fun _ _ _ => rfl⟩)
    · refine x_iload_n (q := 13) h dX1_patch_12 rfl rfl rfl ?_
      refine x_iconst (q := 14) h dX1_patch_13 rfl ?_
      refine x_icmp_gt (tgt := 27) (q := 17) h dX1_patch_14 (by decide) rfl (by omega) (by omega) (fun c14 => ?_) (fun c14 => ?_)
      · refine x_iconst (q := 28) h dX1_patch_27 rfl ?_
        exact x_iret h hr dX1_patch_28 (by omega) (⟨by unfold sPatch; rw [if_pos (by omega)], by unfold sPatch; rw [if_pos (by omega)]; exact fun _ _ _ => rfl⟩)
      · refine x_iload_n (q := 18) h dX1_patch_17 rfl rfl rfl ?_
        refine x_if_lt (tgt := 27) (q := 21) h dX1_patch_18 (by decide) rfl (by omega) (fun c18 => ?_) (fun c18 => ?_)
        · refine x_iconst (q := 28) h dX1_patch_27 rfl ?_
          exact x_iret h hr dX1_patch_28 (by omega) (⟨by unfold sPatch; rw [if_pos (by omega)], by unfold sPatch; rw [if_pos (by omega)]; exact fun _ _ _ => rfl⟩)
        · refine x_iload_n (q := 22) h dX1_patch_21 rfl rfl rfl ?_
          refine x_bipush (q := 24) h dX1_patch_22 rfl (by decide) ?_
          refine x_icmp_le (tgt := 29) (q := 27) h dX1_patch_24 (by decide) rfl (by omega) (by omega) (fun c24 => ?_) (fun c24 => ?_)
          · refine x_aload_n (q := 30) h dX1_patch_29 rfl rfl rfl ?_
            refine x_callv (q := 33) (xs := []) (st := []) h (mX1_keep) lkX1_keep rfl (by decide) (by decide) dX1_patch_30 rfl (by simp) rfl (fun τ30 s30 p30 => ?_)
            obtain ⟨k1, k2⟩ := p30
            refine x_aload_n (q := 34) h dX1_patch_33 rfl rfl rfl ?_
            refine x1_geta (k := 0) (q := 37) h rfl q217 dX1_patch_34 rfl ?_
            refine x_iload_n (q := 38) h dX1_patch_37 rfl rfl rfl ?_
            refine x_aload_n (q := 39) h dX1_patch_38 rfl rfl rfl ?_
            refine x1_geta (k := 0) (q := 42) h rfl q217 dX1_patch_39 rfl ?_
            refine x_iload_n (q := 43) h dX1_patch_42 rfl rfl rfl ?_
            refine x_iald (k := 0) (n := 32) (q := 44) h rfl dX1_patch_43 rfl (by omega) (fun v43 e43 l43 u43 => ?_)
            have hv := hc n (by omega) (by omega)
            rw [← k1, ← e43] at hv
            obtain ⟨g7, gd⟩ := sh_rg (i := i) (by omega) (by omega)
            have gd := gd d (by omega) (by omega)
            refine x_bipush (q := 46) h dX1_patch_44 rfl (by decide) ?_
            refine x_iconst (q := 47) h dX1_patch_46 rfl ?_
            refine x_iload_n (q := 48) h dX1_patch_47 rfl rfl rfl ?_
            refine x_imul (q := 49) h dX1_patch_48 rfl ?_
            refine x_top (show (3 : Int) * i = ((3 * i.toNat : Nat) : Int) by omega) ?_
            refine x_ishl (q := 50) (7 * 2 ^ (3 * i.toNat)) h dX1_patch_49 (jI_shl (by omega) g7 (by omega)) rfl ?_
            refine x_iconst (q := 51) h dX1_patch_50 rfl ?_
            refine x_ixor (q := 52) (-1 - 7 * 2 ^ (3 * i.toNat)) h dX1_patch_51 (pt_xor i.toNat (by omega)) rfl ?_
            refine x_iand (q := 53) (v43 - dgt v43 i.toNat * 2 ^ (3 * i.toNat)) h dX1_patch_52 (pt_and' (by omega) hv.1 hv.2) rfl ?_
            refine x_iload_n (q := 54) h dX1_patch_53 rfl rfl rfl ?_
            refine x_iconst (q := 55) h dX1_patch_54 rfl ?_
            refine x_iload_n (q := 56) h dX1_patch_55 rfl rfl rfl ?_
            refine x_imul (q := 57) h dX1_patch_56 rfl ?_
            refine x_top (show (3 : Int) * i = ((3 * i.toNat : Nat) : Int) by omega) ?_
            refine x_ishl (q := 58) (d * 2 ^ (3 * i.toNat)) h dX1_patch_57 (jI_shl (by omega) gd.2 (by omega)) rfl ?_
            refine x_ior (q := 59) (ptc v43 i d) h dX1_patch_58 (pt_or (by omega) hv.1 hv.2 (by omega) (by omega)) rfl ?_
            have hp := ptc_rg (v := v43) (i := i) (d := d) hv.1 hv.2 (by omega) (by omega) (by omega) (by omega)
            refine x_iast (k := 0) (n := 32) (q := 60) h rfl dX1_patch_59 rfl (by omega) (by omega) ?_
            refine x_aload_n (q := 61) h dX1_patch_60 rfl rfl rfl ?_
            have e61 : (up τ30 0 n (ptc v43 i d)) 0 = upF (τ 0) n (ptc (τ 0 n) i d) := by rw [up_upF, e43, k1]
            refine x_calli (q := 64) (xs := []) (st := []) h (mX1_isFull (by rw [e61]; exact okC_up hc (by rw [← k1, ← e43]; exact hp))) lkX1_isFull rfl (by decide) (by decide) dX1_patch_61 rfl (by simp) rfl (fun z61 τ61 s61 r61 p61 => ?_)
            refine x_if_eq (tgt := 72) (q := 67) h dX1_patch_64 (by decide) rfl (by omega) (fun c64 => ?_) (fun c64 => ?_)
            · rcases p61 with ⟨-, q1, q2⟩ | ⟨q1, -⟩
              rotate_left
              · exfalso; omega
              refine x_aload_n (q := 73) h dX1_patch_72 rfl rfl rfl ?_
              refine x1_geta (k := 1) (q := 76) h rfl q218 dX1_patch_73 rfl ?_
              refine x_iload_n (q := 77) h dX1_patch_76 rfl rfl rfl ?_
              refine x_iald (k := 1) (n := 32) (q := 78) h rfl dX1_patch_77 rfl (by omega) (fun v77 e77 l77 u77 => ?_)
              rw [← q1, up_fne (by decide), k2 n (by omega) (by omega), ← k1, ← e43] at e77
              subst e77
              have hg := shr_rg (z := v77) hv.1 hv.2 (3 * i.toNat)
              refine x_iconst (q := 79) h dX1_patch_78 rfl ?_
              refine x_iload_n (q := 80) h dX1_patch_79 rfl rfl rfl ?_
              refine x_imul (q := 81) h dX1_patch_80 rfl ?_
              refine x_top (show (3 : Int) * i = ((3 * i.toNat : Nat) : Int) by omega) ?_
              refine x_ishr (q := 82) (v77 / 2 ^ (3 * i.toNat)) h dX1_patch_81 (jI_shr hv.1 (by omega) (by omega)) rfl ?_
              refine x_bipush (q := 84) h dX1_patch_82 rfl (by decide) ?_
              refine x_iand (q := 85) (v77 / 2 ^ (3 * i.toNat) % 8) h dX1_patch_84 (jI_and7 hg.1 (by omega)) rfl ?_
              exact x_iret h hr dX1_patch_85 (by omega) (by unfold sPatch; rw [if_neg (by omega), if_pos (by rw [← e61]; exact q2)]; exact ⟨by show v77 / 2 ^ (3 * i.toNat) % 8 = dgt (τ 0 n) i.toNat; rw [e43, k1]; rfl, by rw [← q1, e61]; exact fun _ _ _ => rfl⟩)
            · rcases p61 with ⟨q1, -⟩ | ⟨-, q1, q2⟩
              · exfalso; omega
              refine x_bipush (q := 69) h dX1_patch_67 rfl (by decide) ?_
              refine x_goto (tgt := 85) h dX1_patch_69 (by decide) ?_
              exact x_iret h hr dX1_patch_85 (by omega) (by unfold sPatch; rw [if_neg (by omega), if_neg (by rw [← e61]; omega)]; exact ⟨rfl, by rw [up_fne (by decide)] at q2; exact fun j a b => (q2 j a b).trans (k2 j a b)⟩)
          · refine x_iconst (q := 28) h dX1_patch_27 rfl ?_
            exact x_iret h hr dX1_patch_28 (by omega) (⟨by unfold sPatch; rw [if_pos (by omega)], by unfold sPatch; rw [if_pos (by omega)]; exact fun _ _ _ => rfl⟩)

theorem dX1_holders_0 : decode cX1_holders 0 = .ok (.aload_n 0, 1) := by decide +kernel
theorem dX1_holders_1 : decode cX1_holders 1 = .ok (.iload_n 1, 1) := by decide +kernel
theorem dX1_holders_2 : decode cX1_holders 2 = .ok (.invokevirtual 24, 3) := by decide +kernel
theorem dX1_holders_5 : decode cX1_holders 5 = .ok (.ifCond .eq 11, 3) := by decide +kernel
theorem dX1_holders_8 : decode cX1_holders 8 = .ok (.aload_n 0, 1) := by decide +kernel
theorem dX1_holders_9 : decode cX1_holders 9 = .ok (.iload_n 1, 1) := by decide +kernel
theorem dX1_holders_10 : decode cX1_holders 10 = .ok (.invokevirtual 37, 3) := by decide +kernel
theorem dX1_holders_13 : decode cX1_holders 13 = .ok (.goto 4, 3) := by decide +kernel
theorem dX1_holders_16 : decode cX1_holders 16 = .ok (.iconst (-1), 1) := by decide +kernel
theorem dX1_holders_17 : decode cX1_holders 17 = .ok (.ireturn, 1) := by decide +kernel
set_option maxHeartbeats 4000000 in
theorem mX1_holders {τ : St} (z : Int) (r_z : -2147483648 ≤ z ∧ z ≤ 2147483647) : CtI 1 yX1_holders cX1_holders 2 1 .int [z] τ (fun r τ' => τ = τ' ∧ r = sHolders (τ 0) z) := by
  refine CtI.of (by decide) rfl (Nat.le_of_ble_eq_true rfl) (fun M h hr => ?_)
  show WX 1 M 0 [.inr 0, .inl z] [] τ
  refine x_aload_n (q := 1) h dX1_holders_0 rfl rfl rfl ?_
  refine x_iload_n (q := 2) h dX1_holders_1 rfl rfl rfl ?_
  refine x_calli (q := 5) (xs := [z]) (st := []) h (mX1_isContent z (by omega)) lkX1_isContent rfl (by decide) (by decide) dX1_holders_2 rfl (by simp) rfl (fun z2 τ2 s2 r2 p2 => ?_)
  obtain ⟨rfl, p2⟩ := p2
  refine x_if_eq (tgt := 16) (q := 8) h dX1_holders_5 (by decide) rfl (by omega) (fun c5 => ?_) (fun c5 => ?_)
  · refine x_iconst (q := 17) h dX1_holders_16 rfl ?_
    exact x_iret h hr dX1_holders_17 (by omega) (⟨rfl, by unfold sHolders; rw [if_pos (by omega)]⟩)
  · refine x_aload_n (q := 9) h dX1_holders_8 rfl rfl rfl ?_
    refine x_iload_n (q := 10) h dX1_holders_9 rfl rfl rfl ?_
    refine x_calli (q := 13) (xs := [z]) (st := []) h (mX1_count z (by omega)) lkX1_count rfl (by decide) (by decide) dX1_holders_10 rfl (by simp) rfl (fun z10 τ10 s10 r10 p10 => ?_)
    obtain ⟨rfl, p10⟩ := p10
    refine x_goto (tgt := 17) h dX1_holders_13 (by decide) ?_
    exact x_iret h hr dX1_holders_17 (by omega) (⟨rfl, by unfold sHolders; rw [if_neg (by omega), p10]⟩)

theorem dX1_distinct_0 : decode cX1_distinct 0 = .ok (.iconst 0, 1) := by decide +kernel
theorem dX1_distinct_1 : decode cX1_distinct 1 = .ok (.istore_n 1, 1) := by decide +kernel
theorem dX1_distinct_2 : decode cX1_distinct 2 = .ok (.iconst 0, 1) := by decide +kernel
theorem dX1_distinct_3 : decode cX1_distinct 3 = .ok (.istore_n 2, 1) := by decide +kernel
theorem dX1_distinct_4 : decode cX1_distinct 4 = .ok (.iload_n 2, 1) := by decide +kernel
theorem dX1_distinct_5 : decode cX1_distinct 5 = .ok (.bipush 32, 2) := by decide +kernel
theorem dX1_distinct_7 : decode cX1_distinct 7 = .ok (.if_icmp .ge 34, 3) := by decide +kernel
theorem dX1_distinct_10 : decode cX1_distinct 10 = .ok (.aload_n 0, 1) := by decide +kernel
theorem dX1_distinct_11 : decode cX1_distinct 11 = .ok (.getfield 7, 3) := by decide +kernel
theorem dX1_distinct_14 : decode cX1_distinct 14 = .ok (.iload_n 2, 1) := by decide +kernel
theorem dX1_distinct_15 : decode cX1_distinct 15 = .ok (.iaload, 1) := by decide +kernel
theorem dX1_distinct_16 : decode cX1_distinct 16 = .ok (.ifCond .eq 17, 3) := by decide +kernel
theorem dX1_distinct_19 : decode cX1_distinct 19 = .ok (.aload_n 0, 1) := by decide +kernel
theorem dX1_distinct_20 : decode cX1_distinct 20 = .ok (.iload_n 2, 1) := by decide +kernel
theorem dX1_distinct_21 : decode cX1_distinct 21 = .ok (.invokevirtual 41, 3) := by decide +kernel
theorem dX1_distinct_24 : decode cX1_distinct 24 = .ok (.ifCond .eq 9, 3) := by decide +kernel
theorem dX1_distinct_27 : decode cX1_distinct 27 = .ok (.iload_n 1, 1) := by decide +kernel
theorem dX1_distinct_28 : decode cX1_distinct 28 = .ok (.iconst 1, 1) := by decide +kernel
theorem dX1_distinct_29 : decode cX1_distinct 29 = .ok (.iadd, 1) := by decide +kernel
theorem dX1_distinct_30 : decode cX1_distinct 30 = .ok (.goto 4, 3) := by decide +kernel
theorem dX1_distinct_33 : decode cX1_distinct 33 = .ok (.iload_n 1, 1) := by decide +kernel
theorem dX1_distinct_34 : decode cX1_distinct 34 = .ok (.istore_n 1, 1) := by decide +kernel
theorem dX1_distinct_35 : decode cX1_distinct 35 = .ok (.iinc 2 1, 3) := by decide +kernel
theorem dX1_distinct_38 : decode cX1_distinct 38 = .ok (.goto (-34), 3) := by decide +kernel
theorem dX1_distinct_41 : decode cX1_distinct 41 = .ok (.iload_n 1, 1) := by decide +kernel
theorem dX1_distinct_42 : decode cX1_distinct 42 = .ok (.ireturn, 1) := by decide +kernel
set_option maxHeartbeats 4000000 in
theorem lpX1_distinct {M : Mx} {τ : St} (h : Cx 1 M cX1_distinct 3 1) (hr : RtI 1 M .int (fun r τ' => τ = τ' ∧ r = sDistinct (τ 0))) : ∀ (k i : Nat) (x s : Int), x = i → i ≤ 32 → 32 < i + k → s = fsum (τ 0) (fun z => if z = 0 then 0 else 1) i → WX 1 M 4 [.inr 0, .inl s, .inl x] [] τ := by
  intro k
  induction k with
  | zero => intro i x s h1 h2 h3; omega
  | succ k ih =>
    intro i x s hx hi hk hs2
    have hrg := fsum_rg (f := τ 0) (g := fun z => if z = 0 then 0 else 1) (b := 1) (fun z => by show 0 ≤ (if z = 0 then (0 : Int) else 1) ∧ (if z = 0 then (0 : Int) else 1) ≤ 1; split <;> decide) (by decide) i
    refine x_iload_n (q := 5) h dX1_distinct_4 rfl rfl rfl ?_
    refine x_bipush (q := 7) h dX1_distinct_5 rfl (by decide) ?_
    refine x_icmp_ge (tgt := 41) (q := 10) h dX1_distinct_7 (by decide) rfl (by omega) (by omega) (fun c7 => ?_) (fun c7 => ?_)
    · refine x_iload_n (q := 42) h dX1_distinct_41 rfl rfl rfl ?_
      exact x_iret h hr dX1_distinct_42 (by omega) (⟨rfl, by rw [hs2, show i = 32 by omega]; rfl⟩)
    · refine x_aload_n (q := 11) h dX1_distinct_10 rfl rfl rfl ?_
      refine x1_geta (k := 0) (q := 14) h rfl q217 dX1_distinct_11 rfl ?_
      refine x_iload_n (q := 15) h dX1_distinct_14 rfl rfl rfl ?_
      refine x_iald (k := 0) (n := 32) (q := 16) h rfl dX1_distinct_15 rfl (by omega) (fun v15 e15 l15 u15 => ?_)
      refine x_if_eq (tgt := 33) (q := 19) h dX1_distinct_16 (by decide) rfl (by omega) (fun c16 => ?_) (fun c16 => ?_)
      · refine x_iload_n (q := 34) h dX1_distinct_33 rfl rfl rfl ?_
        refine x_istore_n (q := 35) (vs' := [.inr 0, .inl s, .inl x]) h dX1_distinct_34 rfl (by decide) (Nat.le_of_ble_eq_true rfl) rfl rfl ?_
        refine x_iinc (q := 38) (vs' := [.inr 0, .inl s, .inl (x + 1)]) h dX1_distinct_35 (by decide) rfl rfl rfl ?_
        refine x_goto (tgt := 4) h dX1_distinct_38 (by decide) ?_
        refine ih (i + 1) _ _ (by omega) (by omega) (by omega) ?_
        simp only [fsum]
        rw [hx] at e15
        first
          | (rw [hx] at p21; have p21 : z21 = fs (τ 0) (τ 0 i) i := p21; rw [← p21, if_neg (by omega)]; omega)
          | (rw [if_pos (show τ 0 i = 0 by omega), ite_self]; omega)
      · refine x_aload_n (q := 20) h dX1_distinct_19 rfl rfl rfl ?_
        refine x_iload_n (q := 21) h dX1_distinct_20 rfl rfl rfl ?_
        refine x_calli (q := 24) (xs := [x]) (st := []) h (mX1_isFirst x (by omega)) lkX1_isFirst rfl (by decide) (by decide) dX1_distinct_21 rfl (by simp) rfl (fun z21 τ21 s21 r21 p21 => ?_)
        obtain ⟨rfl, p21⟩ := p21
        have f21 := fs_01 (τ 0) (τ 0 x) x.toNat
        refine x_if_eq (tgt := 33) (q := 27) h dX1_distinct_24 (by decide) rfl (by omega) (fun c24 => ?_) (fun c24 => ?_)
        · refine x_iload_n (q := 34) h dX1_distinct_33 rfl rfl rfl ?_
          refine x_istore_n (q := 35) (vs' := [.inr 0, .inl s, .inl x]) h dX1_distinct_34 rfl (by decide) (Nat.le_of_ble_eq_true rfl) rfl rfl ?_
          refine x_iinc (q := 38) (vs' := [.inr 0, .inl s, .inl (x + 1)]) h dX1_distinct_35 (by decide) rfl rfl rfl ?_
          refine x_goto (tgt := 4) h dX1_distinct_38 (by decide) ?_
          refine ih (i + 1) _ _ (by omega) (by omega) (by omega) ?_
          simp only [fsum]
          rw [hx] at e15
          first
            | (rw [hx] at p21; have p21 : z21 = fs (τ 0) (τ 0 i) i := p21; rw [← p21, if_neg (by omega)]; omega)
            | (rw [if_pos (show τ 0 i = 0 by omega), ite_self]; omega)
        · refine x_iload_n (q := 28) h dX1_distinct_27 rfl rfl rfl ?_
          refine x_iconst (q := 29) h dX1_distinct_28 rfl ?_
          refine x_iadd (q := 30) h dX1_distinct_29 rfl ?_
          refine x_goto (tgt := 34) h dX1_distinct_30 (by decide) ?_
          refine x_istore_n (q := 35) (vs' := [.inr 0, .inl (s + 1), .inl x]) h dX1_distinct_34 rfl (by decide) (Nat.le_of_ble_eq_true rfl) rfl rfl ?_
          refine x_iinc (q := 38) (vs' := [.inr 0, .inl (s + 1), .inl (x + 1)]) h dX1_distinct_35 (by decide) rfl rfl rfl ?_
          refine x_goto (tgt := 4) h dX1_distinct_38 (by decide) ?_
          refine ih (i + 1) _ _ (by omega) (by omega) (by omega) ?_
          simp only [fsum]
          rw [hx] at e15
          rw [hx] at p21
          have p21 : z21 = fs (τ 0) (τ 0 i) i := p21
          rw [← p21, if_pos (by have := fs_01 (τ 0) (τ 0 i) i; omega), if_neg (by omega)]; omega
set_option maxHeartbeats 4000000 in
theorem mX1_distinct {τ : St} : CtI 1 yX1_distinct cX1_distinct 3 1 .int [] τ (fun r τ' => τ = τ' ∧ r = sDistinct (τ 0)) := by
  refine CtI.of (by decide) rfl (Nat.le_of_ble_eq_true rfl) (fun M h hr => ?_)
  show WX 1 M 0 [.inr 0] [] τ
  refine x_iconst (q := 1) h dX1_distinct_0 rfl ?_
  refine x_istore_n (q := 2) (vs' := [.inr 0, .inl 0]) h dX1_distinct_1 rfl (by decide) (Nat.le_of_ble_eq_true rfl) rfl rfl ?_
  refine x_iconst (q := 3) h dX1_distinct_2 rfl ?_
  refine x_istore_n (q := 4) (vs' := [.inr 0, .inl 0, .inl 0]) h dX1_distinct_3 rfl (by decide) (Nat.le_of_ble_eq_true rfl) rfl rfl ?_
  exact lpX1_distinct h hr 33 0 0 0 (by omega) (by omega) (by omega) rfl

theorem dX1_saved_0 : decode cX1_saved 0 = .ok (.iconst 0, 1) := by decide +kernel
theorem dX1_saved_1 : decode cX1_saved 1 = .ok (.istore_n 1, 1) := by decide +kernel
theorem dX1_saved_2 : decode cX1_saved 2 = .ok (.iconst 0, 1) := by decide +kernel
theorem dX1_saved_3 : decode cX1_saved 3 = .ok (.istore_n 2, 1) := by decide +kernel
theorem dX1_saved_4 : decode cX1_saved 4 = .ok (.iload_n 2, 1) := by decide +kernel
theorem dX1_saved_5 : decode cX1_saved 5 = .ok (.bipush 32, 2) := by decide +kernel
theorem dX1_saved_7 : decode cX1_saved 7 = .ok (.if_icmp .ge 22, 3) := by decide +kernel
theorem dX1_saved_10 : decode cX1_saved 10 = .ok (.iload_n 1, 1) := by decide +kernel
theorem dX1_saved_11 : decode cX1_saved 11 = .ok (.aload_n 0, 1) := by decide +kernel
theorem dX1_saved_12 : decode cX1_saved 12 = .ok (.aload_n 0, 1) := by decide +kernel
theorem dX1_saved_13 : decode cX1_saved 13 = .ok (.getfield 7, 3) := by decide +kernel
theorem dX1_saved_16 : decode cX1_saved 16 = .ok (.iload_n 2, 1) := by decide +kernel
theorem dX1_saved_17 : decode cX1_saved 17 = .ok (.iaload, 1) := by decide +kernel
theorem dX1_saved_18 : decode cX1_saved 18 = .ok (.invokevirtual 44, 3) := by decide +kernel
theorem dX1_saved_21 : decode cX1_saved 21 = .ok (.iadd, 1) := by decide +kernel
theorem dX1_saved_22 : decode cX1_saved 22 = .ok (.istore_n 1, 1) := by decide +kernel
theorem dX1_saved_23 : decode cX1_saved 23 = .ok (.iinc 2 1, 3) := by decide +kernel
theorem dX1_saved_26 : decode cX1_saved 26 = .ok (.goto (-22), 3) := by decide +kernel
theorem dX1_saved_29 : decode cX1_saved 29 = .ok (.iload_n 1, 1) := by decide +kernel
theorem dX1_saved_30 : decode cX1_saved 30 = .ok (.aload_n 0, 1) := by decide +kernel
theorem dX1_saved_31 : decode cX1_saved 31 = .ok (.invokevirtual 16, 3) := by decide +kernel
theorem dX1_saved_34 : decode cX1_saved 34 = .ok (.isub, 1) := by decide +kernel
theorem dX1_saved_35 : decode cX1_saved 35 = .ok (.ireturn, 1) := by decide +kernel
set_option maxHeartbeats 4000000 in
theorem lpX1_saved {M : Mx} {τ : St} (hc : okC (τ 0)) (h : Cx 1 M cX1_saved 3 2) (hr : RtI 1 M .int (fun r τ' => τ = τ' ∧ r = sSaved (τ 0))) : ∀ (k i : Nat) (x s : Int), x = i → i ≤ 32 → 32 < i + k → s = sm (fun j => room (τ 0 j)) i → WX 1 M 4 [.inr 0, .inl s, .inl x] [] τ := by
  intro k
  induction k with
  | zero => intro i x s h1 h2 h3; omega
  | succ k ih =>
    intro i x s hx hi hk hs2
    have g0 := sm_le (f := fun _ => 0) (g := fun j => room (τ 0 j)) i (fun j _ _ => (room_rg _).1)
    have g1 := sm_le (f := fun j => room (τ 0 j)) (g := fun _ => 5) i (fun j _ _ => (room_rg _).2)
    rw [sm_const] at g0 g1
    refine x_iload_n (q := 5) h dX1_saved_4 rfl rfl rfl ?_
    refine x_bipush (q := 7) h dX1_saved_5 rfl (by decide) ?_
    refine x_icmp_ge (tgt := 29) (q := 10) h dX1_saved_7 (by decide) rfl (by omega) (by omega) (fun c7 => ?_) (fun c7 => ?_)
    · refine x_iload_n (q := 30) h dX1_saved_29 rfl rfl rfl ?_
      refine x_aload_n (q := 31) h dX1_saved_30 rfl rfl rfl ?_
      refine x_calli (q := 34) (xs := []) (st := [.inl s]) h (mX1_used hc) lkX1_used rfl (by decide) (by decide) dX1_saved_31 rfl (by simp) rfl (fun z31 τ31 s31 r31 p31 => ?_)
      obtain ⟨rfl, p31⟩ := p31
      have g31 := used_rg (τ 0)
      refine x_isub (q := 35) h dX1_saved_34 rfl ?_
      exact x_iret h hr dX1_saved_35 (by omega) (⟨rfl, by unfold sSaved; rw [hs2, p31, show i = 32 by omega]⟩)
    · refine x_iload_n (q := 11) h dX1_saved_10 rfl rfl rfl ?_
      refine x_aload_n (q := 12) h dX1_saved_11 rfl rfl rfl ?_
      refine x_aload_n (q := 13) h dX1_saved_12 rfl rfl rfl ?_
      refine x1_geta (k := 0) (q := 16) h rfl q217 dX1_saved_13 rfl ?_
      refine x_iload_n (q := 17) h dX1_saved_16 rfl rfl rfl ?_
      refine x_iald (k := 0) (n := 32) (q := 18) h rfl dX1_saved_17 rfl (by omega) (fun v17 e17 l17 u17 => ?_)
      refine x_calli (q := 21) (xs := [v17]) (st := [.inl s]) h (mX1_roomOf v17 (by rw [e17]; exact hc x (by omega) (by omega))) lkX1_roomOf rfl (by decide) (by decide) dX1_saved_18 rfl (by simp) rfl (fun z18 τ18 s18 r18 p18 => ?_)
      obtain ⟨rfl, p18⟩ := p18
      have g18 := room_rg v17
      refine x_iadd (q := 22) h dX1_saved_21 rfl ?_
      refine x_istore_n (q := 23) (vs' := [.inr 0, .inl (s + z18), .inl x]) h dX1_saved_22 rfl (by decide) (Nat.le_of_ble_eq_true rfl) rfl rfl ?_
      refine x_iinc (q := 26) (vs' := [.inr 0, .inl (s + z18), .inl (x + 1)]) h dX1_saved_23 (by decide) rfl rfl rfl ?_
      refine x_goto (tgt := 4) h dX1_saved_26 (by decide) ?_
      refine ih (i + 1) _ _ (by omega) (by omega) (by omega) ?_
      simp only [sm]
      rw [p18, e17, hx]; omega
set_option maxHeartbeats 4000000 in
theorem mX1_saved {τ : St} (hc : okC (τ 0)) : CtI 1 yX1_saved cX1_saved 3 2 .int [] τ (fun r τ' => τ = τ' ∧ r = sSaved (τ 0)) := by
  refine CtI.of (by decide) rfl (Nat.le_of_ble_eq_true rfl) (fun M h hr => ?_)
  show WX 1 M 0 [.inr 0] [] τ
  refine x_iconst (q := 1) h dX1_saved_0 rfl ?_
  refine x_istore_n (q := 2) (vs' := [.inr 0, .inl 0]) h dX1_saved_1 rfl (by decide) (Nat.le_of_ble_eq_true rfl) rfl rfl ?_
  refine x_iconst (q := 3) h dX1_saved_2 rfl ?_
  refine x_istore_n (q := 4) (vs' := [.inr 0, .inl 0, .inl 0]) h dX1_saved_3 rfl (by decide) (Nat.le_of_ble_eq_true rfl) rfl rfl ?_
  exact lpX1_saved hc h hr 33 0 0 0 (by omega) (by omega) (by omega) rfl

theorem dX1_alone_0 : decode cX1_alone 0 = .ok (.aload_n 0, 1) := by decide +kernel
theorem dX1_alone_1 : decode cX1_alone 1 = .ok (.iload_n 1, 1) := by decide +kernel
theorem dX1_alone_2 : decode cX1_alone 2 = .ok (.invokevirtual 20, 3) := by decide +kernel
theorem dX1_alone_5 : decode cX1_alone 5 = .ok (.ifCond .ne 5, 3) := by decide +kernel
theorem dX1_alone_8 : decode cX1_alone 8 = .ok (.iconst (-1), 1) := by decide +kernel
theorem dX1_alone_9 : decode cX1_alone 9 = .ok (.ireturn, 1) := by decide +kernel
theorem dX1_alone_10 : decode cX1_alone 10 = .ok (.aload_n 0, 1) := by decide +kernel
theorem dX1_alone_11 : decode cX1_alone 11 = .ok (.aload_n 0, 1) := by decide +kernel
theorem dX1_alone_12 : decode cX1_alone 12 = .ok (.getfield 7, 3) := by decide +kernel
theorem dX1_alone_15 : decode cX1_alone 15 = .ok (.iload_n 1, 1) := by decide +kernel
theorem dX1_alone_16 : decode cX1_alone 16 = .ok (.iaload, 1) := by decide +kernel
theorem dX1_alone_17 : decode cX1_alone 17 = .ok (.invokevirtual 37, 3) := by decide +kernel
theorem dX1_alone_20 : decode cX1_alone 20 = .ok (.iconst 1, 1) := by decide +kernel
theorem dX1_alone_21 : decode cX1_alone 21 = .ok (.if_icmp .ne 16, 3) := by decide +kernel
theorem dX1_alone_24 : decode cX1_alone 24 = .ok (.aload_n 0, 1) := by decide +kernel
theorem dX1_alone_25 : decode cX1_alone 25 = .ok (.aload_n 0, 1) := by decide +kernel
theorem dX1_alone_26 : decode cX1_alone 26 = .ok (.getfield 7, 3) := by decide +kernel
theorem dX1_alone_29 : decode cX1_alone 29 = .ok (.iload_n 1, 1) := by decide +kernel
theorem dX1_alone_30 : decode cX1_alone 30 = .ok (.iaload, 1) := by decide +kernel
theorem dX1_alone_31 : decode cX1_alone 31 = .ok (.invokevirtual 44, 3) := by decide +kernel
theorem dX1_alone_34 : decode cX1_alone 34 = .ok (.goto 4, 3) := by decide +kernel
theorem dX1_alone_37 : decode cX1_alone 37 = .ok (.iconst 0, 1) := by decide +kernel
theorem dX1_alone_38 : decode cX1_alone 38 = .ok (.ireturn, 1) := by decide +kernel
set_option maxHeartbeats 4000000 in
theorem mX1_alone {τ : St} (n : Int) (r_n : -2147483648 ≤ n ∧ n ≤ 2147483647) (hc : okC (τ 0)) : CtI 1 yX1_alone cX1_alone 2 1 .int [n] τ (fun r τ' => τ = τ' ∧ r = sAlone (τ 0) n) := by
  refine CtI.of (by decide) rfl (Nat.le_of_ble_eq_true rfl) (fun M h hr => ?_)
  show WX 1 M 0 [.inr 0, .inl n] [] τ
  refine x_aload_n (q := 1) h dX1_alone_0 rfl rfl rfl ?_
  refine x_iload_n (q := 2) h dX1_alone_1 rfl rfl rfl ?_
  refine x_calli (q := 5) (xs := [n]) (st := []) h (mX1_isBlock n (by omega)) lkX1_isBlock rfl (by decide) (by decide) dX1_alone_2 rfl (by simp) rfl (fun z2 τ2 s2 r2 p2 => ?_)
  obtain ⟨rfl, p2⟩ := p2
  refine x_if_ne (tgt := 10) (q := 8) h dX1_alone_5 (by decide) rfl (by omega) (fun c5 => ?_) (fun c5 => ?_)
  · refine x_aload_n (q := 11) h dX1_alone_10 rfl rfl rfl ?_
    refine x_aload_n (q := 12) h dX1_alone_11 rfl rfl rfl ?_
    refine x1_geta (k := 0) (q := 15) h rfl q217 dX1_alone_12 rfl ?_
    refine x_iload_n (q := 16) h dX1_alone_15 rfl rfl rfl ?_
    refine x_iald (k := 0) (n := 32) (q := 17) h rfl dX1_alone_16 rfl (by omega) (fun v16 e16 l16 u16 => ?_)
    refine x_calli (q := 20) (xs := [v16]) (st := []) h (mX1_count v16 (by omega)) lkX1_count rfl (by decide) (by decide) dX1_alone_17 rfl (by simp) rfl (fun z17 τ17 s17 r17 p17 => ?_)
    obtain ⟨rfl, p17⟩ := p17
    have g17 := cnt_le (τ 0) v16 32
    refine x_iconst (q := 21) h dX1_alone_20 rfl ?_
    refine x_icmp_ne (tgt := 37) (q := 24) h dX1_alone_21 (by decide) rfl (by omega) (by omega) (fun c21 => ?_) (fun c21 => ?_)
    · refine x_iconst (q := 38) h dX1_alone_37 rfl ?_
      exact x_iret h hr dX1_alone_38 (by omega) (⟨rfl, by unfold sAlone; rw [e16] at p17; rw [if_neg (by omega), if_neg (by omega)]⟩)
    · refine x_aload_n (q := 25) h dX1_alone_24 rfl rfl rfl ?_
      refine x_aload_n (q := 26) h dX1_alone_25 rfl rfl rfl ?_
      refine x1_geta (k := 0) (q := 29) h rfl q217 dX1_alone_26 rfl ?_
      refine x_iload_n (q := 30) h dX1_alone_29 rfl rfl rfl ?_
      refine x_iald (k := 0) (n := 32) (q := 31) h rfl dX1_alone_30 rfl (by omega) (fun v30 e30 l30 u30 => ?_)
      refine x_calli (q := 34) (xs := [v30]) (st := []) h (mX1_roomOf v30 (by rw [e30]; exact hc n (by omega) (by omega))) lkX1_roomOf rfl (by decide) (by decide) dX1_alone_31 rfl (by simp) rfl (fun z31 τ31 s31 r31 p31 => ?_)
      obtain ⟨rfl, p31⟩ := p31
      have g31 := room_rg v30
      refine x_goto (tgt := 38) h dX1_alone_34 (by decide) ?_
      exact x_iret h hr dX1_alone_38 (by omega) (⟨rfl, by unfold sAlone; rw [e16] at p17; rw [if_neg (by omega), if_pos (by omega), p31, e30]⟩)
  · refine x_iconst (q := 9) h dX1_alone_8 rfl ?_
    exact x_iret h hr dX1_alone_9 (by omega) (⟨rfl, by unfold sAlone; rw [if_pos (by omega)]⟩)
end
section
/-! DedupBlocksModel: the calls with loops -/
set_option maxRecDepth 100000
theorem okC_fil {f : Int → Int} {n e z : Int} (h : okC f) (hz : 0 ≤ z ∧ z ≤ 4095) : okC (fil f n e z) := by
  intro j a b
  unfold fil
  split
  · exact hz
  · exact h j a b
theorem okC_cpV {f : Int → Int} {v w b : Int} (h : okC f) (hv : 0 ≤ v ∧ v ≤ 3) (hw : 0 ≤ w ∧ w ≤ 3) (hb : b ≤ 8) : okC (cpV f v w b) := by
  intro j a b
  unfold cpV
  split
  · exact h _ (by omega) (by omega)
  · exact h j a b
theorem dX1_erase_0 : decode cX1_erase 0 = .ok (.aload_n 0, 1) := by decide +kernel
theorem dX1_erase_1 : decode cX1_erase 1 = .ok (.iload_n 1, 1) := by decide +kernel
theorem dX1_erase_2 : decode cX1_erase 2 = .ok (.invokevirtual 34, 3) := by decide +kernel
theorem dX1_erase_5 : decode cX1_erase 5 = .ok (.ifCond .ne 5, 3) := by decide +kernel
theorem dX1_erase_8 : decode cX1_erase 8 = .ok (.iconst (-1), 1) := by decide +kernel
theorem dX1_erase_9 : decode cX1_erase 9 = .ok (.ireturn, 1) := by decide +kernel
theorem dX1_erase_10 : decode cX1_erase 10 = .ok (.iconst 0, 1) := by decide +kernel
theorem dX1_erase_11 : decode cX1_erase 11 = .ok (.istore_n 2, 1) := by decide +kernel
theorem dX1_erase_12 : decode cX1_erase 12 = .ok (.bipush 8, 2) := by decide +kernel
theorem dX1_erase_14 : decode cX1_erase 14 = .ok (.iload_n 1, 1) := by decide +kernel
theorem dX1_erase_15 : decode cX1_erase 15 = .ok (.imul, 1) := by decide +kernel
theorem dX1_erase_16 : decode cX1_erase 16 = .ok (.istore_n 3, 1) := by decide +kernel
theorem dX1_erase_17 : decode cX1_erase 17 = .ok (.iload_n 3, 1) := by decide +kernel
theorem dX1_erase_18 : decode cX1_erase 18 = .ok (.bipush 8, 2) := by decide +kernel
theorem dX1_erase_20 : decode cX1_erase 20 = .ok (.iload_n 1, 1) := by decide +kernel
theorem dX1_erase_21 : decode cX1_erase 21 = .ok (.imul, 1) := by decide +kernel
theorem dX1_erase_22 : decode cX1_erase 22 = .ok (.bipush 8, 2) := by decide +kernel
theorem dX1_erase_24 : decode cX1_erase 24 = .ok (.iadd, 1) := by decide +kernel
theorem dX1_erase_25 : decode cX1_erase 25 = .ok (.if_icmp .ge 33, 3) := by decide +kernel
theorem dX1_erase_28 : decode cX1_erase 28 = .ok (.aload_n 0, 1) := by decide +kernel
theorem dX1_erase_29 : decode cX1_erase 29 = .ok (.getfield 7, 3) := by decide +kernel
theorem dX1_erase_32 : decode cX1_erase 32 = .ok (.iload_n 3, 1) := by decide +kernel
theorem dX1_erase_33 : decode cX1_erase 33 = .ok (.iaload, 1) := by decide +kernel
theorem dX1_erase_34 : decode cX1_erase 34 = .ok (.ifCond .eq 9, 3) := by decide +kernel
theorem dX1_erase_37 : decode cX1_erase 37 = .ok (.iload_n 2, 1) := by decide +kernel
theorem dX1_erase_38 : decode cX1_erase 38 = .ok (.iconst 1, 1) := by decide +kernel
theorem dX1_erase_39 : decode cX1_erase 39 = .ok (.iadd, 1) := by decide +kernel
theorem dX1_erase_40 : decode cX1_erase 40 = .ok (.goto 4, 3) := by decide +kernel
theorem dX1_erase_43 : decode cX1_erase 43 = .ok (.iload_n 2, 1) := by decide +kernel
theorem dX1_erase_44 : decode cX1_erase 44 = .ok (.istore_n 2, 1) := by decide +kernel
theorem dX1_erase_45 : decode cX1_erase 45 = .ok (.aload_n 0, 1) := by decide +kernel
theorem dX1_erase_46 : decode cX1_erase 46 = .ok (.getfield 7, 3) := by decide +kernel
theorem dX1_erase_49 : decode cX1_erase 49 = .ok (.iload_n 3, 1) := by decide +kernel
theorem dX1_erase_50 : decode cX1_erase 50 = .ok (.iconst 0, 1) := by decide +kernel
theorem dX1_erase_51 : decode cX1_erase 51 = .ok (.iastore, 1) := by decide +kernel
theorem dX1_erase_52 : decode cX1_erase 52 = .ok (.iinc 3 1, 3) := by decide +kernel
theorem dX1_erase_55 : decode cX1_erase 55 = .ok (.goto (-38), 3) := by decide +kernel
theorem dX1_erase_58 : decode cX1_erase 58 = .ok (.iload_n 2, 1) := by decide +kernel
theorem dX1_erase_59 : decode cX1_erase 59 = .ok (.ireturn, 1) := by decide +kernel
theorem lkX1_erase : GoodIn lw_all (wsV RX1 47 RX1 yX1_erase (ws_ yX1_erase cX1_erase 4 (some .int))) ∧ yX1_erase.cls = RX1 ∧ yX1_erase.cls ≠ "java/lang/invoke/MethodHandle" ∧ yX1_erase.cls ≠ "java/lang/invoke/VarHandle" ∧ (parseMethodDescriptor yX1_erase.desc).map (fun d => d.parameters.length) = some 1 := ⟨lw_V q305 q277 q278 q27 q279, by decide +kernel⟩
set_option maxHeartbeats 4000000 in
theorem lpX1_erase {M : Mx} {f g : Int → Int} {v : Int} {Po : Int → St → Prop} (hv : 0 ≤ v ∧ v ≤ 3) (h : Cx 1 M cX1_erase 4 1) (hr : RtI 1 M .int Po) (hp : ∀ (r : Int) (τ' : St), r = nzV f v 8 → eqC (τ' 0) (fil f (8 * v) (8 * v + 8) 0) → τ' 1 = g → Po r τ') : ∀ (k b : Nat) (x s : Int) (τ : St), x = 8 * v + b → b ≤ 8 → 8 < b + k → τ 1 = g → eqC (τ 0) (fil f (8 * v) (8 * v + b) 0) → s = nzV f v b → WX 1 M 17 [.inr 0, .inl v, .inl s, .inl x] [] τ := by
  intro k
  induction k with
  | zero => intro b x s τ h1 h2 h3; omega
  | succ k ih =>
    intro b x s τ hx hb hk h1 h2 hs2
    have g0 := sm_le (f := fun _ => 0) (g := fun j => if f (8 * v + j) = 0 then 0 else 1) b (fun j _ _ => by show (0 : Int) ≤ if f (8 * v + j) = 0 then 0 else 1; split <;> decide)
    have g1 := sm_le (f := fun j => if f (8 * v + j) = 0 then 0 else 1) (g := fun _ => 1) b (fun j _ _ => by show (if f (8 * v + j) = 0 then (0 : Int) else 1) ≤ 1; split <;> decide)
    rw [sm_const] at g0 g1
    have hs3 : s = sm (fun j => if f (8 * v + j) = 0 then 0 else 1) b := hs2
    refine x_iload_n (q := 18) h dX1_erase_17 rfl rfl rfl ?_
    refine x_bipush (q := 20) h dX1_erase_18 rfl (by decide) ?_
    refine x_iload_n (q := 21) h dX1_erase_20 rfl rfl rfl ?_
    refine x_imul (q := 22) h dX1_erase_21 rfl ?_
    refine x_bipush (q := 24) h dX1_erase_22 rfl (by decide) ?_
    refine x_iadd (q := 25) h dX1_erase_24 rfl ?_
    refine x_icmp_ge (tgt := 58) (q := 28) h dX1_erase_25 (by decide) rfl (by omega) (by omega) (fun c25 => ?_) (fun c25 => ?_)
    · refine x_iload_n (q := 59) h dX1_erase_58 rfl rfl rfl ?_
      exact x_iret h hr dX1_erase_59 (by omega) (hp _ _ (by rw [hs2, show b = 8 by omega]) (fun j a b9 => by rw [h2 j a b9, show b = 8 by omega]; rfl) h1)
    · refine x_aload_n (q := 29) h dX1_erase_28 rfl rfl rfl ?_
      refine x1_geta (k := 0) (q := 32) h rfl q217 dX1_erase_29 rfl ?_
      refine x_iload_n (q := 33) h dX1_erase_32 rfl rfl rfl ?_
      refine x_iald (k := 0) (n := 32) (q := 34) h rfl dX1_erase_33 rfl (by omega) (fun v33 e33 l33 u33 => ?_)
      refine x_if_eq (tgt := 43) (q := 37) h dX1_erase_34 (by decide) rfl (by omega) (fun c34 => ?_) (fun c34 => ?_)
      · refine x_iload_n (q := 44) h dX1_erase_43 rfl rfl rfl ?_
        refine x_istore_n (q := 45) (vs' := [.inr 0, .inl v, .inl s, .inl x]) h dX1_erase_44 rfl (by decide) (Nat.le_of_ble_eq_true rfl) rfl rfl ?_
        refine x_aload_n (q := 46) h dX1_erase_45 rfl rfl rfl ?_
        refine x1_geta (k := 0) (q := 49) h rfl q217 dX1_erase_46 rfl ?_
        refine x_iload_n (q := 50) h dX1_erase_49 rfl rfl rfl ?_
        refine x_iconst (q := 51) h dX1_erase_50 rfl ?_
        refine x_iast (k := 0) (n := 32) (q := 52) h rfl dX1_erase_51 rfl (by omega) (by omega) ?_
        refine x_iinc (q := 55) (vs' := [.inr 0, .inl v, .inl s, .inl (x + 1)]) h dX1_erase_52 (by decide) rfl rfl rfl ?_
        refine x_goto (tgt := 17) h dX1_erase_55 (by decide) ?_
        refine ih (b + 1) _ _ _ (by omega) (by omega) (by omega) (by rw [up_fne (by decide)]; exact h1) ?_ ?_
        · intro j a b'
          rw [up_if]
          unfold fil
          by_cases e : j = x
          · rw [if_pos e, if_pos (by omega)]
          · rw [if_neg e, h2 j a b']; unfold fil; by_cases e2 : 8 * v ≤ j ∧ j < 8 * v + b
            · rw [if_pos e2, if_pos (by omega)]
            · rw [if_neg e2, if_neg (by omega)]
        · simp only [nzV, sm]
          rw [h2 x (by omega) (by omega)] at e33
          unfold fil at e33
          rw [if_neg (by omega), hx] at e33
          rw [if_pos (by omega)]; unfold nzV at hs2; omega
      · refine x_iload_n (q := 38) h dX1_erase_37 rfl rfl rfl ?_
        refine x_iconst (q := 39) h dX1_erase_38 rfl ?_
        refine x_iadd (q := 40) h dX1_erase_39 rfl ?_
        refine x_goto (tgt := 44) h dX1_erase_40 (by decide) ?_
        refine x_istore_n (q := 45) (vs' := [.inr 0, .inl v, .inl (s + 1), .inl x]) h dX1_erase_44 rfl (by decide) (Nat.le_of_ble_eq_true rfl) rfl rfl ?_
        refine x_aload_n (q := 46) h dX1_erase_45 rfl rfl rfl ?_
        refine x1_geta (k := 0) (q := 49) h rfl q217 dX1_erase_46 rfl ?_
        refine x_iload_n (q := 50) h dX1_erase_49 rfl rfl rfl ?_
        refine x_iconst (q := 51) h dX1_erase_50 rfl ?_
        refine x_iast (k := 0) (n := 32) (q := 52) h rfl dX1_erase_51 rfl (by omega) (by omega) ?_
        refine x_iinc (q := 55) (vs' := [.inr 0, .inl v, .inl (s + 1), .inl (x + 1)]) h dX1_erase_52 (by decide) rfl rfl rfl ?_
        refine x_goto (tgt := 17) h dX1_erase_55 (by decide) ?_
        refine ih (b + 1) _ _ _ (by omega) (by omega) (by omega) (by rw [up_fne (by decide)]; exact h1) ?_ ?_
        · intro j a b'
          rw [up_if]
          unfold fil
          by_cases e : j = x
          · rw [if_pos e, if_pos (by omega)]
          · rw [if_neg e, h2 j a b']; unfold fil; by_cases e2 : 8 * v ≤ j ∧ j < 8 * v + b
            · rw [if_pos e2, if_pos (by omega)]
            · rw [if_neg e2, if_neg (by omega)]
        · simp only [nzV, sm]
          rw [h2 x (by omega) (by omega)] at e33
          unfold fil at e33
          rw [if_neg (by omega), hx] at e33
          rw [if_neg (by omega)]; unfold nzV at hs2; omega
set_option maxHeartbeats 4000000 in
theorem mX1_erase {τ : St} (v : Int) (r_v : -2147483648 ≤ v ∧ v ≤ 2147483647) : CtI 1 yX1_erase cX1_erase 4 1 .int [v] τ (fun r τ' => r = (sErase (τ 0) v).1 ∧ eqC (τ' 0) (sErase (τ 0) v).2 ∧ τ' 1 = τ 1) := by
  refine CtI.of (by decide) rfl (Nat.le_of_ble_eq_true rfl) (fun M h hr => ?_)
  show WX 1 M 0 [.inr 0, .inl v] [] τ
  refine x_aload_n (q := 1) h dX1_erase_0 rfl rfl rfl ?_
  refine x_iload_n (q := 2) h dX1_erase_1 rfl rfl rfl ?_
  refine x_calli (q := 5) (xs := [v]) (st := []) h (mX1_isVolume v (by omega)) lkX1_isVolume rfl (by decide) (by decide) dX1_erase_2 rfl (by simp) rfl (fun z2 τ2 s2 r2 p2 => ?_)
  obtain ⟨rfl, p2⟩ := p2
  refine x_if_ne (tgt := 10) (q := 8) h dX1_erase_5 (by decide) rfl (by omega) (fun c5 => ?_) (fun c5 => ?_)
  · refine x_iconst (q := 11) h dX1_erase_10 rfl ?_
    refine x_istore_n (q := 12) (vs' := [.inr 0, .inl v, .inl 0]) h dX1_erase_11 rfl (by decide) (Nat.le_of_ble_eq_true rfl) rfl rfl ?_
    refine x_bipush (q := 14) h dX1_erase_12 rfl (by decide) ?_
    refine x_iload_n (q := 15) h dX1_erase_14 rfl rfl rfl ?_
    refine x_imul (q := 16) h dX1_erase_15 rfl ?_
    refine x_istore_n (q := 17) (vs' := [.inr 0, .inl v, .inl 0, .inl (8 * v)]) h dX1_erase_16 rfl (by decide) (Nat.le_of_ble_eq_true rfl) rfl rfl ?_
    refine lpX1_erase (f := τ 0) (g := τ 1) (by omega) h hr ?_ 9 0 _ _ τ (by omega) (by omega) (by omega) rfl ?_ rfl
    · intro r τ' a1 a2 a3
      unfold sErase
      rw [if_neg (by omega)]
      exact ⟨a1, a2, a3⟩
    · intro j a b
      unfold fil
      rw [if_neg (by omega)]
  · refine x_iconst (q := 9) h dX1_erase_8 rfl ?_
    exact x_iret h hr dX1_erase_9 (by omega) (⟨by unfold sErase; rw [if_pos (by omega)], by unfold sErase; rw [if_pos (by omega)]; exact fun _ _ _ => rfl, rfl⟩)

theorem dX1_spread_0 : decode cX1_spread 0 = .ok (.aload_n 0, 1) := by decide +kernel
theorem dX1_spread_1 : decode cX1_spread 1 = .ok (.iload_n 1, 1) := by decide +kernel
theorem dX1_spread_2 : decode cX1_spread 2 = .ok (.invokevirtual 20, 3) := by decide +kernel
theorem dX1_spread_5 : decode cX1_spread 5 = .ok (.ifCond .eq 22, 3) := by decide +kernel
theorem dX1_spread_8 : decode cX1_spread 8 = .ok (.aload_n 0, 1) := by decide +kernel
theorem dX1_spread_9 : decode cX1_spread 9 = .ok (.iload_n 2, 1) := by decide +kernel
theorem dX1_spread_10 : decode cX1_spread 10 = .ok (.invokevirtual 20, 3) := by decide +kernel
theorem dX1_spread_13 : decode cX1_spread 13 = .ok (.ifCond .eq 14, 3) := by decide +kernel
theorem dX1_spread_16 : decode cX1_spread 16 = .ok (.iload_n 3, 1) := by decide +kernel
theorem dX1_spread_17 : decode cX1_spread 17 = .ok (.iconst 1, 1) := by decide +kernel
theorem dX1_spread_18 : decode cX1_spread 18 = .ok (.if_icmp .lt 9, 3) := by decide +kernel
theorem dX1_spread_21 : decode cX1_spread 21 = .ok (.iload_n 3, 1) := by decide +kernel
theorem dX1_spread_22 : decode cX1_spread 22 = .ok (.bipush 8, 2) := by decide +kernel
theorem dX1_spread_24 : decode cX1_spread 24 = .ok (.if_icmp .le 5, 3) := by decide +kernel
theorem dX1_spread_27 : decode cX1_spread 27 = .ok (.iconst (-1), 1) := by decide +kernel
theorem dX1_spread_28 : decode cX1_spread 28 = .ok (.ireturn, 1) := by decide +kernel
theorem dX1_spread_29 : decode cX1_spread 29 = .ok (.aload_n 0, 1) := by decide +kernel
theorem dX1_spread_30 : decode cX1_spread 30 = .ok (.invokevirtual 27, 3) := by decide +kernel
theorem dX1_spread_33 : decode cX1_spread 33 = .ok (.iconst 0, 1) := by decide +kernel
theorem dX1_spread_34 : decode cX1_spread 34 = .ok (.istore 4, 2) := by decide +kernel
theorem dX1_spread_36 : decode cX1_spread 36 = .ok (.iload_n 1, 1) := by decide +kernel
theorem dX1_spread_37 : decode cX1_spread 37 = .ok (.istore 5, 2) := by decide +kernel
theorem dX1_spread_39 : decode cX1_spread 39 = .ok (.iload 5, 2) := by decide +kernel
theorem dX1_spread_41 : decode cX1_spread 41 = .ok (.iload_n 1, 1) := by decide +kernel
theorem dX1_spread_42 : decode cX1_spread 42 = .ok (.iload_n 3, 1) := by decide +kernel
theorem dX1_spread_43 : decode cX1_spread 43 = .ok (.iadd, 1) := by decide +kernel
theorem dX1_spread_44 : decode cX1_spread 44 = .ok (.if_icmp .ge 37, 3) := by decide +kernel
theorem dX1_spread_47 : decode cX1_spread 47 = .ok (.iload 5, 2) := by decide +kernel
theorem dX1_spread_49 : decode cX1_spread 49 = .ok (.bipush 8, 2) := by decide +kernel
theorem dX1_spread_51 : decode cX1_spread 51 = .ok (.idiv, 1) := by decide +kernel
theorem dX1_spread_52 : decode cX1_spread 52 = .ok (.iload_n 1, 1) := by decide +kernel
theorem dX1_spread_53 : decode cX1_spread 53 = .ok (.bipush 8, 2) := by decide +kernel
theorem dX1_spread_55 : decode cX1_spread 55 = .ok (.idiv, 1) := by decide +kernel
theorem dX1_spread_56 : decode cX1_spread 56 = .ok (.if_icmp .ne 25, 3) := by decide +kernel
theorem dX1_spread_59 : decode cX1_spread 59 = .ok (.aload_n 0, 1) := by decide +kernel
theorem dX1_spread_60 : decode cX1_spread 60 = .ok (.getfield 7, 3) := by decide +kernel
theorem dX1_spread_63 : decode cX1_spread 63 = .ok (.iload 5, 2) := by decide +kernel
theorem dX1_spread_65 : decode cX1_spread 65 = .ok (.aload_n 0, 1) := by decide +kernel
theorem dX1_spread_66 : decode cX1_spread 66 = .ok (.getfield 13, 3) := by decide +kernel
theorem dX1_spread_69 : decode cX1_spread 69 = .ok (.iload_n 2, 1) := by decide +kernel
theorem dX1_spread_70 : decode cX1_spread 70 = .ok (.iaload, 1) := by decide +kernel
theorem dX1_spread_71 : decode cX1_spread 71 = .ok (.iastore, 1) := by decide +kernel
theorem dX1_spread_72 : decode cX1_spread 72 = .ok (.iinc 4 1, 3) := by decide +kernel
theorem dX1_spread_75 : decode cX1_spread 75 = .ok (.iinc 5 1, 3) := by decide +kernel
theorem dX1_spread_78 : decode cX1_spread 78 = .ok (.goto (-39), 3) := by decide +kernel
theorem dX1_spread_81 : decode cX1_spread 81 = .ok (.aload_n 0, 1) := by decide +kernel
theorem dX1_spread_82 : decode cX1_spread 82 = .ok (.invokevirtual 30, 3) := by decide +kernel
theorem dX1_spread_85 : decode cX1_spread 85 = .ok (.ifCond .eq 8, 3) := by decide +kernel
theorem dX1_spread_88 : decode cX1_spread 88 = .ok (.bipush (-2), 2) := by decide +kernel
theorem dX1_spread_90 : decode cX1_spread 90 = .ok (.goto 5, 3) := by decide +kernel
theorem dX1_spread_93 : decode cX1_spread 93 = .ok (.iload 4, 2) := by decide +kernel
theorem dX1_spread_95 : decode cX1_spread 95 = .ok (.ireturn, 1) := by decide +kernel
set_option maxHeartbeats 4000000 in
theorem lpX1_spread {M : Mx} {f : Int → Int} {n m many : Int} {Po : Int → St → Prop} (hc : okC f) (hn : 0 ≤ n ∧ n ≤ 31) (hm : 0 ≤ m ∧ m ≤ 31) (hmany : 1 ≤ many ∧ many ≤ 8) (hu : used (fil f n (spE n many) (f m)) ≤ 48) (h : Cx 1 M cX1_spread 6 3) (hr : RtI 1 M .int Po) (hp : ∀ (r : Int) (τ' : St), r = spE n many - n → eqC (τ' 0) (fil f n (spE n many) (f m)) → Po r τ') : ∀ (k : Nat) (x s : Int) (τ : St), n ≤ x → x ≤ spE n many → s = x - n → spE n many - x < k → eqC (τ 1) f → eqC (τ 0) (fil f n x (f m)) → WX 1 M 39 [.inr 0, .inl n, .inl m, .inl many, .inl s, .inl x] [] τ := by
  intro k
  induction k with
  | zero => intro x s τ h1 h2 h3; omega
  | succ k ih =>
    intro x s τ hx hsp hs2 hk h1 h2
    have hsp9 : spE n many ≤ 8 * (n / 8) + 8 ∧ spE n many ≤ n + many := by unfold spE; split <;> omega
    refine x_iload (q := 41) h dX1_spread_39 rfl rfl ?_
    refine x_iload_n (q := 42) h dX1_spread_41 rfl rfl rfl ?_
    refine x_iload_n (q := 43) h dX1_spread_42 rfl rfl rfl ?_
    refine x_iadd (q := 44) h dX1_spread_43 rfl ?_
    refine x_icmp_ge (tgt := 81) (q := 47) h dX1_spread_44 (by decide) rfl (by omega) (by omega) (fun c44 => ?_) (fun c44 => ?_)
    · have hxe : x = spE n many := by unfold spE at hsp ⊢; split at hsp <;> omega
      subst hxe
      refine x_aload_n (q := 82) h dX1_spread_81 rfl rfl rfl ?_
      have hu2 : used (τ 0) ≤ 48 := by rw [used_congr h2]; exact hu
      refine x_calli (q := 85) (xs := []) (st := []) h (mX1_isFull (okC_congr h2 (okC_fil hc (hc m (by omega) (by omega))))) lkX1_isFull rfl (by decide) (by decide) dX1_spread_82 rfl (by simp) rfl (fun z82 τ82 s82 r82 p82 => ?_)
      rcases p82 with ⟨w1, w2, -⟩ | ⟨-, w1, -⟩
      rotate_left
      · exfalso; omega
      refine x_if_eq (tgt := 93) (q := 88) h dX1_spread_85 (by decide) rfl (by omega) (fun c85 => ?_) (fun c85 => ?_)
      · refine x_iload (q := 95) h dX1_spread_93 rfl rfl ?_
        exact x_iret h hr dX1_spread_95 (by omega) (hp _ _ (by omega) (by rw [← w2]; exact h2))
      · exfalso; omega
    · refine x_iload (q := 49) h dX1_spread_47 rfl rfl ?_
      refine x_bipush (q := 51) h dX1_spread_49 rfl (by decide) ?_
      refine x_idiv (q := 52) (x / 8) h dX1_spread_51 (by decide) (jI_div (by omega) (by omega) (by decide) (by decide)) rfl ?_
      refine x_iload_n (q := 53) h dX1_spread_52 rfl rfl rfl ?_
      refine x_bipush (q := 55) h dX1_spread_53 rfl (by decide) ?_
      refine x_idiv (q := 56) (n / 8) h dX1_spread_55 (by decide) (jI_div (by omega) (by omega) (by decide) (by decide)) rfl ?_
      refine x_icmp_ne (tgt := 81) (q := 59) h dX1_spread_56 (by decide) rfl (by omega) (by omega) (fun c56 => ?_) (fun c56 => ?_)
      · have hxe : x = spE n many := by unfold spE at hsp ⊢; split at hsp <;> omega
        subst hxe
        refine x_aload_n (q := 82) h dX1_spread_81 rfl rfl rfl ?_
        have hu2 : used (τ 0) ≤ 48 := by rw [used_congr h2]; exact hu
        refine x_calli (q := 85) (xs := []) (st := []) h (mX1_isFull (okC_congr h2 (okC_fil hc (hc m (by omega) (by omega))))) lkX1_isFull rfl (by decide) (by decide) dX1_spread_82 rfl (by simp) rfl (fun z82 τ82 s82 r82 p82 => ?_)
        rcases p82 with ⟨w1, w2, -⟩ | ⟨-, w1, -⟩
        rotate_left
        · exfalso; omega
        refine x_if_eq (tgt := 93) (q := 88) h dX1_spread_85 (by decide) rfl (by omega) (fun c85 => ?_) (fun c85 => ?_)
        · refine x_iload (q := 95) h dX1_spread_93 rfl rfl ?_
          exact x_iret h hr dX1_spread_95 (by omega) (hp _ _ (by omega) (by rw [← w2]; exact h2))
        · exfalso; omega
      · refine x_aload_n (q := 60) h dX1_spread_59 rfl rfl rfl ?_
        refine x1_geta (k := 0) (q := 63) h rfl q217 dX1_spread_60 rfl ?_
        refine x_iload (q := 65) h dX1_spread_63 rfl rfl ?_
        refine x_aload_n (q := 66) h dX1_spread_65 rfl rfl rfl ?_
        refine x1_geta (k := 1) (q := 69) h rfl q218 dX1_spread_66 rfl ?_
        refine x_iload_n (q := 70) h dX1_spread_69 rfl rfl rfl ?_
        refine x_iald (k := 1) (n := 32) (q := 71) h rfl dX1_spread_70 rfl (by omega) (fun v70 e70 l70 u70 => ?_)
        refine x_iast (k := 0) (n := 32) (q := 72) h rfl dX1_spread_71 rfl (by omega) (by omega) ?_
        refine x_iinc (q := 75) (vs' := [.inr 0, .inl n, .inl m, .inl many, .inl (s + 1), .inl x]) h dX1_spread_72 (by decide) rfl rfl rfl ?_
        refine x_iinc (q := 78) (vs' := [.inr 0, .inl n, .inl m, .inl many, .inl (s + 1), .inl (x + 1)]) h dX1_spread_75 (by decide) rfl rfl rfl ?_
        refine x_goto (tgt := 39) h dX1_spread_78 (by decide) ?_
        refine ih _ _ _ (by omega) (by unfold spE at hsp ⊢; split at hsp <;> omega) (by omega) (by omega) (by rw [up_fne (by decide)]; exact h1) ?_
        intro j a b
        rw [up_if]
        by_cases e : j = x
        · rw [if_pos e, e70, h1 m hm.1 (by omega)]; unfold fil; rw [if_pos (by omega)]
        · rw [if_neg e, h2 j a b]; unfold fil; by_cases e2 : n ≤ j ∧ j < x
          · rw [if_pos e2, if_pos (by omega)]
          · rw [if_neg e2, if_neg (by omega)]
set_option maxHeartbeats 4000000 in
theorem mX1_spread {τ : St} (n m many : Int) (r_n : -2147483648 ≤ n ∧ n ≤ 2147483647) (r_m : -2147483648 ≤ m ∧ m ≤ 2147483647) (r_many : -2147483648 ≤ many ∧ many ≤ 2147483647) (hc : okC (τ 0)) (hu : used (sSpread (τ 0) n m many).2 ≤ 48) : CtI 1 yX1_spread cX1_spread 6 3 .int [n, m, many] τ (fun r τ' => r = (sSpread (τ 0) n m many).1 ∧ eqC (τ' 0) (sSpread (τ 0) n m many).2) := by
  refine CtI.of (by decide) rfl (Nat.le_of_ble_eq_true rfl) (fun M h hr => ?_)
  show WX 1 M 0 [.inr 0, .inl n, .inl m, .inl many] [] τ
  refine x_aload_n (q := 1) h dX1_spread_0 rfl rfl rfl ?_
  refine x_iload_n (q := 2) h dX1_spread_1 rfl rfl rfl ?_
  refine x_calli (q := 5) (xs := [n]) (st := []) h (mX1_isBlock n (by omega)) lkX1_isBlock rfl (by decide) (by decide) dX1_spread_2 rfl (by simp) rfl (fun z2 τ2 s2 r2 p2 => ?_)
  obtain ⟨rfl, p2⟩ := p2
  refine x_if_eq (tgt := 27) (q := 8) h dX1_spread_5 (by decide) rfl (by omega) (fun c5 => ?_) (fun c5 => ?_)
  · refine x_iconst (q := 28) h dX1_spread_27 rfl ?_
    exact x_iret h hr dX1_spread_28 (by omega) (⟨by unfold sSpread; rw [if_pos (by omega)], by unfold sSpread; rw [if_pos (by omega)]; exact fun _ _ _ => rfl⟩)
  · refine x_aload_n (q := 9) h dX1_spread_8 rfl rfl rfl ?_
    refine x_iload_n (q := 10) h dX1_spread_9 rfl rfl rfl ?_
    refine x_calli (q := 13) (xs := [m]) (st := []) h (mX1_isBlock m (by omega)) lkX1_isBlock rfl (by decide) (by decide) dX1_spread_10 rfl (by simp) rfl (fun z10 τ10 s10 r10 p10 => ?_)
    obtain ⟨rfl, p10⟩ := p10
    refine x_if_eq (tgt := 27) (q := 16) h dX1_spread_13 (by decide) rfl (by omega) (fun c13 => ?_) (fun c13 => ?_)
    · refine x_iconst (q := 28) h dX1_spread_27 rfl ?_
      exact x_iret h hr dX1_spread_28 (by omega) (⟨by unfold sSpread; rw [if_pos (by omega)], by unfold sSpread; rw [if_pos (by omega)]; exact fun _ _ _ => rfl⟩)
    · refine x_iload_n (q := 17) h dX1_spread_16 rfl rfl rfl ?_
      refine x_iconst (q := 18) h dX1_spread_17 rfl ?_
      refine x_icmp_lt (tgt := 27) (q := 21) h dX1_spread_18 (by decide) rfl (by omega) (by omega) (fun c18 => ?_) (fun c18 => ?_)
      · refine x_iconst (q := 28) h dX1_spread_27 rfl ?_
        exact x_iret h hr dX1_spread_28 (by omega) (⟨by unfold sSpread; rw [if_pos (by omega)], by unfold sSpread; rw [if_pos (by omega)]; exact fun _ _ _ => rfl⟩)
      · refine x_iload_n (q := 22) h dX1_spread_21 rfl rfl rfl ?_
        refine x_bipush (q := 24) h dX1_spread_22 rfl (by decide) ?_
        refine x_icmp_le (tgt := 29) (q := 27) h dX1_spread_24 (by decide) rfl (by omega) (by omega) (fun c24 => ?_) (fun c24 => ?_)
        · refine x_aload_n (q := 30) h dX1_spread_29 rfl rfl rfl ?_
          refine x_callv (q := 33) (xs := []) (st := []) h (mX1_keep) lkX1_keep rfl (by decide) (by decide) dX1_spread_30 rfl (by simp) rfl (fun τ30 s30 p30 => ?_)
          obtain ⟨k1, k2⟩ := p30
          refine x_iconst (q := 34) h dX1_spread_33 rfl ?_
          refine x_istore (q := 36) (vs' := [.inr 0, .inl n, .inl m, .inl many, .inl 0]) h dX1_spread_34 (by decide) (Nat.le_of_ble_eq_true rfl) rfl rfl ?_
          refine x_iload_n (q := 37) h dX1_spread_36 rfl rfl rfl ?_
          refine x_istore (q := 39) (vs' := [.inr 0, .inl n, .inl m, .inl many, .inl 0, .inl n]) h dX1_spread_37 (by decide) (Nat.le_of_ble_eq_true rfl) rfl rfl ?_
          refine lpX1_spread (f := τ 0) hc (by omega) (by omega) (by omega) ?_ h hr ?_ 33 _ _ τ30 (by omega) (by unfold spE; split <;> omega) (by omega) (by unfold spE; split <;> omega) k2 ?_
          · unfold sSpread at hu
            rw [if_neg (by omega)] at hu
            exact hu
          · intro r τ' a1 a2
            unfold sSpread
            rw [if_neg (by omega)]
            exact ⟨a1, a2⟩
          · intro j a b
            rw [k1]
            unfold fil
            rw [if_neg (by omega)]
        · refine x_iconst (q := 28) h dX1_spread_27 rfl ?_
          exact x_iret h hr dX1_spread_28 (by omega) (⟨by unfold sSpread; rw [if_pos (by omega)], by unfold sSpread; rw [if_pos (by omega)]; exact fun _ _ _ => rfl⟩)

theorem dX1_clone_0 : decode cX1_clone 0 = .ok (.aload_n 0, 1) := by decide +kernel
theorem dX1_clone_1 : decode cX1_clone 1 = .ok (.iload_n 1, 1) := by decide +kernel
theorem dX1_clone_2 : decode cX1_clone 2 = .ok (.invokevirtual 34, 3) := by decide +kernel
theorem dX1_clone_5 : decode cX1_clone 5 = .ok (.ifCond .eq 11, 3) := by decide +kernel
theorem dX1_clone_8 : decode cX1_clone 8 = .ok (.aload_n 0, 1) := by decide +kernel
theorem dX1_clone_9 : decode cX1_clone 9 = .ok (.iload_n 2, 1) := by decide +kernel
theorem dX1_clone_10 : decode cX1_clone 10 = .ok (.invokevirtual 34, 3) := by decide +kernel
theorem dX1_clone_13 : decode cX1_clone 13 = .ok (.ifCond .ne 5, 3) := by decide +kernel
theorem dX1_clone_16 : decode cX1_clone 16 = .ok (.iconst (-1), 1) := by decide +kernel
theorem dX1_clone_17 : decode cX1_clone 17 = .ok (.ireturn, 1) := by decide +kernel
theorem dX1_clone_18 : decode cX1_clone 18 = .ok (.aload_n 0, 1) := by decide +kernel
theorem dX1_clone_19 : decode cX1_clone 19 = .ok (.invokevirtual 27, 3) := by decide +kernel
theorem dX1_clone_22 : decode cX1_clone 22 = .ok (.iconst 0, 1) := by decide +kernel
theorem dX1_clone_23 : decode cX1_clone 23 = .ok (.istore_n 3, 1) := by decide +kernel
theorem dX1_clone_24 : decode cX1_clone 24 = .ok (.iconst 0, 1) := by decide +kernel
theorem dX1_clone_25 : decode cX1_clone 25 = .ok (.istore 4, 2) := by decide +kernel
theorem dX1_clone_27 : decode cX1_clone 27 = .ok (.iload 4, 2) := by decide +kernel
theorem dX1_clone_29 : decode cX1_clone 29 = .ok (.bipush 8, 2) := by decide +kernel
theorem dX1_clone_31 : decode cX1_clone 31 = .ok (.if_icmp .ge 68, 3) := by decide +kernel
theorem dX1_clone_34 : decode cX1_clone 34 = .ok (.aload_n 0, 1) := by decide +kernel
theorem dX1_clone_35 : decode cX1_clone 35 = .ok (.getfield 7, 3) := by decide +kernel
theorem dX1_clone_38 : decode cX1_clone 38 = .ok (.bipush 8, 2) := by decide +kernel
theorem dX1_clone_40 : decode cX1_clone 40 = .ok (.iload_n 1, 1) := by decide +kernel
theorem dX1_clone_41 : decode cX1_clone 41 = .ok (.imul, 1) := by decide +kernel
theorem dX1_clone_42 : decode cX1_clone 42 = .ok (.iload 4, 2) := by decide +kernel
theorem dX1_clone_44 : decode cX1_clone 44 = .ok (.iadd, 1) := by decide +kernel
theorem dX1_clone_45 : decode cX1_clone 45 = .ok (.aload_n 0, 1) := by decide +kernel
theorem dX1_clone_46 : decode cX1_clone 46 = .ok (.getfield 13, 3) := by decide +kernel
theorem dX1_clone_49 : decode cX1_clone 49 = .ok (.bipush 8, 2) := by decide +kernel
theorem dX1_clone_51 : decode cX1_clone 51 = .ok (.iload_n 2, 1) := by decide +kernel
theorem dX1_clone_52 : decode cX1_clone 52 = .ok (.imul, 1) := by decide +kernel
theorem dX1_clone_53 : decode cX1_clone 53 = .ok (.iload 4, 2) := by decide +kernel
theorem dX1_clone_55 : decode cX1_clone 55 = .ok (.iadd, 1) := by decide +kernel
theorem dX1_clone_56 : decode cX1_clone 56 = .ok (.iaload, 1) := by decide +kernel
theorem dX1_clone_57 : decode cX1_clone 57 = .ok (.iastore, 1) := by decide +kernel
theorem dX1_clone_58 : decode cX1_clone 58 = .ok (.aload_n 0, 1) := by decide +kernel
theorem dX1_clone_59 : decode cX1_clone 59 = .ok (.getfield 13, 3) := by decide +kernel
theorem dX1_clone_62 : decode cX1_clone 62 = .ok (.bipush 8, 2) := by decide +kernel
theorem dX1_clone_64 : decode cX1_clone 64 = .ok (.iload_n 1, 1) := by decide +kernel
theorem dX1_clone_65 : decode cX1_clone 65 = .ok (.imul, 1) := by decide +kernel
theorem dX1_clone_66 : decode cX1_clone 66 = .ok (.iload 4, 2) := by decide +kernel
theorem dX1_clone_68 : decode cX1_clone 68 = .ok (.iadd, 1) := by decide +kernel
theorem dX1_clone_69 : decode cX1_clone 69 = .ok (.iaload, 1) := by decide +kernel
theorem dX1_clone_70 : decode cX1_clone 70 = .ok (.aload_n 0, 1) := by decide +kernel
theorem dX1_clone_71 : decode cX1_clone 71 = .ok (.getfield 13, 3) := by decide +kernel
theorem dX1_clone_74 : decode cX1_clone 74 = .ok (.bipush 8, 2) := by decide +kernel
theorem dX1_clone_76 : decode cX1_clone 76 = .ok (.iload_n 2, 1) := by decide +kernel
theorem dX1_clone_77 : decode cX1_clone 77 = .ok (.imul, 1) := by decide +kernel
theorem dX1_clone_78 : decode cX1_clone 78 = .ok (.iload 4, 2) := by decide +kernel
theorem dX1_clone_80 : decode cX1_clone 80 = .ok (.iadd, 1) := by decide +kernel
theorem dX1_clone_81 : decode cX1_clone 81 = .ok (.iaload, 1) := by decide +kernel
theorem dX1_clone_82 : decode cX1_clone 82 = .ok (.if_icmp .eq 9, 3) := by decide +kernel
theorem dX1_clone_85 : decode cX1_clone 85 = .ok (.iload_n 3, 1) := by decide +kernel
theorem dX1_clone_86 : decode cX1_clone 86 = .ok (.iconst 1, 1) := by decide +kernel
theorem dX1_clone_87 : decode cX1_clone 87 = .ok (.iadd, 1) := by decide +kernel
theorem dX1_clone_88 : decode cX1_clone 88 = .ok (.goto 4, 3) := by decide +kernel
theorem dX1_clone_91 : decode cX1_clone 91 = .ok (.iload_n 3, 1) := by decide +kernel
theorem dX1_clone_92 : decode cX1_clone 92 = .ok (.istore_n 3, 1) := by decide +kernel
theorem dX1_clone_93 : decode cX1_clone 93 = .ok (.iinc 4 1, 3) := by decide +kernel
theorem dX1_clone_96 : decode cX1_clone 96 = .ok (.goto (-69), 3) := by decide +kernel
theorem dX1_clone_99 : decode cX1_clone 99 = .ok (.aload_n 0, 1) := by decide +kernel
theorem dX1_clone_100 : decode cX1_clone 100 = .ok (.invokevirtual 30, 3) := by decide +kernel
theorem dX1_clone_103 : decode cX1_clone 103 = .ok (.ifCond .eq 8, 3) := by decide +kernel
theorem dX1_clone_106 : decode cX1_clone 106 = .ok (.bipush (-2), 2) := by decide +kernel
theorem dX1_clone_108 : decode cX1_clone 108 = .ok (.goto 4, 3) := by decide +kernel
theorem dX1_clone_111 : decode cX1_clone 111 = .ok (.iload_n 3, 1) := by decide +kernel
theorem dX1_clone_112 : decode cX1_clone 112 = .ok (.ireturn, 1) := by decide +kernel
set_option maxHeartbeats 4000000 in
theorem lpX1_clone {M : Mx} {f : Int → Int} {v w : Int} {Po : Int → St → Prop} (hc : okC f) (hv : 0 ≤ v ∧ v ≤ 3) (hw : 0 ≤ w ∧ w ≤ 3) (hu : used (cpV f v w 8) ≤ 48) (h : Cx 1 M cX1_clone 5 3) (hr : RtI 1 M .int Po) (hp : ∀ (r : Int) (τ' : St), r = dfV f v w 8 → eqC (τ' 0) (cpV f v w 8) → Po r τ') : ∀ (k b : Nat) (x s : Int) (τ : St), x = b → b ≤ 8 → 8 < b + k → eqC (τ 1) f → eqC (τ 0) (cpV f v w b) → s = dfV f v w b → WX 1 M 27 [.inr 0, .inl v, .inl w, .inl s, .inl x] [] τ := by
  intro k
  induction k with
  | zero => intro b x s τ h1 h2 h3; omega
  | succ k ih =>
    intro b x s τ hx hb hk h1 h2 hs2
    have g0 := sm_le (f := fun _ => 0) (g := fun j => if f (8 * v + j) = f (8 * w + j) then 0 else 1) b (fun j _ _ => by show (0 : Int) ≤ if f (8 * v + j) = f (8 * w + j) then 0 else 1; split <;> decide)
    have g1 := sm_le (f := fun j => if f (8 * v + j) = f (8 * w + j) then 0 else 1) (g := fun _ => 1) b (fun j _ _ => by show (if f (8 * v + j) = f (8 * w + j) then (0 : Int) else 1) ≤ 1; split <;> decide)
    rw [sm_const] at g0 g1
    have hs3 : s = sm (fun j => if f (8 * v + j) = f (8 * w + j) then 0 else 1) b := hs2
    refine x_iload (q := 29) h dX1_clone_27 rfl rfl ?_
    refine x_bipush (q := 31) h dX1_clone_29 rfl (by decide) ?_
    refine x_icmp_ge (tgt := 99) (q := 34) h dX1_clone_31 (by decide) rfl (by omega) (by omega) (fun c31 => ?_) (fun c31 => ?_)
    · refine x_aload_n (q := 100) h dX1_clone_99 rfl rfl rfl ?_
      have hu2 : used (τ 0) ≤ 48 := by rw [used_congr h2, show b = 8 by omega]; exact hu
      refine x_calli (q := 103) (xs := []) (st := []) h (mX1_isFull (okC_congr h2 (okC_cpV hc hv hw (by omega)))) lkX1_isFull rfl (by decide) (by decide) dX1_clone_100 rfl (by simp) rfl (fun z100 τ100 s100 r100 p100 => ?_)
      rcases p100 with ⟨w1, w2, -⟩ | ⟨-, w1, -⟩
      rotate_left
      · exfalso; omega
      refine x_if_eq (tgt := 111) (q := 106) h dX1_clone_103 (by decide) rfl (by omega) (fun c103 => ?_) (fun c103 => ?_)
      · refine x_iload_n (q := 112) h dX1_clone_111 rfl rfl rfl ?_
        exact x_iret h hr dX1_clone_112 (by omega) (hp _ _ (by rw [hs2, show b = 8 by omega]) (fun j a b9 => by rw [← w2, h2 j a b9, show b = 8 by omega]; rfl))
      · exfalso; omega
    · refine x_aload_n (q := 35) h dX1_clone_34 rfl rfl rfl ?_
      refine x1_geta (k := 0) (q := 38) h rfl q217 dX1_clone_35 rfl ?_
      refine x_bipush (q := 40) h dX1_clone_38 rfl (by decide) ?_
      refine x_iload_n (q := 41) h dX1_clone_40 rfl rfl rfl ?_
      refine x_imul (q := 42) h dX1_clone_41 rfl ?_
      refine x_iload (q := 44) h dX1_clone_42 rfl rfl ?_
      refine x_iadd (q := 45) h dX1_clone_44 rfl ?_
      refine x_aload_n (q := 46) h dX1_clone_45 rfl rfl rfl ?_
      refine x1_geta (k := 1) (q := 49) h rfl q218 dX1_clone_46 rfl ?_
      refine x_bipush (q := 51) h dX1_clone_49 rfl (by decide) ?_
      refine x_iload_n (q := 52) h dX1_clone_51 rfl rfl rfl ?_
      refine x_imul (q := 53) h dX1_clone_52 rfl ?_
      refine x_iload (q := 55) h dX1_clone_53 rfl rfl ?_
      refine x_iadd (q := 56) h dX1_clone_55 rfl ?_
      refine x_iald (k := 1) (n := 32) (q := 57) h rfl dX1_clone_56 rfl (by omega) (fun v56 e56 l56 u56 => ?_)
      refine x_iast (k := 0) (n := 32) (q := 58) h rfl dX1_clone_57 rfl (by omega) (by omega) ?_
      refine x_aload_n (q := 59) h dX1_clone_58 rfl rfl rfl ?_
      refine x1_geta (k := 1) (q := 62) h rfl q218 dX1_clone_59 rfl ?_
      refine x_bipush (q := 64) h dX1_clone_62 rfl (by decide) ?_
      refine x_iload_n (q := 65) h dX1_clone_64 rfl rfl rfl ?_
      refine x_imul (q := 66) h dX1_clone_65 rfl ?_
      refine x_iload (q := 68) h dX1_clone_66 rfl rfl ?_
      refine x_iadd (q := 69) h dX1_clone_68 rfl ?_
      refine x_iald (k := 1) (n := 32) (q := 70) h rfl dX1_clone_69 rfl (by omega) (fun v69 e69 l69 u69 => ?_)
      refine x_aload_n (q := 71) h dX1_clone_70 rfl rfl rfl ?_
      refine x1_geta (k := 1) (q := 74) h rfl q218 dX1_clone_71 rfl ?_
      refine x_bipush (q := 76) h dX1_clone_74 rfl (by decide) ?_
      refine x_iload_n (q := 77) h dX1_clone_76 rfl rfl rfl ?_
      refine x_imul (q := 78) h dX1_clone_77 rfl ?_
      refine x_iload (q := 80) h dX1_clone_78 rfl rfl ?_
      refine x_iadd (q := 81) h dX1_clone_80 rfl ?_
      refine x_iald (k := 1) (n := 32) (q := 82) h rfl dX1_clone_81 rfl (by omega) (fun v81 e81 l81 u81 => ?_)
      refine x_icmp_eq (tgt := 91) (q := 85) h dX1_clone_82 (by decide) rfl (by omega) (by omega) (fun c82 => ?_) (fun c82 => ?_)
      · refine x_iload_n (q := 92) h dX1_clone_91 rfl rfl rfl ?_
        refine x_istore_n (q := 93) (vs' := [.inr 0, .inl v, .inl w, .inl s, .inl x]) h dX1_clone_92 rfl (by decide) (Nat.le_of_ble_eq_true rfl) rfl rfl ?_
        refine x_iinc (q := 96) (vs' := [.inr 0, .inl v, .inl w, .inl s, .inl (x + 1)]) h dX1_clone_93 (by decide) rfl rfl rfl ?_
        refine x_goto (tgt := 27) h dX1_clone_96 (by decide) ?_
        refine ih (b + 1) _ _ _ (by omega) (by omega) (by omega) (by rw [up_fne (by decide)]; exact h1) ?_ ?_
        · intro j a b'
          rw [up_if]
          unfold cpV
          by_cases e : j = 8 * v + x
          · rw [if_pos e, if_pos (by omega), e56, h1 _ (by omega) (by omega)]; congr 1; omega
          · rw [if_neg e, h2 j a b']; unfold cpV; by_cases e2 : 8 * v ≤ j ∧ j < 8 * v + b
            · rw [if_pos e2, if_pos (by omega)]
            · rw [if_neg e2, if_neg (by omega)]
        · simp only [dfV, sm]
          rw [up_fne (by decide), h1 _ (by omega) (by omega), hx] at e69 e81
          rw [if_pos (by omega)]; unfold dfV at hs2; omega
      · refine x_iload_n (q := 86) h dX1_clone_85 rfl rfl rfl ?_
        refine x_iconst (q := 87) h dX1_clone_86 rfl ?_
        refine x_iadd (q := 88) h dX1_clone_87 rfl ?_
        refine x_goto (tgt := 92) h dX1_clone_88 (by decide) ?_
        refine x_istore_n (q := 93) (vs' := [.inr 0, .inl v, .inl w, .inl (s + 1), .inl x]) h dX1_clone_92 rfl (by decide) (Nat.le_of_ble_eq_true rfl) rfl rfl ?_
        refine x_iinc (q := 96) (vs' := [.inr 0, .inl v, .inl w, .inl (s + 1), .inl (x + 1)]) h dX1_clone_93 (by decide) rfl rfl rfl ?_
        refine x_goto (tgt := 27) h dX1_clone_96 (by decide) ?_
        refine ih (b + 1) _ _ _ (by omega) (by omega) (by omega) (by rw [up_fne (by decide)]; exact h1) ?_ ?_
        · intro j a b'
          rw [up_if]
          unfold cpV
          by_cases e : j = 8 * v + x
          · rw [if_pos e, if_pos (by omega), e56, h1 _ (by omega) (by omega)]; congr 1; omega
          · rw [if_neg e, h2 j a b']; unfold cpV; by_cases e2 : 8 * v ≤ j ∧ j < 8 * v + b
            · rw [if_pos e2, if_pos (by omega)]
            · rw [if_neg e2, if_neg (by omega)]
        · simp only [dfV, sm]
          rw [up_fne (by decide), h1 _ (by omega) (by omega), hx] at e69 e81
          rw [if_neg (by omega)]; unfold dfV at hs2; omega
set_option maxHeartbeats 4000000 in
theorem mX1_clone {τ : St} (v w : Int) (r_v : -2147483648 ≤ v ∧ v ≤ 2147483647) (r_w : -2147483648 ≤ w ∧ w ≤ 2147483647) (hc : okC (τ 0)) (hu : used (sClone (τ 0) v w).2 ≤ 48) : CtI 1 yX1_clone cX1_clone 5 3 .int [v, w] τ (fun r τ' => r = (sClone (τ 0) v w).1 ∧ eqC (τ' 0) (sClone (τ 0) v w).2) := by
  refine CtI.of (by decide) rfl (Nat.le_of_ble_eq_true rfl) (fun M h hr => ?_)
  show WX 1 M 0 [.inr 0, .inl v, .inl w] [] τ
  refine x_aload_n (q := 1) h dX1_clone_0 rfl rfl rfl ?_
  refine x_iload_n (q := 2) h dX1_clone_1 rfl rfl rfl ?_
  refine x_calli (q := 5) (xs := [v]) (st := []) h (mX1_isVolume v (by omega)) lkX1_isVolume rfl (by decide) (by decide) dX1_clone_2 rfl (by simp) rfl (fun z2 τ2 s2 r2 p2 => ?_)
  obtain ⟨rfl, p2⟩ := p2
  refine x_if_eq (tgt := 16) (q := 8) h dX1_clone_5 (by decide) rfl (by omega) (fun c5 => ?_) (fun c5 => ?_)
  · refine x_iconst (q := 17) h dX1_clone_16 rfl ?_
    exact x_iret h hr dX1_clone_17 (by omega) (⟨by unfold sClone; rw [if_pos (by omega)], by unfold sClone; rw [if_pos (by omega)]; exact fun _ _ _ => rfl⟩)
  · refine x_aload_n (q := 9) h dX1_clone_8 rfl rfl rfl ?_
    refine x_iload_n (q := 10) h dX1_clone_9 rfl rfl rfl ?_
    refine x_calli (q := 13) (xs := [w]) (st := []) h (mX1_isVolume w (by omega)) lkX1_isVolume rfl (by decide) (by decide) dX1_clone_10 rfl (by simp) rfl (fun z10 τ10 s10 r10 p10 => ?_)
    obtain ⟨rfl, p10⟩ := p10
    refine x_if_ne (tgt := 18) (q := 16) h dX1_clone_13 (by decide) rfl (by omega) (fun c13 => ?_) (fun c13 => ?_)
    · refine x_aload_n (q := 19) h dX1_clone_18 rfl rfl rfl ?_
      refine x_callv (q := 22) (xs := []) (st := []) h (mX1_keep) lkX1_keep rfl (by decide) (by decide) dX1_clone_19 rfl (by simp) rfl (fun τ18 s19 p19 => ?_)
      obtain ⟨k1, k2⟩ := p19
      refine x_iconst (q := 23) h dX1_clone_22 rfl ?_
      refine x_istore_n (q := 24) (vs' := [.inr 0, .inl v, .inl w, .inl 0]) h dX1_clone_23 rfl (by decide) (Nat.le_of_ble_eq_true rfl) rfl rfl ?_
      refine x_iconst (q := 25) h dX1_clone_24 rfl ?_
      refine x_istore (q := 27) (vs' := [.inr 0, .inl v, .inl w, .inl 0, .inl 0]) h dX1_clone_25 (by decide) (Nat.le_of_ble_eq_true rfl) rfl rfl ?_
      refine lpX1_clone (f := τ 0) hc (by omega) (by omega) ?_ h hr ?_ 9 0 _ _ τ18 (by omega) (by omega) (by omega) k2 ?_ rfl
      · unfold sClone at hu
        rw [if_neg (by omega)] at hu
        exact hu
      · intro r τ' a1 a2
        unfold sClone
        rw [if_neg (by omega)]
        exact ⟨a1, a2⟩
      · intro j a b
        rw [k1]
        unfold cpV
        rw [if_neg (by omega)]
    · refine x_iconst (q := 17) h dX1_clone_16 rfl ?_
      exact x_iret h hr dX1_clone_17 (by omega) (⟨by unfold sClone; rw [if_pos (by omega)], by unfold sClone; rw [if_pos (by omega)]; exact fun _ _ _ => rfl⟩)

theorem dX1_aloneIn_0 : decode cX1_aloneIn 0 = .ok (.aload_n 0, 1) := by decide +kernel
theorem dX1_aloneIn_1 : decode cX1_aloneIn 1 = .ok (.iload_n 1, 1) := by decide +kernel
theorem dX1_aloneIn_2 : decode cX1_aloneIn 2 = .ok (.invokevirtual 34, 3) := by decide +kernel
theorem dX1_aloneIn_5 : decode cX1_aloneIn 5 = .ok (.ifCond .ne 5, 3) := by decide +kernel
theorem dX1_aloneIn_8 : decode cX1_aloneIn 8 = .ok (.iconst (-1), 1) := by decide +kernel
theorem dX1_aloneIn_9 : decode cX1_aloneIn 9 = .ok (.ireturn, 1) := by decide +kernel
theorem dX1_aloneIn_10 : decode cX1_aloneIn 10 = .ok (.aload_n 0, 1) := by decide +kernel
theorem dX1_aloneIn_11 : decode cX1_aloneIn 11 = .ok (.invokevirtual 16, 3) := by decide +kernel
theorem dX1_aloneIn_14 : decode cX1_aloneIn 14 = .ok (.istore_n 2, 1) := by decide +kernel
theorem dX1_aloneIn_15 : decode cX1_aloneIn 15 = .ok (.aload_n 0, 1) := by decide +kernel
theorem dX1_aloneIn_16 : decode cX1_aloneIn 16 = .ok (.invokevirtual 27, 3) := by decide +kernel
theorem dX1_aloneIn_19 : decode cX1_aloneIn 19 = .ok (.aload_n 0, 1) := by decide +kernel
theorem dX1_aloneIn_20 : decode cX1_aloneIn 20 = .ok (.iload_n 1, 1) := by decide +kernel
theorem dX1_aloneIn_21 : decode cX1_aloneIn 21 = .ok (.invokevirtual 47, 3) := by decide +kernel
theorem dX1_aloneIn_24 : decode cX1_aloneIn 24 = .ok (.pop, 1) := by decide +kernel
theorem dX1_aloneIn_25 : decode cX1_aloneIn 25 = .ok (.aload_n 0, 1) := by decide +kernel
theorem dX1_aloneIn_26 : decode cX1_aloneIn 26 = .ok (.invokevirtual 16, 3) := by decide +kernel
theorem dX1_aloneIn_29 : decode cX1_aloneIn 29 = .ok (.istore_n 3, 1) := by decide +kernel
theorem dX1_aloneIn_30 : decode cX1_aloneIn 30 = .ok (.iconst 0, 1) := by decide +kernel
theorem dX1_aloneIn_31 : decode cX1_aloneIn 31 = .ok (.istore 4, 2) := by decide +kernel
theorem dX1_aloneIn_33 : decode cX1_aloneIn 33 = .ok (.iload 4, 2) := by decide +kernel
theorem dX1_aloneIn_35 : decode cX1_aloneIn 35 = .ok (.bipush 32, 2) := by decide +kernel
theorem dX1_aloneIn_37 : decode cX1_aloneIn 37 = .ok (.if_icmp .ge 23, 3) := by decide +kernel
theorem dX1_aloneIn_40 : decode cX1_aloneIn 40 = .ok (.aload_n 0, 1) := by decide +kernel
theorem dX1_aloneIn_41 : decode cX1_aloneIn 41 = .ok (.getfield 7, 3) := by decide +kernel
theorem dX1_aloneIn_44 : decode cX1_aloneIn 44 = .ok (.iload 4, 2) := by decide +kernel
theorem dX1_aloneIn_46 : decode cX1_aloneIn 46 = .ok (.aload_n 0, 1) := by decide +kernel
theorem dX1_aloneIn_47 : decode cX1_aloneIn 47 = .ok (.getfield 13, 3) := by decide +kernel
theorem dX1_aloneIn_50 : decode cX1_aloneIn 50 = .ok (.iload 4, 2) := by decide +kernel
theorem dX1_aloneIn_52 : decode cX1_aloneIn 52 = .ok (.iaload, 1) := by decide +kernel
theorem dX1_aloneIn_53 : decode cX1_aloneIn 53 = .ok (.iastore, 1) := by decide +kernel
theorem dX1_aloneIn_54 : decode cX1_aloneIn 54 = .ok (.iinc 4 1, 3) := by decide +kernel
theorem dX1_aloneIn_57 : decode cX1_aloneIn 57 = .ok (.goto (-24), 3) := by decide +kernel
theorem dX1_aloneIn_60 : decode cX1_aloneIn 60 = .ok (.iload_n 2, 1) := by decide +kernel
theorem dX1_aloneIn_61 : decode cX1_aloneIn 61 = .ok (.iload_n 3, 1) := by decide +kernel
theorem dX1_aloneIn_62 : decode cX1_aloneIn 62 = .ok (.isub, 1) := by decide +kernel
theorem dX1_aloneIn_63 : decode cX1_aloneIn 63 = .ok (.ireturn, 1) := by decide +kernel
set_option maxHeartbeats 4000000 in
theorem lpX1_aloneIn {M : Mx} {f : Int → Int} {v u1 u2 : Int} {Po : Int → St → Prop} (hu1 : 0 ≤ u1 ∧ u1 ≤ 160) (hu2 : 0 ≤ u2 ∧ u2 ≤ 160) (h : Cx 1 M cX1_aloneIn 5 2) (hr : RtI 1 M .int Po) (hp : ∀ τ', eqC (τ' 0) f → Po (u1 - u2) τ') : ∀ (k : Nat) (x : Int) (τ : St), 0 ≤ x → x ≤ 32 → 32 - x < k → eqC (τ 1) f → (∀ j : Int, 0 ≤ j → j < x → τ 0 j = f j) → WX 1 M 33 [.inr 0, .inl v, .inl u1, .inl u2, .inl x] [] τ := by
  intro k
  induction k with
  | zero => intro x τ h1 h2 h3; omega
  | succ k ih =>
    intro x τ h0 hx hk h1 h2
    refine x_iload (q := 35) h dX1_aloneIn_33 rfl rfl ?_
    refine x_bipush (q := 37) h dX1_aloneIn_35 rfl (by decide) ?_
    refine x_icmp_ge (tgt := 60) (q := 40) h dX1_aloneIn_37 (by decide) rfl (by omega) (by omega) (fun c37 => ?_) (fun c37 => ?_)
    · refine x_iload_n (q := 61) h dX1_aloneIn_60 rfl rfl rfl ?_
      refine x_iload_n (q := 62) h dX1_aloneIn_61 rfl rfl rfl ?_
      refine x_isub (q := 63) h dX1_aloneIn_62 rfl ?_
      exact x_iret h hr dX1_aloneIn_63 (by omega) (hp _ (fun j a b => h2 j a (by omega)))
    · refine x_aload_n (q := 41) h dX1_aloneIn_40 rfl rfl rfl ?_
      refine x1_geta (k := 0) (q := 44) h rfl q217 dX1_aloneIn_41 rfl ?_
      refine x_iload (q := 46) h dX1_aloneIn_44 rfl rfl ?_
      refine x_aload_n (q := 47) h dX1_aloneIn_46 rfl rfl rfl ?_
      refine x1_geta (k := 1) (q := 50) h rfl q218 dX1_aloneIn_47 rfl ?_
      refine x_iload (q := 52) h dX1_aloneIn_50 rfl rfl ?_
      refine x_iald (k := 1) (n := 32) (q := 53) h rfl dX1_aloneIn_52 rfl (by omega) (fun v52 e52 l52 u52 => ?_)
      refine x_iast (k := 0) (n := 32) (q := 54) h rfl dX1_aloneIn_53 rfl (by omega) (by omega) ?_
      refine x_iinc (q := 57) (vs' := [.inr 0, .inl v, .inl u1, .inl u2, .inl (x + 1)]) h dX1_aloneIn_54 (by decide) rfl rfl rfl ?_
      refine x_goto (tgt := 33) h dX1_aloneIn_57 (by decide) ?_
      refine ih (x + 1) _ (by omega) (by omega) (by omega) (by rw [up_fne (by decide)]; exact h1) ?_
      intro j a b
      rw [up_if]
      by_cases e : j = x
      · rw [if_pos e, e52, e, h1 x (by omega) (by omega)]
      · rw [if_neg e]; exact h2 j a (by omega)
set_option maxHeartbeats 4000000 in
theorem mX1_aloneIn {τ : St} (v : Int) (r_v : -2147483648 ≤ v ∧ v ≤ 2147483647) (hc : okC (τ 0)) : CtI 1 yX1_aloneIn cX1_aloneIn 5 2 .int [v] τ (fun r τ' => r = sAloneIn (τ 0) v ∧ eqC (τ' 0) (τ 0)) := by
  refine CtI.of (by decide) rfl (Nat.le_of_ble_eq_true rfl) (fun M h hr => ?_)
  show WX 1 M 0 [.inr 0, .inl v] [] τ
  refine x_aload_n (q := 1) h dX1_aloneIn_0 rfl rfl rfl ?_
  refine x_iload_n (q := 2) h dX1_aloneIn_1 rfl rfl rfl ?_
  refine x_calli (q := 5) (xs := [v]) (st := []) h (mX1_isVolume v (by omega)) lkX1_isVolume rfl (by decide) (by decide) dX1_aloneIn_2 rfl (by simp) rfl (fun z2 τ2 s2 r2 p2 => ?_)
  obtain ⟨rfl, p2⟩ := p2
  refine x_if_ne (tgt := 10) (q := 8) h dX1_aloneIn_5 (by decide) rfl (by omega) (fun c5 => ?_) (fun c5 => ?_)
  · refine x_aload_n (q := 11) h dX1_aloneIn_10 rfl rfl rfl ?_
    refine x_calli (q := 14) (xs := []) (st := []) h (mX1_used hc) lkX1_used rfl (by decide) (by decide) dX1_aloneIn_11 rfl (by simp) rfl (fun z11 τ11 s11 r11 p11 => ?_)
    obtain ⟨rfl, p11⟩ := p11
    have g11 := used_rg (τ 0)
    refine x_istore_n (q := 15) (vs' := [.inr 0, .inl v, .inl z11]) h dX1_aloneIn_14 rfl (by decide) (Nat.le_of_ble_eq_true rfl) rfl rfl ?_
    refine x_aload_n (q := 16) h dX1_aloneIn_15 rfl rfl rfl ?_
    refine x_callv (q := 19) (xs := []) (st := []) h (mX1_keep) lkX1_keep rfl (by decide) (by decide) dX1_aloneIn_16 rfl (by simp) rfl (fun τ16 s16 p16 => ?_)
    obtain ⟨k1, k2⟩ := p16
    refine x_aload_n (q := 20) h dX1_aloneIn_19 rfl rfl rfl ?_
    refine x_iload_n (q := 21) h dX1_aloneIn_20 rfl rfl rfl ?_
    refine x_calli (q := 24) (xs := [v]) (st := []) h (mX1_erase v (by omega)) lkX1_erase rfl (by decide) (by decide) dX1_aloneIn_21 rfl (by simp) rfl (fun z21 τ21 s21 r21 p21 => ?_)
    obtain ⟨q1, q2, q3⟩ := p21
    unfold sErase at q2
    rw [if_neg (by omega), k1] at q2
    have q2 : eqC (τ21 0) (fil (τ 0) (8 * v) (8 * v + 8) 0) := q2
    refine x_pop (q := 25) h dX1_aloneIn_24 rfl ?_
    refine x_aload_n (q := 26) h dX1_aloneIn_25 rfl rfl rfl ?_
    refine x_calli (q := 29) (xs := []) (st := []) h (mX1_used (okC_congr q2 (okC_fil hc (by decide)))) lkX1_used rfl (by decide) (by decide) dX1_aloneIn_26 rfl (by simp) rfl (fun z26 τ26 s26 r26 p26 => ?_)
    obtain ⟨rfl, p26⟩ := p26
    have g26 := used_rg (τ21 0)
    refine x_istore_n (q := 30) (vs' := [.inr 0, .inl v, .inl z11, .inl z26]) h dX1_aloneIn_29 rfl (by decide) (Nat.le_of_ble_eq_true rfl) rfl rfl ?_
    refine x_iconst (q := 31) h dX1_aloneIn_30 rfl ?_
    refine x_istore (q := 33) (vs' := [.inr 0, .inl v, .inl z11, .inl z26, .inl 0]) h dX1_aloneIn_31 (by decide) (Nat.le_of_ble_eq_true rfl) rfl rfl ?_
    refine lpX1_aloneIn (f := τ 0) (by omega) (by omega) h hr ?_ 33 0 τ21 (by omega) (by omega) (by omega) (by rw [q3]; exact k2) (fun j a b => by omega)
    intro τ' a1
    exact ⟨by unfold sAloneIn; rw [if_neg (by omega), p11, p26, used_congr q2], a1⟩
  · refine x_iconst (q := 9) h dX1_aloneIn_8 rfl ?_
    exact x_iret h hr dX1_aloneIn_9 (by omega) (⟨by unfold sAloneIn; rw [if_pos (by omega)], fun _ _ _ => rfl⟩)

theorem dX1_twin_0 : decode cX1_twin 0 = .ok (.aload_n 0, 1) := by decide +kernel
theorem dX1_twin_1 : decode cX1_twin 1 = .ok (.iload_n 1, 1) := by decide +kernel
theorem dX1_twin_2 : decode cX1_twin 2 = .ok (.invokevirtual 20, 3) := by decide +kernel
theorem dX1_twin_5 : decode cX1_twin 5 = .ok (.ifCond .ne 5, 3) := by decide +kernel
theorem dX1_twin_8 : decode cX1_twin 8 = .ok (.iconst (-1), 1) := by decide +kernel
theorem dX1_twin_9 : decode cX1_twin 9 = .ok (.ireturn, 1) := by decide +kernel
theorem dX1_twin_10 : decode cX1_twin 10 = .ok (.iconst 0, 1) := by decide +kernel
theorem dX1_twin_11 : decode cX1_twin 11 = .ok (.istore_n 2, 1) := by decide +kernel
theorem dX1_twin_12 : decode cX1_twin 12 = .ok (.iload_n 2, 1) := by decide +kernel
theorem dX1_twin_13 : decode cX1_twin 13 = .ok (.bipush 32, 2) := by decide +kernel
theorem dX1_twin_15 : decode cX1_twin 15 = .ok (.if_icmp .ge 31, 3) := by decide +kernel
theorem dX1_twin_18 : decode cX1_twin 18 = .ok (.iload_n 2, 1) := by decide +kernel
theorem dX1_twin_19 : decode cX1_twin 19 = .ok (.iload_n 1, 1) := by decide +kernel
theorem dX1_twin_20 : decode cX1_twin 20 = .ok (.if_icmp .eq 20, 3) := by decide +kernel
theorem dX1_twin_23 : decode cX1_twin 23 = .ok (.aload_n 0, 1) := by decide +kernel
theorem dX1_twin_24 : decode cX1_twin 24 = .ok (.getfield 7, 3) := by decide +kernel
theorem dX1_twin_27 : decode cX1_twin 27 = .ok (.iload_n 2, 1) := by decide +kernel
theorem dX1_twin_28 : decode cX1_twin 28 = .ok (.iaload, 1) := by decide +kernel
theorem dX1_twin_29 : decode cX1_twin 29 = .ok (.aload_n 0, 1) := by decide +kernel
theorem dX1_twin_30 : decode cX1_twin 30 = .ok (.getfield 7, 3) := by decide +kernel
theorem dX1_twin_33 : decode cX1_twin 33 = .ok (.iload_n 1, 1) := by decide +kernel
theorem dX1_twin_34 : decode cX1_twin 34 = .ok (.iaload, 1) := by decide +kernel
theorem dX1_twin_35 : decode cX1_twin 35 = .ok (.if_icmp .ne 5, 3) := by decide +kernel
theorem dX1_twin_38 : decode cX1_twin 38 = .ok (.iload_n 2, 1) := by decide +kernel
theorem dX1_twin_39 : decode cX1_twin 39 = .ok (.ireturn, 1) := by decide +kernel
theorem dX1_twin_40 : decode cX1_twin 40 = .ok (.iinc 2 1, 3) := by decide +kernel
theorem dX1_twin_43 : decode cX1_twin 43 = .ok (.goto (-31), 3) := by decide +kernel
theorem dX1_twin_46 : decode cX1_twin 46 = .ok (.bipush (-4), 2) := by decide +kernel
theorem dX1_twin_48 : decode cX1_twin 48 = .ok (.ireturn, 1) := by decide +kernel
set_option maxHeartbeats 4000000 in
theorem lpX1_twin {M : Mx} {τ : St} {n : Int} (hn : 0 ≤ n ∧ n ≤ 31) (h : Cx 1 M cX1_twin 3 1) (hr : RtI 1 M .int (fun r τ' => τ = τ' ∧ isTwin (τ 0) n r)) : ∀ (k : Nat) (x : Int), 0 ≤ x → x ≤ 32 → 32 - x < k → (∀ j : Int, 0 ≤ j → j < x → j ≠ n → τ 0 j ≠ τ 0 n) → WX 1 M 12 [.inr 0, .inl n, .inl x] [] τ := by
  intro k
  induction k with
  | zero => intro x h1 h2 h3; omega
  | succ k ih =>
    intro x h0 hx hk h2
    refine x_iload_n (q := 13) h dX1_twin_12 rfl rfl rfl ?_
    refine x_bipush (q := 15) h dX1_twin_13 rfl (by decide) ?_
    refine x_icmp_ge (tgt := 46) (q := 18) h dX1_twin_15 (by decide) rfl (by omega) (by omega) (fun c15 => ?_) (fun c15 => ?_)
    · refine x_bipush (q := 48) h dX1_twin_46 rfl (by decide) ?_
      exact x_iret h hr dX1_twin_48 (by omega) (⟨rfl, Or.inl ⟨rfl, fun j a b => h2 j a (by omega)⟩⟩)
    · refine x_iload_n (q := 19) h dX1_twin_18 rfl rfl rfl ?_
      refine x_iload_n (q := 20) h dX1_twin_19 rfl rfl rfl ?_
      refine x_icmp_eq (tgt := 40) (q := 23) h dX1_twin_20 (by decide) rfl (by omega) (by omega) (fun c20 => ?_) (fun c20 => ?_)
      · refine x_iinc (q := 43) (vs' := [.inr 0, .inl n, .inl (x + 1)]) h dX1_twin_40 (by decide) rfl rfl rfl ?_
        refine x_goto (tgt := 12) h dX1_twin_43 (by decide) ?_
        refine ih (x + 1) (by omega) (by omega) (by omega) ?_
        intro j a b hj
        by_cases e : j = x
        · subst e
          first | exact absurd c20 hj | (rw [← e28, ← e34]; exact c35)
        · exact h2 j a (by omega) hj
      · refine x_aload_n (q := 24) h dX1_twin_23 rfl rfl rfl ?_
        refine x1_geta (k := 0) (q := 27) h rfl q217 dX1_twin_24 rfl ?_
        refine x_iload_n (q := 28) h dX1_twin_27 rfl rfl rfl ?_
        refine x_iald (k := 0) (n := 32) (q := 29) h rfl dX1_twin_28 rfl (by omega) (fun v28 e28 l28 u28 => ?_)
        refine x_aload_n (q := 30) h dX1_twin_29 rfl rfl rfl ?_
        refine x1_geta (k := 0) (q := 33) h rfl q217 dX1_twin_30 rfl ?_
        refine x_iload_n (q := 34) h dX1_twin_33 rfl rfl rfl ?_
        refine x_iald (k := 0) (n := 32) (q := 35) h rfl dX1_twin_34 rfl (by omega) (fun v34 e34 l34 u34 => ?_)
        refine x_icmp_ne (tgt := 40) (q := 38) h dX1_twin_35 (by decide) rfl (by omega) (by omega) (fun c35 => ?_) (fun c35 => ?_)
        · refine x_iinc (q := 43) (vs' := [.inr 0, .inl n, .inl (x + 1)]) h dX1_twin_40 (by decide) rfl rfl rfl ?_
          refine x_goto (tgt := 12) h dX1_twin_43 (by decide) ?_
          refine ih (x + 1) (by omega) (by omega) (by omega) ?_
          intro j a b hj
          by_cases e : j = x
          · subst e
            first | exact absurd c20 hj | (rw [← e28, ← e34]; exact c35)
          · exact h2 j a (by omega) hj
        · refine x_iload_n (q := 39) h dX1_twin_38 rfl rfl rfl ?_
          exact x_iret h hr dX1_twin_39 (by omega) (⟨rfl, Or.inr ⟨by omega, by omega, c20, by rw [← e28, ← e34]; exact c35, h2⟩⟩)
set_option maxHeartbeats 4000000 in
theorem mX1_twin {τ : St} (n : Int) (r_n : -2147483648 ≤ n ∧ n ≤ 2147483647) : CtI 1 yX1_twin cX1_twin 3 1 .int [n] τ (fun r τ' => τ = τ' ∧ (((n < 0 ∨ 31 < n) ∧ r = -1) ∨ (0 ≤ n ∧ n ≤ 31 ∧ isTwin (τ 0) n r))) := by
  refine CtI.of (by decide) rfl (Nat.le_of_ble_eq_true rfl) (fun M h hr => ?_)
  show WX 1 M 0 [.inr 0, .inl n] [] τ
  refine x_aload_n (q := 1) h dX1_twin_0 rfl rfl rfl ?_
  refine x_iload_n (q := 2) h dX1_twin_1 rfl rfl rfl ?_
  refine x_calli (q := 5) (xs := [n]) (st := []) h (mX1_isBlock n (by omega)) lkX1_isBlock rfl (by decide) (by decide) dX1_twin_2 rfl (by simp) rfl (fun z2 τ2 s2 r2 p2 => ?_)
  obtain ⟨rfl, p2⟩ := p2
  refine x_if_ne (tgt := 10) (q := 8) h dX1_twin_5 (by decide) rfl (by omega) (fun c5 => ?_) (fun c5 => ?_)
  · refine x_iconst (q := 11) h dX1_twin_10 rfl ?_
    refine x_istore_n (q := 12) (vs' := [.inr 0, .inl n, .inl 0]) h dX1_twin_11 rfl (by decide) (Nat.le_of_ble_eq_true rfl) rfl rfl ?_
    refine lpX1_twin (by omega) h ?_ 33 0 (by omega) (by omega) (by omega) (fun j a b => by omega)
    have e9 : (fun (r : Int) (τ' : St) => τ = τ' ∧ isTwin (τ 0) n r) = fun r τ' => τ = τ' ∧ (((n < 0 ∨ 31 < n) ∧ r = -1) ∨ (0 ≤ n ∧ n ≤ 31 ∧ isTwin (τ 0) n r)) := by
      funext r τ'
      apply propext
      constructor
      · exact fun q => ⟨q.1, Or.inr ⟨by omega, by omega, q.2⟩⟩
      · rintro ⟨q1, q2 | q2⟩
        · omega
        · exact ⟨q1, q2.2.2⟩
    rw [e9]
    exact hr
  · refine x_iconst (q := 9) h dX1_twin_8 rfl ?_
    exact x_iret h hr dX1_twin_9 (by omega) (⟨rfl, Or.inl ⟨by omega, rfl⟩⟩)

theorem dX1_favourite_0 : decode cX1_favourite 0 = .ok (.bipush (-4), 2) := by decide +kernel
theorem dX1_favourite_2 : decode cX1_favourite 2 = .ok (.istore_n 1, 1) := by decide +kernel
theorem dX1_favourite_3 : decode cX1_favourite 3 = .ok (.iconst 0, 1) := by decide +kernel
theorem dX1_favourite_4 : decode cX1_favourite 4 = .ok (.istore_n 2, 1) := by decide +kernel
theorem dX1_favourite_5 : decode cX1_favourite 5 = .ok (.iconst 0, 1) := by decide +kernel
theorem dX1_favourite_6 : decode cX1_favourite 6 = .ok (.istore_n 3, 1) := by decide +kernel
theorem dX1_favourite_7 : decode cX1_favourite 7 = .ok (.iload_n 3, 1) := by decide +kernel
theorem dX1_favourite_8 : decode cX1_favourite 8 = .ok (.bipush 32, 2) := by decide +kernel
theorem dX1_favourite_10 : decode cX1_favourite 10 = .ok (.if_icmp .ge 54, 3) := by decide +kernel
theorem dX1_favourite_13 : decode cX1_favourite 13 = .ok (.aload_n 0, 1) := by decide +kernel
theorem dX1_favourite_14 : decode cX1_favourite 14 = .ok (.getfield 7, 3) := by decide +kernel
theorem dX1_favourite_17 : decode cX1_favourite 17 = .ok (.iload_n 3, 1) := by decide +kernel
theorem dX1_favourite_18 : decode cX1_favourite 18 = .ok (.iaload, 1) := by decide +kernel
theorem dX1_favourite_19 : decode cX1_favourite 19 = .ok (.istore 4, 2) := by decide +kernel
theorem dX1_favourite_21 : decode cX1_favourite 21 = .ok (.aload_n 0, 1) := by decide +kernel
theorem dX1_favourite_22 : decode cX1_favourite 22 = .ok (.iload 4, 2) := by decide +kernel
theorem dX1_favourite_24 : decode cX1_favourite 24 = .ok (.invokevirtual 37, 3) := by decide +kernel
theorem dX1_favourite_27 : decode cX1_favourite 27 = .ok (.istore 5, 2) := by decide +kernel
theorem dX1_favourite_29 : decode cX1_favourite 29 = .ok (.iload 4, 2) := by decide +kernel
theorem dX1_favourite_31 : decode cX1_favourite 31 = .ok (.ifCond .eq 27, 3) := by decide +kernel
theorem dX1_favourite_34 : decode cX1_favourite 34 = .ok (.iload 5, 2) := by decide +kernel
theorem dX1_favourite_36 : decode cX1_favourite 36 = .ok (.iload_n 2, 1) := by decide +kernel
theorem dX1_favourite_37 : decode cX1_favourite 37 = .ok (.if_icmp .gt 15, 3) := by decide +kernel
theorem dX1_favourite_40 : decode cX1_favourite 40 = .ok (.iload 5, 2) := by decide +kernel
theorem dX1_favourite_42 : decode cX1_favourite 42 = .ok (.iload_n 2, 1) := by decide +kernel
theorem dX1_favourite_43 : decode cX1_favourite 43 = .ok (.if_icmp .ne 15, 3) := by decide +kernel
theorem dX1_favourite_46 : decode cX1_favourite 46 = .ok (.iload 4, 2) := by decide +kernel
theorem dX1_favourite_48 : decode cX1_favourite 48 = .ok (.iload_n 1, 1) := by decide +kernel
theorem dX1_favourite_49 : decode cX1_favourite 49 = .ok (.if_icmp .ge 9, 3) := by decide +kernel
theorem dX1_favourite_52 : decode cX1_favourite 52 = .ok (.iload 4, 2) := by decide +kernel
theorem dX1_favourite_54 : decode cX1_favourite 54 = .ok (.istore_n 1, 1) := by decide +kernel
theorem dX1_favourite_55 : decode cX1_favourite 55 = .ok (.iload 5, 2) := by decide +kernel
theorem dX1_favourite_57 : decode cX1_favourite 57 = .ok (.istore_n 2, 1) := by decide +kernel
theorem dX1_favourite_58 : decode cX1_favourite 58 = .ok (.iinc 3 1, 3) := by decide +kernel
theorem dX1_favourite_61 : decode cX1_favourite 61 = .ok (.goto (-54), 3) := by decide +kernel
theorem dX1_favourite_64 : decode cX1_favourite 64 = .ok (.iload_n 1, 1) := by decide +kernel
theorem dX1_favourite_65 : decode cX1_favourite 65 = .ok (.ireturn, 1) := by decide +kernel
/-- the best of the blocks up to x -/
def favX (f : Int → Int) (x best most : Int) : Prop := (best = -4 ∧ most = 0 ∧ ∀ j : Int, 0 ≤ j → j < x → f j = 0) ∨ (1 ≤ best ∧ best ≤ 4095 ∧ 0 < most ∧ most ≤ 32 ∧ most = cnt f best 32 ∧ ∀ j : Int, 0 ≤ j → j < x → f j ≠ 0 → cnt f (f j) 32 < most ∨ (cnt f (f j) 32 = most ∧ best ≤ f j))
theorem fav_end {f : Int → Int} {x best most : Int} (h : favX f x best most) (hx : 32 ≤ x) : isFav f best := by
  rcases h with ⟨h1, h2, h3⟩ | ⟨h1, h1b, h2, h2b, h3, h4⟩
  · exact Or.inl ⟨h1, fun j a b => h3 j a (by omega)⟩
  · refine Or.inr ⟨by omega, by omega, fun j a b hj => ?_⟩
    rw [← h3]
    exact h4 j a (by omega) hj
theorem fav_step {f : Int → Int} {x best most v z best' most' : Int} (h : favX f x best most) (ev : v = f x) (ez : z = cnt f v 32) (hx0 : 0 ≤ x) (hv : 0 ≤ v ∧ v ≤ 4095) (hz : 0 < z ∧ z ≤ 32) (hb : (v ≠ 0 ∧ (most < z ∨ (z = most ∧ v < best)) ∧ best' = v ∧ most' = z) ∨ (best' = best ∧ most' = most ∧ (v = 0 ∨ z < most ∨ (z = most ∧ best ≤ v)))) : favX f (x + 1) best' most' := by
  rcases hb with ⟨b1, b2, b3, b4⟩ | ⟨b1, b2, b3⟩
  · subst b3
    subst b4
    refine Or.inr ⟨by omega, by omega, by omega, by omega, ez, fun j a b hj => ?_⟩
    by_cases e : j = x
    · subst e
      rw [← ev, ← ez]
      exact Or.inr ⟨rfl, Int.le_refl _⟩
    · rcases h with ⟨h1, h2, h3⟩ | ⟨h1, h1b, h2, h2b, h3, h4⟩
      · exact absurd (h3 j a (by omega)) hj
      · have := h4 j a (by omega) hj
        omega
  · subst b1
    subst b2
    rcases h with ⟨h1, h2, h3⟩ | ⟨h1, h1b, h2, h2b, h3, h4⟩
    · refine Or.inl ⟨h1, h2, fun j a b => ?_⟩
      by_cases e : j = x
      · subst e; omega
      · exact h3 j a (by omega)
    · refine Or.inr ⟨h1, h1b, h2, h2b, h3, fun j a b hj => ?_⟩
      by_cases e : j = x
      · subst e
        rw [← ev] at hj ⊢
        rw [← ez]
        omega
      · exact h4 j a (by omega) hj
set_option maxHeartbeats 4000000 in
theorem lpX1_favourite {M : Mx} {τ : St} (hc : okC (τ 0)) (h : Cx 1 M cX1_favourite 6 1) (hr : RtI 1 M .int (fun r τ' => τ = τ' ∧ isFav (τ 0) r)) : ∀ (k : Nat) (x best most : Int), 0 ≤ x → x ≤ 32 → 32 - x < k → favX (τ 0) x best most → WX 1 M 7 [.inr 0, .inl best, .inl most, .inl x] [] τ := by
  intro k
  induction k with
  | zero => intro x best most h1 h2 h3; omega
  | succ k ih =>
    intro x best most h0 hx hk h2
    have hbm : -4 ≤ best ∧ best ≤ 4095 ∧ 0 ≤ most ∧ most ≤ 32 := by
      rcases h2 with ⟨h1, h2, h3⟩ | ⟨h1, h1b, h2, h2b, h3, h4⟩ <;> omega
    have hcx := hc x
    have hpx := fun (q : x < 32) => cnt_pos (f := τ 0) (z := τ 0 x) (n := 32) h0 q rfl
    refine x_iload_n (q := 8) h dX1_favourite_7 rfl rfl rfl ?_
    refine x_bipush (q := 10) h dX1_favourite_8 rfl (by decide) ?_
    refine x_icmp_ge (tgt := 64) (q := 13) h dX1_favourite_10 (by decide) rfl (by omega) (by omega) (fun c10 => ?_) (fun c10 => ?_)
    · refine x_iload_n (q := 65) h dX1_favourite_64 rfl rfl rfl ?_
      exact x_iret h hr dX1_favourite_65 (by omega) (⟨rfl, fav_end h2 (by omega)⟩)
    · refine x_aload_n (q := 14) h dX1_favourite_13 rfl rfl rfl ?_
      refine x1_geta (k := 0) (q := 17) h rfl q217 dX1_favourite_14 rfl ?_
      refine x_iload_n (q := 18) h dX1_favourite_17 rfl rfl rfl ?_
      refine x_iald (k := 0) (n := 32) (q := 19) h rfl dX1_favourite_18 rfl (by omega) (fun v18 e18 l18 u18 => ?_)
      refine x_istore (q := 21) (vs' := [.inr 0, .inl best, .inl most, .inl x, .inl v18]) h dX1_favourite_19 (by decide) (Nat.le_of_ble_eq_true rfl) rfl rfl ?_
      refine x_aload_n (q := 22) h dX1_favourite_21 rfl rfl rfl ?_
      refine x_iload (q := 24) h dX1_favourite_22 rfl rfl ?_
      refine x_calli (q := 27) (xs := [v18]) (st := []) h (mX1_count v18 (by omega)) lkX1_count rfl (by decide) (by decide) dX1_favourite_24 rfl (by simp) rfl (fun z24 τ24 s24 r24 p24 => ?_)
      obtain ⟨rfl, p24⟩ := p24
      have g24 := cnt_le (τ 0) v18 32
      have g24p : 0 < z24 := by rw [p24, e18]; exact hpx (by omega)
      refine x_istore (q := 29) (vs' := [.inr 0, .inl best, .inl most, .inl x, .inl v18, .inl z24]) h dX1_favourite_27 (by decide) (Nat.le_of_ble_eq_true rfl) rfl rfl ?_
      refine x_iload (q := 31) h dX1_favourite_29 rfl rfl ?_
      refine x_if_eq (tgt := 58) (q := 34) h dX1_favourite_31 (by decide) rfl (by omega) (fun c31 => ?_) (fun c31 => ?_)
      · refine x_iinc (q := 61) (vs' := [.inr 0, .inl best, .inl most, .inl (x + 1), .inl v18, .inl z24]) h dX1_favourite_58 (by decide) rfl rfl rfl ?_
        refine x_goto (tgt := 7) h dX1_favourite_61 (by decide) ?_
        refine x_drop (vs' := [.inr 0, .inl best, .inl most, .inl (x + 1)]) 4 rfl ?_
        refine ih (x + 1) _ _ (by omega) (by omega) (by omega) ?_
        exact fav_step h2 e18 p24 (by omega) (by omega) (by omega) (by omega)
      · refine x_iload (q := 36) h dX1_favourite_34 rfl rfl ?_
        refine x_iload_n (q := 37) h dX1_favourite_36 rfl rfl rfl ?_
        refine x_icmp_gt (tgt := 52) (q := 40) h dX1_favourite_37 (by decide) rfl (by omega) (by omega) (fun c37 => ?_) (fun c37 => ?_)
        · refine x_iload (q := 54) h dX1_favourite_52 rfl rfl ?_
          refine x_istore_n (q := 55) (vs' := [.inr 0, .inl v18, .inl most, .inl x, .inl v18, .inl z24]) h dX1_favourite_54 rfl (by decide) (Nat.le_of_ble_eq_true rfl) rfl rfl ?_
          refine x_iload (q := 57) h dX1_favourite_55 rfl rfl ?_
          refine x_istore_n (q := 58) (vs' := [.inr 0, .inl v18, .inl z24, .inl x, .inl v18, .inl z24]) h dX1_favourite_57 rfl (by decide) (Nat.le_of_ble_eq_true rfl) rfl rfl ?_
          refine x_iinc (q := 61) (vs' := [.inr 0, .inl v18, .inl z24, .inl (x + 1), .inl v18, .inl z24]) h dX1_favourite_58 (by decide) rfl rfl rfl ?_
          refine x_goto (tgt := 7) h dX1_favourite_61 (by decide) ?_
          refine x_drop (vs' := [.inr 0, .inl v18, .inl z24, .inl (x + 1)]) 4 rfl ?_
          refine ih (x + 1) _ _ (by omega) (by omega) (by omega) ?_
          exact fav_step h2 e18 p24 (by omega) (by omega) (by omega) (by omega)
        · refine x_iload (q := 42) h dX1_favourite_40 rfl rfl ?_
          refine x_iload_n (q := 43) h dX1_favourite_42 rfl rfl rfl ?_
          refine x_icmp_ne (tgt := 58) (q := 46) h dX1_favourite_43 (by decide) rfl (by omega) (by omega) (fun c43 => ?_) (fun c43 => ?_)
          · refine x_iinc (q := 61) (vs' := [.inr 0, .inl best, .inl most, .inl (x + 1), .inl v18, .inl z24]) h dX1_favourite_58 (by decide) rfl rfl rfl ?_
            refine x_goto (tgt := 7) h dX1_favourite_61 (by decide) ?_
            refine x_drop (vs' := [.inr 0, .inl best, .inl most, .inl (x + 1)]) 4 rfl ?_
            refine ih (x + 1) _ _ (by omega) (by omega) (by omega) ?_
            exact fav_step h2 e18 p24 (by omega) (by omega) (by omega) (by omega)
          · refine x_iload (q := 48) h dX1_favourite_46 rfl rfl ?_
            refine x_iload_n (q := 49) h dX1_favourite_48 rfl rfl rfl ?_
            refine x_icmp_ge (tgt := 58) (q := 52) h dX1_favourite_49 (by decide) rfl (by omega) (by omega) (fun c49 => ?_) (fun c49 => ?_)
            · refine x_iinc (q := 61) (vs' := [.inr 0, .inl best, .inl most, .inl (x + 1), .inl v18, .inl z24]) h dX1_favourite_58 (by decide) rfl rfl rfl ?_
              refine x_goto (tgt := 7) h dX1_favourite_61 (by decide) ?_
              refine x_drop (vs' := [.inr 0, .inl best, .inl most, .inl (x + 1)]) 4 rfl ?_
              refine ih (x + 1) _ _ (by omega) (by omega) (by omega) ?_
              exact fav_step h2 e18 p24 (by omega) (by omega) (by omega) (by omega)
            · refine x_iload (q := 54) h dX1_favourite_52 rfl rfl ?_
              refine x_istore_n (q := 55) (vs' := [.inr 0, .inl v18, .inl most, .inl x, .inl v18, .inl z24]) h dX1_favourite_54 rfl (by decide) (Nat.le_of_ble_eq_true rfl) rfl rfl ?_
              refine x_iload (q := 57) h dX1_favourite_55 rfl rfl ?_
              refine x_istore_n (q := 58) (vs' := [.inr 0, .inl v18, .inl z24, .inl x, .inl v18, .inl z24]) h dX1_favourite_57 rfl (by decide) (Nat.le_of_ble_eq_true rfl) rfl rfl ?_
              refine x_iinc (q := 61) (vs' := [.inr 0, .inl v18, .inl z24, .inl (x + 1), .inl v18, .inl z24]) h dX1_favourite_58 (by decide) rfl rfl rfl ?_
              refine x_goto (tgt := 7) h dX1_favourite_61 (by decide) ?_
              refine x_drop (vs' := [.inr 0, .inl v18, .inl z24, .inl (x + 1)]) 4 rfl ?_
              refine ih (x + 1) _ _ (by omega) (by omega) (by omega) ?_
              exact fav_step h2 e18 p24 (by omega) (by omega) (by omega) (by omega)
set_option maxHeartbeats 4000000 in
theorem mX1_favourite {τ : St} (hc : okC (τ 0)) : CtI 1 yX1_favourite cX1_favourite 6 1 .int [] τ (fun r τ' => τ = τ' ∧ isFav (τ 0) r) := by
  refine CtI.of (by decide) rfl (Nat.le_of_ble_eq_true rfl) (fun M h hr => ?_)
  show WX 1 M 0 [.inr 0] [] τ
  refine x_bipush (q := 2) h dX1_favourite_0 rfl (by decide) ?_
  refine x_istore_n (q := 3) (vs' := [.inr 0, .inl (-4)]) h dX1_favourite_2 rfl (by decide) (Nat.le_of_ble_eq_true rfl) rfl rfl ?_
  refine x_iconst (q := 4) h dX1_favourite_3 rfl ?_
  refine x_istore_n (q := 5) (vs' := [.inr 0, .inl (-4), .inl 0]) h dX1_favourite_4 rfl (by decide) (Nat.le_of_ble_eq_true rfl) rfl rfl ?_
  refine x_iconst (q := 6) h dX1_favourite_5 rfl ?_
  refine x_istore_n (q := 7) (vs' := [.inr 0, .inl (-4), .inl 0, .inl 0]) h dX1_favourite_6 rfl (by decide) (Nat.le_of_ble_eq_true rfl) rfl rfl ?_
  exact lpX1_favourite hc h hr 33 0 _ _ (by omega) (by omega) (by omega) (Or.inl ⟨rfl, rfl, fun j a b => by omega⟩)

theorem dX1_tidy_0 : decode cX1_tidy 0 = .ok (.return_, 1) := by decide +kernel
set_option maxHeartbeats 4000000 in
theorem mX1_tidy {τ : St} : CtV 1 yX1_tidy cX1_tidy 1 0 [] τ (fun τ' => τ = τ') := by
  refine CtV.of (by decide) rfl (Nat.le_of_ble_eq_true rfl) (fun M h hr => ?_)
  show WX 1 M 0 [.inr 0] [] τ
  exact x_vret h hr dX1_tidy_0 (rfl)
end
section
/-! packed contents: the cells of a content, and how they are read back -/
set_option maxRecDepth 100000
def bf (z : Int) (i : Nat) : Int := match i with
  | 0 => -1
  | i + 1 => dgt z i
def psz (z : Int) : Nat → Int
  | 0 => 1
  | i + 1 => if dgt z i = bf z i then psz z i else psz z i + 1
def parr (b : Int → Int) (z : Int) : Nat → Int → Int
  | 0, j => b j
  | i + 1, j => if dgt z i = bf z i then (if j = psz z i - 1 then parr b z i j + 8 else parr b z i j) else (if j = psz z i then dgt z i + 8 else parr b z i j)
def kod (z r : Int) : Int := if r = 0 then rn z 3 else parr (fun _ => 0) z 4 r
def hsh (z : Int) : Int := z * 40503 / 2 ^ 7 % 64
theorem hsh_rg (z : Int) : 0 ≤ hsh z ∧ hsh z < 64 := by unfold hsh; omega
theorem dgt_rg (z : Int) (i : Nat) : 0 ≤ dgt z i ∧ dgt z i < 8 := by unfold dgt; omega
theorem psz_rn (z : Int) : ∀ i : Nat, psz z (i + 1) = rn z i + 1
  | 0 => by
    have h := dgt_rg z 0
    show (if dgt z 0 = bf z 0 then (1 : Int) else 1 + 1) = 1 + 1
    rw [if_neg (show ¬ dgt z 0 = bf z 0 from fun q => by have q2 : dgt z 0 = -1 := q; omega)]
  | i + 1 => by
    have h := psz_rn z i
    have e : psz z (i + 1 + 1) = if dgt z (i + 1) = bf z (i + 1) then psz z (i + 1) else psz z (i + 1) + 1 := rfl
    rw [e, h]
    simp only [rn]
    by_cases q : dgt z (i + 1) = dgt z i
    · rw [if_pos (show dgt z (i + 1) = bf z (i + 1) from q), if_pos q]
      omega
    · rw [if_neg (show ¬ dgt z (i + 1) = bf z (i + 1) from q), if_neg q]
theorem psz_rg (z : Int) (i : Nat) : 1 ≤ psz z i ∧ psz z i ≤ i + 1 := by
  cases i with
  | zero => simp [psz]
  | succ i =>
    have h := rn_rg z i
    rw [psz_rn]
    omega
theorem psz_2 (z : Int) (i : Nat) (h : dgt z i = bf z i) : 2 ≤ psz z i := by
  cases i with
  | zero =>
    have h2 := dgt_rg z 0
    simp only [bf] at h
    omega
  | succ i =>
    have h := rn_rg z i
    rw [psz_rn]
    omega
theorem parr_rg (b : Int → Int) (z : Int) : ∀ (i : Nat) (j : Int), 1 ≤ j → j < psz z i → 0 ≤ parr b z i j ∧ parr b z i j ≤ 7 + 8 * i
  | 0, j, h1, h2 => by simp only [psz] at h2; omega
  | i + 1, j, h1, h2 => by
    have ih := parr_rg b z i j h1
    have hd := dgt_rg z i
    simp only [psz] at h2
    simp only [parr]
    by_cases e : dgt z i = bf z i
    · rw [if_pos e] at h2 ⊢
      have := ih h2
      split <;> omega
    · rw [if_neg e] at h2 ⊢
      by_cases e2 : j = psz z i
      · rw [if_pos e2]; omega
      · rw [if_neg e2]
        have := ih (by omega)
        omega
theorem parr_base (b : Int → Int) (z : Int) : ∀ (i : Nat) (j : Int), 1 ≤ j → j < psz z i → parr b z i j = parr (fun _ => 0) z i j
  | 0, j, h1, h2 => by simp only [psz] at h2; omega
  | i + 1, j, h1, h2 => by
    have ih := parr_base b z i j h1
    simp only [psz] at h2
    simp only [parr]
    by_cases e : dgt z i = bf z i
    · rw [if_pos e] at h2
      rw [if_pos e, if_pos e, ih h2]
    · rw [if_neg e] at h2
      rw [if_neg e, if_neg e]
      by_cases e2 : j = psz z i
      · rw [if_pos e2, if_pos e2]
      · rw [if_neg e2, if_neg e2, ih (by omega)]
/-- where run r + 1 begins -/
def Dz (z : Int) : Nat → Int
  | 0 => 0
  | r + 1 => Dz z r + kod z (r + 1) / 8
def chk4 (p : Nat → Bool) : Bool := p 0 && p 1 && p 2 && p 3
def chkD (z : Int) : Bool := Dz z (rn z 3).toNat == 4 && chk4 (fun r => !(decide ((r : Int) < rn z 3)) || (decide (8 ≤ kod z (r + 1)) && decide (kod z (r + 1) ≤ 39) && decide (Dz z (r + 1) ≤ 4) && chk4 (fun t => !(decide (Dz z r ≤ t)) || !(decide ((t : Int) < Dz z (r + 1))) || decide (dgt z t = kod z (r + 1) % 8))))
theorem chkD_all : ∀ a : Nat, a < 64 → ∀ b : Nat, b < 64 → chkD ((64 * a + b : Nat) : Int) = true := by decide +kernel
theorem chkD_z {z : Int} (h0 : 0 ≤ z) (h1 : z ≤ 4095) : chkD z = true := by
  have h := chkD_all (z.toNat / 64) (by omega) (z.toNat % 64) (by omega)
  have e : ((64 * (z.toNat / 64) + z.toNat % 64 : Nat) : Int) = z := by omega
  rw [e] at h
  exact h
theorem chk4_at {p : Nat → Bool} (h : chk4 p = true) {r : Nat} (hr : r < 4) : p r = true := by
  simp only [chk4, Bool.and_eq_true] at h
  have hr4 : r = 0 ∨ r = 1 ∨ r = 2 ∨ r = 3 := by omega
  rcases hr4 with rfl | rfl | rfl | rfl
  · exact h.1.1.1
  · exact h.1.1.2
  · exact h.1.2
  · exact h.2
theorem D_end {z : Int} (h0 : 0 ≤ z) (h1 : z ≤ 4095) : Dz z (rn z 3).toNat = 4 := by
  have h := chkD_z h0 h1
  simp only [chkD, Bool.and_eq_true, beq_iff_eq] at h
  exact h.1
theorem D_run {z : Int} (h0 : 0 ≤ z) (h1 : z ≤ 4095) {r : Nat} (hr : (r : Int) < rn z 3) : 8 ≤ kod z (r + 1) ∧ kod z (r + 1) ≤ 39 ∧ Dz z (r + 1) ≤ 4 ∧ ∀ t : Nat, t < 4 → Dz z r ≤ t → (t : Int) < Dz z (r + 1) → dgt z t = kod z (r + 1) % 8 := by
  have h := chkD_z h0 h1
  have hr3 := rn_rg z 3
  simp only [chkD, Bool.and_eq_true] at h
  have h2 := chk4_at h.2 (r := r) (by omega)
  simp only [Bool.or_eq_true, Bool.not_eq_true', decide_eq_false_iff_not, Bool.and_eq_true, decide_eq_true_eq] at h2
  rcases h2 with h2 | ⟨⟨⟨a, b⟩, c⟩, d⟩
  · exact absurd hr h2
  · refine ⟨a, b, c, fun t ht g1 g2 => ?_⟩
    have h3 := chk4_at d (r := t) ht
    simp only [Bool.or_eq_true, Bool.not_eq_true', decide_eq_false_iff_not, decide_eq_true_eq] at h3
    rcases h3 with (h3 | h3) | h3
    · exact absurd g1 h3
    · exact absurd g2 h3
    · exact h3
theorem Dz_rg {z : Int} (h0 : 0 ≤ z) (h1 : z ≤ 4095) : ∀ r : Nat, (r : Int) ≤ rn z 3 → 0 ≤ Dz z r ∧ Dz z r ≤ 4
  | 0, _ => by simp [Dz]
  | r + 1, h => by
    have ih := Dz_rg h0 h1 r (by omega)
    have h2 := D_run h0 h1 (r := r) (by omega)
    refine ⟨?_, h2.2.2.1⟩
    simp only [Dz]
    omega
/-- a digit more -/
theorem dg_step {z : Int} {t : Nat} (h0 : 0 ≤ z) (h1 : z ≤ 4095) (ht : t < 4) : z % 2 ^ (3 * t) + dgt z t * 2 ^ (3 * t) = z % 2 ^ (3 * (t + 1)) ∧ 0 ≤ z % 2 ^ (3 * t) ∧ z % 2 ^ (3 * t) < 2 ^ (3 * t) ∧ dgt z t * 2 ^ (3 * t) < 2147483648 := by
  have ht4 : t = 0 ∨ t = 1 ∨ t = 2 ∨ t = 3 := by omega
  unfold dgt
  rcases ht4 with rfl | rfl | rfl | rfl <;> simp <;> omega
theorem dg_end {z : Int} (h0 : 0 ≤ z) (h1 : z ≤ 4095) : z % 2 ^ (3 * 4) = z := by
  simp
  omega
/-- the packed content z in the fields packed and packedSize -/
def pkd (τ : St) (z : Int) : Prop := τ 13 0 = rn z 3 + 1 ∧ ∀ i : Int, 0 ≤ i → i ≤ rn z 3 → τ 12 i = kod z i
/-- piece p lies in the log with the content z -/
def Pl (τ : St) (p z : Int) : Prop := 1 ≤ z ∧ z ≤ 4095 ∧ 0 ≤ τ 2 p ∧ τ 2 p < 10 ∧ 0 ≤ τ 3 p ∧ τ 4 p = room z ∧ τ 3 p + room z ≤ τ 6 (τ 2 p) ∧ τ 6 (τ 2 p) ≤ 8 ∧ ∀ i : Int, 0 ≤ i → i < room z → τ 5 (τ 2 p * 8 + τ 3 p + i) = kod z i
theorem room_rn {z : Int} (h : 1 ≤ z) : room z = rn z 3 + 1 := by
  unfold room
  rw [if_neg (by omega)]
theorem kod_0 (z : Int) : kod z 0 = rn z 3 := rfl
theorem kod_rg {z : Int} (h0 : 0 ≤ z) (h1 : z ≤ 4095) {i : Int} (hi : 0 ≤ i) (h : i ≤ rn z 3) : 0 ≤ kod z i ∧ kod z i ≤ 39 := by
  have h3 := rn_rg z 3
  by_cases e : i = 0
  · rw [e, kod_0]; omega
  · have h2 := D_run h0 h1 (r := (i - 1).toNat) (by omega)
    rw [show (((i - 1).toNat : Nat) : Int) + 1 = i by omega] at h2
    omega
end
section
/-! DedupBlocks: leaf methods -/
set_option maxRecDepth 100000
theorem dX0_bad_0 : decode cX0_bad 0 = .ok (.iload_n 1, 1) := by decide +kernel
theorem dX0_bad_1 : decode cX0_bad 1 = .ok (.ifCond .lt 9, 3) := by decide +kernel
theorem dX0_bad_4 : decode cX0_bad 4 = .ok (.iload_n 1, 1) := by decide +kernel
theorem dX0_bad_5 : decode cX0_bad 5 = .ok (.bipush 32, 2) := by decide +kernel
theorem dX0_bad_7 : decode cX0_bad 7 = .ok (.if_icmp .lt 7, 3) := by decide +kernel
theorem dX0_bad_10 : decode cX0_bad 10 = .ok (.iconst 1, 1) := by decide +kernel
theorem dX0_bad_11 : decode cX0_bad 11 = .ok (.goto 4, 3) := by decide +kernel
theorem dX0_bad_14 : decode cX0_bad 14 = .ok (.iconst 0, 1) := by decide +kernel
theorem dX0_bad_15 : decode cX0_bad 15 = .ok (.ireturn, 1) := by decide +kernel
theorem lkX0_bad : GoodIn lw_all (wsV RX0 98 RX0 yX0_bad (ws_ yX0_bad cX0_bad 2 (some .boolean))) ∧ yX0_bad.cls = RX0 ∧ yX0_bad.cls ≠ "java/lang/invoke/MethodHandle" ∧ yX0_bad.cls ≠ "java/lang/invoke/VarHandle" ∧ (parseMethodDescriptor yX0_bad.desc).map (fun d => d.parameters.length) = some 1 := ⟨lw_V q84 q86 qs0 q26 q87, by decide +kernel⟩
set_option maxHeartbeats 4000000 in
theorem mX0_bad {τ : St} (n : Int) (r_n : -2147483648 ≤ n ∧ n ≤ 2147483647) : CtI 0 yX0_bad cX0_bad 2 0 .boolean [n] τ (fun r τ' => τ = τ' ∧ ((r = 0 ∧ 0 ≤ n ∧ n < 32) ∨ (r = 1 ∧ ¬ (0 ≤ n ∧ n < 32)))) := by
  refine CtI.of (by decide) rfl (Nat.le_of_ble_eq_true rfl) (fun M h hr => ?_)
  show WX 0 M 0 [.inr 0, .inl n] [] τ
  refine x_iload_n (q := 1) h dX0_bad_0 rfl rfl rfl ?_
  refine x_if_lt (tgt := 10) (q := 4) h dX0_bad_1 (by decide) rfl (by omega) (fun c1 => ?_) (fun c1 => ?_)
  · refine x_iconst (q := 11) h dX0_bad_10 rfl ?_
    refine x_goto (tgt := 15) h dX0_bad_11 (by decide) ?_
    exact x_zret h hr dX0_bad_15 (by omega) (⟨rfl, by omega⟩)
  · refine x_iload_n (q := 5) h dX0_bad_4 rfl rfl rfl ?_
    refine x_bipush (q := 7) h dX0_bad_5 rfl (by decide) ?_
    refine x_icmp_lt (tgt := 14) (q := 10) h dX0_bad_7 (by decide) rfl (by omega) (by omega) (fun c7 => ?_) (fun c7 => ?_)
    · refine x_iconst (q := 15) h dX0_bad_14 rfl ?_
      exact x_zret h hr dX0_bad_15 (by omega) (⟨rfl, by omega⟩)
    · refine x_iconst (q := 11) h dX0_bad_10 rfl ?_
      refine x_goto (tgt := 15) h dX0_bad_11 (by decide) ?_
      exact x_zret h hr dX0_bad_15 (by omega) (⟨rfl, by omega⟩)

theorem dX0_badVolume_0 : decode cX0_badVolume 0 = .ok (.iload_n 1, 1) := by decide +kernel
theorem dX0_badVolume_1 : decode cX0_badVolume 1 = .ok (.ifCond .lt 8, 3) := by decide +kernel
theorem dX0_badVolume_4 : decode cX0_badVolume 4 = .ok (.iload_n 1, 1) := by decide +kernel
theorem dX0_badVolume_5 : decode cX0_badVolume 5 = .ok (.iconst 3, 1) := by decide +kernel
theorem dX0_badVolume_6 : decode cX0_badVolume 6 = .ok (.if_icmp .le 7, 3) := by decide +kernel
theorem dX0_badVolume_9 : decode cX0_badVolume 9 = .ok (.iconst 1, 1) := by decide +kernel
theorem dX0_badVolume_10 : decode cX0_badVolume 10 = .ok (.goto 4, 3) := by decide +kernel
theorem dX0_badVolume_13 : decode cX0_badVolume 13 = .ok (.iconst 0, 1) := by decide +kernel
theorem dX0_badVolume_14 : decode cX0_badVolume 14 = .ok (.ireturn, 1) := by decide +kernel
theorem lkX0_badVolume : GoodIn lw_all (wsV RX0 115 RX0 yX0_badVolume (ws_ yX0_badVolume cX0_badVolume 2 (some .boolean))) ∧ yX0_badVolume.cls = RX0 ∧ yX0_badVolume.cls ≠ "java/lang/invoke/MethodHandle" ∧ yX0_badVolume.cls ≠ "java/lang/invoke/VarHandle" ∧ (parseMethodDescriptor yX0_badVolume.desc).map (fun d => d.parameters.length) = some 1 := ⟨lw_V q170 q172 qs16 q26 q173, by decide +kernel⟩
set_option maxHeartbeats 4000000 in
theorem mX0_badVolume {τ : St} (n : Int) (r_n : -2147483648 ≤ n ∧ n ≤ 2147483647) : CtI 0 yX0_badVolume cX0_badVolume 2 0 .boolean [n] τ (fun r τ' => τ = τ' ∧ ((r = 0 ∧ 0 ≤ n ∧ n ≤ 3) ∨ (r = 1 ∧ ¬ (0 ≤ n ∧ n ≤ 3)))) := by
  refine CtI.of (by decide) rfl (Nat.le_of_ble_eq_true rfl) (fun M h hr => ?_)
  show WX 0 M 0 [.inr 0, .inl n] [] τ
  refine x_iload_n (q := 1) h dX0_badVolume_0 rfl rfl rfl ?_
  refine x_if_lt (tgt := 9) (q := 4) h dX0_badVolume_1 (by decide) rfl (by omega) (fun c1 => ?_) (fun c1 => ?_)
  · refine x_iconst (q := 10) h dX0_badVolume_9 rfl ?_
    refine x_goto (tgt := 14) h dX0_badVolume_10 (by decide) ?_
    exact x_zret h hr dX0_badVolume_14 (by omega) (⟨rfl, by omega⟩)
  · refine x_iload_n (q := 5) h dX0_badVolume_4 rfl rfl rfl ?_
    refine x_iconst (q := 6) h dX0_badVolume_5 rfl ?_
    refine x_icmp_le (tgt := 13) (q := 9) h dX0_badVolume_6 (by decide) rfl (by omega) (by omega) (fun c6 => ?_) (fun c6 => ?_)
    · refine x_iconst (q := 14) h dX0_badVolume_13 rfl ?_
      exact x_zret h hr dX0_badVolume_14 (by omega) (⟨rfl, by omega⟩)
    · refine x_iconst (q := 10) h dX0_badVolume_9 rfl ?_
      refine x_goto (tgt := 14) h dX0_badVolume_10 (by decide) ?_
      exact x_zret h hr dX0_badVolume_14 (by omega) (⟨rfl, by omega⟩)

theorem dX0_hash_0 : decode cX0_hash 0 = .ok (.iload_n 1, 1) := by decide +kernel
theorem dX0_hash_1 : decode cX0_hash 1 = .ok (.ldc 51, 2) := by decide +kernel
theorem dX0_hash_3 : decode cX0_hash 3 = .ok (.imul, 1) := by decide +kernel
theorem dX0_hash_4 : decode cX0_hash 4 = .ok (.istore_n 2, 1) := by decide +kernel
theorem dX0_hash_5 : decode cX0_hash 5 = .ok (.iload_n 2, 1) := by decide +kernel
theorem dX0_hash_6 : decode cX0_hash 6 = .ok (.bipush 7, 2) := by decide +kernel
theorem dX0_hash_8 : decode cX0_hash 8 = .ok (.ishr, 1) := by decide +kernel
theorem dX0_hash_9 : decode cX0_hash 9 = .ok (.bipush 63, 2) := by decide +kernel
theorem dX0_hash_11 : decode cX0_hash 11 = .ok (.iand, 1) := by decide +kernel
theorem dX0_hash_12 : decode cX0_hash 12 = .ok (.ireturn, 1) := by decide +kernel
theorem lkX0_hash : GoodIn lw_all (wsV RX0 52 RX0 yX0_hash (ws_ yX0_hash cX0_hash 3 (some .int))) ∧ yX0_hash.cls = RX0 ∧ yX0_hash.cls ≠ "java/lang/invoke/MethodHandle" ∧ yX0_hash.cls ≠ "java/lang/invoke/VarHandle" ∧ (parseMethodDescriptor yX0_hash.desc).map (fun d => d.parameters.length) = some 1 := ⟨lw_V q104 q106 qs4 q26 q107, by decide +kernel⟩
set_option maxHeartbeats 4000000 in
theorem mX0_hash {τ : St} (z : Int) (hz : 0 ≤ z ∧ z ≤ 4095) : CtI 0 yX0_hash cX0_hash 3 0 .int [z] τ (fun r τ' => τ = τ' ∧ r = hsh z) := by
  refine CtI.of (by decide) rfl (Nat.le_of_ble_eq_true rfl) (fun M h hr => ?_)
  show WX 0 M 0 [.inr 0, .inl z] [] τ
  refine x_iload_n (q := 1) h dX0_hash_0 rfl rfl rfl ?_
  refine x_ldc (q := 3) (n := 40503) h q108 (by decide) dX0_hash_1 rfl ?_
  refine x_imul (q := 4) h dX0_hash_3 rfl ?_
  refine x_istore_n (q := 5) (vs' := [.inr 0, .inl z, .inl (z * 40503)]) h dX0_hash_4 rfl (by decide) (Nat.le_of_ble_eq_true rfl) rfl rfl ?_
  refine x_iload_n (q := 6) h dX0_hash_5 rfl rfl rfl ?_
  refine x_bipush (q := 8) h dX0_hash_6 rfl (by decide) ?_
  refine x_ishr (q := 9) (z * 40503 / 2 ^ 7) h dX0_hash_8 (jI_shr (k := 7) (by omega) (by omega) (by decide)) rfl ?_
  refine x_bipush (q := 11) h dX0_hash_9 rfl (by decide) ?_
  refine x_iand (q := 12) (hsh z) h dX0_hash_11 (jI_and63 (by omega) (by omega)) rfl ?_
  exact x_iret h hr dX0_hash_12 (by have := hsh_rg z; omega) (⟨rfl, rfl⟩)

theorem dX0_pack_0 : decode cX0_pack 0 = .ok (.aload_n 0, 1) := by decide +kernel
theorem dX0_pack_1 : decode cX0_pack 1 = .ok (.iconst 1, 1) := by decide +kernel
theorem dX0_pack_2 : decode cX0_pack 2 = .ok (.putfield 43, 3) := by decide +kernel
theorem dX0_pack_5 : decode cX0_pack 5 = .ok (.iconst (-1), 1) := by decide +kernel
theorem dX0_pack_6 : decode cX0_pack 6 = .ok (.istore_n 2, 1) := by decide +kernel
theorem dX0_pack_7 : decode cX0_pack 7 = .ok (.iconst 0, 1) := by decide +kernel
theorem dX0_pack_8 : decode cX0_pack 8 = .ok (.istore_n 3, 1) := by decide +kernel
theorem dX0_pack_9 : decode cX0_pack 9 = .ok (.iload_n 3, 1) := by decide +kernel
theorem dX0_pack_10 : decode cX0_pack 10 = .ok (.iconst 4, 1) := by decide +kernel
theorem dX0_pack_11 : decode cX0_pack 11 = .ok (.if_icmp .ge 80, 3) := by decide +kernel
theorem dX0_pack_14 : decode cX0_pack 14 = .ok (.iload_n 1, 1) := by decide +kernel
theorem dX0_pack_15 : decode cX0_pack 15 = .ok (.iconst 3, 1) := by decide +kernel
theorem dX0_pack_16 : decode cX0_pack 16 = .ok (.iload_n 3, 1) := by decide +kernel
theorem dX0_pack_17 : decode cX0_pack 17 = .ok (.imul, 1) := by decide +kernel
theorem dX0_pack_18 : decode cX0_pack 18 = .ok (.ishr, 1) := by decide +kernel
theorem dX0_pack_19 : decode cX0_pack 19 = .ok (.bipush 7, 2) := by decide +kernel
theorem dX0_pack_21 : decode cX0_pack 21 = .ok (.iand, 1) := by decide +kernel
theorem dX0_pack_22 : decode cX0_pack 22 = .ok (.istore 4, 2) := by decide +kernel
theorem dX0_pack_24 : decode cX0_pack 24 = .ok (.iload 4, 2) := by decide +kernel
theorem dX0_pack_26 : decode cX0_pack 26 = .ok (.iload_n 2, 1) := by decide +kernel
theorem dX0_pack_27 : decode cX0_pack 27 = .ok (.if_icmp .ne 31, 3) := by decide +kernel
theorem dX0_pack_30 : decode cX0_pack 30 = .ok (.aload_n 0, 1) := by decide +kernel
theorem dX0_pack_31 : decode cX0_pack 31 = .ok (.getfield 40, 3) := by decide +kernel
theorem dX0_pack_34 : decode cX0_pack 34 = .ok (.aload_n 0, 1) := by decide +kernel
theorem dX0_pack_35 : decode cX0_pack 35 = .ok (.getfield 43, 3) := by decide +kernel
theorem dX0_pack_38 : decode cX0_pack 38 = .ok (.iconst 1, 1) := by decide +kernel
theorem dX0_pack_39 : decode cX0_pack 39 = .ok (.isub, 1) := by decide +kernel
theorem dX0_pack_40 : decode cX0_pack 40 = .ok (.aload_n 0, 1) := by decide +kernel
theorem dX0_pack_41 : decode cX0_pack 41 = .ok (.getfield 40, 3) := by decide +kernel
theorem dX0_pack_44 : decode cX0_pack 44 = .ok (.aload_n 0, 1) := by decide +kernel
theorem dX0_pack_45 : decode cX0_pack 45 = .ok (.getfield 43, 3) := by decide +kernel
theorem dX0_pack_48 : decode cX0_pack 48 = .ok (.iconst 1, 1) := by decide +kernel
theorem dX0_pack_49 : decode cX0_pack 49 = .ok (.isub, 1) := by decide +kernel
theorem dX0_pack_50 : decode cX0_pack 50 = .ok (.iaload, 1) := by decide +kernel
theorem dX0_pack_51 : decode cX0_pack 51 = .ok (.bipush 8, 2) := by decide +kernel
theorem dX0_pack_53 : decode cX0_pack 53 = .ok (.iadd, 1) := by decide +kernel
theorem dX0_pack_54 : decode cX0_pack 54 = .ok (.iastore, 1) := by decide +kernel
theorem dX0_pack_55 : decode cX0_pack 55 = .ok (.goto 27, 3) := by decide +kernel
theorem dX0_pack_58 : decode cX0_pack 58 = .ok (.aload_n 0, 1) := by decide +kernel
theorem dX0_pack_59 : decode cX0_pack 59 = .ok (.getfield 40, 3) := by decide +kernel
theorem dX0_pack_62 : decode cX0_pack 62 = .ok (.aload_n 0, 1) := by decide +kernel
theorem dX0_pack_63 : decode cX0_pack 63 = .ok (.getfield 43, 3) := by decide +kernel
theorem dX0_pack_66 : decode cX0_pack 66 = .ok (.iload 4, 2) := by decide +kernel
theorem dX0_pack_68 : decode cX0_pack 68 = .ok (.bipush 8, 2) := by decide +kernel
theorem dX0_pack_70 : decode cX0_pack 70 = .ok (.iadd, 1) := by decide +kernel
theorem dX0_pack_71 : decode cX0_pack 71 = .ok (.iastore, 1) := by decide +kernel
theorem dX0_pack_72 : decode cX0_pack 72 = .ok (.aload_n 0, 1) := by decide +kernel
theorem dX0_pack_73 : decode cX0_pack 73 = .ok (.dup, 1) := by decide +kernel
theorem dX0_pack_74 : decode cX0_pack 74 = .ok (.getfield 43, 3) := by decide +kernel
theorem dX0_pack_77 : decode cX0_pack 77 = .ok (.iconst 1, 1) := by decide +kernel
theorem dX0_pack_78 : decode cX0_pack 78 = .ok (.iadd, 1) := by decide +kernel
theorem dX0_pack_79 : decode cX0_pack 79 = .ok (.putfield 43, 3) := by decide +kernel
theorem dX0_pack_82 : decode cX0_pack 82 = .ok (.iload 4, 2) := by decide +kernel
theorem dX0_pack_84 : decode cX0_pack 84 = .ok (.istore_n 2, 1) := by decide +kernel
theorem dX0_pack_85 : decode cX0_pack 85 = .ok (.iinc 3 1, 3) := by decide +kernel
theorem dX0_pack_88 : decode cX0_pack 88 = .ok (.goto (-79), 3) := by decide +kernel
theorem dX0_pack_91 : decode cX0_pack 91 = .ok (.aload_n 0, 1) := by decide +kernel
theorem dX0_pack_92 : decode cX0_pack 92 = .ok (.getfield 40, 3) := by decide +kernel
theorem dX0_pack_95 : decode cX0_pack 95 = .ok (.iconst 0, 1) := by decide +kernel
theorem dX0_pack_96 : decode cX0_pack 96 = .ok (.aload_n 0, 1) := by decide +kernel
theorem dX0_pack_97 : decode cX0_pack 97 = .ok (.getfield 43, 3) := by decide +kernel
theorem dX0_pack_100 : decode cX0_pack 100 = .ok (.iconst 1, 1) := by decide +kernel
theorem dX0_pack_101 : decode cX0_pack 101 = .ok (.isub, 1) := by decide +kernel
theorem dX0_pack_102 : decode cX0_pack 102 = .ok (.iastore, 1) := by decide +kernel
theorem dX0_pack_103 : decode cX0_pack 103 = .ok (.return_, 1) := by decide +kernel
theorem lkX0_pack : GoodIn lw_all (wsV RX0 47 RX0 yX0_pack (ws_ yX0_pack cX0_pack 5 none)) ∧ yX0_pack.cls = RX0 ∧ yX0_pack.cls ≠ "java/lang/invoke/MethodHandle" ∧ yX0_pack.cls ≠ "java/lang/invoke/VarHandle" ∧ (parseMethodDescriptor yX0_pack.desc).map (fun d => d.parameters.length) = some 1 := ⟨lw_V q113 q115 qs6 q26 q116, by decide +kernel⟩
theorem pk_end {τ : St} {b : Int → Int} {z v : Int} (h3 : τ 13 0 = psz z 4) (hv : v = psz z 4) (h2 : ∀ j : Int, τ 12 j = parr b z 4 j) : pkd (up τ 12 0 (v - 1)) z := by
  have e : psz z 4 = rn z 3 + 1 := psz_rn z 3
  refine ⟨by rw [up_ne (by decide), h3, e], fun i a b' => ?_⟩
  rw [up_if]
  unfold kod
  by_cases q : i = 0
  · rw [if_pos q, if_pos q]; omega
  · rw [if_neg q, if_neg q, h2, parr_base b z 4 i (by omega) (by omega)]
set_option maxHeartbeats 4000000 in
theorem lpX0_pack {M : Mx} {σ : St} {b : Int → Int} {z : Int} {Po : St → Prop} (hz : 0 ≤ z ∧ z ≤ 4095) (h : Cx 0 M cX0_pack 5 0) (hr : RtV 0 M Po) (hp : ∀ τ' : St, (∀ k' : Nat, k' ≠ 12 → k' ≠ 13 → τ' k' = σ k') → pkd τ' z → Po τ') : ∀ (k i : Nat) (x bef : Int) (τ : St), x = i → i ≤ 4 → 4 < i + k → bef = bf z i → (∀ k' : Nat, k' ≠ 12 → k' ≠ 13 → τ k' = σ k') → (∀ j : Int, τ 12 j = parr b z i j) → τ 13 0 = psz z i → WX 0 M 9 [.inr 0, .inl z, .inl bef, .inl x] [] τ := by
  have g : ∀ i : Nat, 0 ≤ z / 2 ^ (3 * i) ∧ z / 2 ^ (3 * i) ≤ 4095 := fun i => shr_rg (by omega) (by omega) (3 * i)
  intro k
  induction k with
  | zero => intro i x bef τ h1 h2 h3; omega
  | succ k ih =>
    intro i x bef τ hx hi hk hbef h1 h2 h3
    have g1 := dgt_rg z i
    have g2 : 0 ≤ z / 2 ^ (3 * i) % 8 ∧ z / 2 ^ (3 * i) % 8 < 8 := g1
    have g3 := psz_rg z i
    have g4 : -1 ≤ bef ∧ bef < 8 := by
      rw [hbef]
      cases i with
      | zero => exact ⟨by show (-1 : Int) ≤ -1; decide, by show (-1 : Int) < 8; decide⟩
      | succ i => have := dgt_rg z i; exact ⟨by show -1 ≤ dgt z i; omega, this.2⟩
    refine x_iload_n (q := 10) h dX0_pack_9 rfl rfl rfl ?_
    refine x_iconst (q := 11) h dX0_pack_10 rfl ?_
    refine x_icmp_ge (tgt := 91) (q := 14) h dX0_pack_11 (by decide) rfl (by omega) (by omega) (fun c11 => ?_) (fun c11 => ?_)
    · refine x_aload_n (q := 92) h dX0_pack_91 rfl rfl rfl ?_
      refine x0_geta (k := 12) (q := 95) h rfl q48 dX0_pack_92 rfl ?_
      refine x_iconst (q := 96) h dX0_pack_95 rfl ?_
      refine x_aload_n (q := 97) h dX0_pack_96 rfl rfl rfl ?_
      refine x0_geti (k := 13) (q := 100) h (by decide) q49 dX0_pack_97 rfl (fun v97 e97 l97 u97 => ?_)
      refine x_iconst (q := 101) h dX0_pack_100 rfl ?_
      refine x_isub (q := 102) h dX0_pack_101 rfl ?_
      refine x_iast (k := 12) (n := 5) (q := 103) h rfl dX0_pack_102 rfl (by omega) (by omega) ?_
      exact x_vret h hr dX0_pack_103 (hp _ (fun k' a1 a2 => by rw [up_fne a1]; exact h1 k' a1 a2) (pk_end (by rw [h3, show i = 4 by omega]) (by rw [e97, h3, show i = 4 by omega]) (fun j => by rw [h2, show i = 4 by omega])))
    · refine x_iload_n (q := 15) h dX0_pack_14 rfl rfl rfl ?_
      refine x_iconst (q := 16) h dX0_pack_15 rfl ?_
      refine x_iload_n (q := 17) h dX0_pack_16 rfl rfl rfl ?_
      refine x_imul (q := 18) h dX0_pack_17 rfl ?_
      refine x_top (show (3 : Int) * x = ((3 * i : Nat) : Int) by omega) ?_
      refine x_ishr (q := 19) (z / 2 ^ (3 * i)) h dX0_pack_18 (jI_shr (by omega) (by omega) (by omega)) rfl ?_
      refine x_bipush (q := 21) h dX0_pack_19 rfl (by decide) ?_
      refine x_iand (q := 22) (z / 2 ^ (3 * i) % 8) h dX0_pack_21 (jI_and7 (g i).1 (by have := (g i).2; omega)) rfl ?_
      refine x_istore (q := 24) (vs' := [.inr 0, .inl z, .inl bef, .inl x, .inl (z / 2 ^ (3 * i) % 8)]) h dX0_pack_22 (by decide) (Nat.le_of_ble_eq_true rfl) rfl rfl ?_
      refine x_iload (q := 26) h dX0_pack_24 rfl rfl ?_
      refine x_iload_n (q := 27) h dX0_pack_26 rfl rfl rfl ?_
      refine x_icmp_ne (tgt := 58) (q := 30) h dX0_pack_27 (by decide) rfl (by omega) (by omega) (fun c27 => ?_) (fun c27 => ?_)
      · have hd : ¬ dgt z i = bf z i := fun q => c27 (by rw [hbef]; exact q)
        refine x_aload_n (q := 59) h dX0_pack_58 rfl rfl rfl ?_
        refine x0_geta (k := 12) (q := 62) h rfl q48 dX0_pack_59 rfl ?_
        refine x_aload_n (q := 63) h dX0_pack_62 rfl rfl rfl ?_
        refine x0_geti (k := 13) (q := 66) h (by decide) q49 dX0_pack_63 rfl (fun v63 e63 l63 u63 => ?_)
        refine x_iload (q := 68) h dX0_pack_66 rfl rfl ?_
        refine x_bipush (q := 70) h dX0_pack_68 rfl (by decide) ?_
        refine x_iadd (q := 71) h dX0_pack_70 rfl ?_
        refine x_iast (k := 12) (n := 5) (q := 72) h rfl dX0_pack_71 rfl (by omega) (by omega) ?_
        refine x_aload_n (q := 73) h dX0_pack_72 rfl rfl rfl ?_
        refine x_dup (q := 74) h dX0_pack_73 rfl ?_
        refine x0_geti (k := 13) (q := 77) h (by decide) q49 dX0_pack_74 rfl (fun v74 e74 l74 u74 => ?_)
        have e74b : v74 = τ 13 0 := by rw [e74, up_ne (by decide)]
        refine x_iconst (q := 78) h dX0_pack_77 rfl ?_
        refine x_iadd (q := 79) h dX0_pack_78 rfl ?_
        refine x0_puti (k := 13) (q := 82) h (by decide) q49 dX0_pack_79 rfl (by omega) ?_
        refine x_iload (q := 84) h dX0_pack_82 rfl rfl ?_
        refine x_istore_n (q := 85) (vs' := [.inr 0, .inl z, .inl (z / 2 ^ (3 * i) % 8), .inl x, .inl (z / 2 ^ (3 * i) % 8)]) h dX0_pack_84 rfl (by decide) (Nat.le_of_ble_eq_true rfl) rfl rfl ?_
        refine x_iinc (q := 88) (vs' := [.inr 0, .inl z, .inl (z / 2 ^ (3 * i) % 8), .inl (x + 1), .inl (z / 2 ^ (3 * i) % 8)]) h dX0_pack_85 (by decide) rfl rfl rfl ?_
        refine x_goto (tgt := 9) h dX0_pack_88 (by decide) ?_
        refine x_drop (vs' := [.inr 0, .inl z, .inl (z / 2 ^ (3 * i) % 8), .inl (x + 1)]) 4 rfl ?_
        refine ih (i + 1) _ _ _ (by omega) (by omega) (by omega) (by rfl) ?_ ?_ ?_
        · intro k' a1 a2
          rw [up_fne a2, up_fne a1]; exact h1 k' a1 a2
        · intro j
          rw [up_ne (by decide), up_if]
          simp only [parr]
          rw [if_neg hd]
          by_cases e : j = v63
          · rw [if_pos e, if_pos (by omega)]; rfl
          · rw [if_neg e, if_neg (by omega), h2]
        · rw [up_eq, e74, up_ne (by decide), h3]
          simp only [psz]
          rw [if_neg hd]
      · have hd : dgt z i = bf z i := by rw [← hbef]; exact c27
        have hp2 := psz_2 z i hd
        refine x_aload_n (q := 31) h dX0_pack_30 rfl rfl rfl ?_
        refine x0_geta (k := 12) (q := 34) h rfl q48 dX0_pack_31 rfl ?_
        refine x_aload_n (q := 35) h dX0_pack_34 rfl rfl rfl ?_
        refine x0_geti (k := 13) (q := 38) h (by decide) q49 dX0_pack_35 rfl (fun v35 e35 l35 u35 => ?_)
        refine x_iconst (q := 39) h dX0_pack_38 rfl ?_
        refine x_isub (q := 40) h dX0_pack_39 rfl ?_
        refine x_aload_n (q := 41) h dX0_pack_40 rfl rfl rfl ?_
        refine x0_geta (k := 12) (q := 44) h rfl q48 dX0_pack_41 rfl ?_
        refine x_aload_n (q := 45) h dX0_pack_44 rfl rfl rfl ?_
        refine x0_geti (k := 13) (q := 48) h (by decide) q49 dX0_pack_45 rfl (fun v45 e45 l45 u45 => ?_)
        refine x_iconst (q := 49) h dX0_pack_48 rfl ?_
        refine x_isub (q := 50) h dX0_pack_49 rfl ?_
        refine x_iald (k := 12) (n := 5) (q := 51) h rfl dX0_pack_50 rfl (by omega) (fun v50 e50 l50 u50 => ?_)
        have hv := parr_rg b z i (v45 - 1) (by omega) (by omega)
        rw [← h2, ← e50] at hv
        refine x_bipush (q := 53) h dX0_pack_51 rfl (by decide) ?_
        refine x_iadd (q := 54) h dX0_pack_53 rfl ?_
        refine x_iast (k := 12) (n := 5) (q := 55) h rfl dX0_pack_54 rfl (by omega) (by omega) ?_
        refine x_goto (tgt := 82) h dX0_pack_55 (by decide) ?_
        refine x_iload (q := 84) h dX0_pack_82 rfl rfl ?_
        refine x_istore_n (q := 85) (vs' := [.inr 0, .inl z, .inl (z / 2 ^ (3 * i) % 8), .inl x, .inl (z / 2 ^ (3 * i) % 8)]) h dX0_pack_84 rfl (by decide) (Nat.le_of_ble_eq_true rfl) rfl rfl ?_
        refine x_iinc (q := 88) (vs' := [.inr 0, .inl z, .inl (z / 2 ^ (3 * i) % 8), .inl (x + 1), .inl (z / 2 ^ (3 * i) % 8)]) h dX0_pack_85 (by decide) rfl rfl rfl ?_
        refine x_goto (tgt := 9) h dX0_pack_88 (by decide) ?_
        refine x_drop (vs' := [.inr 0, .inl z, .inl (z / 2 ^ (3 * i) % 8), .inl (x + 1)]) 4 rfl ?_
        refine ih (i + 1) _ _ _ (by omega) (by omega) (by omega) (by rfl) ?_ ?_ ?_
        · intro k' a1 a2
          rw [up_fne a1]; exact h1 k' a1 a2
        · intro j
          rw [up_if]
          simp only [parr]
          rw [if_pos hd]
          by_cases e : j = v35 - 1
          · rw [if_pos e, if_pos (by omega), e50, h2, e, e45, e35]
          · rw [if_neg e, if_neg (by omega), h2]
        · rw [up_ne (by decide), h3]
          simp only [psz]
          rw [if_pos hd]
set_option maxHeartbeats 4000000 in
theorem mX0_pack {τ : St} (z : Int) (hz : 0 ≤ z ∧ z ≤ 4095) : CtV 0 yX0_pack cX0_pack 5 0 [z] τ (fun τ' => (∀ k' : Nat, k' ≠ 12 → k' ≠ 13 → τ' k' = τ k') ∧ pkd τ' z) := by
  refine CtV.of (by decide) rfl (Nat.le_of_ble_eq_true rfl) (fun M h hr => ?_)
  show WX 0 M 0 [.inr 0, .inl z] [] τ
  refine x_aload_n (q := 1) h dX0_pack_0 rfl rfl rfl ?_
  refine x_iconst (q := 2) h dX0_pack_1 rfl ?_
  refine x0_puti (k := 13) (q := 5) h (by decide) q49 dX0_pack_2 rfl (by omega) ?_
  refine x_iconst (q := 6) h dX0_pack_5 rfl ?_
  refine x_istore_n (q := 7) (vs' := [.inr 0, .inl z, .inl (-1)]) h dX0_pack_6 rfl (by decide) (Nat.le_of_ble_eq_true rfl) rfl rfl ?_
  refine x_iconst (q := 8) h dX0_pack_7 rfl ?_
  refine x_istore_n (q := 9) (vs' := [.inr 0, .inl z, .inl (-1), .inl 0]) h dX0_pack_8 rfl (by decide) (Nat.le_of_ble_eq_true rfl) rfl rfl ?_
  refine lpX0_pack (σ := τ) (b := τ 12) hz h hr (fun τ' a1 a2 => ⟨a1, a2⟩) 5 0 0 _ _ rfl (by omega) (by omega) rfl ?_ ?_ ?_
  · intro k' a1 a2
    exact up_fne a2
  · intro j
    exact up_ne (by decide)
  · exact up_eq

theorem dX0_roomOf_0 : decode cX0_roomOf 0 = .ok (.iload_n 1, 1) := by decide +kernel
theorem dX0_roomOf_1 : decode cX0_roomOf 1 = .ok (.ifCond .ne 5, 3) := by decide +kernel
theorem dX0_roomOf_4 : decode cX0_roomOf 4 = .ok (.iconst 0, 1) := by decide +kernel
theorem dX0_roomOf_5 : decode cX0_roomOf 5 = .ok (.ireturn, 1) := by decide +kernel
theorem dX0_roomOf_6 : decode cX0_roomOf 6 = .ok (.aload_n 0, 1) := by decide +kernel
theorem dX0_roomOf_7 : decode cX0_roomOf 7 = .ok (.iload_n 1, 1) := by decide +kernel
theorem dX0_roomOf_8 : decode cX0_roomOf 8 = .ok (.invokevirtual 47, 3) := by decide +kernel
theorem dX0_roomOf_11 : decode cX0_roomOf 11 = .ok (.aload_n 0, 1) := by decide +kernel
theorem dX0_roomOf_12 : decode cX0_roomOf 12 = .ok (.getfield 43, 3) := by decide +kernel
theorem dX0_roomOf_15 : decode cX0_roomOf 15 = .ok (.ireturn, 1) := by decide +kernel
theorem lkX0_roomOf : GoodIn lw_all (wsV RX0 105 RX0 yX0_roomOf (ws_ yX0_roomOf cX0_roomOf 2 (some .int))) ∧ yX0_roomOf.cls = RX0 ∧ yX0_roomOf.cls ≠ "java/lang/invoke/MethodHandle" ∧ yX0_roomOf.cls ≠ "java/lang/invoke/VarHandle" ∧ (parseMethodDescriptor yX0_roomOf.desc).map (fun d => d.parameters.length) = some 1 := ⟨lw_V q109 q111 qs5 q26 q112, by decide +kernel⟩
set_option maxHeartbeats 4000000 in
theorem mX0_roomOf {τ : St} (z : Int) (hz : 0 ≤ z ∧ z ≤ 4095) : CtI 0 yX0_roomOf cX0_roomOf 2 1 .int [z] τ (fun r τ' => (∀ k' : Nat, k' ≠ 12 → k' ≠ 13 → τ' k' = τ k') ∧ r = room z) := by
  refine CtI.of (by decide) rfl (Nat.le_of_ble_eq_true rfl) (fun M h hr => ?_)
  show WX 0 M 0 [.inr 0, .inl z] [] τ
  refine x_iload_n (q := 1) h dX0_roomOf_0 rfl rfl rfl ?_
  refine x_if_ne (tgt := 6) (q := 4) h dX0_roomOf_1 (by decide) rfl (by omega) (fun c1 => ?_) (fun c1 => ?_)
  · refine x_aload_n (q := 7) h dX0_roomOf_6 rfl rfl rfl ?_
    refine x_iload_n (q := 8) h dX0_roomOf_7 rfl rfl rfl ?_
    refine x_callv (q := 11) (xs := [z]) (st := []) h (mX0_pack z (by omega)) lkX0_pack rfl (by decide) (by decide) dX0_roomOf_8 rfl (by simp) rfl (fun τ8 s8 p8 => ?_)
    refine x_aload_n (q := 12) h dX0_roomOf_11 rfl rfl rfl ?_
    refine x0_geti (k := 13) (q := 15) h (by decide) q49 dX0_roomOf_12 rfl (fun v12 e12 l12 u12 => ?_)
    exact x_iret h hr dX0_roomOf_15 (by omega) (⟨p8.1, by rw [room_rn (by omega), e12, p8.2.1]⟩)
  · refine x_iconst (q := 5) h dX0_roomOf_4 rfl ?_
    exact x_iret h hr dX0_roomOf_5 (by omega) (⟨fun k' _ _ => rfl, by rw [c1]; rfl⟩)

theorem dX0_contentOf_0 : decode cX0_contentOf 0 = .ok (.iload_n 1, 1) := by decide +kernel
theorem dX0_contentOf_1 : decode cX0_contentOf 1 = .ok (.ifCond .ge 5, 3) := by decide +kernel
theorem dX0_contentOf_4 : decode cX0_contentOf 4 = .ok (.iconst 0, 1) := by decide +kernel
theorem dX0_contentOf_5 : decode cX0_contentOf 5 = .ok (.ireturn, 1) := by decide +kernel
theorem dX0_contentOf_6 : decode cX0_contentOf 6 = .ok (.aload_n 0, 1) := by decide +kernel
theorem dX0_contentOf_7 : decode cX0_contentOf 7 = .ok (.getfield 16, 3) := by decide +kernel
theorem dX0_contentOf_10 : decode cX0_contentOf 10 = .ok (.iload_n 1, 1) := by decide +kernel
theorem dX0_contentOf_11 : decode cX0_contentOf 11 = .ok (.iaload, 1) := by decide +kernel
theorem dX0_contentOf_12 : decode cX0_contentOf 12 = .ok (.bipush 8, 2) := by decide +kernel
theorem dX0_contentOf_14 : decode cX0_contentOf 14 = .ok (.imul, 1) := by decide +kernel
theorem dX0_contentOf_15 : decode cX0_contentOf 15 = .ok (.aload_n 0, 1) := by decide +kernel
theorem dX0_contentOf_16 : decode cX0_contentOf 16 = .ok (.getfield 19, 3) := by decide +kernel
theorem dX0_contentOf_19 : decode cX0_contentOf 19 = .ok (.iload_n 1, 1) := by decide +kernel
theorem dX0_contentOf_20 : decode cX0_contentOf 20 = .ok (.iaload, 1) := by decide +kernel
theorem dX0_contentOf_21 : decode cX0_contentOf 21 = .ok (.iadd, 1) := by decide +kernel
theorem dX0_contentOf_22 : decode cX0_contentOf 22 = .ok (.istore_n 2, 1) := by decide +kernel
theorem dX0_contentOf_23 : decode cX0_contentOf 23 = .ok (.iconst 0, 1) := by decide +kernel
theorem dX0_contentOf_24 : decode cX0_contentOf 24 = .ok (.istore_n 3, 1) := by decide +kernel
theorem dX0_contentOf_25 : decode cX0_contentOf 25 = .ok (.iconst 0, 1) := by decide +kernel
theorem dX0_contentOf_26 : decode cX0_contentOf 26 = .ok (.istore 4, 2) := by decide +kernel
theorem dX0_contentOf_28 : decode cX0_contentOf 28 = .ok (.iconst 1, 1) := by decide +kernel
theorem dX0_contentOf_29 : decode cX0_contentOf 29 = .ok (.istore 5, 2) := by decide +kernel
theorem dX0_contentOf_31 : decode cX0_contentOf 31 = .ok (.iload 5, 2) := by decide +kernel
theorem dX0_contentOf_33 : decode cX0_contentOf 33 = .ok (.aload_n 0, 1) := by decide +kernel
theorem dX0_contentOf_34 : decode cX0_contentOf 34 = .ok (.getfield 25, 3) := by decide +kernel
theorem dX0_contentOf_37 : decode cX0_contentOf 37 = .ok (.iload_n 2, 1) := by decide +kernel
theorem dX0_contentOf_38 : decode cX0_contentOf 38 = .ok (.iaload, 1) := by decide +kernel
theorem dX0_contentOf_39 : decode cX0_contentOf 39 = .ok (.if_icmp .gt 60, 3) := by decide +kernel
theorem dX0_contentOf_42 : decode cX0_contentOf 42 = .ok (.aload_n 0, 1) := by decide +kernel
theorem dX0_contentOf_43 : decode cX0_contentOf 43 = .ok (.getfield 25, 3) := by decide +kernel
theorem dX0_contentOf_46 : decode cX0_contentOf 46 = .ok (.iload_n 2, 1) := by decide +kernel
theorem dX0_contentOf_47 : decode cX0_contentOf 47 = .ok (.iload 5, 2) := by decide +kernel
theorem dX0_contentOf_49 : decode cX0_contentOf 49 = .ok (.iadd, 1) := by decide +kernel
theorem dX0_contentOf_50 : decode cX0_contentOf 50 = .ok (.iaload, 1) := by decide +kernel
theorem dX0_contentOf_51 : decode cX0_contentOf 51 = .ok (.istore 6, 2) := by decide +kernel
theorem dX0_contentOf_53 : decode cX0_contentOf 53 = .ok (.iconst 0, 1) := by decide +kernel
theorem dX0_contentOf_54 : decode cX0_contentOf 54 = .ok (.istore 7, 2) := by decide +kernel
theorem dX0_contentOf_56 : decode cX0_contentOf 56 = .ok (.iload 7, 2) := by decide +kernel
theorem dX0_contentOf_58 : decode cX0_contentOf 58 = .ok (.iload 6, 2) := by decide +kernel
theorem dX0_contentOf_60 : decode cX0_contentOf 60 = .ok (.iconst 3, 1) := by decide +kernel
theorem dX0_contentOf_61 : decode cX0_contentOf 61 = .ok (.ishr, 1) := by decide +kernel
theorem dX0_contentOf_62 : decode cX0_contentOf 62 = .ok (.if_icmp .ge 31, 3) := by decide +kernel
theorem dX0_contentOf_65 : decode cX0_contentOf 65 = .ok (.iload 4, 2) := by decide +kernel
theorem dX0_contentOf_67 : decode cX0_contentOf 67 = .ok (.iconst 4, 1) := by decide +kernel
theorem dX0_contentOf_68 : decode cX0_contentOf 68 = .ok (.if_icmp .ge 25, 3) := by decide +kernel
theorem dX0_contentOf_71 : decode cX0_contentOf 71 = .ok (.iload_n 3, 1) := by decide +kernel
theorem dX0_contentOf_72 : decode cX0_contentOf 72 = .ok (.iload 6, 2) := by decide +kernel
theorem dX0_contentOf_74 : decode cX0_contentOf 74 = .ok (.bipush 7, 2) := by decide +kernel
theorem dX0_contentOf_76 : decode cX0_contentOf 76 = .ok (.iand, 1) := by decide +kernel
theorem dX0_contentOf_77 : decode cX0_contentOf 77 = .ok (.iconst 3, 1) := by decide +kernel
theorem dX0_contentOf_78 : decode cX0_contentOf 78 = .ok (.iload 4, 2) := by decide +kernel
theorem dX0_contentOf_80 : decode cX0_contentOf 80 = .ok (.imul, 1) := by decide +kernel
theorem dX0_contentOf_81 : decode cX0_contentOf 81 = .ok (.ishl, 1) := by decide +kernel
theorem dX0_contentOf_82 : decode cX0_contentOf 82 = .ok (.ior, 1) := by decide +kernel
theorem dX0_contentOf_83 : decode cX0_contentOf 83 = .ok (.istore_n 3, 1) := by decide +kernel
theorem dX0_contentOf_84 : decode cX0_contentOf 84 = .ok (.iinc 4 1, 3) := by decide +kernel
theorem dX0_contentOf_87 : decode cX0_contentOf 87 = .ok (.iinc 7 1, 3) := by decide +kernel
theorem dX0_contentOf_90 : decode cX0_contentOf 90 = .ok (.goto (-34), 3) := by decide +kernel
theorem dX0_contentOf_93 : decode cX0_contentOf 93 = .ok (.iinc 5 1, 3) := by decide +kernel
theorem dX0_contentOf_96 : decode cX0_contentOf 96 = .ok (.goto (-65), 3) := by decide +kernel
theorem dX0_contentOf_99 : decode cX0_contentOf 99 = .ok (.iload_n 3, 1) := by decide +kernel
theorem dX0_contentOf_100 : decode cX0_contentOf 100 = .ok (.ireturn, 1) := by decide +kernel
theorem lkX0_contentOf : GoodIn lw_all (wsV RX0 56 RX0 yX0_contentOf (ws_ yX0_contentOf cX0_contentOf 8 (some .int))) ∧ yX0_contentOf.cls = RX0 ∧ yX0_contentOf.cls ≠ "java/lang/invoke/MethodHandle" ∧ yX0_contentOf.cls ≠ "java/lang/invoke/VarHandle" ∧ (parseMethodDescriptor yX0_contentOf.desc).map (fun d => d.parameters.length) = some 1 := ⟨lw_V q88 q90 qs1 q26 q91, by decide +kernel⟩
set_option maxHeartbeats 4000000 in
theorem lqX0_contentOf {M : Mx} {τ : St} {z p at_ r run : Int} {D len : Nat} (hz : 0 ≤ z ∧ z ≤ 4095) (hrun : 8 ≤ run ∧ run ≤ 39) (hlen : (len : Int) = run / 8) (hD4 : D + len ≤ 4) (hdg : ∀ t : Nat, t < 4 → (D : Int) ≤ t → (t : Int) < D + len → dgt z t = run % 8) (h : Cx 0 M cX0_contentOf 8 0) (hx : ∀ (q : Nat) (t cn : Int), q = len → t = ((D + q : Nat) : Int) → cn = z % 2 ^ (3 * (D + q)) → ∀ kk : Int, WX 0 M 93 [.inr 0, .inl p, .inl at_, .inl cn, .inl t, .inl r, .inl run, .inl kk] [] τ) : ∀ (k q : Nat) (kk t cn : Int), kk = q → q ≤ len → len < q + k → t = ((D + q : Nat) : Int) → cn = z % 2 ^ (3 * (D + q)) → WX 0 M 56 [.inr 0, .inl p, .inl at_, .inl cn, .inl t, .inl r, .inl run, .inl kk] [] τ := by
  intro k
  induction k with
  | zero => intro q kk t cn h1 h2 h3; omega
  | succ k ih =>
    intro q kk t cn hkk hq hk ht hcn
    refine x_iload (q := 58) h dX0_contentOf_56 rfl rfl ?_
    refine x_iload (q := 60) h dX0_contentOf_58 rfl rfl ?_
    refine x_iconst (q := 61) h dX0_contentOf_60 rfl ?_
    refine x_ishr (q := 62) (run / 2 ^ 3) h dX0_contentOf_61 (jI_shr (k := 3) (by omega) (by omega) (by decide)) rfl ?_
    refine x_icmp_ge (tgt := 93) (q := 65) h dX0_contentOf_62 (by decide) rfl (by omega) (by omega) (fun c62 => ?_) (fun c62 => ?_)
    · have hq : q = len := by omega
      exact hx q t cn (by omega) ht hcn kk
    · refine x_iload (q := 67) h dX0_contentOf_65 rfl rfl ?_
      refine x_iconst (q := 68) h dX0_contentOf_67 rfl ?_
      refine x_icmp_ge (tgt := 93) (q := 71) h dX0_contentOf_68 (by decide) rfl (by omega) (by omega) (fun c68 => ?_) (fun c68 => ?_)
      · have hq : q = len := by omega
        exact hx q t cn (by omega) ht hcn kk
      · have hD := hdg (D + q) (by omega) (by omega) (by omega)
        have hd := dg_step (z := z) (t := D + q) hz.1 hz.2 (by omega)
        rw [hD] at hd
        have hr8 : 0 ≤ run % 8 ∧ run % 8 < 8 := by omega
        refine x_iload_n (q := 72) h dX0_contentOf_71 rfl rfl rfl ?_
        refine x_iload (q := 74) h dX0_contentOf_72 rfl rfl ?_
        refine x_bipush (q := 76) h dX0_contentOf_74 rfl (by decide) ?_
        refine x_iand (q := 77) (run % 8) h dX0_contentOf_76 (jI_and7 (by omega) (by omega)) rfl ?_
        refine x_iconst (q := 78) h dX0_contentOf_77 rfl ?_
        refine x_iload (q := 80) h dX0_contentOf_78 rfl rfl ?_
        refine x_imul (q := 81) h dX0_contentOf_80 rfl ?_
        refine x_top (show (3 : Int) * t = ((3 * (D + q) : Nat) : Int) by omega) ?_
        refine x_ishl (q := 82) (run % 8 * 2 ^ (3 * (D + q))) h dX0_contentOf_81 (jI_shl (by omega) hd.2.2.2 (by omega)) rfl ?_
        refine x_ior (q := 83) (cn + run % 8 * 2 ^ (3 * (D + q))) h dX0_contentOf_82 (by rw [hcn]; exact jI_or (3 * (D + q)) hd.2.1 hd.2.2.1 (by omega) hd.2.2.2) rfl ?_
        rw [← hcn] at hd
        refine x_istore_n (q := 84) (vs' := [.inr 0, .inl p, .inl at_, .inl (cn + run % 8 * 2 ^ (3 * (D + q))), .inl t, .inl r, .inl run, .inl kk]) h dX0_contentOf_83 rfl (by decide) (Nat.le_of_ble_eq_true rfl) rfl rfl ?_
        refine x_iinc (q := 87) (vs' := [.inr 0, .inl p, .inl at_, .inl (cn + run % 8 * 2 ^ (3 * (D + q))), .inl (t + 1), .inl r, .inl run, .inl kk]) h dX0_contentOf_84 (by decide) rfl rfl rfl ?_
        refine x_iinc (q := 90) (vs' := [.inr 0, .inl p, .inl at_, .inl (cn + run % 8 * 2 ^ (3 * (D + q))), .inl (t + 1), .inl r, .inl run, .inl (kk + 1)]) h dX0_contentOf_87 (by decide) rfl rfl rfl ?_
        refine x_goto (tgt := 56) h dX0_contentOf_90 (by decide) ?_
        exact ih (q + 1) _ _ _ (by omega) (by omega) (by omega) (by omega) (by rw [show (D + (q + 1) : Nat) = (D + q) + 1 by omega]; exact hd.1)
set_option maxHeartbeats 4000000 in
theorem lpX0_contentOf {M : Mx} {τ : St} {z p at_ : Int} (hz : 0 ≤ z ∧ z ≤ 4095) (hat : 0 ≤ at_ ∧ at_ + rn z 3 < 80) (hcell : ∀ i : Int, 0 ≤ i → i ≤ rn z 3 → τ 5 (at_ + i) = kod z i) (h : Cx 0 M cX0_contentOf 8 0) (hr : RtI 0 M .int (fun r τ' => τ = τ' ∧ r = z)) : ∀ (k n : Nat) (cn t r : Int), r = n + 1 → (n : Int) ≤ rn z 3 → rn z 3 < n + k → t = Dz z n → cn = z % 2 ^ (3 * (Dz z n).toNat) → WX 0 M 31 [.inr 0, .inl p, .inl at_, .inl cn, .inl t, .inl r] [] τ := by
  have h3 := rn_rg z 3
  intro k
  induction k with
  | zero => intro n cn t r h1 h2 h3; omega
  | succ k ih =>
    intro n cn t r hr2 hn hk ht hcn
    have hDr0 := Dz_rg hz.1 hz.2 n (by omega)
    refine x_iload (q := 33) h dX0_contentOf_31 rfl rfl ?_
    refine x_aload_n (q := 34) h dX0_contentOf_33 rfl rfl rfl ?_
    refine x0_geta (k := 5) (q := 37) h rfl q41 dX0_contentOf_34 rfl ?_
    refine x_iload_n (q := 38) h dX0_contentOf_37 rfl rfl rfl ?_
    refine x_iald (k := 5) (n := 80) (q := 39) h rfl dX0_contentOf_38 rfl (by omega) (fun v38 e38 l38 u38 => ?_)
    have e38b : v38 = rn z 3 := by rw [e38]; have := hcell 0 (by omega) (by omega); rw [Int.add_zero, kod_0] at this; exact this
    refine x_icmp_gt (tgt := 99) (q := 42) h dX0_contentOf_39 (by decide) rfl (by omega) (by omega) (fun c39 => ?_) (fun c39 => ?_)
    · refine x_iload_n (q := 100) h dX0_contentOf_99 rfl rfl rfl ?_
      exact x_iret h hr dX0_contentOf_100 (by rw [hcn, show (Dz z n).toNat = 4 by rw [show n = (rn z 3).toNat by omega, D_end hz.1 hz.2]; rfl, dg_end hz.1 hz.2]; omega) (⟨rfl, by rw [hcn, show (Dz z n).toNat = 4 by rw [show n = (rn z 3).toNat by omega, D_end hz.1 hz.2]; rfl]; exact dg_end hz.1 hz.2⟩)
    · refine x_aload_n (q := 43) h dX0_contentOf_42 rfl rfl rfl ?_
      refine x0_geta (k := 5) (q := 46) h rfl q41 dX0_contentOf_43 rfl ?_
      refine x_iload_n (q := 47) h dX0_contentOf_46 rfl rfl rfl ?_
      refine x_iload (q := 49) h dX0_contentOf_47 rfl rfl ?_
      refine x_iadd (q := 50) h dX0_contentOf_49 rfl ?_
      refine x_iald (k := 5) (n := 80) (q := 51) h rfl dX0_contentOf_50 rfl (by omega) (fun v50 e50 l50 u50 => ?_)
      have e50b : v50 = kod z (n + 1) := by rw [e50, show at_ + r = at_ + (n + 1) by omega]; exact hcell (n + 1) (by omega) (by omega)
      have hrun := D_run hz.1 hz.2 (r := n) (by omega)
      rw [← e50b] at hrun
      have hDn : Dz z (n + 1) = Dz z n + v50 / 8 := by rw [e50b]; rfl
      have hDr := Dz_rg hz.1 hz.2 n (by omega)
      refine x_istore (q := 53) (vs' := [.inr 0, .inl p, .inl at_, .inl cn, .inl t, .inl r, .inl v50]) h dX0_contentOf_51 (by decide) (Nat.le_of_ble_eq_true rfl) rfl rfl ?_
      refine x_iconst (q := 54) h dX0_contentOf_53 rfl ?_
      refine x_istore (q := 56) (vs' := [.inr 0, .inl p, .inl at_, .inl cn, .inl t, .inl r, .inl v50, .inl 0]) h dX0_contentOf_54 (by decide) (Nat.le_of_ble_eq_true rfl) rfl rfl ?_
      refine lqX0_contentOf (z := z) (D := (Dz z n).toNat) (len := (v50 / 8).toNat) hz (by omega) (by omega) (by omega) ?_ h ?_ 5 0 _ _ _ (by omega) (by omega) (by omega) (by omega) ?_
      · intro t' a1 a2 a3
        rw [hrun.2.2.2 t' a1 (by omega) (by omega)]
      · intro q t' cn' a1 a2 a3 kk
        refine x_iinc (q := 96) (vs' := [.inr 0, .inl p, .inl at_, .inl cn', .inl t', .inl (r + 1), .inl v50, .inl kk]) h dX0_contentOf_93 (by decide) rfl rfl rfl ?_
        refine x_goto (tgt := 31) h dX0_contentOf_96 (by decide) ?_
        refine x_drop (vs' := [.inr 0, .inl p, .inl at_, .inl cn', .inl t', .inl (r + 1)]) 6 rfl ?_
        refine ih (n + 1) _ _ _ (by omega) (by omega) (by omega) (by omega) ?_
        rw [a3]; congr 2; omega
      · rw [hcn]; congr 2
set_option maxHeartbeats 4000000 in
theorem mX0_contentOf {τ : St} (p : Int) (r_p : -2147483648 ≤ p ∧ p ≤ 2147483647) {z : Int} (hp : (p < 0 ∧ z = 0) ∨ (0 ≤ p ∧ p < 33 ∧ Pl τ p z)) : CtI 0 yX0_contentOf cX0_contentOf 8 0 .int [p] τ (fun r τ' => τ = τ' ∧ r = z) := by
  refine CtI.of (by decide) rfl (Nat.le_of_ble_eq_true rfl) (fun M h hr => ?_)
  show WX 0 M 0 [.inr 0, .inl p] [] τ
  refine x_iload_n (q := 1) h dX0_contentOf_0 rfl rfl rfl ?_
  refine x_if_ge (tgt := 6) (q := 4) h dX0_contentOf_1 (by decide) rfl (by omega) (fun c1 => ?_) (fun c1 => ?_)
  · refine x_aload_n (q := 7) h dX0_contentOf_6 rfl rfl rfl ?_
    refine x0_geta (k := 2) (q := 10) h rfl q38 dX0_contentOf_7 rfl ?_
    refine x_iload_n (q := 11) h dX0_contentOf_10 rfl rfl rfl ?_
    refine x_iald (k := 2) (n := 33) (q := 12) h rfl dX0_contentOf_11 rfl (by omega) (fun v11 e11 l11 u11 => ?_)
    refine x_bipush (q := 14) h dX0_contentOf_12 rfl (by decide) ?_
    refine x_imul (q := 15) h dX0_contentOf_14 rfl ?_
    refine x_aload_n (q := 16) h dX0_contentOf_15 rfl rfl rfl ?_
    refine x0_geta (k := 3) (q := 19) h rfl q39 dX0_contentOf_16 rfl ?_
    refine x_iload_n (q := 20) h dX0_contentOf_19 rfl rfl rfl ?_
    refine x_iald (k := 3) (n := 33) (q := 21) h rfl dX0_contentOf_20 rfl (by omega) (fun v20 e20 l20 u20 => ?_)
    refine x_iadd (q := 22) h dX0_contentOf_21 rfl ?_
    refine x_istore_n (q := 23) (vs' := [.inr 0, .inl p, .inl ((v11 * 8) + v20)]) h dX0_contentOf_22 rfl (by decide) (Nat.le_of_ble_eq_true rfl) rfl rfl ?_
    refine x_iconst (q := 24) h dX0_contentOf_23 rfl ?_
    refine x_istore_n (q := 25) (vs' := [.inr 0, .inl p, .inl ((v11 * 8) + v20), .inl 0]) h dX0_contentOf_24 rfl (by decide) (Nat.le_of_ble_eq_true rfl) rfl rfl ?_
    refine x_iconst (q := 26) h dX0_contentOf_25 rfl ?_
    refine x_istore (q := 28) (vs' := [.inr 0, .inl p, .inl ((v11 * 8) + v20), .inl 0, .inl 0]) h dX0_contentOf_26 (by decide) (Nat.le_of_ble_eq_true rfl) rfl rfl ?_
    refine x_iconst (q := 29) h dX0_contentOf_28 rfl ?_
    refine x_istore (q := 31) (vs' := [.inr 0, .inl p, .inl ((v11 * 8) + v20), .inl 0, .inl 0, .inl 1]) h dX0_contentOf_29 (by decide) (Nat.le_of_ble_eq_true rfl) rfl rfl ?_
    rcases hp with hp | ⟨a1, a2, hP⟩
    · exfalso; omega
    obtain ⟨b1, b2, b3, b4, b5, b6, b7, b8, b9⟩ := hP
    have hrr := room_rn (z := z) b1
    rw [← e11] at b3 b4 b7 b8 b9
    rw [← e20] at b5 b7 b9
    refine lpX0_contentOf (z := z) (by omega) (by omega) (fun i a b => b9 i a (by omega)) h hr 6 0 _ _ _ (by omega) (by have := rn_rg z 3; omega) (by have := rn_rg z 3; omega) rfl ?_
    simp [Dz]
  · refine x_iconst (q := 5) h dX0_contentOf_4 rfl ?_
    exact x_iret h hr dX0_contentOf_5 (by omega) (⟨rfl, by rcases hp with hp | hp <;> omega⟩)
end
section
/-! DedupBlocks: the log, the table, the holders. a: which pieces lie in the log and the table; K: their contents -/
set_option maxRecDepth 100000
def Lg (τ : St) (a : Int → Bool) (K : Int → Int) : Prop :=
  (0 ≤ τ 8 0 ∧ τ 8 0 < 10) ∧
  (∀ s : Int, 0 ≤ s → s < 10 → 0 ≤ τ 7 s ∧ τ 7 s ≤ τ 6 s ∧ τ 6 s ≤ 8 ∧ τ 7 s = sm (fun p => if a p = true ∧ τ 2 p = s then τ 4 p else 0) 33) ∧
  (∀ p : Int, 0 ≤ p → p < 33 → a p = true → Pl τ p (K p))
def Tb (τ : St) (a : Int → Bool) (K : Int → Int) : Prop :=
  (∀ i : Int, 0 ≤ i → i < 64 → τ 10 i = -4 ∨ τ 10 i = -5 ∨ (0 ≤ τ 10 i ∧ τ 10 i < 33 ∧ a (τ 10 i) = true)) ∧
  (∀ p : Int, 0 ≤ p → p < 33 → a p = true → ∃ d : Int, 0 ≤ d ∧ d < 64 ∧ τ 10 ((hsh (K p) + d) % 64) = p ∧ ∀ e : Int, 0 ≤ e → e < d → τ 10 ((hsh (K p) + e) % 64) ≠ -4) ∧
  (∀ i j : Int, 0 ≤ i → i < 64 → 0 ≤ j → j < 64 → 0 ≤ τ 10 i → τ 10 i = τ 10 j → i = j) ∧
  (∀ p q : Int, 0 ≤ p → p < 33 → 0 ≤ q → q < 33 → a p = true → a q = true → K p = K q → p = q)
def tot (a : Int → Bool) (K : Int → Int) : Int := sm (fun p => if a p = true then room (K p) else 0) 33
def Hd (τ : St) (a : Int → Bool) (K c : Int → Int) : Prop :=
  (∀ n : Int, 0 ≤ n → n < 32 → (τ 0 n = -4 ∧ c n = 0) ∨ (0 ≤ τ 0 n ∧ τ 0 n < 33 ∧ a (τ 0 n) = true ∧ c n = K (τ 0 n))) ∧
  (∀ p : Int, 0 ≤ p → p < 33 → τ 1 p = cnt (τ 0) p 32) ∧
  (∀ p : Int, 0 ≤ p → p < 33 → (a p = true ↔ 0 < τ 1 p)) ∧
  τ 9 0 = tot a K ∧ τ 9 0 ≤ 48
def Iv (τ : St) (c : Int → Int) : Prop := ∃ (a : Int → Bool) (K : Int → Int), Lg τ a K ∧ Tb τ a K ∧ Hd τ a K c
/-- where append puts the packed cells: the state behind it -/
def Ap (τ : St) (p : Int) (τ' : St) : Prop :=
  (∀ k' : Nat, k' ≠ 2 → k' ≠ 3 → k' ≠ 4 → k' ≠ 5 → k' ≠ 6 → k' ≠ 7 → τ' k' = τ k') ∧ τ' 2 = upF (τ 2) p (τ 8 0) ∧ τ' 3 = upF (τ 3) p (τ 6 (τ 8 0)) ∧ τ' 4 = upF (τ 4) p (τ 13 0) ∧ τ' 6 = upF (τ 6) (τ 8 0) (τ 6 (τ 8 0) + τ 13 0) ∧ τ' 7 = upF (τ 7) (τ 8 0) (τ 7 (τ 8 0) + τ 13 0) ∧ ∀ j : Int, τ' 5 j = if τ 8 0 * 8 + τ 6 (τ 8 0) ≤ j ∧ j < τ 8 0 * 8 + τ 6 (τ 8 0) + τ 13 0 then τ 12 (j - (τ 8 0 * 8 + τ 6 (τ 8 0))) else τ 5 j
/-- a segment was opened that has room: o -/
def Op_ (τ : St) (o : Int) (τ' : St) : Prop := 0 ≤ o ∧ o < 10 ∧ τ 6 o + τ 13 0 ≤ 8 ∧ (o = τ 8 0 ∨ (8 < τ 6 (τ 8 0) + τ 13 0 ∧ ∀ s : Int, 0 ≤ s → s < o → 8 < τ 6 s + τ 13 0)) ∧ (∀ k' : Nat, k' ≠ 8 → τ' k' = τ k') ∧ τ' 8 0 = o
theorem tb_none {τ : St} {a : Int → Bool} {K : Int → Int} {z n : Int} (hT : Tb τ a K) (h0 : 0 ≤ n) (h1 : n ≤ 64) (hb : ∀ e : Int, 0 ≤ e → e < n → τ 10 ((hsh z + e) % 64) ≠ -4 ∧ (0 ≤ τ 10 ((hsh z + e) % 64) → K (τ 10 ((hsh z + e) % 64)) ≠ z)) (hn : n = 64 ∨ τ 10 ((hsh z + n) % 64) = -4) : ∀ p : Int, 0 ≤ p → p < 33 → a p = true → K p ≠ z := by
  intro p p0 p1 ha hK
  obtain ⟨d, d0, d1, d2, d3⟩ := hT.2.1 p p0 p1 ha
  rw [hK] at d2 d3
  by_cases e : d < n
  · have := (hb d d0 e).2 (by omega)
    rw [d2] at this
    exact this hK
  · rcases hn with hn | hn
    · omega
    · by_cases e2 : n = d
      · rw [e2, d2] at hn; omega
      · exact d3 n h0 (by omega) hn
theorem mod64_step (h e : Int) : ((h + e) % 64 + 1) % 64 = (h + (e + 1)) % 64 := by omega
end
section
/-! DedupBlocks: log and table, method by method -/
set_option maxRecDepth 100000
theorem dX0_openRoom_0 : decode cX0_openRoom 0 = .ok (.aload_n 0, 1) := by decide +kernel
theorem dX0_openRoom_1 : decode cX0_openRoom 1 = .ok (.getfield 28, 3) := by decide +kernel
theorem dX0_openRoom_4 : decode cX0_openRoom 4 = .ok (.aload_n 0, 1) := by decide +kernel
theorem dX0_openRoom_5 : decode cX0_openRoom 5 = .ok (.getfield 62, 3) := by decide +kernel
theorem dX0_openRoom_8 : decode cX0_openRoom 8 = .ok (.iaload, 1) := by decide +kernel
theorem dX0_openRoom_9 : decode cX0_openRoom 9 = .ok (.aload_n 0, 1) := by decide +kernel
theorem dX0_openRoom_10 : decode cX0_openRoom 10 = .ok (.getfield 43, 3) := by decide +kernel
theorem dX0_openRoom_13 : decode cX0_openRoom 13 = .ok (.iadd, 1) := by decide +kernel
theorem dX0_openRoom_14 : decode cX0_openRoom 14 = .ok (.bipush 8, 2) := by decide +kernel
theorem dX0_openRoom_16 : decode cX0_openRoom 16 = .ok (.if_icmp .gt 7, 3) := by decide +kernel
theorem dX0_openRoom_19 : decode cX0_openRoom 19 = .ok (.iconst 1, 1) := by decide +kernel
theorem dX0_openRoom_20 : decode cX0_openRoom 20 = .ok (.goto 4, 3) := by decide +kernel
theorem dX0_openRoom_23 : decode cX0_openRoom 23 = .ok (.iconst 0, 1) := by decide +kernel
theorem dX0_openRoom_24 : decode cX0_openRoom 24 = .ok (.istore_n 1, 1) := by decide +kernel
theorem dX0_openRoom_25 : decode cX0_openRoom 25 = .ok (.iconst 0, 1) := by decide +kernel
theorem dX0_openRoom_26 : decode cX0_openRoom 26 = .ok (.istore_n 2, 1) := by decide +kernel
theorem dX0_openRoom_27 : decode cX0_openRoom 27 = .ok (.iload_n 2, 1) := by decide +kernel
theorem dX0_openRoom_28 : decode cX0_openRoom 28 = .ok (.bipush 10, 2) := by decide +kernel
theorem dX0_openRoom_30 : decode cX0_openRoom 30 = .ok (.if_icmp .ge 36, 3) := by decide +kernel
theorem dX0_openRoom_33 : decode cX0_openRoom 33 = .ok (.iload_n 1, 1) := by decide +kernel
theorem dX0_openRoom_34 : decode cX0_openRoom 34 = .ok (.ifCond .ne 32, 3) := by decide +kernel
theorem dX0_openRoom_37 : decode cX0_openRoom 37 = .ok (.aload_n 0, 1) := by decide +kernel
theorem dX0_openRoom_38 : decode cX0_openRoom 38 = .ok (.getfield 28, 3) := by decide +kernel
theorem dX0_openRoom_41 : decode cX0_openRoom 41 = .ok (.iload_n 2, 1) := by decide +kernel
theorem dX0_openRoom_42 : decode cX0_openRoom 42 = .ok (.iaload, 1) := by decide +kernel
theorem dX0_openRoom_43 : decode cX0_openRoom 43 = .ok (.aload_n 0, 1) := by decide +kernel
theorem dX0_openRoom_44 : decode cX0_openRoom 44 = .ok (.getfield 43, 3) := by decide +kernel
theorem dX0_openRoom_47 : decode cX0_openRoom 47 = .ok (.iadd, 1) := by decide +kernel
theorem dX0_openRoom_48 : decode cX0_openRoom 48 = .ok (.bipush 8, 2) := by decide +kernel
theorem dX0_openRoom_50 : decode cX0_openRoom 50 = .ok (.if_icmp .gt 10, 3) := by decide +kernel
theorem dX0_openRoom_53 : decode cX0_openRoom 53 = .ok (.aload_n 0, 1) := by decide +kernel
theorem dX0_openRoom_54 : decode cX0_openRoom 54 = .ok (.iload_n 2, 1) := by decide +kernel
theorem dX0_openRoom_55 : decode cX0_openRoom 55 = .ok (.putfield 62, 3) := by decide +kernel
theorem dX0_openRoom_58 : decode cX0_openRoom 58 = .ok (.iconst 1, 1) := by decide +kernel
theorem dX0_openRoom_59 : decode cX0_openRoom 59 = .ok (.istore_n 1, 1) := by decide +kernel
theorem dX0_openRoom_60 : decode cX0_openRoom 60 = .ok (.iinc 2 1, 3) := by decide +kernel
theorem dX0_openRoom_63 : decode cX0_openRoom 63 = .ok (.goto (-36), 3) := by decide +kernel
theorem dX0_openRoom_66 : decode cX0_openRoom 66 = .ok (.iload_n 1, 1) := by decide +kernel
theorem dX0_openRoom_67 : decode cX0_openRoom 67 = .ok (.ireturn, 1) := by decide +kernel
theorem lkX0_openRoom : GoodIn lw_all (wsV RX0 65 RX0 yX0_openRoom (ws_ yX0_openRoom cX0_openRoom 3 (some .boolean))) ∧ yX0_openRoom.cls = RX0 ∧ yX0_openRoom.cls ≠ "java/lang/invoke/MethodHandle" ∧ yX0_openRoom.cls ≠ "java/lang/invoke/VarHandle" ∧ (parseMethodDescriptor yX0_openRoom.desc).map (fun d => d.parameters.length) = some 0 := ⟨lw_V q129 q131 qs10 q26 q132, by decide +kernel⟩
set_option maxHeartbeats 4000000 in
theorem lpX0_openRoom {M : Mx} {τ : St} (h : Cx 0 M cX0_openRoom 3 0) (hr : RtI 0 M .boolean (fun r τ' => (r = 1 ∧ ∃ o : Int, Op_ τ o τ') ∨ (r = 0 ∧ τ = τ' ∧ ∀ s : Int, 0 ≤ s → s < 10 → 8 < τ 6 s + τ 13 0))) : ∀ (k : Nat) (x fits : Int) (σ : St), 0 ≤ x → x ≤ 10 → 10 - x < k → ((fits = 1 ∧ ∃ o : Int, Op_ τ o σ) ∨ (fits = 0 ∧ τ = σ ∧ 8 < τ 6 (τ 8 0) + τ 13 0 ∧ ∀ s : Int, 0 ≤ s → s < x → 8 < τ 6 s + τ 13 0)) → WX 0 M 27 [.inr 0, .inl fits, .inl x] [] σ := by
  intro k
  induction k with
  | zero => intro x fits σ h1 h2 h3; omega
  | succ k ih =>
    intro x fits σ h0 hx hk hJ
    have hfr : -2147483648 ≤ fits ∧ fits ≤ 2147483647 := by rcases hJ with ⟨j0, -⟩ | ⟨j0, -⟩ <;> omega
    refine x_iload_n (q := 28) h dX0_openRoom_27 rfl rfl rfl ?_
    refine x_bipush (q := 30) h dX0_openRoom_28 rfl (by decide) ?_
    refine x_icmp_ge (tgt := 66) (q := 33) h dX0_openRoom_30 (by decide) rfl (by omega) (by omega) (fun c30 => ?_) (fun c30 => ?_)
    · refine x_iload_n (q := 67) h dX0_openRoom_66 rfl rfl rfl ?_
      refine x_zret h hr dX0_openRoom_67 (by rcases hJ with ⟨j0, -⟩ | ⟨j0, -⟩ <;> omega) ?_
      rcases hJ with ⟨j0, o, jo⟩ | ⟨j0, j1, j2, j3⟩
      · exact Or.inl ⟨j0, o, jo⟩
      · exact Or.inr ⟨j0, j1, fun s' a1 a2 => j3 s' a1 (by omega)⟩
    · refine x_iload_n (q := 34) h dX0_openRoom_33 rfl rfl rfl ?_
      refine x_if_ne (tgt := 66) (q := 37) h dX0_openRoom_34 (by decide) rfl (hfr) (fun c34 => ?_) (fun c34 => ?_)
      · refine x_iload_n (q := 67) h dX0_openRoom_66 rfl rfl rfl ?_
        refine x_zret h hr dX0_openRoom_67 (by rcases hJ with ⟨j0, -⟩ | ⟨j0, -⟩ <;> omega) ?_
        rcases hJ with ⟨j0, o, jo⟩ | ⟨j0, j1, j2, j3⟩
        · exact Or.inl ⟨j0, o, jo⟩
        · exact Or.inr ⟨j0, j1, fun s' a1 a2 => j3 s' a1 (by omega)⟩
      · rcases hJ with ⟨j0, -⟩ | ⟨j0, j1, j2, j3⟩
        · exfalso; omega
        subst j1
        refine x_aload_n (q := 38) h dX0_openRoom_37 rfl rfl rfl ?_
        refine x0_geta (k := 6) (q := 41) h rfl q42 dX0_openRoom_38 rfl ?_
        refine x_iload_n (q := 42) h dX0_openRoom_41 rfl rfl rfl ?_
        refine x_iald (k := 6) (n := 10) (q := 43) h rfl dX0_openRoom_42 rfl (by omega) (fun v42 e42 l42 u42 => ?_)
        refine x_aload_n (q := 44) h dX0_openRoom_43 rfl rfl rfl ?_
        refine x0_geti (k := 13) (q := 47) h (by decide) q49 dX0_openRoom_44 rfl (fun v44 e44 l44 u44 => ?_)
        refine x_iadd (q := 48) h dX0_openRoom_47 rfl ?_
        refine x_bipush (q := 50) h dX0_openRoom_48 rfl (by decide) ?_
        refine x_icmp_gt (tgt := 60) (q := 53) h dX0_openRoom_50 (by decide) rfl (by omega) (by omega) (fun c50 => ?_) (fun c50 => ?_)
        · refine x_iinc (q := 63) (vs' := [.inr 0, .inl fits, .inl (x + 1)]) h dX0_openRoom_60 (by decide) rfl rfl rfl ?_
          refine x_goto (tgt := 27) h dX0_openRoom_63 (by decide) ?_
          refine ih (x + 1) fits _ (by omega) (by omega) (by omega) (Or.inr ⟨j0, rfl, j2, fun s' a1 a2 => ?_⟩)
          by_cases e : s' = x
          · rw [e, ← e42, ← e44]; omega
          · exact j3 s' a1 (by omega)
        · refine x_aload_n (q := 54) h dX0_openRoom_53 rfl rfl rfl ?_
          refine x_iload_n (q := 55) h dX0_openRoom_54 rfl rfl rfl ?_
          refine x0_puti (k := 8) (q := 58) h (by decide) q44 dX0_openRoom_55 rfl (by omega) ?_
          refine x_iconst (q := 59) h dX0_openRoom_58 rfl ?_
          refine x_istore_n (q := 60) (vs' := [.inr 0, .inl 1, .inl x]) h dX0_openRoom_59 rfl (by decide) (Nat.le_of_ble_eq_true rfl) rfl rfl ?_
          refine x_iinc (q := 63) (vs' := [.inr 0, .inl 1, .inl (x + 1)]) h dX0_openRoom_60 (by decide) rfl rfl rfl ?_
          refine x_goto (tgt := 27) h dX0_openRoom_63 (by decide) ?_
          refine ih (x + 1) 1 _ (by omega) (by omega) (by omega) (Or.inl ⟨rfl, x, by omega, by omega, by rw [← e42, ← e44]; omega, Or.inr ⟨j2, j3⟩, fun k' a1 => up_fne a1, up_eq⟩)
set_option maxHeartbeats 4000000 in
theorem mX0_openRoom {τ : St} (ho : 0 ≤ τ 8 0 ∧ τ 8 0 < 10) : CtI 0 yX0_openRoom cX0_openRoom 3 0 .boolean [] τ (fun r τ' => (r = 1 ∧ ∃ o : Int, Op_ τ o τ') ∨ (r = 0 ∧ τ = τ' ∧ ∀ s : Int, 0 ≤ s → s < 10 → 8 < τ 6 s + τ 13 0)) := by
  refine CtI.of (by decide) rfl (Nat.le_of_ble_eq_true rfl) (fun M h hr => ?_)
  show WX 0 M 0 [.inr 0] [] τ
  refine x_aload_n (q := 1) h dX0_openRoom_0 rfl rfl rfl ?_
  refine x0_geta (k := 6) (q := 4) h rfl q42 dX0_openRoom_1 rfl ?_
  refine x_aload_n (q := 5) h dX0_openRoom_4 rfl rfl rfl ?_
  refine x0_geti (k := 8) (q := 8) h (by decide) q44 dX0_openRoom_5 rfl (fun v5 e5 l5 u5 => ?_)
  refine x_iald (k := 6) (n := 10) (q := 9) h rfl dX0_openRoom_8 rfl (by omega) (fun v8 e8 l8 u8 => ?_)
  refine x_aload_n (q := 10) h dX0_openRoom_9 rfl rfl rfl ?_
  refine x0_geti (k := 13) (q := 13) h (by decide) q49 dX0_openRoom_10 rfl (fun v10 e10 l10 u10 => ?_)
  refine x_iadd (q := 14) h dX0_openRoom_13 rfl ?_
  refine x_bipush (q := 16) h dX0_openRoom_14 rfl (by decide) ?_
  refine x_icmp_gt (tgt := 23) (q := 19) h dX0_openRoom_16 (by decide) rfl (by omega) (by omega) (fun c16 => ?_) (fun c16 => ?_)
  · refine x_iconst (q := 24) h dX0_openRoom_23 rfl ?_
    refine x_istore_n (q := 25) (vs' := [.inr 0, .inl 0]) h dX0_openRoom_24 rfl (by decide) (Nat.le_of_ble_eq_true rfl) rfl rfl ?_
    refine x_iconst (q := 26) h dX0_openRoom_25 rfl ?_
    refine x_istore_n (q := 27) (vs' := [.inr 0, .inl 0, .inl 0]) h dX0_openRoom_26 rfl (by decide) (Nat.le_of_ble_eq_true rfl) rfl rfl ?_
    exact lpX0_openRoom h hr 11 0 0 τ (by omega) (by omega) (by omega) (Or.inr ⟨rfl, rfl, by rw [← e5, ← e8, ← e10]; omega, fun s' a1 a2 => by omega⟩)
  · refine x_iconst (q := 20) h dX0_openRoom_19 rfl ?_
    refine x_goto (tgt := 24) h dX0_openRoom_20 (by decide) ?_
    refine x_istore_n (q := 25) (vs' := [.inr 0, .inl 1]) h dX0_openRoom_24 rfl (by decide) (Nat.le_of_ble_eq_true rfl) rfl rfl ?_
    refine x_iconst (q := 26) h dX0_openRoom_25 rfl ?_
    refine x_istore_n (q := 27) (vs' := [.inr 0, .inl 1, .inl 0]) h dX0_openRoom_26 rfl (by decide) (Nat.le_of_ble_eq_true rfl) rfl rfl ?_
    exact lpX0_openRoom h hr 11 0 1 τ (by omega) (by omega) (by omega) (Or.inl ⟨rfl, τ 8 0, by omega, by omega, by rw [← e5, ← e8, ← e10]; omega, Or.inl rfl, fun k' _ => rfl, rfl⟩)

theorem dX0_append_0 : decode cX0_append 0 = .ok (.iconst 0, 1) := by decide +kernel
theorem dX0_append_1 : decode cX0_append 1 = .ok (.istore_n 2, 1) := by decide +kernel
theorem dX0_append_2 : decode cX0_append 2 = .ok (.iload_n 2, 1) := by decide +kernel
theorem dX0_append_3 : decode cX0_append 3 = .ok (.aload_n 0, 1) := by decide +kernel
theorem dX0_append_4 : decode cX0_append 4 = .ok (.getfield 43, 3) := by decide +kernel
theorem dX0_append_7 : decode cX0_append 7 = .ok (.if_icmp .ge 39, 3) := by decide +kernel
theorem dX0_append_10 : decode cX0_append 10 = .ok (.aload_n 0, 1) := by decide +kernel
theorem dX0_append_11 : decode cX0_append 11 = .ok (.getfield 25, 3) := by decide +kernel
theorem dX0_append_14 : decode cX0_append 14 = .ok (.aload_n 0, 1) := by decide +kernel
theorem dX0_append_15 : decode cX0_append 15 = .ok (.getfield 62, 3) := by decide +kernel
theorem dX0_append_18 : decode cX0_append 18 = .ok (.bipush 8, 2) := by decide +kernel
theorem dX0_append_20 : decode cX0_append 20 = .ok (.imul, 1) := by decide +kernel
theorem dX0_append_21 : decode cX0_append 21 = .ok (.aload_n 0, 1) := by decide +kernel
theorem dX0_append_22 : decode cX0_append 22 = .ok (.getfield 28, 3) := by decide +kernel
theorem dX0_append_25 : decode cX0_append 25 = .ok (.aload_n 0, 1) := by decide +kernel
theorem dX0_append_26 : decode cX0_append 26 = .ok (.getfield 62, 3) := by decide +kernel
theorem dX0_append_29 : decode cX0_append 29 = .ok (.iaload, 1) := by decide +kernel
theorem dX0_append_30 : decode cX0_append 30 = .ok (.iadd, 1) := by decide +kernel
theorem dX0_append_31 : decode cX0_append 31 = .ok (.iload_n 2, 1) := by decide +kernel
theorem dX0_append_32 : decode cX0_append 32 = .ok (.iadd, 1) := by decide +kernel
theorem dX0_append_33 : decode cX0_append 33 = .ok (.aload_n 0, 1) := by decide +kernel
theorem dX0_append_34 : decode cX0_append 34 = .ok (.getfield 40, 3) := by decide +kernel
theorem dX0_append_37 : decode cX0_append 37 = .ok (.iload_n 2, 1) := by decide +kernel
theorem dX0_append_38 : decode cX0_append 38 = .ok (.iaload, 1) := by decide +kernel
theorem dX0_append_39 : decode cX0_append 39 = .ok (.iastore, 1) := by decide +kernel
theorem dX0_append_40 : decode cX0_append 40 = .ok (.iinc 2 1, 3) := by decide +kernel
theorem dX0_append_43 : decode cX0_append 43 = .ok (.goto (-41), 3) := by decide +kernel
theorem dX0_append_46 : decode cX0_append 46 = .ok (.aload_n 0, 1) := by decide +kernel
theorem dX0_append_47 : decode cX0_append 47 = .ok (.getfield 16, 3) := by decide +kernel
theorem dX0_append_50 : decode cX0_append 50 = .ok (.iload_n 1, 1) := by decide +kernel
theorem dX0_append_51 : decode cX0_append 51 = .ok (.aload_n 0, 1) := by decide +kernel
theorem dX0_append_52 : decode cX0_append 52 = .ok (.getfield 62, 3) := by decide +kernel
theorem dX0_append_55 : decode cX0_append 55 = .ok (.iastore, 1) := by decide +kernel
theorem dX0_append_56 : decode cX0_append 56 = .ok (.aload_n 0, 1) := by decide +kernel
theorem dX0_append_57 : decode cX0_append 57 = .ok (.getfield 19, 3) := by decide +kernel
theorem dX0_append_60 : decode cX0_append 60 = .ok (.iload_n 1, 1) := by decide +kernel
theorem dX0_append_61 : decode cX0_append 61 = .ok (.aload_n 0, 1) := by decide +kernel
theorem dX0_append_62 : decode cX0_append 62 = .ok (.getfield 28, 3) := by decide +kernel
theorem dX0_append_65 : decode cX0_append 65 = .ok (.aload_n 0, 1) := by decide +kernel
theorem dX0_append_66 : decode cX0_append 66 = .ok (.getfield 62, 3) := by decide +kernel
theorem dX0_append_69 : decode cX0_append 69 = .ok (.iaload, 1) := by decide +kernel
theorem dX0_append_70 : decode cX0_append 70 = .ok (.iastore, 1) := by decide +kernel
theorem dX0_append_71 : decode cX0_append 71 = .ok (.aload_n 0, 1) := by decide +kernel
theorem dX0_append_72 : decode cX0_append 72 = .ok (.getfield 22, 3) := by decide +kernel
theorem dX0_append_75 : decode cX0_append 75 = .ok (.iload_n 1, 1) := by decide +kernel
theorem dX0_append_76 : decode cX0_append 76 = .ok (.aload_n 0, 1) := by decide +kernel
theorem dX0_append_77 : decode cX0_append 77 = .ok (.getfield 43, 3) := by decide +kernel
theorem dX0_append_80 : decode cX0_append 80 = .ok (.iastore, 1) := by decide +kernel
theorem dX0_append_81 : decode cX0_append 81 = .ok (.aload_n 0, 1) := by decide +kernel
theorem dX0_append_82 : decode cX0_append 82 = .ok (.getfield 28, 3) := by decide +kernel
theorem dX0_append_85 : decode cX0_append 85 = .ok (.aload_n 0, 1) := by decide +kernel
theorem dX0_append_86 : decode cX0_append 86 = .ok (.getfield 62, 3) := by decide +kernel
theorem dX0_append_89 : decode cX0_append 89 = .ok (.aload_n 0, 1) := by decide +kernel
theorem dX0_append_90 : decode cX0_append 90 = .ok (.getfield 28, 3) := by decide +kernel
theorem dX0_append_93 : decode cX0_append 93 = .ok (.aload_n 0, 1) := by decide +kernel
theorem dX0_append_94 : decode cX0_append 94 = .ok (.getfield 62, 3) := by decide +kernel
theorem dX0_append_97 : decode cX0_append 97 = .ok (.iaload, 1) := by decide +kernel
theorem dX0_append_98 : decode cX0_append 98 = .ok (.aload_n 0, 1) := by decide +kernel
theorem dX0_append_99 : decode cX0_append 99 = .ok (.getfield 43, 3) := by decide +kernel
theorem dX0_append_102 : decode cX0_append 102 = .ok (.iadd, 1) := by decide +kernel
theorem dX0_append_103 : decode cX0_append 103 = .ok (.iastore, 1) := by decide +kernel
theorem dX0_append_104 : decode cX0_append 104 = .ok (.aload_n 0, 1) := by decide +kernel
theorem dX0_append_105 : decode cX0_append 105 = .ok (.getfield 31, 3) := by decide +kernel
theorem dX0_append_108 : decode cX0_append 108 = .ok (.aload_n 0, 1) := by decide +kernel
theorem dX0_append_109 : decode cX0_append 109 = .ok (.getfield 62, 3) := by decide +kernel
theorem dX0_append_112 : decode cX0_append 112 = .ok (.aload_n 0, 1) := by decide +kernel
theorem dX0_append_113 : decode cX0_append 113 = .ok (.getfield 31, 3) := by decide +kernel
theorem dX0_append_116 : decode cX0_append 116 = .ok (.aload_n 0, 1) := by decide +kernel
theorem dX0_append_117 : decode cX0_append 117 = .ok (.getfield 62, 3) := by decide +kernel
theorem dX0_append_120 : decode cX0_append 120 = .ok (.iaload, 1) := by decide +kernel
theorem dX0_append_121 : decode cX0_append 121 = .ok (.aload_n 0, 1) := by decide +kernel
theorem dX0_append_122 : decode cX0_append 122 = .ok (.getfield 43, 3) := by decide +kernel
theorem dX0_append_125 : decode cX0_append 125 = .ok (.iadd, 1) := by decide +kernel
theorem dX0_append_126 : decode cX0_append 126 = .ok (.iastore, 1) := by decide +kernel
theorem dX0_append_127 : decode cX0_append 127 = .ok (.return_, 1) := by decide +kernel
theorem lkX0_append : GoodIn lw_all (wsV RX0 69 RX0 yX0_append (ws_ yX0_append cX0_append 3 none)) ∧ yX0_append.cls = RX0 ∧ yX0_append.cls ≠ "java/lang/invoke/MethodHandle" ∧ yX0_append.cls ≠ "java/lang/invoke/VarHandle" ∧ (parseMethodDescriptor yX0_append.desc).map (fun d => d.parameters.length) = some 1 := ⟨lw_V q137 q139 qs12 q26 q140, by decide +kernel⟩
set_option maxHeartbeats 4000000 in
theorem lpX0_append {M : Mx} {τ : St} {p : Int} (ho : 0 ≤ τ 8 0 ∧ τ 8 0 < 10) (hf : 0 ≤ τ 6 (τ 8 0)) (hp : 0 ≤ τ 13 0 ∧ τ 13 0 ≤ 5) (hfp : τ 6 (τ 8 0) + τ 13 0 ≤ 8) (h : Cx 0 M cX0_append 3 0) (hx : ∀ (x : Int) (σ : St), x = τ 13 0 → (∀ k' : Nat, k' ≠ 5 → σ k' = τ k') → (∀ j : Int, σ 5 j = if τ 8 0 * 8 + τ 6 (τ 8 0) ≤ j ∧ j < τ 8 0 * 8 + τ 6 (τ 8 0) + x then τ 12 (j - (τ 8 0 * 8 + τ 6 (τ 8 0))) else τ 5 j) → WX 0 M 46 [.inr 0, .inl p, .inl x] [] σ) : ∀ (k : Nat) (x : Int) (σ : St), 0 ≤ x → x ≤ τ 13 0 → τ 13 0 - x < k → (∀ k' : Nat, k' ≠ 5 → σ k' = τ k') → (∀ j : Int, σ 5 j = if τ 8 0 * 8 + τ 6 (τ 8 0) ≤ j ∧ j < τ 8 0 * 8 + τ 6 (τ 8 0) + x then τ 12 (j - (τ 8 0 * 8 + τ 6 (τ 8 0))) else τ 5 j) → WX 0 M 2 [.inr 0, .inl p, .inl x] [] σ := by
  intro k
  induction k with
  | zero => intro x σ h1 h2 h3; omega
  | succ k ih =>
    intro x σ h0 hx9 hk h1 h2
    refine x_iload_n (q := 3) h dX0_append_2 rfl rfl rfl ?_
    refine x_aload_n (q := 4) h dX0_append_3 rfl rfl rfl ?_
    refine x0_geti (k := 13) (q := 7) h (by decide) q49 dX0_append_4 rfl (fun v4 e4 l4 u4 => ?_)
    rw [h1 13 (by decide)] at e4
    refine x_icmp_ge (tgt := 46) (q := 10) h dX0_append_7 (by decide) rfl (by omega) (by omega) (fun c7 => ?_) (fun c7 => ?_)
    · exact hx x σ (by omega) h1 h2
    · refine x_aload_n (q := 11) h dX0_append_10 rfl rfl rfl ?_
      refine x0_geta (k := 5) (q := 14) h rfl q41 dX0_append_11 rfl ?_
      refine x_aload_n (q := 15) h dX0_append_14 rfl rfl rfl ?_
      refine x0_geti (k := 8) (q := 18) h (by decide) q44 dX0_append_15 rfl (fun v15 e15 l15 u15 => ?_)
      rw [h1 8 (by decide)] at e15
      refine x_bipush (q := 20) h dX0_append_18 rfl (by decide) ?_
      refine x_imul (q := 21) h dX0_append_20 rfl ?_
      refine x_aload_n (q := 22) h dX0_append_21 rfl rfl rfl ?_
      refine x0_geta (k := 6) (q := 25) h rfl q42 dX0_append_22 rfl ?_
      refine x_aload_n (q := 26) h dX0_append_25 rfl rfl rfl ?_
      refine x0_geti (k := 8) (q := 29) h (by decide) q44 dX0_append_26 rfl (fun v26 e26 l26 u26 => ?_)
      rw [h1 8 (by decide)] at e26
      refine x_iald (k := 6) (n := 10) (q := 30) h rfl dX0_append_29 rfl (by omega) (fun v29 e29 l29 u29 => ?_)
      rw [h1 6 (by decide), e26] at e29
      refine x_iadd (q := 31) h dX0_append_30 rfl ?_
      refine x_iload_n (q := 32) h dX0_append_31 rfl rfl rfl ?_
      refine x_iadd (q := 33) h dX0_append_32 rfl ?_
      refine x_aload_n (q := 34) h dX0_append_33 rfl rfl rfl ?_
      refine x0_geta (k := 12) (q := 37) h rfl q48 dX0_append_34 rfl ?_
      refine x_iload_n (q := 38) h dX0_append_37 rfl rfl rfl ?_
      refine x_iald (k := 12) (n := 5) (q := 39) h rfl dX0_append_38 rfl (by omega) (fun v38 e38 l38 u38 => ?_)
      refine x_iast (k := 5) (n := 80) (q := 40) h rfl dX0_append_39 rfl (by omega) (by omega) ?_
      refine x_iinc (q := 43) (vs' := [.inr 0, .inl p, .inl (x + 1)]) h dX0_append_40 (by decide) rfl rfl rfl ?_
      refine x_goto (tgt := 2) h dX0_append_43 (by decide) ?_
      refine ih (x + 1) _ (by omega) (by omega) (by omega) (fun k' a1 => by rw [up_fne a1]; exact h1 k' a1) ?_
      intro j
      rw [up_if]
      by_cases e : j = v15 * 8 + v29 + x
      · rw [if_pos e, if_pos (by omega), e38, h1 12 (by decide)]; congr 1; omega
      · rw [if_neg e, h2 j]; by_cases e2 : τ 8 0 * 8 + τ 6 (τ 8 0) ≤ j ∧ j < τ 8 0 * 8 + τ 6 (τ 8 0) + x
        · rw [if_pos e2, if_pos (by omega)]
        · rw [if_neg e2, if_neg (by omega)]
set_option maxHeartbeats 4000000 in
theorem mX0_append {τ : St} (p : Int) (hp : 0 ≤ p ∧ p < 33) (ho : 0 ≤ τ 8 0 ∧ τ 8 0 < 10) (hf : 0 ≤ τ 6 (τ 8 0)) (hl : 0 ≤ τ 7 (τ 8 0) ∧ τ 7 (τ 8 0) ≤ 8) (hps : 0 ≤ τ 13 0 ∧ τ 13 0 ≤ 5) (hfp : τ 6 (τ 8 0) + τ 13 0 ≤ 8) : CtV 0 yX0_append cX0_append 3 0 [p] τ (fun τ' => Ap τ p τ') := by
  refine CtV.of (by decide) rfl (Nat.le_of_ble_eq_true rfl) (fun M h hr => ?_)
  show WX 0 M 0 [.inr 0, .inl p] [] τ
  refine x_iconst (q := 1) h dX0_append_0 rfl ?_
  refine x_istore_n (q := 2) (vs' := [.inr 0, .inl p, .inl 0]) h dX0_append_1 rfl (by decide) (Nat.le_of_ble_eq_true rfl) rfl rfl ?_
  refine lpX0_append ho hf (by omega) hfp h ?_ 6 0 τ (by omega) (by omega) (by omega) (fun k' _ => rfl) (fun j => by rw [if_neg (by omega)])
  intro x σ hxe h1 h2
  have hl7 := hl
  refine x_aload_n (q := 47) h dX0_append_46 rfl rfl rfl ?_
  refine x0_geta (k := 2) (q := 50) h rfl q38 dX0_append_47 rfl ?_
  refine x_iload_n (q := 51) h dX0_append_50 rfl rfl rfl ?_
  refine x_aload_n (q := 52) h dX0_append_51 rfl rfl rfl ?_
  refine x0_geti (k := 8) (q := 55) h (by decide) q44 dX0_append_52 rfl (fun v52 e52 l52 u52 => ?_)
  rw [h1 8 (by decide)] at e52
  refine x_iast (k := 2) (n := 33) (q := 56) h rfl dX0_append_55 rfl (by omega) (by omega) ?_
  refine x_aload_n (q := 57) h dX0_append_56 rfl rfl rfl ?_
  refine x0_geta (k := 3) (q := 60) h rfl q39 dX0_append_57 rfl ?_
  refine x_iload_n (q := 61) h dX0_append_60 rfl rfl rfl ?_
  refine x_aload_n (q := 62) h dX0_append_61 rfl rfl rfl ?_
  refine x0_geta (k := 6) (q := 65) h rfl q42 dX0_append_62 rfl ?_
  refine x_aload_n (q := 66) h dX0_append_65 rfl rfl rfl ?_
  refine x0_geti (k := 8) (q := 69) h (by decide) q44 dX0_append_66 rfl (fun v66 e66 l66 u66 => ?_)
  rw [up_ne (by decide), h1 8 (by decide)] at e66
  refine x_iald (k := 6) (n := 10) (q := 70) h rfl dX0_append_69 rfl (by omega) (fun v69 e69 l69 u69 => ?_)
  rw [up_ne (by decide), h1 6 (by decide), e66] at e69
  refine x_iast (k := 3) (n := 33) (q := 71) h rfl dX0_append_70 rfl (by omega) (by omega) ?_
  refine x_aload_n (q := 72) h dX0_append_71 rfl rfl rfl ?_
  refine x0_geta (k := 4) (q := 75) h rfl q40 dX0_append_72 rfl ?_
  refine x_iload_n (q := 76) h dX0_append_75 rfl rfl rfl ?_
  refine x_aload_n (q := 77) h dX0_append_76 rfl rfl rfl ?_
  refine x0_geti (k := 13) (q := 80) h (by decide) q49 dX0_append_77 rfl (fun v77 e77 l77 u77 => ?_)
  rw [up_ne (by decide), up_ne (by decide), h1 13 (by decide)] at e77
  refine x_iast (k := 4) (n := 33) (q := 81) h rfl dX0_append_80 rfl (by omega) (by omega) ?_
  refine x_aload_n (q := 82) h dX0_append_81 rfl rfl rfl ?_
  refine x0_geta (k := 6) (q := 85) h rfl q42 dX0_append_82 rfl ?_
  refine x_aload_n (q := 86) h dX0_append_85 rfl rfl rfl ?_
  refine x0_geti (k := 8) (q := 89) h (by decide) q44 dX0_append_86 rfl (fun v86 e86 l86 u86 => ?_)
  rw [up_ne (by decide), up_ne (by decide), up_ne (by decide), h1 8 (by decide)] at e86
  refine x_aload_n (q := 90) h dX0_append_89 rfl rfl rfl ?_
  refine x0_geta (k := 6) (q := 93) h rfl q42 dX0_append_90 rfl ?_
  refine x_aload_n (q := 94) h dX0_append_93 rfl rfl rfl ?_
  refine x0_geti (k := 8) (q := 97) h (by decide) q44 dX0_append_94 rfl (fun v94 e94 l94 u94 => ?_)
  rw [up_ne (by decide), up_ne (by decide), up_ne (by decide), h1 8 (by decide)] at e94
  refine x_iald (k := 6) (n := 10) (q := 98) h rfl dX0_append_97 rfl (by omega) (fun v97 e97 l97 u97 => ?_)
  rw [up_ne (by decide), up_ne (by decide), up_ne (by decide), h1 6 (by decide), e94] at e97
  refine x_aload_n (q := 99) h dX0_append_98 rfl rfl rfl ?_
  refine x0_geti (k := 13) (q := 102) h (by decide) q49 dX0_append_99 rfl (fun v99 e99 l99 u99 => ?_)
  rw [up_ne (by decide), up_ne (by decide), up_ne (by decide), h1 13 (by decide)] at e99
  refine x_iadd (q := 103) h dX0_append_102 rfl ?_
  refine x_iast (k := 6) (n := 10) (q := 104) h rfl dX0_append_103 rfl (by omega) (by omega) ?_
  refine x_aload_n (q := 105) h dX0_append_104 rfl rfl rfl ?_
  refine x0_geta (k := 7) (q := 108) h rfl q43 dX0_append_105 rfl ?_
  refine x_aload_n (q := 109) h dX0_append_108 rfl rfl rfl ?_
  refine x0_geti (k := 8) (q := 112) h (by decide) q44 dX0_append_109 rfl (fun v109 e109 l109 u109 => ?_)
  rw [up_ne (by decide), up_ne (by decide), up_ne (by decide), up_ne (by decide), h1 8 (by decide)] at e109
  refine x_aload_n (q := 113) h dX0_append_112 rfl rfl rfl ?_
  refine x0_geta (k := 7) (q := 116) h rfl q43 dX0_append_113 rfl ?_
  refine x_aload_n (q := 117) h dX0_append_116 rfl rfl rfl ?_
  refine x0_geti (k := 8) (q := 120) h (by decide) q44 dX0_append_117 rfl (fun v117 e117 l117 u117 => ?_)
  rw [up_ne (by decide), up_ne (by decide), up_ne (by decide), up_ne (by decide), h1 8 (by decide)] at e117
  refine x_iald (k := 7) (n := 10) (q := 121) h rfl dX0_append_120 rfl (by omega) (fun v120 e120 l120 u120 => ?_)
  rw [up_ne (by decide), up_ne (by decide), up_ne (by decide), up_ne (by decide), h1 7 (by decide), e117] at e120
  refine x_aload_n (q := 122) h dX0_append_121 rfl rfl rfl ?_
  refine x0_geti (k := 13) (q := 125) h (by decide) q49 dX0_append_122 rfl (fun v122 e122 l122 u122 => ?_)
  rw [up_ne (by decide), up_ne (by decide), up_ne (by decide), up_ne (by decide), h1 13 (by decide)] at e122
  refine x_iadd (q := 126) h dX0_append_125 rfl ?_
  refine x_iast (k := 7) (n := 10) (q := 127) h rfl dX0_append_126 rfl (by omega) (by omega) ?_
  exact x_vret h hr dX0_append_127 (by
      refine ⟨fun k' a2 a3 a4 a5 a6 a7 => ?_, ?_, ?_, ?_, ?_, ?_, fun j => ?_⟩
      · rw [up_fne a7, up_fne a6, up_fne a4, up_fne a3, up_fne a2, h1 k' a5]
      · rw [up_fne (by decide), up_fne (by decide), up_fne (by decide), up_fne (by decide), up_upF, h1 2 (by decide), e52]
      · rw [up_fne (by decide), up_fne (by decide), up_fne (by decide), up_upF, up_fne (by decide), h1 3 (by decide), e69]
      · rw [up_fne (by decide), up_fne (by decide), up_upF, up_fne (by decide), up_fne (by decide), h1 4 (by decide), e77]
      · rw [up_fne (by decide), up_upF, up_fne (by decide), up_fne (by decide), up_fne (by decide), h1 6 (by decide), e97, e99, e86]
      · rw [up_upF, up_fne (by decide), up_fne (by decide), up_fne (by decide), up_fne (by decide), h1 7 (by decide), e120, e122, e109]
      · rw [up_ne (by decide), up_ne (by decide), up_ne (by decide), up_ne (by decide), up_ne (by decide), h2 j, hxe])

theorem dX0_freshPiece_0 : decode cX0_freshPiece 0 = .ok (.iconst 0, 1) := by decide +kernel
theorem dX0_freshPiece_1 : decode cX0_freshPiece 1 = .ok (.istore_n 1, 1) := by decide +kernel
theorem dX0_freshPiece_2 : decode cX0_freshPiece 2 = .ok (.bipush 32, 2) := by decide +kernel
theorem dX0_freshPiece_4 : decode cX0_freshPiece 4 = .ok (.istore_n 2, 1) := by decide +kernel
theorem dX0_freshPiece_5 : decode cX0_freshPiece 5 = .ok (.iload_n 2, 1) := by decide +kernel
theorem dX0_freshPiece_6 : decode cX0_freshPiece 6 = .ok (.ifCond .lt 20, 3) := by decide +kernel
theorem dX0_freshPiece_9 : decode cX0_freshPiece 9 = .ok (.aload_n 0, 1) := by decide +kernel
theorem dX0_freshPiece_10 : decode cX0_freshPiece 10 = .ok (.getfield 13, 3) := by decide +kernel
theorem dX0_freshPiece_13 : decode cX0_freshPiece 13 = .ok (.iload_n 2, 1) := by decide +kernel
theorem dX0_freshPiece_14 : decode cX0_freshPiece 14 = .ok (.iaload, 1) := by decide +kernel
theorem dX0_freshPiece_15 : decode cX0_freshPiece 15 = .ok (.ifCond .ne 5, 3) := by decide +kernel
theorem dX0_freshPiece_18 : decode cX0_freshPiece 18 = .ok (.iload_n 2, 1) := by decide +kernel
theorem dX0_freshPiece_19 : decode cX0_freshPiece 19 = .ok (.istore_n 1, 1) := by decide +kernel
theorem dX0_freshPiece_20 : decode cX0_freshPiece 20 = .ok (.iinc 2 (-1), 3) := by decide +kernel
theorem dX0_freshPiece_23 : decode cX0_freshPiece 23 = .ok (.goto (-18), 3) := by decide +kernel
theorem dX0_freshPiece_26 : decode cX0_freshPiece 26 = .ok (.iload_n 1, 1) := by decide +kernel
theorem dX0_freshPiece_27 : decode cX0_freshPiece 27 = .ok (.ireturn, 1) := by decide +kernel
theorem lkX0_freshPiece : GoodIn lw_all (wsV RX0 90 RX0 yX0_freshPiece (ws_ yX0_freshPiece cX0_freshPiece 3 (some .int))) ∧ yX0_freshPiece.cls = RX0 ∧ yX0_freshPiece.cls ≠ "java/lang/invoke/MethodHandle" ∧ yX0_freshPiece.cls ≠ "java/lang/invoke/VarHandle" ∧ (parseMethodDescriptor yX0_freshPiece.desc).map (fun d => d.parameters.length) = some 0 := ⟨lw_V q145 q147 qs14 q26 q148, by decide +kernel⟩
set_option maxHeartbeats 4000000 in
theorem lpX0_freshPiece {M : Mx} {τ : St} (hex : ∃ p : Int, 0 ≤ p ∧ p < 33 ∧ τ 1 p = 0) (h : Cx 0 M cX0_freshPiece 3 0) (hr : RtI 0 M .int (fun r τ' => τ = τ' ∧ 0 ≤ r ∧ r < 33 ∧ τ 1 r = 0)) : ∀ (k : Nat) (x y : Int), -1 ≤ x → x ≤ 32 → x + 1 < k → (0 ≤ y ∧ y < 33) → (τ 1 y = 0 ∨ ∀ p : Int, x < p → p < 33 → τ 1 p ≠ 0) → WX 0 M 5 [.inr 0, .inl y, .inl x] [] τ := by
  intro k
  induction k with
  | zero => intro x y h1 h2 h3; omega
  | succ k ih =>
    intro x y h0 hx hk hy h2
    refine x_iload_n (q := 6) h dX0_freshPiece_5 rfl rfl rfl ?_
    refine x_if_lt (tgt := 26) (q := 9) h dX0_freshPiece_6 (by decide) rfl (by omega) (fun c6 => ?_) (fun c6 => ?_)
    · refine x_iload_n (q := 27) h dX0_freshPiece_26 rfl rfl rfl ?_
      refine x_iret h hr dX0_freshPiece_27 (by omega) ⟨rfl, hy.1, hy.2, ?_⟩
      rcases h2 with h2 | h2
      · exact h2
      · obtain ⟨p, p0, p1, p2⟩ := hex
        exact absurd p2 (h2 p (by omega) p1)
    · refine x_aload_n (q := 10) h dX0_freshPiece_9 rfl rfl rfl ?_
      refine x0_geta (k := 1) (q := 13) h rfl q37 dX0_freshPiece_10 rfl ?_
      refine x_iload_n (q := 14) h dX0_freshPiece_13 rfl rfl rfl ?_
      refine x_iald (k := 1) (n := 33) (q := 15) h rfl dX0_freshPiece_14 rfl (by omega) (fun v14 e14 l14 u14 => ?_)
      refine x_if_ne (tgt := 20) (q := 18) h dX0_freshPiece_15 (by decide) rfl (by omega) (fun c15 => ?_) (fun c15 => ?_)
      · refine x_iinc (q := 23) (vs' := [.inr 0, .inl y, .inl (x + (-1))]) h dX0_freshPiece_20 (by decide) rfl rfl rfl ?_
        refine x_goto (tgt := 5) h dX0_freshPiece_23 (by decide) ?_
        refine ih _ _ (by omega) (by omega) (by omega) (by omega) ?_
        rcases h2 with h2 | h2
        · exact Or.inl h2
        · refine Or.inr (fun p a1 a2 => ?_)
          by_cases e : p = x
          · rw [e, ← e14]; exact c15
          · exact h2 p (by omega) a2
      · refine x_iload_n (q := 19) h dX0_freshPiece_18 rfl rfl rfl ?_
        refine x_istore_n (q := 20) (vs' := [.inr 0, .inl x, .inl x]) h dX0_freshPiece_19 rfl (by decide) (Nat.le_of_ble_eq_true rfl) rfl rfl ?_
        refine x_iinc (q := 23) (vs' := [.inr 0, .inl x, .inl (x + (-1))]) h dX0_freshPiece_20 (by decide) rfl rfl rfl ?_
        refine x_goto (tgt := 5) h dX0_freshPiece_23 (by decide) ?_
        refine ih _ _ (by omega) (by omega) (by omega) (by omega) ?_
        rw [e14] at c15
        exact Or.inl c15
set_option maxHeartbeats 4000000 in
theorem mX0_freshPiece {τ : St} (hex : ∃ p : Int, 0 ≤ p ∧ p < 33 ∧ τ 1 p = 0) : CtI 0 yX0_freshPiece cX0_freshPiece 3 0 .int [] τ (fun r τ' => τ = τ' ∧ 0 ≤ r ∧ r < 33 ∧ τ 1 r = 0) := by
  refine CtI.of (by decide) rfl (Nat.le_of_ble_eq_true rfl) (fun M h hr => ?_)
  show WX 0 M 0 [.inr 0] [] τ
  refine x_iconst (q := 1) h dX0_freshPiece_0 rfl ?_
  refine x_istore_n (q := 2) (vs' := [.inr 0, .inl 0]) h dX0_freshPiece_1 rfl (by decide) (Nat.le_of_ble_eq_true rfl) rfl rfl ?_
  refine x_bipush (q := 4) h dX0_freshPiece_2 rfl (by decide) ?_
  refine x_istore_n (q := 5) (vs' := [.inr 0, .inl 0, .inl 32]) h dX0_freshPiece_4 rfl (by decide) (Nat.le_of_ble_eq_true rfl) rfl rfl ?_
  exact lpX0_freshPiece hex h hr 34 32 0 (by omega) (by omega) (by omega) (by omega) (Or.inr (fun p a1 a2 => by omega))

theorem dX0_placeInTable_0 : decode cX0_placeInTable 0 = .ok (.aload_n 0, 1) := by decide +kernel
theorem dX0_placeInTable_1 : decode cX0_placeInTable 1 = .ok (.iload_n 1, 1) := by decide +kernel
theorem dX0_placeInTable_2 : decode cX0_placeInTable 2 = .ok (.invokevirtual 52, 3) := by decide +kernel
theorem dX0_placeInTable_5 : decode cX0_placeInTable 5 = .ok (.istore_n 2, 1) := by decide +kernel
theorem dX0_placeInTable_6 : decode cX0_placeInTable 6 = .ok (.iconst 0, 1) := by decide +kernel
theorem dX0_placeInTable_7 : decode cX0_placeInTable 7 = .ok (.istore_n 3, 1) := by decide +kernel
theorem dX0_placeInTable_8 : decode cX0_placeInTable 8 = .ok (.iload_n 3, 1) := by decide +kernel
theorem dX0_placeInTable_9 : decode cX0_placeInTable 9 = .ok (.bipush 64, 2) := by decide +kernel
theorem dX0_placeInTable_11 : decode cX0_placeInTable 11 = .ok (.if_icmp .ge 56, 3) := by decide +kernel
theorem dX0_placeInTable_14 : decode cX0_placeInTable 14 = .ok (.aload_n 0, 1) := by decide +kernel
theorem dX0_placeInTable_15 : decode cX0_placeInTable 15 = .ok (.getfield 34, 3) := by decide +kernel
theorem dX0_placeInTable_18 : decode cX0_placeInTable 18 = .ok (.iload_n 2, 1) := by decide +kernel
theorem dX0_placeInTable_19 : decode cX0_placeInTable 19 = .ok (.iaload, 1) := by decide +kernel
theorem dX0_placeInTable_20 : decode cX0_placeInTable 20 = .ok (.bipush (-4), 2) := by decide +kernel
theorem dX0_placeInTable_22 : decode cX0_placeInTable 22 = .ok (.if_icmp .eq 45, 3) := by decide +kernel
theorem dX0_placeInTable_25 : decode cX0_placeInTable 25 = .ok (.aload_n 0, 1) := by decide +kernel
theorem dX0_placeInTable_26 : decode cX0_placeInTable 26 = .ok (.getfield 34, 3) := by decide +kernel
theorem dX0_placeInTable_29 : decode cX0_placeInTable 29 = .ok (.iload_n 2, 1) := by decide +kernel
theorem dX0_placeInTable_30 : decode cX0_placeInTable 30 = .ok (.iaload, 1) := by decide +kernel
theorem dX0_placeInTable_31 : decode cX0_placeInTable 31 = .ok (.ifCond .lt 23, 3) := by decide +kernel
theorem dX0_placeInTable_34 : decode cX0_placeInTable 34 = .ok (.aload_n 0, 1) := by decide +kernel
theorem dX0_placeInTable_35 : decode cX0_placeInTable 35 = .ok (.aload_n 0, 1) := by decide +kernel
theorem dX0_placeInTable_36 : decode cX0_placeInTable 36 = .ok (.getfield 34, 3) := by decide +kernel
theorem dX0_placeInTable_39 : decode cX0_placeInTable 39 = .ok (.iload_n 2, 1) := by decide +kernel
theorem dX0_placeInTable_40 : decode cX0_placeInTable 40 = .ok (.iaload, 1) := by decide +kernel
theorem dX0_placeInTable_41 : decode cX0_placeInTable 41 = .ok (.invokevirtual 56, 3) := by decide +kernel
theorem dX0_placeInTable_44 : decode cX0_placeInTable 44 = .ok (.istore 4, 2) := by decide +kernel
theorem dX0_placeInTable_46 : decode cX0_placeInTable 46 = .ok (.iload 4, 2) := by decide +kernel
theorem dX0_placeInTable_48 : decode cX0_placeInTable 48 = .ok (.iload_n 1, 1) := by decide +kernel
theorem dX0_placeInTable_49 : decode cX0_placeInTable 49 = .ok (.if_icmp .ne 5, 3) := by decide +kernel
theorem dX0_placeInTable_52 : decode cX0_placeInTable 52 = .ok (.iload_n 2, 1) := by decide +kernel
theorem dX0_placeInTable_53 : decode cX0_placeInTable 53 = .ok (.ireturn, 1) := by decide +kernel
theorem dX0_placeInTable_54 : decode cX0_placeInTable 54 = .ok (.iload_n 2, 1) := by decide +kernel
theorem dX0_placeInTable_55 : decode cX0_placeInTable 55 = .ok (.iconst 1, 1) := by decide +kernel
theorem dX0_placeInTable_56 : decode cX0_placeInTable 56 = .ok (.iadd, 1) := by decide +kernel
theorem dX0_placeInTable_57 : decode cX0_placeInTable 57 = .ok (.bipush 63, 2) := by decide +kernel
theorem dX0_placeInTable_59 : decode cX0_placeInTable 59 = .ok (.iand, 1) := by decide +kernel
theorem dX0_placeInTable_60 : decode cX0_placeInTable 60 = .ok (.istore_n 2, 1) := by decide +kernel
theorem dX0_placeInTable_61 : decode cX0_placeInTable 61 = .ok (.iinc 3 1, 3) := by decide +kernel
theorem dX0_placeInTable_64 : decode cX0_placeInTable 64 = .ok (.goto (-56), 3) := by decide +kernel
theorem dX0_placeInTable_67 : decode cX0_placeInTable 67 = .ok (.bipush (-4), 2) := by decide +kernel
theorem dX0_placeInTable_69 : decode cX0_placeInTable 69 = .ok (.ireturn, 1) := by decide +kernel
theorem lkX0_placeInTable : GoodIn lw_all (wsV RX0 59 RX0 yX0_placeInTable (ws_ yX0_placeInTable cX0_placeInTable 5 (some .int))) ∧ yX0_placeInTable.cls = RX0 ∧ yX0_placeInTable.cls ≠ "java/lang/invoke/MethodHandle" ∧ yX0_placeInTable.cls ≠ "java/lang/invoke/VarHandle" ∧ (parseMethodDescriptor yX0_placeInTable.desc).map (fun d => d.parameters.length) = some 1 := ⟨lw_V q100 q102 qs3 q26 q103, by decide +kernel⟩
set_option maxHeartbeats 4000000 in
theorem lpX0_placeInTable {M : Mx} {τ : St} {a : Int → Bool} {K : Int → Int} {z : Int} (hz : 0 ≤ z ∧ z ≤ 4095) (hL : Lg τ a K) (hT : Tb τ a K) (h : Cx 0 M cX0_placeInTable 5 1) (hr : RtI 0 M .int (fun r τ' => τ = τ' ∧ ((0 ≤ r ∧ r < 64 ∧ 0 ≤ τ 10 r ∧ τ 10 r < 33 ∧ a (τ 10 r) = true ∧ K (τ 10 r) = z) ∨ (r = -4 ∧ ∀ p : Int, 0 ≤ p → p < 33 → a p = true → K p ≠ z)))) : ∀ (k : Nat) (x at_ : Int), 0 ≤ x → x ≤ 64 → 64 - x < k → at_ = (hsh z + x) % 64 → (∀ e : Int, 0 ≤ e → e < x → τ 10 ((hsh z + e) % 64) ≠ -4 ∧ (0 ≤ τ 10 ((hsh z + e) % 64) → K (τ 10 ((hsh z + e) % 64)) ≠ z)) → WX 0 M 8 [.inr 0, .inl z, .inl at_, .inl x] [] τ := by
  intro k
  induction k with
  | zero => intro x at_ h1 h2 h3; omega
  | succ k ih =>
    intro x at_ hx0 hx1 hk hat h2
    refine x_iload_n (q := 9) h dX0_placeInTable_8 rfl rfl rfl ?_
    refine x_bipush (q := 11) h dX0_placeInTable_9 rfl (by decide) ?_
    refine x_icmp_ge (tgt := 67) (q := 14) h dX0_placeInTable_11 (by decide) rfl (by omega) (by omega) (fun c11 => ?_) (fun c11 => ?_)
    · refine x_bipush (q := 69) h dX0_placeInTable_67 rfl (by decide) ?_
      refine x_iret h hr dX0_placeInTable_69 (by omega) ⟨rfl, Or.inr ⟨rfl, ?_⟩⟩
      exact tb_none hT hx0 hx1 h2 (by first | (left; omega) | (right; rw [← hat, ← e19]; exact c22))
    · refine x_aload_n (q := 15) h dX0_placeInTable_14 rfl rfl rfl ?_
      refine x0_geta (k := 10) (q := 18) h rfl q46 dX0_placeInTable_15 rfl ?_
      refine x_iload_n (q := 19) h dX0_placeInTable_18 rfl rfl rfl ?_
      refine x_iald (k := 10) (n := 64) (q := 20) h rfl dX0_placeInTable_19 rfl (by omega) (fun v19 e19 l19 u19 => ?_)
      refine x_bipush (q := 22) h dX0_placeInTable_20 rfl (by decide) ?_
      refine x_icmp_eq (tgt := 67) (q := 25) h dX0_placeInTable_22 (by decide) rfl (by omega) (by omega) (fun c22 => ?_) (fun c22 => ?_)
      · refine x_bipush (q := 69) h dX0_placeInTable_67 rfl (by decide) ?_
        refine x_iret h hr dX0_placeInTable_69 (by omega) ⟨rfl, Or.inr ⟨rfl, ?_⟩⟩
        exact tb_none hT hx0 hx1 h2 (by first | (left; omega) | (right; rw [← hat, ← e19]; exact c22))
      · refine x_aload_n (q := 26) h dX0_placeInTable_25 rfl rfl rfl ?_
        refine x0_geta (k := 10) (q := 29) h rfl q46 dX0_placeInTable_26 rfl ?_
        refine x_iload_n (q := 30) h dX0_placeInTable_29 rfl rfl rfl ?_
        refine x_iald (k := 10) (n := 64) (q := 31) h rfl dX0_placeInTable_30 rfl (by omega) (fun v30 e30 l30 u30 => ?_)
        refine x_if_lt (tgt := 54) (q := 34) h dX0_placeInTable_31 (by decide) rfl (by omega) (fun c31 => ?_) (fun c31 => ?_)
        · refine x_iload_n (q := 55) h dX0_placeInTable_54 rfl rfl rfl ?_
          refine x_iconst (q := 56) h dX0_placeInTable_55 rfl ?_
          refine x_iadd (q := 57) h dX0_placeInTable_56 rfl ?_
          refine x_bipush (q := 59) h dX0_placeInTable_57 rfl (by decide) ?_
          refine x_iand (q := 60) ((at_ + 1) % 64) h dX0_placeInTable_59 (jI_and63 (by omega) (by omega)) rfl ?_
          refine x_istore_n (q := 61) (vs' := [.inr 0, .inl z, .inl ((at_ + 1) % 64), .inl x]) h dX0_placeInTable_60 rfl (by decide) (Nat.le_of_ble_eq_true rfl) rfl rfl ?_
          refine x_iinc (q := 64) (vs' := [.inr 0, .inl z, .inl ((at_ + 1) % 64), .inl (x + 1)]) h dX0_placeInTable_61 (by decide) rfl rfl rfl ?_
          refine x_goto (tgt := 8) h dX0_placeInTable_64 (by decide) ?_
          refine x_drop (vs' := [.inr 0, .inl z, .inl ((at_ + 1) % 64), .inl (x + 1)]) 4 rfl ?_
          refine ih (x + 1) _ (by omega) (by omega) (by omega) (by rw [hat]; exact mod64_step _ _) ?_
          intro e a1 a2
          by_cases e9 : e = x
          · rw [e9, ← hat]
            refine ⟨by rw [← e19]; exact c22, fun q => ?_⟩
            first | (exfalso; rw [← e30] at q; omega) | (rw [← e40, ← p41]; exact c49)
          · exact h2 e a1 (by omega)
        · refine x_aload_n (q := 35) h dX0_placeInTable_34 rfl rfl rfl ?_
          refine x_aload_n (q := 36) h dX0_placeInTable_35 rfl rfl rfl ?_
          refine x0_geta (k := 10) (q := 39) h rfl q46 dX0_placeInTable_36 rfl ?_
          refine x_iload_n (q := 40) h dX0_placeInTable_39 rfl rfl rfl ?_
          refine x_iald (k := 10) (n := 64) (q := 41) h rfl dX0_placeInTable_40 rfl (by omega) (fun v40 e40 l40 u40 => ?_)
          have hv40 := hT.1 at_ (by omega) (by omega)
          rw [← e40] at hv40
          have hv40b : 0 ≤ v40 ∧ v40 < 33 ∧ a v40 = true := by rcases hv40 with q | q | q <;> first | exact q | (exfalso; rw [e40, ← e30] at q; omega)
          refine x_calli (q := 44) (xs := [v40]) (st := []) h (mX0_contentOf v40 (by omega) (z := K v40) (Or.inr ⟨hv40b.1, hv40b.2.1, hL.2.2 v40 hv40b.1 hv40b.2.1 hv40b.2.2⟩)) lkX0_contentOf rfl (by decide) (by decide) dX0_placeInTable_41 rfl (by simp) rfl (fun z41 τ41 s41 r41 p41 => ?_)
          obtain ⟨rfl, p41⟩ := p41
          refine x_istore (q := 46) (vs' := [.inr 0, .inl z, .inl at_, .inl x, .inl z41]) h dX0_placeInTable_44 (by decide) (Nat.le_of_ble_eq_true rfl) rfl rfl ?_
          refine x_iload (q := 48) h dX0_placeInTable_46 rfl rfl ?_
          refine x_iload_n (q := 49) h dX0_placeInTable_48 rfl rfl rfl ?_
          refine x_icmp_ne (tgt := 54) (q := 52) h dX0_placeInTable_49 (by decide) rfl (by omega) (by omega) (fun c49 => ?_) (fun c49 => ?_)
          · refine x_iload_n (q := 55) h dX0_placeInTable_54 rfl rfl rfl ?_
            refine x_iconst (q := 56) h dX0_placeInTable_55 rfl ?_
            refine x_iadd (q := 57) h dX0_placeInTable_56 rfl ?_
            refine x_bipush (q := 59) h dX0_placeInTable_57 rfl (by decide) ?_
            refine x_iand (q := 60) ((at_ + 1) % 64) h dX0_placeInTable_59 (jI_and63 (by omega) (by omega)) rfl ?_
            refine x_istore_n (q := 61) (vs' := [.inr 0, .inl z, .inl ((at_ + 1) % 64), .inl x, .inl z41]) h dX0_placeInTable_60 rfl (by decide) (Nat.le_of_ble_eq_true rfl) rfl rfl ?_
            refine x_iinc (q := 64) (vs' := [.inr 0, .inl z, .inl ((at_ + 1) % 64), .inl (x + 1), .inl z41]) h dX0_placeInTable_61 (by decide) rfl rfl rfl ?_
            refine x_goto (tgt := 8) h dX0_placeInTable_64 (by decide) ?_
            refine x_drop (vs' := [.inr 0, .inl z, .inl ((at_ + 1) % 64), .inl (x + 1)]) 4 rfl ?_
            refine ih (x + 1) _ (by omega) (by omega) (by omega) (by rw [hat]; exact mod64_step _ _) ?_
            intro e a1 a2
            by_cases e9 : e = x
            · rw [e9, ← hat]
              refine ⟨by rw [← e19]; exact c22, fun q => ?_⟩
              first | (exfalso; rw [← e30] at q; omega) | (rw [← e40, ← p41]; exact c49)
            · exact h2 e a1 (by omega)
          · refine x_iload_n (q := 53) h dX0_placeInTable_52 rfl rfl rfl ?_
            exact x_iret h hr dX0_placeInTable_53 (by omega) (⟨rfl, Or.inl ⟨by omega, by omega, by rw [← e40]; omega, by rw [← e40]; omega, by rw [← e40]; exact hv40b.2.2, by rw [← e40, ← p41]; exact c49⟩⟩)
set_option maxHeartbeats 4000000 in
theorem mX0_placeInTable {τ : St} (z : Int) {a : Int → Bool} {K : Int → Int} (hz : 0 ≤ z ∧ z ≤ 4095) (hL : Lg τ a K) (hT : Tb τ a K) : CtI 0 yX0_placeInTable cX0_placeInTable 5 1 .int [z] τ (fun r τ' => τ = τ' ∧ ((0 ≤ r ∧ r < 64 ∧ 0 ≤ τ 10 r ∧ τ 10 r < 33 ∧ a (τ 10 r) = true ∧ K (τ 10 r) = z) ∨ (r = -4 ∧ ∀ p : Int, 0 ≤ p → p < 33 → a p = true → K p ≠ z))) := by
  refine CtI.of (by decide) rfl (Nat.le_of_ble_eq_true rfl) (fun M h hr => ?_)
  show WX 0 M 0 [.inr 0, .inl z] [] τ
  refine x_aload_n (q := 1) h dX0_placeInTable_0 rfl rfl rfl ?_
  refine x_iload_n (q := 2) h dX0_placeInTable_1 rfl rfl rfl ?_
  refine x_calli (q := 5) (xs := [z]) (st := []) h (mX0_hash z hz) lkX0_hash rfl (by decide) (by decide) dX0_placeInTable_2 rfl (by simp) rfl (fun z2 τ2 s2 r2 p2 => ?_)
  obtain ⟨rfl, p2⟩ := p2
  refine x_istore_n (q := 6) (vs' := [.inr 0, .inl z, .inl z2]) h dX0_placeInTable_5 rfl (by decide) (Nat.le_of_ble_eq_true rfl) rfl rfl ?_
  refine x_iconst (q := 7) h dX0_placeInTable_6 rfl ?_
  refine x_istore_n (q := 8) (vs' := [.inr 0, .inl z, .inl z2, .inl 0]) h dX0_placeInTable_7 rfl (by decide) (Nat.le_of_ble_eq_true rfl) rfl rfl ?_
  have hh := hsh_rg z
  exact lpX0_placeInTable hz hL hT h hr 65 0 _ (by omega) (by omega) (by omega) (by omega) (fun e a1 a2 => by omega)

theorem dX0_find_0 : decode cX0_find 0 = .ok (.aload_n 0, 1) := by decide +kernel
theorem dX0_find_1 : decode cX0_find 1 = .ok (.iload_n 1, 1) := by decide +kernel
theorem dX0_find_2 : decode cX0_find 2 = .ok (.invokevirtual 59, 3) := by decide +kernel
theorem dX0_find_5 : decode cX0_find 5 = .ok (.istore_n 2, 1) := by decide +kernel
theorem dX0_find_6 : decode cX0_find 6 = .ok (.iload_n 2, 1) := by decide +kernel
theorem dX0_find_7 : decode cX0_find 7 = .ok (.ifCond .ge 8, 3) := by decide +kernel
theorem dX0_find_10 : decode cX0_find 10 = .ok (.bipush (-4), 2) := by decide +kernel
theorem dX0_find_12 : decode cX0_find 12 = .ok (.goto 9, 3) := by decide +kernel
theorem dX0_find_15 : decode cX0_find 15 = .ok (.aload_n 0, 1) := by decide +kernel
theorem dX0_find_16 : decode cX0_find 16 = .ok (.getfield 34, 3) := by decide +kernel
theorem dX0_find_19 : decode cX0_find 19 = .ok (.iload_n 2, 1) := by decide +kernel
theorem dX0_find_20 : decode cX0_find 20 = .ok (.iaload, 1) := by decide +kernel
theorem dX0_find_21 : decode cX0_find 21 = .ok (.ireturn, 1) := by decide +kernel
theorem lkX0_find : GoodIn lw_all (wsV RX0 84 RX0 yX0_find (ws_ yX0_find cX0_find 3 (some .int))) ∧ yX0_find.cls = RX0 ∧ yX0_find.cls ≠ "java/lang/invoke/MethodHandle" ∧ yX0_find.cls ≠ "java/lang/invoke/VarHandle" ∧ (parseMethodDescriptor yX0_find.desc).map (fun d => d.parameters.length) = some 1 := ⟨lw_V q96 q98 qs2 q26 q99, by decide +kernel⟩
set_option maxHeartbeats 4000000 in
theorem mX0_find {τ : St} (z : Int) {a : Int → Bool} {K : Int → Int} (hz : 0 ≤ z ∧ z ≤ 4095) (hL : Lg τ a K) (hT : Tb τ a K) : CtI 0 yX0_find cX0_find 3 2 .int [z] τ (fun r τ' => τ = τ' ∧ ((0 ≤ r ∧ r < 33 ∧ a r = true ∧ K r = z) ∨ (r = -4 ∧ ∀ p : Int, 0 ≤ p → p < 33 → a p = true → K p ≠ z))) := by
  refine CtI.of (by decide) rfl (Nat.le_of_ble_eq_true rfl) (fun M h hr => ?_)
  show WX 0 M 0 [.inr 0, .inl z] [] τ
  refine x_aload_n (q := 1) h dX0_find_0 rfl rfl rfl ?_
  refine x_iload_n (q := 2) h dX0_find_1 rfl rfl rfl ?_
  refine x_calli (q := 5) (xs := [z]) (st := []) h (mX0_placeInTable z hz hL hT) lkX0_placeInTable rfl (by decide) (by decide) dX0_find_2 rfl (by simp) rfl (fun z2 τ2 s2 r2 p2 => ?_)
  obtain ⟨rfl, p2⟩ := p2
  refine x_istore_n (q := 6) (vs' := [.inr 0, .inl z, .inl z2]) h dX0_find_5 rfl (by decide) (Nat.le_of_ble_eq_true rfl) rfl rfl ?_
  refine x_iload_n (q := 7) h dX0_find_6 rfl rfl rfl ?_
  refine x_if_ge (tgt := 15) (q := 10) h dX0_find_7 (by decide) rfl (by omega) (fun c7 => ?_) (fun c7 => ?_)
  · refine x_aload_n (q := 16) h dX0_find_15 rfl rfl rfl ?_
    refine x0_geta (k := 10) (q := 19) h rfl q46 dX0_find_16 rfl ?_
    refine x_iload_n (q := 20) h dX0_find_19 rfl rfl rfl ?_
    refine x_iald (k := 10) (n := 64) (q := 21) h rfl dX0_find_20 rfl (by rcases p2 with q | q <;> omega) (fun v20 e20 l20 u20 => ?_)
    refine x_iret h hr dX0_find_21 (by omega) ⟨rfl, ?_⟩
    rcases p2 with q | q
    · rw [← e20] at q
      exact Or.inl q.2.2
    · exfalso; omega
  · refine x_bipush (q := 12) h dX0_find_10 rfl (by decide) ?_
    refine x_goto (tgt := 21) h dX0_find_12 (by decide) ?_
    refine x_iret h hr dX0_find_21 (by omega) ⟨rfl, ?_⟩
    rcases p2 with q | q
    · omega
    · exact Or.inr ⟨rfl, q.2⟩

theorem dX0_enter_0 : decode cX0_enter 0 = .ok (.aload_n 0, 1) := by decide +kernel
theorem dX0_enter_1 : decode cX0_enter 1 = .ok (.iload_n 1, 1) := by decide +kernel
theorem dX0_enter_2 : decode cX0_enter 2 = .ok (.invokevirtual 52, 3) := by decide +kernel
theorem dX0_enter_5 : decode cX0_enter 5 = .ok (.istore_n 3, 1) := by decide +kernel
theorem dX0_enter_6 : decode cX0_enter 6 = .ok (.iconst 0, 1) := by decide +kernel
theorem dX0_enter_7 : decode cX0_enter 7 = .ok (.istore 4, 2) := by decide +kernel
theorem dX0_enter_9 : decode cX0_enter 9 = .ok (.iload 4, 2) := by decide +kernel
theorem dX0_enter_11 : decode cX0_enter 11 = .ok (.bipush 64, 2) := by decide +kernel
theorem dX0_enter_13 : decode cX0_enter 13 = .ok (.if_icmp .ge 25, 3) := by decide +kernel
theorem dX0_enter_16 : decode cX0_enter 16 = .ok (.aload_n 0, 1) := by decide +kernel
theorem dX0_enter_17 : decode cX0_enter 17 = .ok (.getfield 34, 3) := by decide +kernel
theorem dX0_enter_20 : decode cX0_enter 20 = .ok (.iload_n 3, 1) := by decide +kernel
theorem dX0_enter_21 : decode cX0_enter 21 = .ok (.iaload, 1) := by decide +kernel
theorem dX0_enter_22 : decode cX0_enter 22 = .ok (.ifCond .lt 16, 3) := by decide +kernel
theorem dX0_enter_25 : decode cX0_enter 25 = .ok (.iload_n 3, 1) := by decide +kernel
theorem dX0_enter_26 : decode cX0_enter 26 = .ok (.iconst 1, 1) := by decide +kernel
theorem dX0_enter_27 : decode cX0_enter 27 = .ok (.iadd, 1) := by decide +kernel
theorem dX0_enter_28 : decode cX0_enter 28 = .ok (.bipush 63, 2) := by decide +kernel
theorem dX0_enter_30 : decode cX0_enter 30 = .ok (.iand, 1) := by decide +kernel
theorem dX0_enter_31 : decode cX0_enter 31 = .ok (.istore_n 3, 1) := by decide +kernel
theorem dX0_enter_32 : decode cX0_enter 32 = .ok (.iinc 4 1, 3) := by decide +kernel
theorem dX0_enter_35 : decode cX0_enter 35 = .ok (.goto (-26), 3) := by decide +kernel
theorem dX0_enter_38 : decode cX0_enter 38 = .ok (.aload_n 0, 1) := by decide +kernel
theorem dX0_enter_39 : decode cX0_enter 39 = .ok (.getfield 34, 3) := by decide +kernel
theorem dX0_enter_42 : decode cX0_enter 42 = .ok (.iload_n 3, 1) := by decide +kernel
theorem dX0_enter_43 : decode cX0_enter 43 = .ok (.iload_n 2, 1) := by decide +kernel
theorem dX0_enter_44 : decode cX0_enter 44 = .ok (.iastore, 1) := by decide +kernel
theorem dX0_enter_45 : decode cX0_enter 45 = .ok (.return_, 1) := by decide +kernel
theorem lkX0_enter : GoodIn lw_all (wsV RX0 94 RX0 yX0_enter (ws_ yX0_enter cX0_enter 5 none)) ∧ yX0_enter.cls = RX0 ∧ yX0_enter.cls ≠ "java/lang/invoke/MethodHandle" ∧ yX0_enter.cls ≠ "java/lang/invoke/VarHandle" ∧ (parseMethodDescriptor yX0_enter.desc).map (fun d => d.parameters.length) = some 2 := ⟨lw_V q149 q151 qs15 q26 q152, by decide +kernel⟩
set_option maxHeartbeats 4000000 in
theorem lpX0_enter {M : Mx} {τ : St} {z p : Int} (hp : 0 ≤ p ∧ p < 33) (hex : ∃ i : Int, 0 ≤ i ∧ i < 64 ∧ τ 10 i < 0) (h : Cx 0 M cX0_enter 5 1) (hr : RtV 0 M (fun τ' => ∃ d : Int, 0 ≤ d ∧ d < 64 ∧ τ 10 ((hsh z + d) % 64) < 0 ∧ (∀ e : Int, 0 ≤ e → e < d → 0 ≤ τ 10 ((hsh z + e) % 64)) ∧ τ' = up τ 10 ((hsh z + d) % 64) p)) : ∀ (k : Nat) (x at_ : Int), 0 ≤ x → x ≤ 64 → 64 - x < k → at_ = (hsh z + x) % 64 → (∀ e : Int, 0 ≤ e → e < x → 0 ≤ τ 10 ((hsh z + e) % 64)) → WX 0 M 9 [.inr 0, .inl z, .inl p, .inl at_, .inl x] [] τ := by
  intro k
  induction k with
  | zero => intro x at_ h1 h2 h3; omega
  | succ k ih =>
    intro x at_ hx0 hx1 hk hat h2
    refine x_iload (q := 11) h dX0_enter_9 rfl rfl ?_
    refine x_bipush (q := 13) h dX0_enter_11 rfl (by decide) ?_
    refine x_icmp_ge (tgt := 38) (q := 16) h dX0_enter_13 (by decide) rfl (by omega) (by omega) (fun c13 => ?_) (fun c13 => ?_)
    · exfalso
      obtain ⟨i, i0, i1, i2⟩ := hex
      have q := h2 ((i - hsh z) % 64) (by omega) (by omega)
      rw [show (hsh z + (i - hsh z) % 64) % 64 = i by omega] at q
      omega
    · refine x_aload_n (q := 17) h dX0_enter_16 rfl rfl rfl ?_
      refine x0_geta (k := 10) (q := 20) h rfl q46 dX0_enter_17 rfl ?_
      refine x_iload_n (q := 21) h dX0_enter_20 rfl rfl rfl ?_
      refine x_iald (k := 10) (n := 64) (q := 22) h rfl dX0_enter_21 rfl (by omega) (fun v21 e21 l21 u21 => ?_)
      refine x_if_lt (tgt := 38) (q := 25) h dX0_enter_22 (by decide) rfl (by omega) (fun c22 => ?_) (fun c22 => ?_)
      · refine x_aload_n (q := 39) h dX0_enter_38 rfl rfl rfl ?_
        refine x0_geta (k := 10) (q := 42) h rfl q46 dX0_enter_39 rfl ?_
        refine x_iload_n (q := 43) h dX0_enter_42 rfl rfl rfl ?_
        refine x_iload_n (q := 44) h dX0_enter_43 rfl rfl rfl ?_
        refine x_iast (k := 10) (n := 64) (q := 45) h rfl dX0_enter_44 rfl (by omega) (by omega) ?_
        exact x_vret h hr dX0_enter_45 (⟨x, by omega, by omega, by rw [← hat, ← e21]; exact c22, h2, by rw [← hat]⟩)
      · refine x_iload_n (q := 26) h dX0_enter_25 rfl rfl rfl ?_
        refine x_iconst (q := 27) h dX0_enter_26 rfl ?_
        refine x_iadd (q := 28) h dX0_enter_27 rfl ?_
        refine x_bipush (q := 30) h dX0_enter_28 rfl (by decide) ?_
        refine x_iand (q := 31) ((at_ + 1) % 64) h dX0_enter_30 (jI_and63 (by omega) (by omega)) rfl ?_
        refine x_istore_n (q := 32) (vs' := [.inr 0, .inl z, .inl p, .inl ((at_ + 1) % 64), .inl x]) h dX0_enter_31 rfl (by decide) (Nat.le_of_ble_eq_true rfl) rfl rfl ?_
        refine x_iinc (q := 35) (vs' := [.inr 0, .inl z, .inl p, .inl ((at_ + 1) % 64), .inl (x + 1)]) h dX0_enter_32 (by decide) rfl rfl rfl ?_
        refine x_goto (tgt := 9) h dX0_enter_35 (by decide) ?_
        refine ih (x + 1) _ (by omega) (by omega) (by omega) (by rw [hat]; exact mod64_step _ _) ?_
        intro e a1 a2
        by_cases e9 : e = x
        · rw [e9, ← hat, ← e21]; omega
        · exact h2 e a1 (by omega)
set_option maxHeartbeats 4000000 in
theorem mX0_enter {τ : St} (z p : Int) (hz : 0 ≤ z ∧ z ≤ 4095) (hp : 0 ≤ p ∧ p < 33) (hex : ∃ i : Int, 0 ≤ i ∧ i < 64 ∧ τ 10 i < 0) : CtV 0 yX0_enter cX0_enter 5 1 [z, p] τ (fun τ' => ∃ d : Int, 0 ≤ d ∧ d < 64 ∧ τ 10 ((hsh z + d) % 64) < 0 ∧ (∀ e : Int, 0 ≤ e → e < d → 0 ≤ τ 10 ((hsh z + e) % 64)) ∧ τ' = up τ 10 ((hsh z + d) % 64) p) := by
  refine CtV.of (by decide) rfl (Nat.le_of_ble_eq_true rfl) (fun M h hr => ?_)
  show WX 0 M 0 [.inr 0, .inl z, .inl p] [] τ
  refine x_aload_n (q := 1) h dX0_enter_0 rfl rfl rfl ?_
  refine x_iload_n (q := 2) h dX0_enter_1 rfl rfl rfl ?_
  refine x_calli (q := 5) (xs := [z]) (st := []) h (mX0_hash z hz) lkX0_hash rfl (by decide) (by decide) dX0_enter_2 rfl (by simp) rfl (fun z2 τ2 s2 r2 p2 => ?_)
  obtain ⟨rfl, p2⟩ := p2
  refine x_istore_n (q := 6) (vs' := [.inr 0, .inl z, .inl p, .inl z2]) h dX0_enter_5 rfl (by decide) (Nat.le_of_ble_eq_true rfl) rfl rfl ?_
  refine x_iconst (q := 7) h dX0_enter_6 rfl ?_
  refine x_istore (q := 9) (vs' := [.inr 0, .inl z, .inl p, .inl z2, .inl 0]) h dX0_enter_7 (by decide) (Nat.le_of_ble_eq_true rfl) rfl rfl ?_
  have hh := hsh_rg z
  exact lpX0_enter hp hex h hr 65 0 _ (by omega) (by omega) (by omega) (by omega) (fun e a1 a2 => by omega)

theorem dX0_alone_0 : decode cX0_alone 0 = .ok (.aload_n 0, 1) := by decide +kernel
theorem dX0_alone_1 : decode cX0_alone 1 = .ok (.iload_n 1, 1) := by decide +kernel
theorem dX0_alone_2 : decode cX0_alone 2 = .ok (.invokevirtual 98, 3) := by decide +kernel
theorem dX0_alone_5 : decode cX0_alone 5 = .ok (.ifCond .eq 5, 3) := by decide +kernel
theorem dX0_alone_8 : decode cX0_alone 8 = .ok (.iconst (-1), 1) := by decide +kernel
theorem dX0_alone_9 : decode cX0_alone 9 = .ok (.ireturn, 1) := by decide +kernel
theorem dX0_alone_10 : decode cX0_alone 10 = .ok (.aload_n 0, 1) := by decide +kernel
theorem dX0_alone_11 : decode cX0_alone 11 = .ok (.getfield 7, 3) := by decide +kernel
theorem dX0_alone_14 : decode cX0_alone 14 = .ok (.iload_n 1, 1) := by decide +kernel
theorem dX0_alone_15 : decode cX0_alone 15 = .ok (.iaload, 1) := by decide +kernel
theorem dX0_alone_16 : decode cX0_alone 16 = .ok (.istore_n 2, 1) := by decide +kernel
theorem dX0_alone_17 : decode cX0_alone 17 = .ok (.iload_n 2, 1) := by decide +kernel
theorem dX0_alone_18 : decode cX0_alone 18 = .ok (.ifCond .lt 22, 3) := by decide +kernel
theorem dX0_alone_21 : decode cX0_alone 21 = .ok (.aload_n 0, 1) := by decide +kernel
theorem dX0_alone_22 : decode cX0_alone 22 = .ok (.getfield 13, 3) := by decide +kernel
theorem dX0_alone_25 : decode cX0_alone 25 = .ok (.iload_n 2, 1) := by decide +kernel
theorem dX0_alone_26 : decode cX0_alone 26 = .ok (.iaload, 1) := by decide +kernel
theorem dX0_alone_27 : decode cX0_alone 27 = .ok (.iconst 1, 1) := by decide +kernel
theorem dX0_alone_28 : decode cX0_alone 28 = .ok (.if_icmp .ne 12, 3) := by decide +kernel
theorem dX0_alone_31 : decode cX0_alone 31 = .ok (.aload_n 0, 1) := by decide +kernel
theorem dX0_alone_32 : decode cX0_alone 32 = .ok (.getfield 22, 3) := by decide +kernel
theorem dX0_alone_35 : decode cX0_alone 35 = .ok (.iload_n 2, 1) := by decide +kernel
theorem dX0_alone_36 : decode cX0_alone 36 = .ok (.iaload, 1) := by decide +kernel
theorem dX0_alone_37 : decode cX0_alone 37 = .ok (.goto 4, 3) := by decide +kernel
theorem dX0_alone_40 : decode cX0_alone 40 = .ok (.iconst 0, 1) := by decide +kernel
theorem dX0_alone_41 : decode cX0_alone 41 = .ok (.ireturn, 1) := by decide +kernel
theorem lkX0_alone : GoodIn lw_all (wsV RX0 102 RX0 yX0_alone (ws_ yX0_alone cX0_alone 3 (some .int))) ∧ yX0_alone.cls = RX0 ∧ yX0_alone.cls ≠ "java/lang/invoke/MethodHandle" ∧ yX0_alone.cls ≠ "java/lang/invoke/VarHandle" ∧ (parseMethodDescriptor yX0_alone.desc).map (fun d => d.parameters.length) = some 1 := ⟨lw_V q92 q93 q94 q26 q95, by decide +kernel⟩
end
section
/-! DedupBlocks: what the steps do to log, table and holders (plain laws) -/
set_option maxRecDepth 100000
def upB (a : Int → Bool) (p : Int) (v : Bool) : Int → Bool := fun j => if j = p then v else a j
theorem upB_eq {a : Int → Bool} {p : Int} {v : Bool} : upB a p v p = v := if_pos rfl
theorem upB_ne {a : Int → Bool} {p j : Int} {v : Bool} (h : j ≠ p) : upB a p v j = a j := if_neg h
theorem upF_self {f : Int → Int} {p : Int} : upF f p (f p) = f := by
  funext j
  unfold upF
  by_cases e : j = p
  · rw [if_pos e, e]
  · rw [if_neg e]
/-- a piece's place: only these fields matter -/
theorem Pl_congr {τ σ : St} {p z : Int} (h : Pl τ p z) (h2 : σ 2 = τ 2) (h3 : σ 3 = τ 3) (h4 : σ 4 = τ 4) (h5 : σ 5 = τ 5) (h6 : σ 6 = τ 6) : Pl σ p z := by
  unfold Pl at h ⊢
  rw [h2, h3, h4, h5, h6]
  exact h
theorem Lg_same {τ σ : St} {a : Int → Bool} {K : Int → Int} (h : Lg τ a K) (h2 : σ 2 = τ 2) (h3 : σ 3 = τ 3) (h4 : σ 4 = τ 4) (h5 : σ 5 = τ 5) (h6 : σ 6 = τ 6) (h7 : σ 7 = τ 7) (h8 : 0 ≤ σ 8 0 ∧ σ 8 0 < 10) : Lg σ a K := by
  refine ⟨h8, fun s s0 s1 => ?_, fun p p0 p1 pa => Pl_congr (h.2.2 p p0 p1 pa) h2 h3 h4 h5 h6⟩
  rw [h7, h6, h2, h4]
  exact h.2.1 s s0 s1
theorem Lg_set {τ : St} {a b : Int → Bool} {K : Int → Int} (h : Lg τ a K) (hab : ∀ p : Int, 0 ≤ p → p < 33 → b p = a p) : Lg τ b K := by
  refine ⟨h.1, fun s s0 s1 => ?_, fun p p0 p1 pa => h.2.2 p p0 p1 (by rw [← hab p p0 p1]; exact pa)⟩
  have h2 := h.2.1 s s0 s1
  refine ⟨h2.1, h2.2.1, h2.2.2.1, ?_⟩
  rw [h2.2.2.2]
  apply sm_congr
  intro j j0 j1
  show (if a j = true ∧ τ 2 j = s then τ 4 j else 0) = if b j = true ∧ τ 2 j = s then τ 4 j else 0
  rw [hab j j0 j1]
theorem Lg_pack {τ σ : St} {a : Int → Bool} {K : Int → Int} (h : Lg τ a K) (hk : ∀ k' : Nat, k' ≠ 12 → k' ≠ 13 → σ k' = τ k') : Lg σ a K :=
  Lg_same h (hk 2 (by decide) (by decide)) (hk 3 (by decide) (by decide)) (hk 4 (by decide) (by decide)) (hk 5 (by decide) (by decide)) (hk 6 (by decide) (by decide)) (hk 7 (by decide) (by decide)) (by rw [hk 8 (by decide) (by decide)]; exact h.1)
theorem Lg_open {τ σ : St} {a : Int → Bool} {K : Int → Int} {o : Int} (h : Lg τ a K) (ho : Op_ τ o σ) : Lg σ a K := by
  obtain ⟨o0, o1, o2, o3, hk, o4⟩ := ho
  exact Lg_same h (hk 2 (by decide)) (hk 3 (by decide)) (hk 4 (by decide)) (hk 5 (by decide)) (hk 6 (by decide)) (hk 7 (by decide)) (by rw [o4]; exact ⟨o0, o1⟩)
/-- a new piece in the log -/
theorem Lg_append {τ σ : St} {a : Int → Bool} {K : Int → Int} {p z : Int} (h : Lg τ a K) (ha : a p = false) (p0 : 0 ≤ p) (p1 : p < 33) (z0 : 1 ≤ z) (z1 : z ≤ 4095) (hk : pkd τ z) (hf : τ 6 (τ 8 0) + τ 13 0 ≤ 8) (hA : Ap τ p σ) : Lg σ (upB a p true) (upF K p z) := by
  obtain ⟨⟨o0, o1⟩, hS, hP⟩ := h
  obtain ⟨hsame, e2, e3, e4, e6, e7, e5⟩ := hA
  have hrr := room_rn z0
  have hrn := rn_rg z 3
  have hps : τ 13 0 = room z := by rw [hrr]; exact hk.1
  have e8 : σ 8 = τ 8 := hsame 8 (by decide) (by decide) (by decide) (by decide) (by decide) (by decide)
  have hSo := hS (τ 8 0) o0 o1
  refine ⟨by rw [e8]; exact ⟨o0, o1⟩, fun s s0 s1 => ?_, fun q q0 q1 qa => ?_⟩
  · have hs := hS s s0 s1
    have hsum : sm (fun q => if upB a p true q = true ∧ σ 2 q = s then σ 4 q else 0) 33 = sm (fun q => if a q = true ∧ τ 2 q = s then τ 4 q else 0) 33 + (if τ 8 0 = s then τ 13 0 else 0) := by
      have hu := sm_upd (f := fun q => if a q = true ∧ τ 2 q = s then τ 4 q else 0) (g := fun q => if upB a p true q = true ∧ σ 2 q = s then σ 4 q else 0) (p := p) (n := 33) p0 p1 (by
        intro j _ _ hj
        show (if upB a p true j = true ∧ σ 2 j = s then σ 4 j else 0) = if a j = true ∧ τ 2 j = s then τ 4 j else 0
        rw [upB_ne hj, e2, e4, upF_ne hj, upF_ne hj])
      rw [hu]
      have g1 : (if upB a p true p = true ∧ σ 2 p = s then σ 4 p else 0) = if τ 8 0 = s then τ 13 0 else 0 := by
        rw [upB_eq, e2, e4, upF_eq, upF_eq]
        by_cases q : τ 8 0 = s
        · rw [if_pos q, if_pos ⟨rfl, q⟩]
        · rw [if_neg q, if_neg (fun e => q e.2)]
      have g2 : (if a p = true ∧ τ 2 p = s then τ 4 p else 0) = 0 := by
        rw [ha, if_neg (fun e => by cases e.1)]
      show _ + ((if upB a p true p = true ∧ σ 2 p = s then σ 4 p else 0) - (if a p = true ∧ τ 2 p = s then τ 4 p else 0)) = _
      rw [g1, g2, Int.sub_zero]
    rw [hsum, ← hs.2.2.2, e6, e7]
    by_cases q : s = τ 8 0
    · rw [q, upF_eq, upF_eq, if_pos rfl]
      rw [q] at hs
      omega
    · rw [upF_ne q, upF_ne q, if_neg (fun e => q e.symm), Int.add_zero]
      exact ⟨hs.1, hs.2.1, hs.2.2.1, rfl⟩
  · by_cases e : q = p
    · rw [e]
      refine ⟨by rw [upF_eq]; exact z0, by rw [upF_eq]; exact z1, by rw [e2, upF_eq]; exact o0, by rw [e2, upF_eq]; exact o1, by rw [e3, upF_eq]; omega, by rw [e4, upF_eq, upF_eq]; exact hps, by rw [e3, e2, e6, upF_eq, upF_eq, upF_eq, upF_eq]; omega, by rw [e2, e6, upF_eq, upF_eq]; omega, fun i i0 i1 => ?_⟩
      rw [upF_eq] at i1
      rw [upF_eq, e5, e2, e3, upF_eq, upF_eq, if_pos (by omega)]
      rw [show τ 8 0 * 8 + τ 6 (τ 8 0) + i - (τ 8 0 * 8 + τ 6 (τ 8 0)) = i by omega]
      exact hk.2 i i0 (by omega)
    · rw [upB_ne e] at qa
      rw [upF_ne e]
      obtain ⟨b1, b2, b3, b4, b5, b6, b7, b8, b9⟩ := hP q q0 q1 qa
      have g2 : σ 2 q = τ 2 q := by rw [e2, upF_ne e]
      have g3 : σ 3 q = τ 3 q := by rw [e3, upF_ne e]
      have g4 : σ 4 q = τ 4 q := by rw [e4, upF_ne e]
      have g6 : τ 6 (τ 2 q) ≤ σ 6 (τ 2 q) ∧ σ 6 (τ 2 q) ≤ 8 := by
        rw [e6]
        unfold upF
        by_cases w : τ 2 q = τ 8 0
        · rw [if_pos w, w]; omega
        · rw [if_neg w]; omega
      refine ⟨b1, b2, by rw [g2]; exact b3, by rw [g2]; exact b4, by rw [g3]; exact b5, by rw [g4]; exact b6, by rw [g3, g2]; omega, by rw [g2]; exact g6.2, fun i i0 i1 => ?_⟩
      rw [g2, g3, e5, if_neg, b9 i i0 i1]
      intro w
      by_cases w2 : τ 2 q = τ 8 0
      · rw [w2] at w b7; omega
      · omega
/-- a piece leaves the log: its cells are waste -/
theorem Lg_leave {τ σ : St} {a : Int → Bool} {K : Int → Int} {p : Int} (h : Lg τ a K) (ha : a p = true) (p0 : 0 ≤ p) (p1 : p < 33) (h7 : σ 7 = upF (τ 7) (τ 2 p) (τ 7 (τ 2 p) - τ 4 p)) (h2 : σ 2 = τ 2) (h3 : σ 3 = τ 3) (h4 : σ 4 = τ 4) (h5 : σ 5 = τ 5) (h6 : σ 6 = τ 6) (h8 : σ 8 = τ 8) : Lg σ (upB a p false) K := by
  have hPp := h.2.2 p p0 p1 ha
  refine ⟨by rw [h8]; exact h.1, fun s s0 s1 => ?_, fun q q0 q1 qa => ?_⟩
  · have hs := h.2.1 s s0 s1
    have hsum : sm (fun q => if upB a p false q = true ∧ τ 2 q = s then τ 4 q else 0) 33 = sm (fun q => if a q = true ∧ τ 2 q = s then τ 4 q else 0) 33 - (if τ 2 p = s then τ 4 p else 0) := by
      have hu := sm_upd (f := fun q => if a q = true ∧ τ 2 q = s then τ 4 q else 0) (g := fun q => if upB a p false q = true ∧ τ 2 q = s then τ 4 q else 0) (p := p) (n := 33) p0 p1 (by
        intro j _ _ hj
        show (if upB a p false j = true ∧ τ 2 j = s then τ 4 j else 0) = if a j = true ∧ τ 2 j = s then τ 4 j else 0
        rw [upB_ne hj])
      rw [hu]
      show _ + ((if upB a p false p = true ∧ τ 2 p = s then τ 4 p else 0) - (if a p = true ∧ τ 2 p = s then τ 4 p else 0)) = _
      rw [upB_eq, if_neg (fun e => by cases e.1), ha]
      by_cases q : τ 2 p = s
      · rw [if_pos ⟨rfl, q⟩, if_pos q]; omega
      · rw [if_neg (fun e => q e.2), if_neg q]; omega
    have hge : 0 ≤ sm (fun q => if upB a p false q = true ∧ τ 2 q = s then τ 4 q else 0) 33 := by
      apply sm_nonneg
      intro j j0 j1
      show 0 ≤ if upB a p false j = true ∧ τ 2 j = s then τ 4 j else 0
      by_cases w : upB a p false j = true ∧ τ 2 j = s
      · rw [if_pos w]
        have ja : a j = true := by
          by_cases e : j = p
          · rw [e]; exact ha
          · have w1 := w.1
            rw [upB_ne e] at w1
            exact w1
        have := (h.2.2 j j0 j1 ja).2.2.2.2.2.1
        have := room_rg (K j)
        omega
      · rw [if_neg w]; exact Int.le_refl 0
    have hp4 : 0 ≤ τ 4 p := by
      have := hPp.2.2.2.2.2.1
      have := room_rg (K p)
      omega
    rw [h7, h6, h2, h4, hsum]
    rw [hsum] at hge
    by_cases q : s = τ 2 p
    · subst q
      rw [if_pos rfl] at hge
      rw [upF_eq, if_pos rfl]
      omega
    · rw [upF_ne q, if_neg (fun e => q e.symm), Int.sub_zero]
      exact hs
  · have e : q ≠ p := fun e => by rw [e, upB_eq] at qa; cases qa
    rw [upB_ne e] at qa
    exact Pl_congr (h.2.2 q q0 q1 qa) h2 h3 h4 h5 h6
/-- the table takes a piece in -/
theorem Tb_enter {τ σ : St} {a : Int → Bool} {K : Int → Int} {p z d : Int} (h : Tb τ a K) (ha : a p = false) (p0 : 0 ≤ p) (p1 : p < 33) (hz : ∀ q : Int, 0 ≤ q → q < 33 → a q = true → K q ≠ z) (d0 : 0 ≤ d) (d1 : d < 64) (hd : τ 10 ((hsh z + d) % 64) < 0) (he : ∀ e : Int, 0 ≤ e → e < d → 0 ≤ τ 10 ((hsh z + e) % 64)) (h10 : σ 10 = upF (τ 10) ((hsh z + d) % 64) p) : Tb σ (upB a p true) (upF K p z) := by
  obtain ⟨t1, t2, t3, t4⟩ := h
  have hnp : ∀ i : Int, 0 ≤ i → i < 64 → τ 10 i ≠ p := by
    intro i i0 i1 e
    rcases t1 i i0 i1 with q | q | q
    · omega
    · omega
    · rw [e, ha] at q; cases q.2.2
  refine ⟨fun i i0 i1 => ?_, fun q q0 q1 qa => ?_, fun i j i0 i1 j0 j1 g e => ?_, fun x y x0 x1 y0 y1 xa ya e => ?_⟩
  · rw [h10]
    by_cases w : i = (hsh z + d) % 64
    · rw [w, upF_eq, upB_eq]
      exact Or.inr (Or.inr ⟨p0, p1, rfl⟩)
    · rw [upF_ne w]
      rcases t1 i i0 i1 with q | q | q
      · exact Or.inl q
      · exact Or.inr (Or.inl q)
      · refine Or.inr (Or.inr ⟨q.1, q.2.1, ?_⟩)
        rw [upB_ne (hnp i i0 i1)]
        exact q.2.2
  · by_cases e : q = p
    · rw [e, upF_eq, h10]
      refine ⟨d, d0, d1, upF_eq, fun e' a1 a2 => ?_⟩
      have := he e' a1 a2
      rw [upF_ne (by omega)]
      omega
    · rw [upB_ne e] at qa
      rw [upF_ne e, h10]
      obtain ⟨d', b0, b1, b2, b3⟩ := t2 q q0 q1 qa
      refine ⟨d', b0, b1, ?_, fun e' a1 a2 => ?_⟩
      · rw [upF_ne (fun w => by rw [w] at b2; omega)]
        exact b2
      · by_cases w : (hsh (K q) + e') % 64 = (hsh z + d) % 64
        · rw [w, upF_eq]; omega
        · rw [upF_ne w]
          exact b3 e' a1 a2
  · rw [h10] at g e
    by_cases w : i = (hsh z + d) % 64
    · by_cases w2 : j = (hsh z + d) % 64
      · rw [w, w2]
      · rw [w, upF_eq, upF_ne w2] at e
        exact absurd e.symm (hnp j j0 j1)
    · by_cases w2 : j = (hsh z + d) % 64
      · rw [w2, upF_eq, upF_ne w] at e
        exact absurd e (hnp i i0 i1)
      · rw [upF_ne w] at g e
        rw [upF_ne w2] at e
        exact t3 i j i0 i1 j0 j1 g e
  · by_cases w : x = p
    · by_cases w2 : y = p
      · rw [w, w2]
      · rw [upB_ne w2] at ya
        rw [w, upF_eq, upF_ne w2] at e
        exact absurd e.symm (hz y y0 y1 ya)
    · rw [upB_ne w] at xa
      by_cases w2 : y = p
      · rw [w2, upF_eq, upF_ne w] at e
        exact absurd e (hz x x0 x1 xa)
      · rw [upB_ne w2] at ya
        rw [upF_ne w, upF_ne w2] at e
        exact t4 x y x0 x1 y0 y1 xa ya e
theorem Tb_leave {τ σ : St} {a : Int → Bool} {K : Int → Int} {i : Int} (h : Tb τ a K) (i0 : 0 ≤ i) (i1 : i < 64) (hp : 0 ≤ τ 10 i) (h10 : σ 10 = upF (τ 10) i (-5)) : Tb σ (upB a (τ 10 i) false) K := by
  obtain ⟨t1, t2, t3, t4⟩ := h
  refine ⟨fun j j0 j1 => ?_, fun q q0 q1 qa => ?_, fun j k j0 j1 k0 k1 g e => ?_, fun x y x0 x1 y0 y1 xa ya e => ?_⟩
  · rw [h10]
    by_cases w : j = i
    · rw [w, upF_eq]; exact Or.inr (Or.inl rfl)
    · rw [upF_ne w]
      rcases t1 j j0 j1 with q | q | q
      · exact Or.inl q
      · exact Or.inr (Or.inl q)
      · refine Or.inr (Or.inr ⟨q.1, q.2.1, ?_⟩)
        rw [upB_ne (fun e => w (t3 j i j0 j1 i0 i1 q.1 e))]
        exact q.2.2
  · have e : q ≠ τ 10 i := fun e => by rw [e, upB_eq] at qa; cases qa
    rw [upB_ne e] at qa
    obtain ⟨d', b0, b1, b2, b3⟩ := t2 q q0 q1 qa
    rw [h10]
    refine ⟨d', b0, b1, ?_, fun e' a1 a2 => ?_⟩
    · rw [upF_ne (fun w => by rw [w] at b2; exact e b2.symm)]
      exact b2
    · by_cases w : (hsh (K q) + e') % 64 = i
      · rw [w, upF_eq]; omega
      · rw [upF_ne w]
        exact b3 e' a1 a2
  · rw [h10] at g e
    have w : j ≠ i := fun w => by rw [w, upF_eq] at g; omega
    rw [upF_ne w] at g e
    have w2 : k ≠ i := fun w2 => by rw [w2, upF_eq] at e; omega
    rw [upF_ne w2] at e
    exact t3 j k j0 j1 k0 k1 g e
  · have ex : x ≠ τ 10 i := fun e => by rw [e, upB_eq] at xa; cases xa
    have ey : y ≠ τ 10 i := fun e => by rw [e, upB_eq] at ya; cases ya
    rw [upB_ne ex] at xa
    rw [upB_ne ey] at ya
    exact t4 x y x0 x1 y0 y1 xa ya e
theorem Tb_same {τ σ : St} {a : Int → Bool} {K : Int → Int} (h : Tb τ a K) (h10 : σ 10 = τ 10) : Tb σ a K := by
  unfold Tb at h ⊢
  rw [h10]
  exact h
theorem cnt_up {f : Int → Int} {n v z : Int} {N : Nat} (n0 : 0 ≤ n) (n1 : n < N) : cnt (upF f n v) z N = cnt f z N - (if f n = z then 1 else 0) + (if v = z then 1 else 0) := by
  unfold cnt
  rw [sm_upd (f := fun j => if f j = z then 1 else 0) (g := fun j => if upF f n v j = z then 1 else 0) (p := n) n0 n1 (by
    intro j _ _ hj
    show (if upF f n v j = z then (1 : Int) else 0) = if f j = z then 1 else 0
    rw [upF_ne hj])]
  show _ + ((if upF f n v n = z then (1 : Int) else 0) - (if f n = z then 1 else 0)) = _
  rw [upF_eq]
  omega
theorem cnt_sum (f : Int → Int) (B : Nat) : ∀ n : Nat, sm (fun p => cnt f p n) B ≤ n
  | 0 => by
    rw [sm_zero]
    · exact Int.le_refl 0
    · intro j _ _; exact cnt_0 f j
  | n + 1 => by
    have h := cnt_sum f B n
    have e : sm (fun p => cnt f p (n + 1)) B = sm (fun p => cnt f p n) B + sm (fun p => if p = f n then 1 else 0) B := by
      rw [← sm_add]
      apply sm_congr
      intro j _ _
      show cnt f j (n + 1) = cnt f j n + if j = f n then 1 else 0
      rw [cnt_s]
      by_cases q : f n = j
      · rw [if_pos q, if_pos q.symm]
      · rw [if_neg q, if_neg (fun w => q w.symm)]
    rw [e, sm_one]
    split <;> omega
theorem cnt_sum_eq {f : Int → Int} {B : Nat} : ∀ n : Nat, (∀ j : Int, 0 ≤ j → j < n → 0 ≤ f j ∧ f j < B) → sm (fun p => cnt f p n) B = n
  | 0, _ => by
    rw [sm_zero]
    · rfl
    · intro j _ _; exact cnt_0 f j
  | n + 1, hf => by
    have h := cnt_sum_eq (f := f) (B := B) n (fun j a b => hf j a (by omega))
    have h2 := hf n (by omega) (by omega)
    have e : sm (fun p => cnt f p (n + 1)) B = sm (fun p => cnt f p n) B + sm (fun p => if p = f n then 1 else 0) B := by
      rw [← sm_add]
      apply sm_congr
      intro j _ _
      show cnt f j (n + 1) = cnt f j n + if j = f n then 1 else 0
      rw [cnt_s]
      by_cases q : f n = j
      · rw [if_pos q, if_pos q.symm]
      · rw [if_neg q, if_neg (fun w => q w.symm)]
    rw [e, sm_one, if_pos h2, h]
    omega
theorem cnt_inj {f : Int → Int} {z : Int} : ∀ n : Nat, (∀ i j : Int, 0 ≤ i → i < n → 0 ≤ j → j < n → f i = z → f j = z → i = j) → cnt f z n ≤ 1
  | 0, _ => by rw [cnt_0]; decide
  | n + 1, h => by
    have ih := cnt_inj (f := f) (z := z) n (fun i j a b c d => h i j a (by omega) c (by omega))
    rw [cnt_s]
    by_cases e : f n = z
    · rw [if_pos e]
      by_cases q : 0 < cnt f z n
      · obtain ⟨j, j0, j1, j2⟩ := cnt_ex q
        have := h j n j0 (by omega) (by omega) (by omega) j2 e
        omega
      · omega
    · rw [if_neg e]; omega
/-- some piece is free -/
theorem fresh_ex {τ : St} (h : ∀ p : Int, 0 ≤ p → p < 33 → τ 1 p = cnt (τ 0) p 32) : ∃ p : Int, 0 ≤ p ∧ p < 33 ∧ τ 1 p = 0 := by
  apply Classical.byContradiction
  intro hn
  have h1 : ∀ p : Int, 0 ≤ p → p < 33 → 1 ≤ cnt (τ 0) p 32 := by
    intro p p0 p1
    have h2 := cnt_le (τ 0) p 32
    by_cases e : cnt (τ 0) p 32 = 0
    · exact absurd ⟨p, p0, p1, by rw [h p p0 p1]; exact e⟩ hn
    · omega
  have h2 := sm_le (f := fun _ => 1) (g := fun p => cnt (τ 0) p 32) 33 h1
  have h3 := cnt_sum (τ 0) 33 32
  rw [sm_const] at h2
  omega
/-- some place of the table is free -/
theorem tab_ex {τ : St} {a : Int → Bool} {K : Int → Int} (h : Tb τ a K) : ∃ i : Int, 0 ≤ i ∧ i < 64 ∧ τ 10 i < 0 := by
  apply Classical.byContradiction
  intro hn
  have h1 : ∀ i : Int, 0 ≤ i → i < 64 → 0 ≤ τ 10 i ∧ τ 10 i < 33 := by
    intro i i0 i1
    rcases h.1 i i0 i1 with q | q | q
    · exact absurd ⟨i, i0, i1, by omega⟩ hn
    · exact absurd ⟨i, i0, i1, by omega⟩ hn
    · exact ⟨q.1, q.2.1⟩
  have h2 := cnt_sum_eq (f := τ 10) (B := 33) 64 h1
  have h3 := sm_le (f := fun p => cnt (τ 10) p 64) (g := fun _ => 1) 33 (fun p p0 p1 => cnt_inj 64 (fun i j i0 i1 j0 j1 e1 e2 => h.2.2.1 i j i0 i1 j0 j1 (by omega) (by omega)))
  rw [h2, sm_const] at h3
  omega
end
section
/-! DedupBlocks: cleaning a segment, writing the log anew (plain laws) -/
set_option maxRecDepth 100000
def Sm (τ σ : St) : Prop := σ 0 = τ 0 ∧ σ 1 = τ 1 ∧ σ 9 = τ 9 ∧ σ 10 = τ 10
theorem Sm.rf {τ : St} : Sm τ τ := ⟨rfl, rfl, rfl, rfl⟩
theorem Sm.tr {τ σ ρ : St} (h : Sm τ σ) (h2 : Sm σ ρ) : Sm τ ρ := ⟨h2.1.trans h.1, h2.2.1.trans h.2.1, h2.2.2.1.trans h.2.2.1, h2.2.2.2.trans h.2.2.2⟩
theorem Sm.pk {τ σ : St} (h : ∀ k' : Nat, k' ≠ 12 → k' ≠ 13 → σ k' = τ k') : Sm τ σ := ⟨h 0 (by decide) (by decide), h 1 (by decide) (by decide), h 9 (by decide) (by decide), h 10 (by decide) (by decide)⟩
theorem Sm.op {τ σ : St} {o : Int} (h : Op_ τ o σ) : Sm τ σ := ⟨h.2.2.2.2.1 0 (by decide), h.2.2.2.2.1 1 (by decide), h.2.2.2.2.1 9 (by decide), h.2.2.2.2.1 10 (by decide)⟩
theorem Sm.ap {τ σ : St} {p : Int} (h : Ap τ p σ) : Sm τ σ := ⟨h.1 0 (by decide) (by decide) (by decide) (by decide) (by decide) (by decide), h.1 1 (by decide) (by decide) (by decide) (by decide) (by decide) (by decide), h.1 9 (by decide) (by decide) (by decide) (by decide) (by decide) (by decide), h.1 10 (by decide) (by decide) (by decide) (by decide) (by decide) (by decide)⟩
/-- what append asks -/
theorem ap_pre {σ : St} {a : Int → Bool} {K : Int → Int} {z : Int} (h : Lg σ a K) (hk : pkd σ z) : 0 ≤ σ 6 (σ 8 0) ∧ (0 ≤ σ 7 (σ 8 0) ∧ σ 7 (σ 8 0) ≤ 8) ∧ (0 ≤ σ 13 0 ∧ σ 13 0 ≤ 5) := by
  have h1 := h.2.1 (σ 8 0) h.1.1 h.1.2
  have h2 := rn_rg z 3
  have h3 := hk.1
  omega
/-- cleaning: pieces of segment w from x on are still to be put into the log again -/
def clB (τ : St) (a : Int → Bool) (w x : Int) : Int → Bool := fun p => a p && (decide (τ 2 p ≠ w) || decide (p < x))
def CI (τ : St) (a : Int → Bool) (K : Int → Int) (w x : Int) (σ : St) : Prop :=
  Lg σ (clB τ a w x) K ∧ (∀ p : Int, 0 ≤ p → p < 33 → σ 11 p = if a p = true ∧ τ 2 p = w then K p else 0) ∧ σ 6 w + sm (fun p => if x ≤ p ∧ a p = true ∧ τ 2 p = w then room (K p) else 0) 33 ≤ 8 ∧ (∀ p : Int, 0 ≤ p → p < 33 → a p = true → 1 ≤ K p ∧ K p ≤ 4095) ∧ Sm τ σ ∧ (0 ≤ w ∧ w < 10)
theorem cl_pend {τ σ : St} {a : Int → Bool} {K : Int → Int} {w x : Int} (h : CI τ a K w x σ) (x0 : 0 ≤ x) (x1 : x < 33) (hz : σ 11 x ≠ 0) : a x = true ∧ τ 2 x = w ∧ σ 11 x = K x := by
  have h1 := h.2.1 x x0 x1
  by_cases e : a x = true ∧ τ 2 x = w
  · rw [if_pos e] at h1
    exact ⟨e.1, e.2, h1⟩
  · rw [if_neg e] at h1
    exact absurd h1 hz
theorem cl_sum {τ : St} {a : Int → Bool} {K : Int → Int} {w x : Int} (x0 : 0 ≤ x) (x1 : x < 33) : sm (fun p => if x ≤ p ∧ a p = true ∧ τ 2 p = w then room (K p) else 0) 33 = sm (fun p => if x + 1 ≤ p ∧ a p = true ∧ τ 2 p = w then room (K p) else 0) 33 + (if a x = true ∧ τ 2 x = w then room (K x) else 0) := by
  rw [sm_upd (f := fun p => if x + 1 ≤ p ∧ a p = true ∧ τ 2 p = w then room (K p) else 0) (g := fun p => if x ≤ p ∧ a p = true ∧ τ 2 p = w then room (K p) else 0) (p := x) x0 x1 (by
    intro j _ _ hj
    show (if x ≤ j ∧ a j = true ∧ τ 2 j = w then room (K j) else 0) = if x + 1 ≤ j ∧ a j = true ∧ τ 2 j = w then room (K j) else 0
    by_cases e : x ≤ j
    · by_cases e2 : a j = true ∧ τ 2 j = w
      · rw [if_pos ⟨e, e2⟩, if_pos ⟨by omega, e2⟩]
      · rw [if_neg (fun q => e2 q.2), if_neg (fun q => e2 q.2)]
    · rw [if_neg (fun q => e q.1), if_neg (fun q => e (by omega))])]
  show _ + ((if x ≤ x ∧ a x = true ∧ τ 2 x = w then room (K x) else 0) - (if x + 1 ≤ x ∧ a x = true ∧ τ 2 x = w then room (K x) else 0)) = _
  rw [if_neg (show ¬ (x + 1 ≤ x ∧ a x = true ∧ τ 2 x = w) from fun q => by omega)]
  by_cases e2 : a x = true ∧ τ 2 x = w
  · rw [if_pos ⟨Int.le_refl x, e2⟩, if_pos e2, Int.sub_zero]
  · rw [if_neg (fun q => e2 q.2), if_neg e2, Int.sub_zero]
theorem cl_rest {τ : St} {a : Int → Bool} {K : Int → Int} {w x : Int} : 0 ≤ sm (fun p => if x ≤ p ∧ a p = true ∧ τ 2 p = w then room (K p) else 0) 33 := by
  apply sm_nonneg
  intro j _ _
  show 0 ≤ if x ≤ j ∧ a j = true ∧ τ 2 j = w then room (K j) else 0
  split
  · exact (room_rg _).1
  · exact Int.le_refl 0
theorem cl_skip {τ σ : St} {a : Int → Bool} {K : Int → Int} {w x : Int} (h : CI τ a K w x σ) (x0 : 0 ≤ x) (x1 : x < 33) (hz : σ 11 x = 0) : CI τ a K w (x + 1) σ := by
  obtain ⟨hL, hk, hs, hK, hS, hw⟩ := h
  have hn : ¬ (a x = true ∧ τ 2 x = w) := by
    intro e
    have h1 := hk x x0 x1
    rw [if_pos e] at h1
    have := hK x x0 x1 e.1
    omega
  refine ⟨Lg_set hL (fun p p0 p1 => ?_), hk, ?_, hK, hS, hw⟩
  · unfold clB
    by_cases e : p = x
    · subst e
      cases ha : a p with
      | false => rfl
      | true =>
        have h2 : τ 2 p ≠ w := fun q => hn ⟨ha, q⟩
        simp [h2]
    · have e2 : (decide (p < x + 1)) = decide (p < x) := by
        apply decide_eq_decide.mpr
        omega
      rw [e2]
  · rw [cl_sum x0 x1, if_neg hn, Int.add_zero] at hs
    exact hs
theorem cl_fits {τ σ σ1 : St} {a : Int → Bool} {K : Int → Int} {w x : Int} (h : CI τ a K w x σ) (x0 : 0 ≤ x) (x1 : x < 33) (hz : σ 11 x ≠ 0) (hpk : ∀ k' : Nat, k' ≠ 12 → k' ≠ 13 → σ1 k' = σ k') (hpd : pkd σ1 (σ 11 x)) : σ1 6 w + σ1 13 0 ≤ 8 := by
  obtain ⟨p1, p2, p3⟩ := cl_pend h x0 x1 hz
  obtain ⟨hL, hk, hs, hK, hS, hw⟩ := h
  have hb := hK x x0 x1 p1
  rw [cl_sum x0 x1, if_pos ⟨p1, p2⟩] at hs
  have hr := cl_rest (τ := τ) (a := a) (K := K) (w := w) (x := x + 1)
  have := hpd.1
  rw [p3] at this
  rw [room_rn hb.1] at hs
  rw [hpk 6 (by decide) (by decide)]
  omega
theorem cl_step {τ σ σ1 σ2 σ3 : St} {a : Int → Bool} {K : Int → Int} {w x o : Int} (h : CI τ a K w x σ) (x0 : 0 ≤ x) (x1 : x < 33) (hz : σ 11 x ≠ 0) (hpk : ∀ k' : Nat, k' ≠ 12 → k' ≠ 13 → σ1 k' = σ k') (hpd : pkd σ1 (σ 11 x)) (hop : Op_ σ1 o σ2) (hap : Ap σ2 x σ3) : CI τ a K w (x + 1) σ3 := by
  obtain ⟨q1, q2, q3⟩ := cl_pend h x0 x1 hz
  have hff := cl_fits h x0 x1 hz hpk hpd
  obtain ⟨hL, hk, hs, hK, hS, hw⟩ := h
  have hb := hK x x0 x1 q1
  have hL2 := Lg_open (Lg_pack hL hpk) hop
  have hk2 : pkd σ2 (K x) := by
    rw [← q3]
    unfold pkd at hpd ⊢
    rw [hop.2.2.2.2.1 13 (by decide), hop.2.2.2.2.1 12 (by decide)]
    exact hpd
  have e6 : σ2 6 = σ 6 := (hop.2.2.2.2.1 6 (by decide)).trans (hpk 6 (by decide) (by decide))
  have e13 : σ2 13 = σ1 13 := hop.2.2.2.2.1 13 (by decide)
  have e8 : σ2 8 0 = o := hop.2.2.2.2.2
  have hof : σ2 6 (σ2 8 0) + σ2 13 0 ≤ 8 := by
    rw [e6, e8, e13, ← hpk 6 (by decide) (by decide)]
    exact hop.2.2.1
  have hfalse : clB τ a w x x = false := by
    unfold clB
    simp [q1, q2]
  have hL3 := Lg_append hL2 hfalse x0 x1 hb.1 hb.2 hk2 hof hap
  rw [upF_self] at hL3
  have e11 : σ3 11 = σ 11 := (hap.1 11 (by decide) (by decide) (by decide) (by decide) (by decide) (by decide)).trans ((hop.2.2.2.2.1 11 (by decide)).trans (hpk 11 (by decide) (by decide)))
  refine ⟨Lg_set hL3 (fun p p0 p1 => ?_), fun p p0 p1 => by rw [e11]; exact hk p p0 p1, ?_, hK, Sm.tr hS (Sm.tr (Sm.pk hpk) (Sm.tr (Sm.op hop) (Sm.ap hap))), hw⟩
  · by_cases e : p = x
    · subst e
      rw [upB_eq]
      unfold clB
      simp [q1]
      omega
    · rw [upB_ne e]
      unfold clB
      have e2 : (decide (p < x + 1)) = decide (p < x) := by
        apply decide_eq_decide.mpr
        omega
      rw [e2]
  · rw [cl_sum x0 x1, if_pos ⟨q1, q2⟩] at hs
    have hr := room_rn hb.1
    have hps : σ2 13 0 = room (K x) := by rw [hr]; exact hk2.1
    rw [hap.2.2.2.2.1, e6, e8, hps]
    unfold upF
    have := room_rg (K x)
    split
    · rename_i e; rw [← e]; omega
    · omega
theorem cl_end {τ σ : St} {a : Int → Bool} {K : Int → Int} {w x : Int} (h : CI τ a K w x σ) (hx : 33 ≤ x) : Lg σ a K := by
  refine Lg_set h.1 (fun p p0 p1 => ?_)
  unfold clB
  have e : decide (p < x) = true := by
    apply decide_eq_true
    omega
  rw [e, Bool.or_true, Bool.and_true]
theorem cl_init {τ σ : St} {a : Int → Bool} {K : Int → Int} {w : Int} (hL : Lg τ a K) (w0 : 0 ≤ w) (w1 : w < 10) (hk : ∀ k' : Nat, k' ≠ 11 → σ k' = τ k') (h11 : ∀ p : Int, 0 ≤ p → p < 33 → σ 11 p = if a p = true ∧ τ 2 p = w then K p else 0) : CI τ a K w 0 (up (up σ 6 w 0) 7 w 0) := by
  have hPl : ∀ p : Int, 0 ≤ p → p < 33 → a p = true → Pl τ p (K p) := hL.2.2
  have g2 : (up (up σ 6 w 0) 7 w 0) 2 = τ 2 := by rw [up_fne (by decide), up_fne (by decide), hk 2 (by decide)]
  have g3 : (up (up σ 6 w 0) 7 w 0) 3 = τ 3 := by rw [up_fne (by decide), up_fne (by decide), hk 3 (by decide)]
  have g4 : (up (up σ 6 w 0) 7 w 0) 4 = τ 4 := by rw [up_fne (by decide), up_fne (by decide), hk 4 (by decide)]
  have g5 : (up (up σ 6 w 0) 7 w 0) 5 = τ 5 := by rw [up_fne (by decide), up_fne (by decide), hk 5 (by decide)]
  have g6 : (up (up σ 6 w 0) 7 w 0) 6 = upF (τ 6) w 0 := by rw [up_fne (by decide), up_upF, hk 6 (by decide)]
  have g7 : (up (up σ 6 w 0) 7 w 0) 7 = upF (τ 7) w 0 := by rw [up_upF, up_fne (by decide), hk 7 (by decide)]
  have g8 : (up (up σ 6 w 0) 7 w 0) 8 = τ 8 := by rw [up_fne (by decide), up_fne (by decide), hk 8 (by decide)]
  have hw := hL.2.1 w w0 w1
  refine ⟨⟨by rw [g8]; exact hL.1, fun s s0 s1 => ?_, fun p p0 p1 pa => ?_⟩, fun p p0 p1 => ?_, ?_, fun p p0 p1 pa => ⟨(hPl p p0 p1 pa).1, (hPl p p0 p1 pa).2.1⟩, ⟨?_, ?_, ?_, ?_⟩, ⟨w0, w1⟩⟩
  · rw [g7, g6, g2, g4]
    have hs := hL.2.1 s s0 s1
    by_cases e : s = w
    · subst e
      rw [upF_eq, upF_eq]
      refine ⟨Int.le_refl 0, Int.le_refl 0, by decide, ?_⟩
      rw [sm_zero]
      intro j j0 j1
      show (if clB τ a s 0 j = true ∧ τ 2 j = s then τ 4 j else 0) = 0
      rw [if_neg]
      intro q
      have q1 := q.1
      unfold clB at q1
      have e1 : decide (j < 0) = false := by
        apply decide_eq_false
        omega
      rw [e1, Bool.or_false, Bool.and_eq_true, decide_eq_true_eq] at q1
      exact q1.2 q.2
    · rw [upF_ne e, upF_ne e]
      refine ⟨hs.1, hs.2.1, hs.2.2.1, ?_⟩
      rw [hs.2.2.2]
      apply sm_congr
      intro j j0 j1
      show (if a j = true ∧ τ 2 j = s then τ 4 j else 0) = if clB τ a w 0 j = true ∧ τ 2 j = s then τ 4 j else 0
      unfold clB
      have e1 : decide (j < 0) = false := by
        apply decide_eq_false
        omega
      have e3 : (a j && (decide (τ 2 j ≠ w) || decide (j < 0))) = true ↔ a j = true ∧ τ 2 j ≠ w := by
        rw [e1, Bool.or_false, Bool.and_eq_true, decide_eq_true_eq]
      by_cases q : a j = true ∧ τ 2 j = s
      · rw [if_pos q, if_pos ⟨e3.mpr ⟨q.1, by rw [q.2]; exact e⟩, q.2⟩]
      · rw [if_neg q, if_neg (fun q2 => q ⟨(e3.mp q2.1).1, q2.2⟩)]
  · unfold clB at pa
    have e1 : decide (p < 0) = false := by
      apply decide_eq_false
      omega
    rw [e1, Bool.or_false, Bool.and_eq_true, decide_eq_true_eq] at pa
    have hp := hPl p p0 p1 pa.1
    unfold Pl at hp ⊢
    rw [g2, g3, g4, g5, g6, upF_ne pa.2]
    exact hp
  · rw [up_ne (by decide), up_ne (by decide)]
    exact h11 p p0 p1
  · rw [g6, upF_eq, Int.zero_add]
    have e : sm (fun p => if 0 ≤ p ∧ a p = true ∧ τ 2 p = w then room (K p) else 0) 33 = sm (fun p => if a p = true ∧ τ 2 p = w then τ 4 p else 0) 33 := by
      apply sm_congr
      intro j j0 j1
      show (if 0 ≤ j ∧ a j = true ∧ τ 2 j = w then room (K j) else 0) = if a j = true ∧ τ 2 j = w then τ 4 j else 0
      by_cases q : a j = true ∧ τ 2 j = w
      · rw [if_pos ⟨j0, q⟩, if_pos q, (hPl j j0 j1 q.1).2.2.2.2.2.1]
      · rw [if_neg (fun q2 => q q2.2), if_neg q]
    rw [e, ← hw.2.2.2]
    omega
  · rw [up_fne (by decide), up_fne (by decide), hk 0 (by decide)]
  · rw [up_fne (by decide), up_fne (by decide), hk 1 (by decide)]
  · rw [up_fne (by decide), up_fne (by decide), hk 9 (by decide)]
  · rw [up_fne (by decide), up_fne (by decide), hk 10 (by decide)]
/-- two sums in either order -/
theorem sm_swap (F : Int → Int → Int) (m : Nat) : ∀ n : Nat, sm (fun s => sm (fun p => F s p) m) n = sm (fun p => sm (fun s => F s p) n) m
  | 0 => by
    rw [sm_zero (f := fun p => sm (fun s => F s p) 0)]
    · rfl
    · intro j _ _; rfl
  | n + 1 => by
    have h := sm_swap F m n
    show sm (fun s => sm (fun p => F s p) m) n + sm (fun p => F n p) m = _
    rw [h, ← sm_add]
    rfl
theorem live_tot {σ : St} {b : Int → Bool} {K : Int → Int} (h : Lg σ b K) : sm (fun s => σ 7 s) 10 = tot b K := by
  have e : sm (fun s => σ 7 s) 10 = sm (fun s => sm (fun p => if b p = true ∧ σ 2 p = s then σ 4 p else 0) 33) 10 := by
    apply sm_congr
    intro s s0 s1
    exact (h.2.1 s s0 s1).2.2.2
  rw [e, sm_swap (fun s p => if b p = true ∧ σ 2 p = s then σ 4 p else 0) 33 10]
  unfold tot
  apply sm_congr
  intro p p0 p1
  show sm (fun s => if b p = true ∧ σ 2 p = s then σ 4 p else 0) 10 = if b p = true then room (K p) else 0
  by_cases q : b p = true
  · have hp := h.2.2 p p0 p1 q
    rw [if_pos q, ← hp.2.2.2.2.2.1]
    have e2 : sm (fun s => if b p = true ∧ σ 2 p = s then σ 4 p else 0) 10 = sm (fun s => if s = σ 2 p then σ 4 p else 0) 10 := by
      apply sm_congr
      intro s _ _
      show (if b p = true ∧ σ 2 p = s then σ 4 p else 0) = if s = σ 2 p then σ 4 p else 0
      by_cases w : s = σ 2 p
      · rw [if_pos w, if_pos ⟨q, w.symm⟩]
      · rw [if_neg w, if_neg (fun w2 => w w2.2.symm)]
    rw [e2, sm_one, if_pos ⟨hp.2.2.1, hp.2.2.2.1⟩]
  · rw [if_neg q]
    apply sm_zero
    intro s _ _
    exact if_neg (fun w => q w.1)
/-- writing anew: the pieces b stand in the log, first fit, without waste -/
def RW (τ : St) (a : Int → Bool) (K : Int → Int) (b : Int → Bool) (σ : St) : Prop :=
  Lg σ b K ∧ (∀ p : Int, 0 ≤ p → p < 33 → b p = true → a p = true) ∧ (∀ p : Int, 0 ≤ p → p < 33 → σ 11 p = if a p = true then K p else 0) ∧ (∀ p : Int, 0 ≤ p → p < 33 → a p = true → 1 ≤ K p ∧ K p ≤ 4095 ∧ σ 4 p = room (K p)) ∧ (∀ s : Int, 0 ≤ s → s < 10 → σ 6 s = σ 7 s) ∧ (∀ i j : Int, 0 ≤ i → i < j → j < 10 → 0 < σ 6 j → 9 ≤ σ 6 i + σ 6 j) ∧ Sm τ σ
theorem rw_fits {τ σ : St} {a b : Int → Bool} {K : Int → Int} {k : Int} (h : RW τ a K b σ) (k2 : 2 ≤ k) (k5 : k ≤ 5) (ht : tot b K + k ≤ 48) : ∃ s : Int, 0 ≤ s ∧ s < 10 ∧ σ 6 s + k ≤ 8 := by
  apply Classical.byContradiction
  intro hn
  have hg : ∀ s : Int, 0 ≤ s → s < 10 → 9 ≤ σ 6 s + k := by
    intro s s0 s1
    by_cases e : σ 6 s + k ≤ 8
    · exact absurd ⟨s, s0, s1, e⟩ hn
    · omega
  obtain ⟨hL, -, -, -, hw, hp, -⟩ := h
  have hl := live_tot hL
  have e : sm (fun s => σ 7 s) 10 = sm (fun s => σ 6 s) 10 := by
    apply sm_congr
    intro s s0 s1
    exact (hw s s0 s1).symm
  rw [e] at hl
  have e10 : sm (fun s => σ 6 s) 10 = σ 6 0 + σ 6 1 + σ 6 2 + σ 6 3 + σ 6 4 + σ 6 5 + σ 6 6 + σ 6 7 + σ 6 8 + σ 6 9 := by
    simp [sm]
  have g0 := hg 0 (by decide) (by decide)
  have g1 := hg 1 (by decide) (by decide)
  have g2 := hg 2 (by decide) (by decide)
  have g3 := hg 3 (by decide) (by decide)
  have g4 := hg 4 (by decide) (by decide)
  have g5 := hg 5 (by decide) (by decide)
  have g6 := hg 6 (by decide) (by decide)
  have g7 := hg 7 (by decide) (by decide)
  have g8 := hg 8 (by decide) (by decide)
  have g9 := hg 9 (by decide) (by decide)
  have p1 := hp 0 1 (by decide) (by decide) (by decide) (by omega)
  have p3 := hp 2 3 (by decide) (by decide) (by decide) (by omega)
  have p5 := hp 4 5 (by decide) (by decide) (by decide) (by omega)
  have p7 := hp 6 7 (by decide) (by decide) (by decide) (by omega)
  have p9 := hp 8 9 (by decide) (by decide) (by decide) (by omega)
  omega
theorem tot_add {a b : Int → Bool} {K : Int → Int} {x : Int} (x0 : 0 ≤ x) (x1 : x < 33) (hb : b x = false) (ha : a x = true) (hs : ∀ p : Int, 0 ≤ p → p < 33 → b p = true → a p = true) : tot b K + room (K x) ≤ tot a K := by
  have e : tot (upB b x true) K = tot b K + room (K x) := by
    unfold tot
    rw [sm_upd (f := fun p => if b p = true then room (K p) else 0) (g := fun p => if upB b x true p = true then room (K p) else 0) (p := x) x0 x1 (by
      intro j _ _ hj
      show (if upB b x true j = true then room (K j) else 0) = if b j = true then room (K j) else 0
      rw [upB_ne hj])]
    show _ + ((if upB b x true x = true then room (K x) else 0) - (if b x = true then room (K x) else 0)) = _
    rw [upB_eq, if_pos rfl, hb, if_neg (by decide), Int.sub_zero]
  rw [← e]
  apply sm_le
  intro j j0 j1
  show (if upB b x true j = true then room (K j) else 0) ≤ if a j = true then room (K j) else 0
  have hr := room_rg (K j)
  by_cases q : a j = true
  · rw [if_pos q]
    split <;> omega
  · rw [if_neg q, if_neg]
    · exact Int.le_refl 0
    · intro w
      by_cases e2 : j = x
      · rw [e2] at q; exact q ha
      · rw [upB_ne e2] at w; exact q (hs j j0 j1 w)
theorem RW_set {τ σ : St} {a b b' : Int → Bool} {K : Int → Int} (h : RW τ a K b σ) (hb : ∀ p : Int, 0 ≤ p → p < 33 → b' p = b p) : RW τ a K b' σ :=
  ⟨Lg_set h.1 hb, fun p p0 p1 q => h.2.1 p p0 p1 (by rw [← hb p p0 p1]; exact q), h.2.2⟩
theorem rw_step {τ σ σ1 σ2 σ3 : St} {a b : Int → Bool} {K : Int → Int} {x o : Int} (h : RW τ a K b σ) (x0 : 0 ≤ x) (x1 : x < 33) (ha : a x = true) (hb : b x = false) (hpk : ∀ k' : Nat, k' ≠ 12 → k' ≠ 13 → σ1 k' = σ k') (hpd : pkd σ1 (σ 11 x)) (hop : Op_ (up σ1 8 0 0) o σ2) (hap : Ap σ2 x σ3) : RW τ a K (upB b x true) σ3 := by
  obtain ⟨hL, hs, hk, hK, hw, hp, hS⟩ := h
  have hb3 := hK x x0 x1 ha
  have e11x : σ 11 x = K x := by rw [hk x x0 x1, if_pos ha]
  rw [e11x] at hpd
  have hL1 := Lg_pack hL hpk
  have u2 : (up σ1 8 0 0) 2 = σ1 2 := up_fne (by decide)
  have hL1' : Lg (up σ1 8 0 0) b K := Lg_same hL1 (up_fne (by decide)) (up_fne (by decide)) (up_fne (by decide)) (up_fne (by decide)) (up_fne (by decide)) (up_fne (by decide)) (by rw [up_eq]; exact ⟨by decide, by decide⟩)
  have hL2 := Lg_open hL1' hop
  obtain ⟨o0, o1, o2, o3, okk, o8⟩ := hop
  have e6 : σ2 6 = σ 6 := by rw [okk 6 (by decide), up_fne (by decide), hpk 6 (by decide) (by decide)]
  have e7 : σ2 7 = σ 7 := by rw [okk 7 (by decide), up_fne (by decide), hpk 7 (by decide) (by decide)]
  have e4 : σ2 4 = σ 4 := by rw [okk 4 (by decide), up_fne (by decide), hpk 4 (by decide) (by decide)]
  have e11 : σ2 11 = σ 11 := by rw [okk 11 (by decide), up_fne (by decide), hpk 11 (by decide) (by decide)]
  have e13 : σ2 13 = σ1 13 := by rw [okk 13 (by decide), up_fne (by decide)]
  have e12 : σ2 12 = σ1 12 := by rw [okk 12 (by decide), up_fne (by decide)]
  have hk2 : pkd σ2 (K x) := by
    unfold pkd at hpd ⊢
    rw [e13, e12]
    exact hpd
  rw [up_eq] at o3
  rw [up_fne (show (6 : Nat) ≠ 8 by decide), up_fne (show (13 : Nat) ≠ 8 by decide), hpk 6 (by decide) (by decide)] at o2 o3
  have hps : σ1 13 0 = room (K x) := by rw [room_rn hb3.1]; exact hpd.1
  have hrp := room_pos (z := K x) (by omega)
  have hof : σ2 6 (σ2 8 0) + σ2 13 0 ≤ 8 := by rw [e6, o8, e13]; exact o2
  have hL3 := Lg_append hL2 hb x0 x1 hb3.1 hb3.2.1 hk2 hof hap
  rw [upF_self] at hL3
  have hSm : Sm τ σ3 := by
    refine Sm.tr hS (Sm.tr (Sm.pk hpk) (Sm.tr ?_ (Sm.ap hap)))
    exact ⟨by rw [okk 0 (by decide), up_fne (by decide)], by rw [okk 1 (by decide), up_fne (by decide)], by rw [okk 9 (by decide), up_fne (by decide)], by rw [okk 10 (by decide), up_fne (by decide)]⟩
  obtain ⟨aS, a2, a3, a4, a6, a7, a5⟩ := hap
  rw [e6, o8, e13] at a6
  rw [e7, o8, e13] at a7
  rw [e4, e13] at a4
  have a11 : σ3 11 = σ 11 := (aS 11 (by decide) (by decide) (by decide) (by decide) (by decide) (by decide)).trans e11
  refine ⟨hL3, fun p p0 p1 q => ?_, fun p p0 p1 => by rw [a11]; exact hk p p0 p1, fun p p0 p1 q => ?_, fun s s0 s1 => ?_, fun i j i0 ij j1 hj => ?_, hSm⟩
  · by_cases e : p = x
    · rw [e]; exact ha
    · rw [upB_ne e] at q; exact hs p p0 p1 q
  · have hKp := hK p p0 p1 q
    refine ⟨hKp.1, hKp.2.1, ?_⟩
    rw [a4]
    by_cases e : p = x
    · rw [e, upF_eq]; exact hps
    · rw [upF_ne e]; exact hKp.2.2
  · rw [a6, a7]
    by_cases e : s = o
    · rw [e, upF_eq, upF_eq, hw o o0 o1]
    · rw [upF_ne e, upF_ne e]; exact hw s s0 s1
  · rw [a6] at hj ⊢
    by_cases ei : i = o
    · have ej : j ≠ o := by omega
      rw [upF_ne ej] at hj ⊢
      rw [ei, upF_eq]
      have := hp i j i0 ij j1 hj
      rw [ei] at this
      omega
    · rw [upF_ne ei]
      by_cases ej : j = o
      · rw [ej, upF_eq]
        by_cases w : 0 < σ 6 o
        · have := hp i o i0 (by omega) o1 w
          omega
        · rcases o3 with o3 | o3
          · omega
          · have g1 := o3.2 i i0 (by omega)
            have g2 := hL.2.1 o o0 o1
            omega
      · rw [upF_ne ej] at hj ⊢
        exact hp i j i0 ij j1 hj
end
section
/-! DedupBlocks: clean, rewrite, provide -/
set_option maxRecDepth 100000
theorem dX0_clean_0 : decode cX0_clean 0 = .ok (.iconst 0, 1) := by decide +kernel
theorem dX0_clean_1 : decode cX0_clean 1 = .ok (.istore_n 1, 1) := by decide +kernel
theorem dX0_clean_2 : decode cX0_clean 2 = .ok (.iconst 0, 1) := by decide +kernel
theorem dX0_clean_3 : decode cX0_clean 3 = .ok (.istore_n 2, 1) := by decide +kernel
theorem dX0_clean_4 : decode cX0_clean 4 = .ok (.iload_n 2, 1) := by decide +kernel
theorem dX0_clean_5 : decode cX0_clean 5 = .ok (.bipush 10, 2) := by decide +kernel
theorem dX0_clean_7 : decode cX0_clean 7 = .ok (.if_icmp .ge 40, 3) := by decide +kernel
theorem dX0_clean_10 : decode cX0_clean 10 = .ok (.aload_n 0, 1) := by decide +kernel
theorem dX0_clean_11 : decode cX0_clean 11 = .ok (.getfield 28, 3) := by decide +kernel
theorem dX0_clean_14 : decode cX0_clean 14 = .ok (.iload_n 2, 1) := by decide +kernel
theorem dX0_clean_15 : decode cX0_clean 15 = .ok (.iaload, 1) := by decide +kernel
theorem dX0_clean_16 : decode cX0_clean 16 = .ok (.aload_n 0, 1) := by decide +kernel
theorem dX0_clean_17 : decode cX0_clean 17 = .ok (.getfield 31, 3) := by decide +kernel
theorem dX0_clean_20 : decode cX0_clean 20 = .ok (.iload_n 2, 1) := by decide +kernel
theorem dX0_clean_21 : decode cX0_clean 21 = .ok (.iaload, 1) := by decide +kernel
theorem dX0_clean_22 : decode cX0_clean 22 = .ok (.isub, 1) := by decide +kernel
theorem dX0_clean_23 : decode cX0_clean 23 = .ok (.aload_n 0, 1) := by decide +kernel
theorem dX0_clean_24 : decode cX0_clean 24 = .ok (.getfield 28, 3) := by decide +kernel
theorem dX0_clean_27 : decode cX0_clean 27 = .ok (.iload_n 1, 1) := by decide +kernel
theorem dX0_clean_28 : decode cX0_clean 28 = .ok (.iaload, 1) := by decide +kernel
theorem dX0_clean_29 : decode cX0_clean 29 = .ok (.aload_n 0, 1) := by decide +kernel
theorem dX0_clean_30 : decode cX0_clean 30 = .ok (.getfield 31, 3) := by decide +kernel
theorem dX0_clean_33 : decode cX0_clean 33 = .ok (.iload_n 1, 1) := by decide +kernel
theorem dX0_clean_34 : decode cX0_clean 34 = .ok (.iaload, 1) := by decide +kernel
theorem dX0_clean_35 : decode cX0_clean 35 = .ok (.isub, 1) := by decide +kernel
theorem dX0_clean_36 : decode cX0_clean 36 = .ok (.if_icmp .le 5, 3) := by decide +kernel
theorem dX0_clean_39 : decode cX0_clean 39 = .ok (.iload_n 2, 1) := by decide +kernel
theorem dX0_clean_40 : decode cX0_clean 40 = .ok (.istore_n 1, 1) := by decide +kernel
theorem dX0_clean_41 : decode cX0_clean 41 = .ok (.iinc 2 1, 3) := by decide +kernel
theorem dX0_clean_44 : decode cX0_clean 44 = .ok (.goto (-40), 3) := by decide +kernel
theorem dX0_clean_47 : decode cX0_clean 47 = .ok (.aload_n 0, 1) := by decide +kernel
theorem dX0_clean_48 : decode cX0_clean 48 = .ok (.getfield 28, 3) := by decide +kernel
theorem dX0_clean_51 : decode cX0_clean 51 = .ok (.iload_n 1, 1) := by decide +kernel
theorem dX0_clean_52 : decode cX0_clean 52 = .ok (.iaload, 1) := by decide +kernel
theorem dX0_clean_53 : decode cX0_clean 53 = .ok (.aload_n 0, 1) := by decide +kernel
theorem dX0_clean_54 : decode cX0_clean 54 = .ok (.getfield 31, 3) := by decide +kernel
theorem dX0_clean_57 : decode cX0_clean 57 = .ok (.iload_n 1, 1) := by decide +kernel
theorem dX0_clean_58 : decode cX0_clean 58 = .ok (.iaload, 1) := by decide +kernel
theorem dX0_clean_59 : decode cX0_clean 59 = .ok (.if_icmp .ne 5, 3) := by decide +kernel
theorem dX0_clean_62 : decode cX0_clean 62 = .ok (.iconst 0, 1) := by decide +kernel
theorem dX0_clean_63 : decode cX0_clean 63 = .ok (.ireturn, 1) := by decide +kernel
theorem dX0_clean_64 : decode cX0_clean 64 = .ok (.iconst 0, 1) := by decide +kernel
theorem dX0_clean_65 : decode cX0_clean 65 = .ok (.istore_n 2, 1) := by decide +kernel
theorem dX0_clean_66 : decode cX0_clean 66 = .ok (.iload_n 2, 1) := by decide +kernel
theorem dX0_clean_67 : decode cX0_clean 67 = .ok (.bipush 33, 2) := by decide +kernel
theorem dX0_clean_69 : decode cX0_clean 69 = .ok (.if_icmp .ge 49, 3) := by decide +kernel
theorem dX0_clean_72 : decode cX0_clean 72 = .ok (.aload_n 0, 1) := by decide +kernel
theorem dX0_clean_73 : decode cX0_clean 73 = .ok (.getfield 13, 3) := by decide +kernel
theorem dX0_clean_76 : decode cX0_clean 76 = .ok (.iload_n 2, 1) := by decide +kernel
theorem dX0_clean_77 : decode cX0_clean 77 = .ok (.iaload, 1) := by decide +kernel
theorem dX0_clean_78 : decode cX0_clean 78 = .ok (.ifCond .le 27, 3) := by decide +kernel
theorem dX0_clean_81 : decode cX0_clean 81 = .ok (.aload_n 0, 1) := by decide +kernel
theorem dX0_clean_82 : decode cX0_clean 82 = .ok (.getfield 16, 3) := by decide +kernel
theorem dX0_clean_85 : decode cX0_clean 85 = .ok (.iload_n 2, 1) := by decide +kernel
theorem dX0_clean_86 : decode cX0_clean 86 = .ok (.iaload, 1) := by decide +kernel
theorem dX0_clean_87 : decode cX0_clean 87 = .ok (.iload_n 1, 1) := by decide +kernel
theorem dX0_clean_88 : decode cX0_clean 88 = .ok (.if_icmp .ne 17, 3) := by decide +kernel
theorem dX0_clean_91 : decode cX0_clean 91 = .ok (.aload_n 0, 1) := by decide +kernel
theorem dX0_clean_92 : decode cX0_clean 92 = .ok (.getfield 37, 3) := by decide +kernel
theorem dX0_clean_95 : decode cX0_clean 95 = .ok (.iload_n 2, 1) := by decide +kernel
theorem dX0_clean_96 : decode cX0_clean 96 = .ok (.aload_n 0, 1) := by decide +kernel
theorem dX0_clean_97 : decode cX0_clean 97 = .ok (.iload_n 2, 1) := by decide +kernel
theorem dX0_clean_98 : decode cX0_clean 98 = .ok (.invokevirtual 56, 3) := by decide +kernel
theorem dX0_clean_101 : decode cX0_clean 101 = .ok (.iastore, 1) := by decide +kernel
theorem dX0_clean_102 : decode cX0_clean 102 = .ok (.goto 10, 3) := by decide +kernel
theorem dX0_clean_105 : decode cX0_clean 105 = .ok (.aload_n 0, 1) := by decide +kernel
theorem dX0_clean_106 : decode cX0_clean 106 = .ok (.getfield 37, 3) := by decide +kernel
theorem dX0_clean_109 : decode cX0_clean 109 = .ok (.iload_n 2, 1) := by decide +kernel
theorem dX0_clean_110 : decode cX0_clean 110 = .ok (.iconst 0, 1) := by decide +kernel
theorem dX0_clean_111 : decode cX0_clean 111 = .ok (.iastore, 1) := by decide +kernel
theorem dX0_clean_112 : decode cX0_clean 112 = .ok (.iinc 2 1, 3) := by decide +kernel
theorem dX0_clean_115 : decode cX0_clean 115 = .ok (.goto (-49), 3) := by decide +kernel
theorem dX0_clean_118 : decode cX0_clean 118 = .ok (.aload_n 0, 1) := by decide +kernel
theorem dX0_clean_119 : decode cX0_clean 119 = .ok (.getfield 28, 3) := by decide +kernel
theorem dX0_clean_122 : decode cX0_clean 122 = .ok (.iload_n 1, 1) := by decide +kernel
theorem dX0_clean_123 : decode cX0_clean 123 = .ok (.iconst 0, 1) := by decide +kernel
theorem dX0_clean_124 : decode cX0_clean 124 = .ok (.iastore, 1) := by decide +kernel
theorem dX0_clean_125 : decode cX0_clean 125 = .ok (.aload_n 0, 1) := by decide +kernel
theorem dX0_clean_126 : decode cX0_clean 126 = .ok (.getfield 31, 3) := by decide +kernel
theorem dX0_clean_129 : decode cX0_clean 129 = .ok (.iload_n 1, 1) := by decide +kernel
theorem dX0_clean_130 : decode cX0_clean 130 = .ok (.iconst 0, 1) := by decide +kernel
theorem dX0_clean_131 : decode cX0_clean 131 = .ok (.iastore, 1) := by decide +kernel
theorem dX0_clean_132 : decode cX0_clean 132 = .ok (.iconst 0, 1) := by decide +kernel
theorem dX0_clean_133 : decode cX0_clean 133 = .ok (.istore_n 2, 1) := by decide +kernel
theorem dX0_clean_134 : decode cX0_clean 134 = .ok (.iload_n 2, 1) := by decide +kernel
theorem dX0_clean_135 : decode cX0_clean 135 = .ok (.bipush 33, 2) := by decide +kernel
theorem dX0_clean_137 : decode cX0_clean 137 = .ok (.if_icmp .ge 38, 3) := by decide +kernel
theorem dX0_clean_140 : decode cX0_clean 140 = .ok (.aload_n 0, 1) := by decide +kernel
theorem dX0_clean_141 : decode cX0_clean 141 = .ok (.getfield 37, 3) := by decide +kernel
theorem dX0_clean_144 : decode cX0_clean 144 = .ok (.iload_n 2, 1) := by decide +kernel
theorem dX0_clean_145 : decode cX0_clean 145 = .ok (.iaload, 1) := by decide +kernel
theorem dX0_clean_146 : decode cX0_clean 146 = .ok (.ifCond .eq 23, 3) := by decide +kernel
theorem dX0_clean_149 : decode cX0_clean 149 = .ok (.aload_n 0, 1) := by decide +kernel
theorem dX0_clean_150 : decode cX0_clean 150 = .ok (.aload_n 0, 1) := by decide +kernel
theorem dX0_clean_151 : decode cX0_clean 151 = .ok (.getfield 37, 3) := by decide +kernel
theorem dX0_clean_154 : decode cX0_clean 154 = .ok (.iload_n 2, 1) := by decide +kernel
theorem dX0_clean_155 : decode cX0_clean 155 = .ok (.iaload, 1) := by decide +kernel
theorem dX0_clean_156 : decode cX0_clean 156 = .ok (.invokevirtual 47, 3) := by decide +kernel
theorem dX0_clean_159 : decode cX0_clean 159 = .ok (.aload_n 0, 1) := by decide +kernel
theorem dX0_clean_160 : decode cX0_clean 160 = .ok (.invokevirtual 65, 3) := by decide +kernel
theorem dX0_clean_163 : decode cX0_clean 163 = .ok (.pop, 1) := by decide +kernel
theorem dX0_clean_164 : decode cX0_clean 164 = .ok (.aload_n 0, 1) := by decide +kernel
theorem dX0_clean_165 : decode cX0_clean 165 = .ok (.iload_n 2, 1) := by decide +kernel
theorem dX0_clean_166 : decode cX0_clean 166 = .ok (.invokevirtual 69, 3) := by decide +kernel
theorem dX0_clean_169 : decode cX0_clean 169 = .ok (.iinc 2 1, 3) := by decide +kernel
theorem dX0_clean_172 : decode cX0_clean 172 = .ok (.goto (-38), 3) := by decide +kernel
theorem dX0_clean_175 : decode cX0_clean 175 = .ok (.iconst 1, 1) := by decide +kernel
theorem dX0_clean_176 : decode cX0_clean 176 = .ok (.ireturn, 1) := by decide +kernel
theorem lkX0_clean : GoodIn lw_all (wsV RX0 72 RX0 yX0_clean (ws_ yX0_clean cX0_clean 3 (some .boolean))) ∧ yX0_clean.cls = RX0 ∧ yX0_clean.cls ≠ "java/lang/invoke/MethodHandle" ∧ yX0_clean.cls ≠ "java/lang/invoke/VarHandle" ∧ (parseMethodDescriptor yX0_clean.desc).map (fun d => d.parameters.length) = some 0 := ⟨lw_V q133 q135 qs11 q26 q136, by decide +kernel⟩
set_option maxHeartbeats 4000000 in
theorem l1X0_clean {M : Mx} {τ : St} (h : Cx 0 M cX0_clean 3 1) (hx : ∀ w x : Int, 0 ≤ w → w < 10 → WX 0 M 47 [.inr 0, .inl w, .inl x] [] τ) : ∀ (k : Nat) (x w : Int), 0 ≤ x → x ≤ 10 → 10 - x < k → 0 ≤ w → w < 10 → WX 0 M 4 [.inr 0, .inl w, .inl x] [] τ := by
  intro k
  induction k with
  | zero => intro x w h1 h2 h3; omega
  | succ k ih =>
    intro x w h0 hx1 hk w0 w1
    refine x_iload_n (q := 5) h dX0_clean_4 rfl rfl rfl ?_
    refine x_bipush (q := 7) h dX0_clean_5 rfl (by decide) ?_
    refine x_icmp_ge (tgt := 47) (q := 10) h dX0_clean_7 (by decide) rfl (by omega) (by omega) (fun c7 => ?_) (fun c7 => ?_)
    · exact hx w x (by omega) (by omega)
    · refine x_aload_n (q := 11) h dX0_clean_10 rfl rfl rfl ?_
      refine x0_geta (k := 6) (q := 14) h rfl q42 dX0_clean_11 rfl ?_
      refine x_iload_n (q := 15) h dX0_clean_14 rfl rfl rfl ?_
      refine x_iald (k := 6) (n := 10) (q := 16) h rfl dX0_clean_15 rfl (by omega) (fun v15 e15 l15 u15 => ?_)
      refine x_aload_n (q := 17) h dX0_clean_16 rfl rfl rfl ?_
      refine x0_geta (k := 7) (q := 20) h rfl q43 dX0_clean_17 rfl ?_
      refine x_iload_n (q := 21) h dX0_clean_20 rfl rfl rfl ?_
      refine x_iald (k := 7) (n := 10) (q := 22) h rfl dX0_clean_21 rfl (by omega) (fun v21 e21 l21 u21 => ?_)
      refine x_isub (q := 23) h dX0_clean_22 rfl ?_
      refine x_aload_n (q := 24) h dX0_clean_23 rfl rfl rfl ?_
      refine x0_geta (k := 6) (q := 27) h rfl q42 dX0_clean_24 rfl ?_
      refine x_iload_n (q := 28) h dX0_clean_27 rfl rfl rfl ?_
      refine x_iald (k := 6) (n := 10) (q := 29) h rfl dX0_clean_28 rfl (by omega) (fun v28 e28 l28 u28 => ?_)
      refine x_aload_n (q := 30) h dX0_clean_29 rfl rfl rfl ?_
      refine x0_geta (k := 7) (q := 33) h rfl q43 dX0_clean_30 rfl ?_
      refine x_iload_n (q := 34) h dX0_clean_33 rfl rfl rfl ?_
      refine x_iald (k := 7) (n := 10) (q := 35) h rfl dX0_clean_34 rfl (by omega) (fun v34 e34 l34 u34 => ?_)
      refine x_isub (q := 36) h dX0_clean_35 rfl ?_
      refine x_icmp_le (tgt := 41) (q := 39) h dX0_clean_36 (by decide) rfl (by omega) (by omega) (fun c36 => ?_) (fun c36 => ?_)
      · refine x_iinc (q := 44) (vs' := [.inr 0, .inl w, .inl (x + 1)]) h dX0_clean_41 (by decide) rfl rfl rfl ?_
        refine x_goto (tgt := 4) h dX0_clean_44 (by decide) ?_
        exact ih (x + 1) _ (by omega) (by omega) (by omega) (by omega) (by omega)
      · refine x_iload_n (q := 40) h dX0_clean_39 rfl rfl rfl ?_
        refine x_istore_n (q := 41) (vs' := [.inr 0, .inl x, .inl x]) h dX0_clean_40 rfl (by decide) (Nat.le_of_ble_eq_true rfl) rfl rfl ?_
        refine x_iinc (q := 44) (vs' := [.inr 0, .inl x, .inl (x + 1)]) h dX0_clean_41 (by decide) rfl rfl rfl ?_
        refine x_goto (tgt := 4) h dX0_clean_44 (by decide) ?_
        exact ih (x + 1) _ (by omega) (by omega) (by omega) (by omega) (by omega)
set_option maxHeartbeats 4000000 in
theorem l2X0_clean {M : Mx} {τ : St} {a : Int → Bool} {K : Int → Int} {w : Int} (hL : Lg τ a K) (hU : ∀ p : Int, 0 ≤ p → p < 33 → (a p = true ↔ 0 < τ 1 p)) (w0 : 0 ≤ w) (w1 : w < 10) (h : Cx 0 M cX0_clean 3 1) (hx : ∀ (x : Int) (σ : St), 33 ≤ x → (∀ k' : Nat, k' ≠ 11 → σ k' = τ k') → (∀ p : Int, 0 ≤ p → p < x → σ 11 p = if a p = true ∧ τ 2 p = w then K p else 0) → WX 0 M 118 [.inr 0, .inl w, .inl x] [] σ) : ∀ (k : Nat) (x : Int) (σ : St), 0 ≤ x → x ≤ 33 → 33 - x < k → (∀ k' : Nat, k' ≠ 11 → σ k' = τ k') → (∀ p : Int, 0 ≤ p → p < x → σ 11 p = if a p = true ∧ τ 2 p = w then K p else 0) → WX 0 M 66 [.inr 0, .inl w, .inl x] [] σ := by
  intro k
  induction k with
  | zero => intro x σ h1 h2 h3; omega
  | succ k ih =>
    intro x σ h0 hx1 hk h1 h2
    refine x_iload_n (q := 67) h dX0_clean_66 rfl rfl rfl ?_
    refine x_bipush (q := 69) h dX0_clean_67 rfl (by decide) ?_
    refine x_icmp_ge (tgt := 118) (q := 72) h dX0_clean_69 (by decide) rfl (by omega) (by omega) (fun c69 => ?_) (fun c69 => ?_)
    · exact hx x σ (by omega) h1 h2
    · refine x_aload_n (q := 73) h dX0_clean_72 rfl rfl rfl ?_
      refine x0_geta (k := 1) (q := 76) h rfl q37 dX0_clean_73 rfl ?_
      refine x_iload_n (q := 77) h dX0_clean_76 rfl rfl rfl ?_
      refine x_iald (k := 1) (n := 33) (q := 78) h rfl dX0_clean_77 rfl (by omega) (fun v77 e77 l77 u77 => ?_)
      refine x_if_le (tgt := 105) (q := 81) h dX0_clean_78 (by decide) rfl (by omega) (fun c78 => ?_) (fun c78 => ?_)
      · refine x_aload_n (q := 106) h dX0_clean_105 rfl rfl rfl ?_
        refine x0_geta (k := 11) (q := 109) h rfl q47 dX0_clean_106 rfl ?_
        refine x_iload_n (q := 110) h dX0_clean_109 rfl rfl rfl ?_
        refine x_iconst (q := 111) h dX0_clean_110 rfl ?_
        refine x_iast (k := 11) (n := 33) (q := 112) h rfl dX0_clean_111 rfl (by omega) (by omega) ?_
        refine x_iinc (q := 115) (vs' := [.inr 0, .inl w, .inl (x + 1)]) h dX0_clean_112 (by decide) rfl rfl rfl ?_
        refine x_goto (tgt := 66) h dX0_clean_115 (by decide) ?_
        refine ih (x + 1) _ (by omega) (by omega) (by omega) (fun k' a1 => by rw [up_fne a1]; exact h1 k' a1) ?_
        intro p p0 p1
        rw [up_if]
        by_cases e : p = x
        · subst e
          rw [if_pos rfl, if_neg]
          first | exact (fun q => by have := (hU p p0 (by omega)).mp q.1; rw [← h1 1 (by decide), ← e77] at this; omega) | exact (fun q => c88 (by rw [e86, h1 2 (by decide)]; exact q.2))
        · rw [if_neg e]; exact h2 p p0 (by omega)
      · refine x_aload_n (q := 82) h dX0_clean_81 rfl rfl rfl ?_
        refine x0_geta (k := 2) (q := 85) h rfl q38 dX0_clean_82 rfl ?_
        refine x_iload_n (q := 86) h dX0_clean_85 rfl rfl rfl ?_
        refine x_iald (k := 2) (n := 33) (q := 87) h rfl dX0_clean_86 rfl (by omega) (fun v86 e86 l86 u86 => ?_)
        refine x_iload_n (q := 88) h dX0_clean_87 rfl rfl rfl ?_
        refine x_icmp_ne (tgt := 105) (q := 91) h dX0_clean_88 (by decide) rfl (by omega) (by omega) (fun c88 => ?_) (fun c88 => ?_)
        · refine x_aload_n (q := 106) h dX0_clean_105 rfl rfl rfl ?_
          refine x0_geta (k := 11) (q := 109) h rfl q47 dX0_clean_106 rfl ?_
          refine x_iload_n (q := 110) h dX0_clean_109 rfl rfl rfl ?_
          refine x_iconst (q := 111) h dX0_clean_110 rfl ?_
          refine x_iast (k := 11) (n := 33) (q := 112) h rfl dX0_clean_111 rfl (by omega) (by omega) ?_
          refine x_iinc (q := 115) (vs' := [.inr 0, .inl w, .inl (x + 1)]) h dX0_clean_112 (by decide) rfl rfl rfl ?_
          refine x_goto (tgt := 66) h dX0_clean_115 (by decide) ?_
          refine ih (x + 1) _ (by omega) (by omega) (by omega) (fun k' a1 => by rw [up_fne a1]; exact h1 k' a1) ?_
          intro p p0 p1
          rw [up_if]
          by_cases e : p = x
          · subst e
            rw [if_pos rfl, if_neg]
            first | exact (fun q => by have := (hU p p0 (by omega)).mp q.1; rw [← h1 1 (by decide), ← e77] at this; omega) | exact (fun q => c88 (by rw [e86, h1 2 (by decide)]; exact q.2))
          · rw [if_neg e]; exact h2 p p0 (by omega)
        · refine x_aload_n (q := 92) h dX0_clean_91 rfl rfl rfl ?_
          refine x0_geta (k := 11) (q := 95) h rfl q47 dX0_clean_92 rfl ?_
          refine x_iload_n (q := 96) h dX0_clean_95 rfl rfl rfl ?_
          refine x_aload_n (q := 97) h dX0_clean_96 rfl rfl rfl ?_
          refine x_iload_n (q := 98) h dX0_clean_97 rfl rfl rfl ?_
          have hax : a x = true := (hU x h0 (by omega)).mpr (by rw [← h1 1 (by decide), ← e77]; exact c78)
          have hPx := hL.2.2 x h0 (by omega) hax
          have hPs := Pl_congr (σ := σ) hPx (h1 2 (by decide)) (h1 3 (by decide)) (h1 4 (by decide)) (h1 5 (by decide)) (h1 6 (by decide))
          refine x_calli (q := 101) (xs := [x]) (st := [.inl x, .inr (11 + 1)]) h (mX0_contentOf x (by omega) (z := K x) (Or.inr ⟨by omega, by omega, hPs⟩)) lkX0_contentOf rfl (by decide) (by decide) dX0_clean_98 rfl (by simp) rfl (fun z98 τ98 s98 r98 p98 => ?_)
          obtain ⟨rfl, p98⟩ := p98
          have hk1 := hPx.1
          have hk2 := hPx.2.1
          refine x_iast (k := 11) (n := 33) (q := 102) h rfl dX0_clean_101 rfl (by omega) (by omega) ?_
          refine x_goto (tgt := 112) h dX0_clean_102 (by decide) ?_
          refine x_iinc (q := 115) (vs' := [.inr 0, .inl w, .inl (x + 1)]) h dX0_clean_112 (by decide) rfl rfl rfl ?_
          refine x_goto (tgt := 66) h dX0_clean_115 (by decide) ?_
          refine ih (x + 1) _ (by omega) (by omega) (by omega) (fun k' a1 => by rw [up_fne a1]; exact h1 k' a1) ?_
          intro p p0 p1
          rw [up_if]
          by_cases e : p = x
          · subst e
            rw [if_pos rfl, if_pos (⟨(hU p p0 (by omega)).mpr (by rw [← h1 1 (by decide), ← e77]; exact c78), by rw [← h1 2 (by decide), ← e86]; exact c88⟩), p98]
          · rw [if_neg e]; exact h2 p p0 (by omega)
set_option maxHeartbeats 4000000 in
theorem l3X0_clean {M : Mx} {τ : St} {a : Int → Bool} {K : Int → Int} {w : Int} (h : Cx 0 M cX0_clean 3 1) (hr : RtI 0 M .boolean (fun r τ' => (r = 0 ∨ r = 1) ∧ Lg τ' a K ∧ Sm τ τ')) : ∀ (k : Nat) (x : Int) (σ : St), 0 ≤ x → x ≤ 33 → 33 - x < k → CI τ a K w x σ → WX 0 M 134 [.inr 0, .inl w, .inl x] [] σ := by
  intro k
  induction k with
  | zero => intro x σ h1 h2 h3; omega
  | succ k ih =>
    intro x σ h0 hx1 hk hC
    refine x_iload_n (q := 135) h dX0_clean_134 rfl rfl rfl ?_
    refine x_bipush (q := 137) h dX0_clean_135 rfl (by decide) ?_
    refine x_icmp_ge (tgt := 175) (q := 140) h dX0_clean_137 (by decide) rfl (by omega) (by omega) (fun c137 => ?_) (fun c137 => ?_)
    · refine x_iconst (q := 176) h dX0_clean_175 rfl ?_
      exact x_zret h hr dX0_clean_176 (by omega) (⟨Or.inr rfl, cl_end hC (by omega), hC.2.2.2.2.1⟩)
    · refine x_aload_n (q := 141) h dX0_clean_140 rfl rfl rfl ?_
      refine x0_geta (k := 11) (q := 144) h rfl q47 dX0_clean_141 rfl ?_
      refine x_iload_n (q := 145) h dX0_clean_144 rfl rfl rfl ?_
      refine x_iald (k := 11) (n := 33) (q := 146) h rfl dX0_clean_145 rfl (by omega) (fun v145 e145 l145 u145 => ?_)
      refine x_if_eq (tgt := 169) (q := 149) h dX0_clean_146 (by decide) rfl (by omega) (fun c146 => ?_) (fun c146 => ?_)
      · refine x_iinc (q := 172) (vs' := [.inr 0, .inl w, .inl (x + 1)]) h dX0_clean_169 (by decide) rfl rfl rfl ?_
        refine x_goto (tgt := 134) h dX0_clean_172 (by decide) ?_
        exact ih (x + 1) _ (by omega) (by omega) (by omega) (cl_skip hC h0 (by omega) (by rw [← e145]; exact c146))
      · refine x_aload_n (q := 150) h dX0_clean_149 rfl rfl rfl ?_
        refine x_aload_n (q := 151) h dX0_clean_150 rfl rfl rfl ?_
        refine x0_geta (k := 11) (q := 154) h rfl q47 dX0_clean_151 rfl ?_
        refine x_iload_n (q := 155) h dX0_clean_154 rfl rfl rfl ?_
        refine x_iald (k := 11) (n := 33) (q := 156) h rfl dX0_clean_155 rfl (by omega) (fun v155 e155 l155 u155 => ?_)
        have hne : σ 11 x ≠ 0 := by rw [← e145]; exact c146
        obtain ⟨g1, g2, g3⟩ := cl_pend hC h0 (by omega) hne
        have g4 := hC.2.2.2.1 x h0 (by omega) g1
        have hv : v155 = K x := by rw [e155]; exact g3
        refine x_callv (q := 159) (xs := [v155]) (st := []) h (mX0_pack v155 (by omega)) lkX0_pack rfl (by decide) (by decide) dX0_clean_156 rfl (by simp) rfl (fun τ156 s156 p156 => ?_)
        have hpd : pkd τ156 (σ 11 x) := by rw [← e155]; exact p156.2
        have hff := cl_fits hC h0 (by omega) hne p156.1 hpd
        refine x_aload_n (q := 160) h dX0_clean_159 rfl rfl rfl ?_
        refine x_calli (q := 163) (xs := []) (st := []) h (mX0_openRoom (by rw [p156.1 8 (by decide) (by decide)]; exact hC.1.1)) lkX0_openRoom rfl (by decide) (by decide) dX0_clean_160 rfl (by simp) rfl (fun z160 τ160 s160 r160 p160 => ?_)
        have hop : ∃ o : Int, Op_ τ156 o τ160 := by
          rcases p160 with q | q
          · exact q.2
          · have := q.2.2 w hC.2.2.2.2.2.1 hC.2.2.2.2.2.2
            omega
        obtain ⟨o, hop⟩ := hop
        have hL2 := Lg_open (Lg_pack hC.1 p156.1) hop
        have hk2 : pkd τ160 (σ 11 x) := by
          unfold pkd at hpd ⊢
          rw [hop.2.2.2.2.1 13 (by decide), hop.2.2.2.2.1 12 (by decide)]
          exact hpd
        have hpre := ap_pre hL2 hk2
        have hof : τ160 6 (τ160 8 0) + τ160 13 0 ≤ 8 := by rw [hop.2.2.2.2.1 6 (by decide), hop.2.2.2.2.1 13 (by decide), hop.2.2.2.2.2]; exact hop.2.2.1
        refine x_pop (q := 164) h dX0_clean_163 rfl ?_
        refine x_aload_n (q := 165) h dX0_clean_164 rfl rfl rfl ?_
        refine x_iload_n (q := 166) h dX0_clean_165 rfl rfl rfl ?_
        refine x_callv (q := 169) (xs := [x]) (st := []) h (mX0_append x (by omega) hL2.1 hpre.1 hpre.2.1 hpre.2.2 hof) lkX0_append rfl (by decide) (by decide) dX0_clean_166 rfl (by simp) rfl (fun τ166 s166 p166 => ?_)
        refine x_iinc (q := 172) (vs' := [.inr 0, .inl w, .inl (x + 1)]) h dX0_clean_169 (by decide) rfl rfl rfl ?_
        refine x_goto (tgt := 134) h dX0_clean_172 (by decide) ?_
        exact ih (x + 1) _ (by omega) (by omega) (by omega) (cl_step hC h0 (by omega) hne p156.1 hpd hop p166)
set_option maxHeartbeats 4000000 in
theorem mX0_clean {τ : St} {a : Int → Bool} {K : Int → Int} (hL : Lg τ a K) (hU : ∀ p : Int, 0 ≤ p → p < 33 → (a p = true ↔ 0 < τ 1 p)) : CtI 0 yX0_clean cX0_clean 3 1 .boolean [] τ (fun r τ' => (r = 0 ∨ r = 1) ∧ Lg τ' a K ∧ Sm τ τ') := by
  refine CtI.of (by decide) rfl (Nat.le_of_ble_eq_true rfl) (fun M h hr => ?_)
  show WX 0 M 0 [.inr 0] [] τ
  refine x_iconst (q := 1) h dX0_clean_0 rfl ?_
  refine x_istore_n (q := 2) (vs' := [.inr 0, .inl 0]) h dX0_clean_1 rfl (by decide) (Nat.le_of_ble_eq_true rfl) rfl rfl ?_
  refine x_iconst (q := 3) h dX0_clean_2 rfl ?_
  refine x_istore_n (q := 4) (vs' := [.inr 0, .inl 0, .inl 0]) h dX0_clean_3 rfl (by decide) (Nat.le_of_ble_eq_true rfl) rfl rfl ?_
  refine l1X0_clean h ?_ 11 0 0 (by omega) (by omega) (by omega) (by omega) (by omega)
  intro w x0 w0 w1
  refine x_aload_n (q := 48) h dX0_clean_47 rfl rfl rfl ?_
  refine x0_geta (k := 6) (q := 51) h rfl q42 dX0_clean_48 rfl ?_
  refine x_iload_n (q := 52) h dX0_clean_51 rfl rfl rfl ?_
  refine x_iald (k := 6) (n := 10) (q := 53) h rfl dX0_clean_52 rfl (by omega) (fun v52 e52 l52 u52 => ?_)
  refine x_aload_n (q := 54) h dX0_clean_53 rfl rfl rfl ?_
  refine x0_geta (k := 7) (q := 57) h rfl q43 dX0_clean_54 rfl ?_
  refine x_iload_n (q := 58) h dX0_clean_57 rfl rfl rfl ?_
  refine x_iald (k := 7) (n := 10) (q := 59) h rfl dX0_clean_58 rfl (by omega) (fun v58 e58 l58 u58 => ?_)
  refine x_icmp_ne (tgt := 64) (q := 62) h dX0_clean_59 (by decide) rfl (by omega) (by omega) (fun c59 => ?_) (fun c59 => ?_)
  · refine x_iconst (q := 65) h dX0_clean_64 rfl ?_
    refine x_istore_n (q := 66) (vs' := [.inr 0, .inl w, .inl 0]) h dX0_clean_65 rfl (by decide) (Nat.le_of_ble_eq_true rfl) rfl rfl ?_
    refine l2X0_clean hL hU w0 w1 h ?_ 34 0 τ (by omega) (by omega) (by omega) (fun k' _ => rfl) (fun p p0 p1 => by omega)
    intro x σ hx33 h1 h2
    refine x_aload_n (q := 119) h dX0_clean_118 rfl rfl rfl ?_
    refine x0_geta (k := 6) (q := 122) h rfl q42 dX0_clean_119 rfl ?_
    refine x_iload_n (q := 123) h dX0_clean_122 rfl rfl rfl ?_
    refine x_iconst (q := 124) h dX0_clean_123 rfl ?_
    refine x_iast (k := 6) (n := 10) (q := 125) h rfl dX0_clean_124 rfl (by omega) (by omega) ?_
    refine x_aload_n (q := 126) h dX0_clean_125 rfl rfl rfl ?_
    refine x0_geta (k := 7) (q := 129) h rfl q43 dX0_clean_126 rfl ?_
    refine x_iload_n (q := 130) h dX0_clean_129 rfl rfl rfl ?_
    refine x_iconst (q := 131) h dX0_clean_130 rfl ?_
    refine x_iast (k := 7) (n := 10) (q := 132) h rfl dX0_clean_131 rfl (by omega) (by omega) ?_
    refine x_iconst (q := 133) h dX0_clean_132 rfl ?_
    refine x_istore_n (q := 134) (vs' := [.inr 0, .inl w, .inl 0]) h dX0_clean_133 rfl (by decide) (Nat.le_of_ble_eq_true rfl) rfl rfl ?_
    exact l3X0_clean h hr 34 0 _ (by omega) (by omega) (by omega) (cl_init hL w0 w1 h1 (fun p p0 p1 => h2 p p0 (by omega)))
  · refine x_iconst (q := 63) h dX0_clean_62 rfl ?_
    exact x_zret h hr dX0_clean_63 (by omega) (⟨Or.inl rfl, hL, Sm.rf⟩)

theorem dX0_rewrite_0 : decode cX0_rewrite 0 = .ok (.iconst 0, 1) := by decide +kernel
theorem dX0_rewrite_1 : decode cX0_rewrite 1 = .ok (.istore_n 1, 1) := by decide +kernel
theorem dX0_rewrite_2 : decode cX0_rewrite 2 = .ok (.iload_n 1, 1) := by decide +kernel
theorem dX0_rewrite_3 : decode cX0_rewrite 3 = .ok (.bipush 33, 2) := by decide +kernel
theorem dX0_rewrite_5 : decode cX0_rewrite 5 = .ok (.if_icmp .ge 33, 3) := by decide +kernel
theorem dX0_rewrite_8 : decode cX0_rewrite 8 = .ok (.aload_n 0, 1) := by decide +kernel
theorem dX0_rewrite_9 : decode cX0_rewrite 9 = .ok (.getfield 37, 3) := by decide +kernel
theorem dX0_rewrite_12 : decode cX0_rewrite 12 = .ok (.iload_n 1, 1) := by decide +kernel
theorem dX0_rewrite_13 : decode cX0_rewrite 13 = .ok (.aload_n 0, 1) := by decide +kernel
theorem dX0_rewrite_14 : decode cX0_rewrite 14 = .ok (.getfield 13, 3) := by decide +kernel
theorem dX0_rewrite_17 : decode cX0_rewrite 17 = .ok (.iload_n 1, 1) := by decide +kernel
theorem dX0_rewrite_18 : decode cX0_rewrite 18 = .ok (.iaload, 1) := by decide +kernel
theorem dX0_rewrite_19 : decode cX0_rewrite 19 = .ok (.ifCond .le 11, 3) := by decide +kernel
theorem dX0_rewrite_22 : decode cX0_rewrite 22 = .ok (.aload_n 0, 1) := by decide +kernel
theorem dX0_rewrite_23 : decode cX0_rewrite 23 = .ok (.iload_n 1, 1) := by decide +kernel
theorem dX0_rewrite_24 : decode cX0_rewrite 24 = .ok (.invokevirtual 56, 3) := by decide +kernel
theorem dX0_rewrite_27 : decode cX0_rewrite 27 = .ok (.goto 4, 3) := by decide +kernel
theorem dX0_rewrite_30 : decode cX0_rewrite 30 = .ok (.iconst 0, 1) := by decide +kernel
theorem dX0_rewrite_31 : decode cX0_rewrite 31 = .ok (.iastore, 1) := by decide +kernel
theorem dX0_rewrite_32 : decode cX0_rewrite 32 = .ok (.iinc 1 1, 3) := by decide +kernel
theorem dX0_rewrite_35 : decode cX0_rewrite 35 = .ok (.goto (-33), 3) := by decide +kernel
theorem dX0_rewrite_38 : decode cX0_rewrite 38 = .ok (.iconst 0, 1) := by decide +kernel
theorem dX0_rewrite_39 : decode cX0_rewrite 39 = .ok (.istore_n 1, 1) := by decide +kernel
theorem dX0_rewrite_40 : decode cX0_rewrite 40 = .ok (.iload_n 1, 1) := by decide +kernel
theorem dX0_rewrite_41 : decode cX0_rewrite 41 = .ok (.bipush 10, 2) := by decide +kernel
theorem dX0_rewrite_43 : decode cX0_rewrite 43 = .ok (.if_icmp .ge 23, 3) := by decide +kernel
theorem dX0_rewrite_46 : decode cX0_rewrite 46 = .ok (.aload_n 0, 1) := by decide +kernel
theorem dX0_rewrite_47 : decode cX0_rewrite 47 = .ok (.getfield 28, 3) := by decide +kernel
theorem dX0_rewrite_50 : decode cX0_rewrite 50 = .ok (.iload_n 1, 1) := by decide +kernel
theorem dX0_rewrite_51 : decode cX0_rewrite 51 = .ok (.iconst 0, 1) := by decide +kernel
theorem dX0_rewrite_52 : decode cX0_rewrite 52 = .ok (.iastore, 1) := by decide +kernel
theorem dX0_rewrite_53 : decode cX0_rewrite 53 = .ok (.aload_n 0, 1) := by decide +kernel
theorem dX0_rewrite_54 : decode cX0_rewrite 54 = .ok (.getfield 31, 3) := by decide +kernel
theorem dX0_rewrite_57 : decode cX0_rewrite 57 = .ok (.iload_n 1, 1) := by decide +kernel
theorem dX0_rewrite_58 : decode cX0_rewrite 58 = .ok (.iconst 0, 1) := by decide +kernel
theorem dX0_rewrite_59 : decode cX0_rewrite 59 = .ok (.iastore, 1) := by decide +kernel
theorem dX0_rewrite_60 : decode cX0_rewrite 60 = .ok (.iinc 1 1, 3) := by decide +kernel
theorem dX0_rewrite_63 : decode cX0_rewrite 63 = .ok (.goto (-23), 3) := by decide +kernel
theorem dX0_rewrite_66 : decode cX0_rewrite 66 = .ok (.iconst 5, 1) := by decide +kernel
theorem dX0_rewrite_67 : decode cX0_rewrite 67 = .ok (.istore_n 1, 1) := by decide +kernel
theorem dX0_rewrite_68 : decode cX0_rewrite 68 = .ok (.iload_n 1, 1) := by decide +kernel
theorem dX0_rewrite_69 : decode cX0_rewrite 69 = .ok (.iconst 1, 1) := by decide +kernel
theorem dX0_rewrite_70 : decode cX0_rewrite 70 = .ok (.if_icmp .le 67, 3) := by decide +kernel
theorem dX0_rewrite_73 : decode cX0_rewrite 73 = .ok (.iconst 0, 1) := by decide +kernel
theorem dX0_rewrite_74 : decode cX0_rewrite 74 = .ok (.istore_n 2, 1) := by decide +kernel
theorem dX0_rewrite_75 : decode cX0_rewrite 75 = .ok (.iload_n 2, 1) := by decide +kernel
theorem dX0_rewrite_76 : decode cX0_rewrite 76 = .ok (.bipush 33, 2) := by decide +kernel
theorem dX0_rewrite_78 : decode cX0_rewrite 78 = .ok (.if_icmp .ge 53, 3) := by decide +kernel
theorem dX0_rewrite_81 : decode cX0_rewrite 81 = .ok (.aload_n 0, 1) := by decide +kernel
theorem dX0_rewrite_82 : decode cX0_rewrite 82 = .ok (.getfield 37, 3) := by decide +kernel
theorem dX0_rewrite_85 : decode cX0_rewrite 85 = .ok (.iload_n 2, 1) := by decide +kernel
theorem dX0_rewrite_86 : decode cX0_rewrite 86 = .ok (.iaload, 1) := by decide +kernel
theorem dX0_rewrite_87 : decode cX0_rewrite 87 = .ok (.ifCond .eq 38, 3) := by decide +kernel
theorem dX0_rewrite_90 : decode cX0_rewrite 90 = .ok (.aload_n 0, 1) := by decide +kernel
theorem dX0_rewrite_91 : decode cX0_rewrite 91 = .ok (.getfield 22, 3) := by decide +kernel
theorem dX0_rewrite_94 : decode cX0_rewrite 94 = .ok (.iload_n 2, 1) := by decide +kernel
theorem dX0_rewrite_95 : decode cX0_rewrite 95 = .ok (.iaload, 1) := by decide +kernel
theorem dX0_rewrite_96 : decode cX0_rewrite 96 = .ok (.iload_n 1, 1) := by decide +kernel
theorem dX0_rewrite_97 : decode cX0_rewrite 97 = .ok (.if_icmp .ne 28, 3) := by decide +kernel
theorem dX0_rewrite_100 : decode cX0_rewrite 100 = .ok (.aload_n 0, 1) := by decide +kernel
theorem dX0_rewrite_101 : decode cX0_rewrite 101 = .ok (.aload_n 0, 1) := by decide +kernel
theorem dX0_rewrite_102 : decode cX0_rewrite 102 = .ok (.getfield 37, 3) := by decide +kernel
theorem dX0_rewrite_105 : decode cX0_rewrite 105 = .ok (.iload_n 2, 1) := by decide +kernel
theorem dX0_rewrite_106 : decode cX0_rewrite 106 = .ok (.iaload, 1) := by decide +kernel
theorem dX0_rewrite_107 : decode cX0_rewrite 107 = .ok (.invokevirtual 47, 3) := by decide +kernel
theorem dX0_rewrite_110 : decode cX0_rewrite 110 = .ok (.aload_n 0, 1) := by decide +kernel
theorem dX0_rewrite_111 : decode cX0_rewrite 111 = .ok (.iconst 0, 1) := by decide +kernel
theorem dX0_rewrite_112 : decode cX0_rewrite 112 = .ok (.putfield 62, 3) := by decide +kernel
theorem dX0_rewrite_115 : decode cX0_rewrite 115 = .ok (.aload_n 0, 1) := by decide +kernel
theorem dX0_rewrite_116 : decode cX0_rewrite 116 = .ok (.invokevirtual 65, 3) := by decide +kernel
theorem dX0_rewrite_119 : decode cX0_rewrite 119 = .ok (.pop, 1) := by decide +kernel
theorem dX0_rewrite_120 : decode cX0_rewrite 120 = .ok (.aload_n 0, 1) := by decide +kernel
theorem dX0_rewrite_121 : decode cX0_rewrite 121 = .ok (.iload_n 2, 1) := by decide +kernel
theorem dX0_rewrite_122 : decode cX0_rewrite 122 = .ok (.invokevirtual 69, 3) := by decide +kernel
theorem dX0_rewrite_125 : decode cX0_rewrite 125 = .ok (.iinc 2 1, 3) := by decide +kernel
theorem dX0_rewrite_128 : decode cX0_rewrite 128 = .ok (.goto (-53), 3) := by decide +kernel
theorem dX0_rewrite_131 : decode cX0_rewrite 131 = .ok (.iinc 1 (-1), 3) := by decide +kernel
theorem dX0_rewrite_134 : decode cX0_rewrite 134 = .ok (.goto (-66), 3) := by decide +kernel
theorem dX0_rewrite_137 : decode cX0_rewrite 137 = .ok (.return_, 1) := by decide +kernel
theorem lkX0_rewrite : GoodIn lw_all (wsV RX0 75 RX0 yX0_rewrite (ws_ yX0_rewrite cX0_rewrite 3 none)) ∧ yX0_rewrite.cls = RX0 ∧ yX0_rewrite.cls ≠ "java/lang/invoke/MethodHandle" ∧ yX0_rewrite.cls ≠ "java/lang/invoke/VarHandle" ∧ (parseMethodDescriptor yX0_rewrite.desc).map (fun d => d.parameters.length) = some 0 := ⟨lw_V q141 q143 qs13 q26 q144, by decide +kernel⟩
set_option maxHeartbeats 4000000 in
theorem l1X0_rewrite {M : Mx} {τ : St} {a : Int → Bool} {K : Int → Int} (hL : Lg τ a K) (hU : ∀ p : Int, 0 ≤ p → p < 33 → (a p = true ↔ 0 < τ 1 p)) (h : Cx 0 M cX0_rewrite 3 1) (hx : ∀ (x : Int) (σ : St), 33 ≤ x → (∀ k' : Nat, k' ≠ 11 → σ k' = τ k') → (∀ p : Int, 0 ≤ p → p < x → σ 11 p = if a p = true then K p else 0) → WX 0 M 38 [.inr 0, .inl x] [] σ) : ∀ (k : Nat) (x : Int) (σ : St), 0 ≤ x → x ≤ 33 → 33 - x < k → (∀ k' : Nat, k' ≠ 11 → σ k' = τ k') → (∀ p : Int, 0 ≤ p → p < x → σ 11 p = if a p = true then K p else 0) → WX 0 M 2 [.inr 0, .inl x] [] σ := by
  intro k
  induction k with
  | zero => intro x σ h1 h2 h3; omega
  | succ k ih =>
    intro x σ h0 hx1 hk h1 h2
    refine x_iload_n (q := 3) h dX0_rewrite_2 rfl rfl rfl ?_
    refine x_bipush (q := 5) h dX0_rewrite_3 rfl (by decide) ?_
    refine x_icmp_ge (tgt := 38) (q := 8) h dX0_rewrite_5 (by decide) rfl (by omega) (by omega) (fun c5 => ?_) (fun c5 => ?_)
    · exact hx x σ (by omega) h1 h2
    · refine x_aload_n (q := 9) h dX0_rewrite_8 rfl rfl rfl ?_
      refine x0_geta (k := 11) (q := 12) h rfl q47 dX0_rewrite_9 rfl ?_
      refine x_iload_n (q := 13) h dX0_rewrite_12 rfl rfl rfl ?_
      refine x_aload_n (q := 14) h dX0_rewrite_13 rfl rfl rfl ?_
      refine x0_geta (k := 1) (q := 17) h rfl q37 dX0_rewrite_14 rfl ?_
      refine x_iload_n (q := 18) h dX0_rewrite_17 rfl rfl rfl ?_
      refine x_iald (k := 1) (n := 33) (q := 19) h rfl dX0_rewrite_18 rfl (by omega) (fun v18 e18 l18 u18 => ?_)
      refine x_if_le (tgt := 30) (q := 22) h dX0_rewrite_19 (by decide) rfl (by omega) (fun c19 => ?_) (fun c19 => ?_)
      · refine x_iconst (q := 31) h dX0_rewrite_30 rfl ?_
        refine x_iast (k := 11) (n := 33) (q := 32) h rfl dX0_rewrite_31 rfl (by omega) (by omega) ?_
        refine x_iinc (q := 35) (vs' := [.inr 0, .inl (x + 1)]) h dX0_rewrite_32 (by decide) rfl rfl rfl ?_
        refine x_goto (tgt := 2) h dX0_rewrite_35 (by decide) ?_
        refine ih (x + 1) _ (by omega) (by omega) (by omega) (fun k' a1 => by rw [up_fne a1]; exact h1 k' a1) ?_
        intro p p0 p1
        rw [up_if]
        by_cases e : p = x
        · subst e
          rw [if_pos rfl, if_neg]
          exact (fun q => by have := (hU p p0 (by omega)).mp q; rw [← h1 1 (by decide), ← e18] at this; omega)
        · rw [if_neg e]; exact h2 p p0 (by omega)
      · refine x_aload_n (q := 23) h dX0_rewrite_22 rfl rfl rfl ?_
        refine x_iload_n (q := 24) h dX0_rewrite_23 rfl rfl rfl ?_
        have hax : a x = true := (hU x h0 (by omega)).mpr (by rw [← h1 1 (by decide), ← e18]; exact c19)
        have hPx := hL.2.2 x h0 (by omega) hax
        have hPs := Pl_congr (σ := σ) hPx (h1 2 (by decide)) (h1 3 (by decide)) (h1 4 (by decide)) (h1 5 (by decide)) (h1 6 (by decide))
        refine x_calli (q := 27) (xs := [x]) (st := [.inl x, .inr (11 + 1)]) h (mX0_contentOf x (by omega) (z := K x) (Or.inr ⟨by omega, by omega, hPs⟩)) lkX0_contentOf rfl (by decide) (by decide) dX0_rewrite_24 rfl (by simp) rfl (fun z24 τ24 s24 r24 p24 => ?_)
        obtain ⟨rfl, p24⟩ := p24
        have hk1 := hPx.1
        have hk2 := hPx.2.1
        refine x_goto (tgt := 31) h dX0_rewrite_27 (by decide) ?_
        refine x_iast (k := 11) (n := 33) (q := 32) h rfl dX0_rewrite_31 rfl (by omega) (by omega) ?_
        refine x_iinc (q := 35) (vs' := [.inr 0, .inl (x + 1)]) h dX0_rewrite_32 (by decide) rfl rfl rfl ?_
        refine x_goto (tgt := 2) h dX0_rewrite_35 (by decide) ?_
        refine ih (x + 1) _ (by omega) (by omega) (by omega) (fun k' a1 => by rw [up_fne a1]; exact h1 k' a1) ?_
        intro p p0 p1
        rw [up_if]
        by_cases e : p = x
        · subst e
          rw [if_pos rfl, if_pos ((hU p p0 (by omega)).mpr (by rw [← h1 1 (by decide), ← e18]; exact c19)), p24]
        · rw [if_neg e]; exact h2 p p0 (by omega)
set_option maxHeartbeats 4000000 in
theorem l2X0_rewrite {M : Mx} {τ : St} (h : Cx 0 M cX0_rewrite 3 1) (hx : ∀ (x : Int) (σ : St), 10 ≤ x → (∀ k' : Nat, k' ≠ 6 → k' ≠ 7 → σ k' = τ k') → (∀ s : Int, 0 ≤ s → s < x → σ 6 s = 0 ∧ σ 7 s = 0) → WX 0 M 66 [.inr 0, .inl x] [] σ) : ∀ (k : Nat) (x : Int) (σ : St), 0 ≤ x → x ≤ 10 → 10 - x < k → (∀ k' : Nat, k' ≠ 6 → k' ≠ 7 → σ k' = τ k') → (∀ s : Int, 0 ≤ s → s < x → σ 6 s = 0 ∧ σ 7 s = 0) → WX 0 M 40 [.inr 0, .inl x] [] σ := by
  intro k
  induction k with
  | zero => intro x σ h1 h2 h3; omega
  | succ k ih =>
    intro x σ h0 hx1 hk h1 h2
    refine x_iload_n (q := 41) h dX0_rewrite_40 rfl rfl rfl ?_
    refine x_bipush (q := 43) h dX0_rewrite_41 rfl (by decide) ?_
    refine x_icmp_ge (tgt := 66) (q := 46) h dX0_rewrite_43 (by decide) rfl (by omega) (by omega) (fun c43 => ?_) (fun c43 => ?_)
    · exact hx x σ (by omega) h1 h2
    · refine x_aload_n (q := 47) h dX0_rewrite_46 rfl rfl rfl ?_
      refine x0_geta (k := 6) (q := 50) h rfl q42 dX0_rewrite_47 rfl ?_
      refine x_iload_n (q := 51) h dX0_rewrite_50 rfl rfl rfl ?_
      refine x_iconst (q := 52) h dX0_rewrite_51 rfl ?_
      refine x_iast (k := 6) (n := 10) (q := 53) h rfl dX0_rewrite_52 rfl (by omega) (by omega) ?_
      refine x_aload_n (q := 54) h dX0_rewrite_53 rfl rfl rfl ?_
      refine x0_geta (k := 7) (q := 57) h rfl q43 dX0_rewrite_54 rfl ?_
      refine x_iload_n (q := 58) h dX0_rewrite_57 rfl rfl rfl ?_
      refine x_iconst (q := 59) h dX0_rewrite_58 rfl ?_
      refine x_iast (k := 7) (n := 10) (q := 60) h rfl dX0_rewrite_59 rfl (by omega) (by omega) ?_
      refine x_iinc (q := 63) (vs' := [.inr 0, .inl (x + 1)]) h dX0_rewrite_60 (by decide) rfl rfl rfl ?_
      refine x_goto (tgt := 40) h dX0_rewrite_63 (by decide) ?_
      refine ih (x + 1) _ (by omega) (by omega) (by omega) (fun k' a1 a2 => by rw [up_fne a2, up_fne a1]; exact h1 k' a1 a2) ?_
      intro s s0 s1
      rw [up_ne (show (6 : Nat) ≠ 7 by decide), up_if, up_if, up_ne (show (7 : Nat) ≠ 6 by decide)]
      by_cases e : s = x
      · rw [if_pos e, if_pos e]; exact ⟨rfl, rfl⟩
      · rw [if_neg e, if_neg e]; exact h2 s s0 (by omega)
def rwB (a : Int → Bool) (K : Int → Int) (size x : Int) : Int → Bool := fun p => a p && (decide (size < room (K p)) || (decide (room (K p) = size) && decide (p < x)))
theorem rw_in {τ σ : St} {a b : Int → Bool} {K : Int → Int} {x : Int} (h : RW τ a K b σ) (x0 : 0 ≤ x) (x1 : x < 33) (hz : σ 11 x ≠ 0) : a x = true := by
  have h1 := h.2.2.1 x x0 x1
  by_cases e : a x = true
  · exact e
  · rw [if_neg e] at h1
    exact absurd h1 hz
theorem rw_not {a : Int → Bool} {K : Int → Int} {size x : Int} (h : room (K x) = size) : rwB a K size x x = false := by
  unfold rwB
  simp [h]
theorem rw_take {a : Int → Bool} {K : Int → Int} {size x : Int} (ha : a x = true) (h : room (K x) = size) : ∀ p : Int, 0 ≤ p → p < 33 → rwB a K size (x + 1) p = upB (rwB a K size x) x true p := by
  intro p p0 p1
  by_cases e : p = x
  · subst e
    rw [upB_eq]
    unfold rwB
    have e2 : decide (p < p + 1) = true := by
      apply decide_eq_true
      omega
    simp [ha, h, e2]
  · rw [upB_ne e]
    unfold rwB
    have e2 : (decide (p < x + 1)) = decide (p < x) := by
      apply decide_eq_decide.mpr
      omega
    rw [e2]
theorem rw_skip {τ σ : St} {a b : Int → Bool} {K : Int → Int} {size x : Int} (hR : RW τ a K b σ) (x0 : 0 ≤ x) (x1 : x < 33) (h : σ 11 x = 0 ∨ σ 4 x ≠ size) : ∀ p : Int, 0 ≤ p → p < 33 → rwB a K size (x + 1) p = rwB a K size x p := by
  intro p p0 p1
  unfold rwB
  by_cases e : p = x
  · subst e
    cases ha : a p with
    | false => rfl
    | true =>
      have hK := hR.2.2.2.1 p p0 p1 ha
      have h2 := hR.2.2.1 p p0 p1
      rw [if_pos ha] at h2
      have h3 : room (K p) ≠ size := by
        rcases h with h | h
        · omega
        · rw [← hK.2.2]; exact h
      simp [h3]
  · have e2 : (decide (p < x + 1)) = decide (p < x) := by
      apply decide_eq_decide.mpr
      omega
    rw [e2]
set_option maxHeartbeats 4000000 in
theorem l4X0_rewrite {M : Mx} {τ : St} {a : Int → Bool} {K : Int → Int} {size : Int} (hs : 2 ≤ size ∧ size ≤ 5) (ht : tot a K ≤ 48) (h : Cx 0 M cX0_rewrite 3 1) (hx : ∀ (x : Int) (σ : St), 33 ≤ x → RW τ a K (rwB a K size x) σ → WX 0 M 131 [.inr 0, .inl size, .inl x] [] σ) : ∀ (k : Nat) (x : Int) (σ : St), 0 ≤ x → x ≤ 33 → 33 - x < k → RW τ a K (rwB a K size x) σ → WX 0 M 75 [.inr 0, .inl size, .inl x] [] σ := by
  intro k
  induction k with
  | zero => intro x σ h1 h2 h3; omega
  | succ k ih =>
    intro x σ h0 hx1 hk hR
    refine x_iload_n (q := 76) h dX0_rewrite_75 rfl rfl rfl ?_
    refine x_bipush (q := 78) h dX0_rewrite_76 rfl (by decide) ?_
    refine x_icmp_ge (tgt := 131) (q := 81) h dX0_rewrite_78 (by decide) rfl (by omega) (by omega) (fun c78 => ?_) (fun c78 => ?_)
    · exact hx x σ (by omega) hR
    · refine x_aload_n (q := 82) h dX0_rewrite_81 rfl rfl rfl ?_
      refine x0_geta (k := 11) (q := 85) h rfl q47 dX0_rewrite_82 rfl ?_
      refine x_iload_n (q := 86) h dX0_rewrite_85 rfl rfl rfl ?_
      refine x_iald (k := 11) (n := 33) (q := 87) h rfl dX0_rewrite_86 rfl (by omega) (fun v86 e86 l86 u86 => ?_)
      refine x_if_eq (tgt := 125) (q := 90) h dX0_rewrite_87 (by decide) rfl (by omega) (fun c87 => ?_) (fun c87 => ?_)
      · refine x_iinc (q := 128) (vs' := [.inr 0, .inl size, .inl (x + 1)]) h dX0_rewrite_125 (by decide) rfl rfl rfl ?_
        refine x_goto (tgt := 75) h dX0_rewrite_128 (by decide) ?_
        refine ih (x + 1) _ (by omega) (by omega) (by omega) (RW_set hR (fun p p0 p1 => ?_))
        exact rw_skip hR h0 (by omega) (by first | exact Or.inl (by rw [← e86]; exact c87) | exact Or.inr (by rw [← e95]; exact c97)) p p0 p1
      · refine x_aload_n (q := 91) h dX0_rewrite_90 rfl rfl rfl ?_
        refine x0_geta (k := 4) (q := 94) h rfl q40 dX0_rewrite_91 rfl ?_
        refine x_iload_n (q := 95) h dX0_rewrite_94 rfl rfl rfl ?_
        refine x_iald (k := 4) (n := 33) (q := 96) h rfl dX0_rewrite_95 rfl (by omega) (fun v95 e95 l95 u95 => ?_)
        refine x_iload_n (q := 97) h dX0_rewrite_96 rfl rfl rfl ?_
        refine x_icmp_ne (tgt := 125) (q := 100) h dX0_rewrite_97 (by decide) rfl (by omega) (by omega) (fun c97 => ?_) (fun c97 => ?_)
        · refine x_iinc (q := 128) (vs' := [.inr 0, .inl size, .inl (x + 1)]) h dX0_rewrite_125 (by decide) rfl rfl rfl ?_
          refine x_goto (tgt := 75) h dX0_rewrite_128 (by decide) ?_
          refine ih (x + 1) _ (by omega) (by omega) (by omega) (RW_set hR (fun p p0 p1 => ?_))
          exact rw_skip hR h0 (by omega) (by first | exact Or.inl (by rw [← e86]; exact c87) | exact Or.inr (by rw [← e95]; exact c97)) p p0 p1
        · refine x_aload_n (q := 101) h dX0_rewrite_100 rfl rfl rfl ?_
          refine x_aload_n (q := 102) h dX0_rewrite_101 rfl rfl rfl ?_
          refine x0_geta (k := 11) (q := 105) h rfl q47 dX0_rewrite_102 rfl ?_
          refine x_iload_n (q := 106) h dX0_rewrite_105 rfl rfl rfl ?_
          refine x_iald (k := 11) (n := 33) (q := 107) h rfl dX0_rewrite_106 rfl (by omega) (fun v106 e106 l106 u106 => ?_)
          have hne : σ 11 x ≠ 0 := by rw [← e86]; exact c87
          have hax : a x = true := rw_in hR h0 (by omega) hne
          have hKx := hR.2.2.2.1 x h0 (by omega) hax
          have hsz : room (K x) = size := by rw [← hKx.2.2, ← e95]; exact c97
          have hv : v106 = K x := by rw [e106, hR.2.2.1 x h0 (by omega), if_pos hax]
          have hbx : rwB a K size x x = false := rw_not hsz
          refine x_callv (q := 110) (xs := [v106]) (st := []) h (mX0_pack v106 (by omega)) lkX0_pack rfl (by decide) (by decide) dX0_rewrite_107 rfl (by simp) rfl (fun τ107 s107 p107 => ?_)
          have hpd : pkd τ107 (σ 11 x) := by rw [← e106]; exact p107.2
          refine x_aload_n (q := 111) h dX0_rewrite_110 rfl rfl rfl ?_
          refine x_iconst (q := 112) h dX0_rewrite_111 rfl ?_
          refine x0_puti (k := 8) (q := 115) h (by decide) q44 dX0_rewrite_112 rfl (by omega) ?_
          refine x_aload_n (q := 116) h dX0_rewrite_115 rfl rfl rfl ?_
          have hfx := rw_fits hR (k := room (K x)) (room_pos (by omega)) (room_rg (K x)).2 (by have := tot_add (K := K) h0 (by omega) hbx hax hR.2.1; omega)
          refine x_calli (q := 119) (xs := []) (st := []) h (mX0_openRoom (by rw [up_eq]; decide)) lkX0_openRoom rfl (by decide) (by decide) dX0_rewrite_116 rfl (by simp) rfl (fun z116 τ116 s116 r116 p116 => ?_)
          have hop : ∃ o : Int, Op_ (up τ107 8 0 0) o τ116 := by
            rcases p116 with q | q
            · exact q.2
            · obtain ⟨s, s0, s1, s2⟩ := hfx
              have q2 := q.2.2 s s0 s1
              rw [up_ne (show (6 : Nat) ≠ 8 by decide), up_ne (show (13 : Nat) ≠ 8 by decide), p107.1 6 (by decide) (by decide), p107.2.1, hv, ← room_rn hKx.1] at q2
              omega
          obtain ⟨o, hop⟩ := hop
          have hL1 : Lg (up τ107 8 0 0) (rwB a K size x) K := Lg_same (Lg_pack hR.1 p107.1) (up_fne (by decide)) (up_fne (by decide)) (up_fne (by decide)) (up_fne (by decide)) (up_fne (by decide)) (up_fne (by decide)) (by rw [up_eq]; exact ⟨by decide, by decide⟩)
          have hL2 := Lg_open hL1 hop
          have hk2 : pkd τ116 (σ 11 x) := by
            unfold pkd at hpd ⊢
            rw [hop.2.2.2.2.1 13 (by decide), hop.2.2.2.2.1 12 (by decide), up_fne (by decide), up_fne (by decide)]
            exact hpd
          have hpre := ap_pre hL2 hk2
          have hof : τ116 6 (τ116 8 0) + τ116 13 0 ≤ 8 := by rw [hop.2.2.2.2.1 6 (by decide), hop.2.2.2.2.1 13 (by decide), hop.2.2.2.2.2]; exact hop.2.2.1
          refine x_pop (q := 120) h dX0_rewrite_119 rfl ?_
          refine x_aload_n (q := 121) h dX0_rewrite_120 rfl rfl rfl ?_
          refine x_iload_n (q := 122) h dX0_rewrite_121 rfl rfl rfl ?_
          refine x_callv (q := 125) (xs := [x]) (st := []) h (mX0_append x (by omega) hL2.1 hpre.1 hpre.2.1 hpre.2.2 hof) lkX0_append rfl (by decide) (by decide) dX0_rewrite_122 rfl (by simp) rfl (fun τ122 s122 p122 => ?_)
          refine x_iinc (q := 128) (vs' := [.inr 0, .inl size, .inl (x + 1)]) h dX0_rewrite_125 (by decide) rfl rfl rfl ?_
          refine x_goto (tgt := 75) h dX0_rewrite_128 (by decide) ?_
          refine ih (x + 1) _ (by omega) (by omega) (by omega) (RW_set (rw_step hR h0 (by omega) hax hbx p107.1 hpd hop p122) (fun p p0 p1 => ?_))
          exact rw_take hax hsz p p0 p1
def rwC (a : Int → Bool) (K : Int → Int) (size : Int) : Int → Bool := fun p => a p && decide (size < room (K p))
theorem rwC_1 {a : Int → Bool} {K : Int → Int} {size : Int} (hK : ∀ p : Int, 0 ≤ p → p < 33 → a p = true → 1 ≤ K p) (hs : size ≤ 1) : ∀ p : Int, 0 ≤ p → p < 33 → a p = rwC a K size p := by
  intro p p0 p1
  unfold rwC
  cases ha : a p with
  | false => rfl
  | true =>
    have h1 := hK p p0 p1 ha
    have h2 := room_pos (z := K p) (by omega)
    have h3 : size < room (K p) := by omega
    simp [h3]
set_option maxHeartbeats 4000000 in
theorem l3X0_rewrite {M : Mx} {τ : St} {a : Int → Bool} {K : Int → Int} {Po : St → Prop} (hK : ∀ p : Int, 0 ≤ p → p < 33 → a p = true → 1 ≤ K p) (ht : tot a K ≤ 48) (h : Cx 0 M cX0_rewrite 3 1) (hr : RtV 0 M Po) (hp : ∀ σ : St, RW τ a K a σ → Po σ) : ∀ (k : Nat) (size : Int) (σ : St), 1 ≤ size → size ≤ 5 → size ≤ k → RW τ a K (rwC a K size) σ → WX 0 M 68 [.inr 0, .inl size] [] σ := by
  intro k
  induction k with
  | zero => intro size σ h1 h2 h3; omega
  | succ k ih =>
    intro size σ h0 hs5 hk hR
    refine x_iload_n (q := 69) h dX0_rewrite_68 rfl rfl rfl ?_
    refine x_iconst (q := 70) h dX0_rewrite_69 rfl ?_
    refine x_icmp_le (tgt := 137) (q := 73) h dX0_rewrite_70 (by decide) rfl (by omega) (by omega) (fun c70 => ?_) (fun c70 => ?_)
    · exact x_vret h hr dX0_rewrite_137 (hp _ (RW_set hR (fun p p0 p1 => rwC_1 hK (by omega) p p0 p1)))
    · refine x_iconst (q := 74) h dX0_rewrite_73 rfl ?_
      refine x_istore_n (q := 75) (vs' := [.inr 0, .inl size, .inl 0]) h dX0_rewrite_74 rfl (by decide) (Nat.le_of_ble_eq_true rfl) rfl rfl ?_
      refine l4X0_rewrite (τ := τ) (a := a) (K := K) (size := size) (by omega) ht h ?_ 34 0 σ (by omega) (by omega) (by omega) (RW_set hR (fun p p0 p1 => ?_))
      · intro x σ' hx33 hR'
        refine x_iinc (q := 134) (vs' := [.inr 0, .inl (size + (-1)), .inl x]) h dX0_rewrite_131 (by decide) rfl rfl rfl ?_
        refine x_goto (tgt := 68) h dX0_rewrite_134 (by decide) ?_
        refine x_drop (vs' := [.inr 0, .inl (size + (-1))]) 2 rfl ?_
        refine ih _ _ (by omega) (by omega) (by omega) (RW_set hR' (fun p p0 p1 => ?_))
        unfold rwB rwC
        have e2 : decide (p < x) = true := decide_eq_true (by omega)
        rw [e2, Bool.and_true]
        congr 1
        by_cases q : size < room (K p)
        · have q2 : size + (-1) < room (K p) := by omega
          simp [q, q2]
        · by_cases q3 : room (K p) = size
          · have q2 : size + (-1) < room (K p) := by omega
            simp [q3]; omega
          · have q2 : ¬ size + (-1) < room (K p) := by omega
            simp [q, q2, q3]
      · unfold rwB rwC
        have e2 : decide (p < 0) = false := decide_eq_false (by omega)
        rw [e2, Bool.and_false, Bool.or_false]
theorem rw_init {τ σ ρ : St} {a : Int → Bool} {K : Int → Int} (hL : Lg τ a K) (h1 : ∀ k' : Nat, k' ≠ 11 → σ k' = τ k') (h11 : ∀ p : Int, 0 ≤ p → p < 33 → σ 11 p = if a p = true then K p else 0) (h2 : ∀ k' : Nat, k' ≠ 6 → k' ≠ 7 → ρ k' = σ k') (h3 : ∀ s : Int, 0 ≤ s → s < 10 → ρ 6 s = 0 ∧ ρ 7 s = 0) : RW τ a K (rwC a K 5) ρ := by
  have hf : ∀ p : Int, rwC a K 5 p = false := by
    intro p
    unfold rwC
    have := room_rg (K p)
    have h : ¬ 5 < room (K p) := by omega
    simp [h]
  have e : ∀ k' : Nat, k' ≠ 11 → k' ≠ 6 → k' ≠ 7 → ρ k' = τ k' := fun k' a1 a2 a3 => (h2 k' a2 a3).trans (h1 k' a1)
  refine ⟨⟨by rw [e 8 (by decide) (by decide) (by decide)]; exact hL.1, fun s s0 s1 => ?_, fun p p0 p1 q => (by rw [hf p] at q; cases q)⟩, fun p p0 p1 q => (by rw [hf p] at q; cases q), fun p p0 p1 => by rw [h2 11 (by decide) (by decide)]; exact h11 p p0 p1, fun p p0 p1 q => ?_, fun s s0 s1 => ?_, fun i j i0 ij j1 hj => ?_, ⟨e 0 (by decide) (by decide) (by decide), e 1 (by decide) (by decide) (by decide), e 9 (by decide) (by decide) (by decide), e 10 (by decide) (by decide) (by decide)⟩⟩
  · have := h3 s s0 s1
    rw [this.1, this.2]
    refine ⟨by decide, by decide, by decide, ?_⟩
    rw [sm_zero]
    intro j _ _
    show (if rwC a K 5 j = true ∧ ρ 2 j = s then ρ 4 j else 0) = 0
    rw [hf j, if_neg (fun q => by cases q.1)]
  · have hP := hL.2.2 p p0 p1 q
    rw [e 4 (by decide) (by decide) (by decide)]
    exact ⟨hP.1, hP.2.1, hP.2.2.2.2.2.1⟩
  · have := h3 s s0 s1
    rw [this.1, this.2]
  · have := (h3 j (by omega) j1).1
    omega
set_option maxHeartbeats 4000000 in
theorem mX0_rewrite {τ : St} {a : Int → Bool} {K : Int → Int} (hL : Lg τ a K) (hU : ∀ p : Int, 0 ≤ p → p < 33 → (a p = true ↔ 0 < τ 1 p)) (ht : tot a K ≤ 48) : CtV 0 yX0_rewrite cX0_rewrite 3 1 [] τ (fun τ' => Lg τ' a K ∧ Sm τ τ' ∧ ∀ k : Int, 2 ≤ k → k ≤ 5 → tot a K + k ≤ 48 → ∃ s : Int, 0 ≤ s ∧ s < 10 ∧ τ' 6 s + k ≤ 8) := by
  refine CtV.of (by decide) rfl (Nat.le_of_ble_eq_true rfl) (fun M h hr => ?_)
  show WX 0 M 0 [.inr 0] [] τ
  refine x_iconst (q := 1) h dX0_rewrite_0 rfl ?_
  refine x_istore_n (q := 2) (vs' := [.inr 0, .inl 0]) h dX0_rewrite_1 rfl (by decide) (Nat.le_of_ble_eq_true rfl) rfl rfl ?_
  refine l1X0_rewrite hL hU h ?_ 34 0 τ (by omega) (by omega) (by omega) (fun k' _ => rfl) (fun p p0 p1 => by omega)
  intro x1 σ hx33 h1 h2
  refine x_iconst (q := 39) h dX0_rewrite_38 rfl ?_
  refine x_istore_n (q := 40) (vs' := [.inr 0, .inl 0]) h dX0_rewrite_39 rfl (by decide) (Nat.le_of_ble_eq_true rfl) rfl rfl ?_
  refine l2X0_rewrite (τ := σ) h ?_ 11 0 σ (by omega) (by omega) (by omega) (fun k' _ _ => rfl) (fun s s0 s1 => by omega)
  intro x2 ρ hx10 h3 h4
  refine x_iconst (q := 67) h dX0_rewrite_66 rfl ?_
  refine x_istore_n (q := 68) (vs' := [.inr 0, .inl 5]) h dX0_rewrite_67 rfl (by decide) (Nat.le_of_ble_eq_true rfl) rfl rfl ?_
  refine l3X0_rewrite (τ := τ) (a := a) (K := K) (fun p p0 p1 q => (hL.2.2 p p0 p1 q).1) ht h hr ?_ 5 5 ρ (by omega) (by omega) (by omega) (rw_init hL h1 (fun p p0 p1 => h2 p p0 (by omega)) h3 (fun s s0 s1 => h4 s s0 (by omega)))
  intro σ' hR
  exact ⟨hR.1, hR.2.2.2.2.2.2, fun k' a1 a2 a3 => rw_fits hR a1 a2 a3⟩

theorem dX0_provide_0 : decode cX0_provide 0 = .ok (.aload_n 0, 1) := by decide +kernel
theorem dX0_provide_1 : decode cX0_provide 1 = .ok (.iload_n 1, 1) := by decide +kernel
theorem dX0_provide_2 : decode cX0_provide 2 = .ok (.invokevirtual 47, 3) := by decide +kernel
theorem dX0_provide_5 : decode cX0_provide 5 = .ok (.aload_n 0, 1) := by decide +kernel
theorem dX0_provide_6 : decode cX0_provide 6 = .ok (.invokevirtual 65, 3) := by decide +kernel
theorem dX0_provide_9 : decode cX0_provide 9 = .ok (.istore_n 2, 1) := by decide +kernel
theorem dX0_provide_10 : decode cX0_provide 10 = .ok (.iconst 1, 1) := by decide +kernel
theorem dX0_provide_11 : decode cX0_provide 11 = .ok (.istore_n 3, 1) := by decide +kernel
theorem dX0_provide_12 : decode cX0_provide 12 = .ok (.iconst 0, 1) := by decide +kernel
theorem dX0_provide_13 : decode cX0_provide 13 = .ok (.istore 4, 2) := by decide +kernel
theorem dX0_provide_15 : decode cX0_provide 15 = .ok (.iload 4, 2) := by decide +kernel
theorem dX0_provide_17 : decode cX0_provide 17 = .ok (.bipush 10, 2) := by decide +kernel
theorem dX0_provide_19 : decode cX0_provide 19 = .ok (.if_icmp .ge 32, 3) := by decide +kernel
theorem dX0_provide_22 : decode cX0_provide 22 = .ok (.iload_n 2, 1) := by decide +kernel
theorem dX0_provide_23 : decode cX0_provide 23 = .ok (.ifCond .ne 28, 3) := by decide +kernel
theorem dX0_provide_26 : decode cX0_provide 26 = .ok (.iload_n 3, 1) := by decide +kernel
theorem dX0_provide_27 : decode cX0_provide 27 = .ok (.ifCond .eq 24, 3) := by decide +kernel
theorem dX0_provide_30 : decode cX0_provide 30 = .ok (.aload_n 0, 1) := by decide +kernel
theorem dX0_provide_31 : decode cX0_provide 31 = .ok (.invokevirtual 72, 3) := by decide +kernel
theorem dX0_provide_34 : decode cX0_provide 34 = .ok (.istore_n 3, 1) := by decide +kernel
theorem dX0_provide_35 : decode cX0_provide 35 = .ok (.aload_n 0, 1) := by decide +kernel
theorem dX0_provide_36 : decode cX0_provide 36 = .ok (.iload_n 1, 1) := by decide +kernel
theorem dX0_provide_37 : decode cX0_provide 37 = .ok (.invokevirtual 47, 3) := by decide +kernel
theorem dX0_provide_40 : decode cX0_provide 40 = .ok (.aload_n 0, 1) := by decide +kernel
theorem dX0_provide_41 : decode cX0_provide 41 = .ok (.invokevirtual 65, 3) := by decide +kernel
theorem dX0_provide_44 : decode cX0_provide 44 = .ok (.istore_n 2, 1) := by decide +kernel
theorem dX0_provide_45 : decode cX0_provide 45 = .ok (.iinc 4 1, 3) := by decide +kernel
theorem dX0_provide_48 : decode cX0_provide 48 = .ok (.goto (-33), 3) := by decide +kernel
theorem dX0_provide_51 : decode cX0_provide 51 = .ok (.iload_n 2, 1) := by decide +kernel
theorem dX0_provide_52 : decode cX0_provide 52 = .ok (.ifCond .ne 17, 3) := by decide +kernel
theorem dX0_provide_55 : decode cX0_provide 55 = .ok (.aload_n 0, 1) := by decide +kernel
theorem dX0_provide_56 : decode cX0_provide 56 = .ok (.invokevirtual 75, 3) := by decide +kernel
theorem dX0_provide_59 : decode cX0_provide 59 = .ok (.aload_n 0, 1) := by decide +kernel
theorem dX0_provide_60 : decode cX0_provide 60 = .ok (.iload_n 1, 1) := by decide +kernel
theorem dX0_provide_61 : decode cX0_provide 61 = .ok (.invokevirtual 47, 3) := by decide +kernel
theorem dX0_provide_64 : decode cX0_provide 64 = .ok (.aload_n 0, 1) := by decide +kernel
theorem dX0_provide_65 : decode cX0_provide 65 = .ok (.invokevirtual 65, 3) := by decide +kernel
theorem dX0_provide_68 : decode cX0_provide 68 = .ok (.pop, 1) := by decide +kernel
theorem dX0_provide_69 : decode cX0_provide 69 = .ok (.return_, 1) := by decide +kernel
theorem lkX0_provide : GoodIn lw_all (wsV RX0 87 RX0 yX0_provide (ws_ yX0_provide cX0_provide 5 none)) ∧ yX0_provide.cls = RX0 ∧ yX0_provide.cls ≠ "java/lang/invoke/MethodHandle" ∧ yX0_provide.cls ≠ "java/lang/invoke/VarHandle" ∧ (parseMethodDescriptor yX0_provide.desc).map (fun d => d.parameters.length) = some 1 := ⟨lw_V q125 q127 qs9 q26 q128, by decide +kernel⟩
/-- within provide: the log whole, z packed; fits: whether the open segment has room -/
def PV (τ : St) (a : Int → Bool) (K : Int → Int) (z fits : Int) (σ : St) : Prop := Lg σ a K ∧ Sm τ σ ∧ pkd σ z ∧ (fits = 0 ∨ (fits = 1 ∧ σ 6 (σ 8 0) + σ 13 0 ≤ 8))
theorem pv_open {τ σ σ' : St} {a : Int → Bool} {K : Int → Int} {z r : Int} (hL : Lg σ a K) (hS : Sm τ σ) (hk : pkd σ z) (h : (r = 1 ∧ ∃ o : Int, Op_ σ o σ') ∨ (r = 0 ∧ σ = σ' ∧ ∀ s : Int, 0 ≤ s → s < 10 → 8 < σ 6 s + σ 13 0)) : PV τ a K z r σ' := by
  rcases h with ⟨h1, o, h2⟩ | ⟨h1, h2, -⟩
  · refine ⟨Lg_open hL h2, Sm.tr hS (Sm.op h2), ?_, Or.inr ⟨h1, ?_⟩⟩
    · unfold pkd at hk ⊢
      rw [h2.2.2.2.2.1 13 (by decide), h2.2.2.2.2.1 12 (by decide)]
      exact hk
    · rw [h2.2.2.2.2.1 6 (by decide), h2.2.2.2.2.1 13 (by decide), h2.2.2.2.2.2]
      exact h2.2.2.1
  · subst h2
    exact ⟨hL, hS, hk, Or.inl h1⟩
set_option maxHeartbeats 4000000 in
theorem l1X0_provide {M : Mx} {τ : St} {a : Int → Bool} {K : Int → Int} {z : Int} (hz : 1 ≤ z ∧ z ≤ 4095) (hU : ∀ p : Int, 0 ≤ p → p < 33 → (a p = true ↔ 0 < τ 1 p)) (ht : tot a K + room z ≤ 48) (h : Cx 0 M cX0_provide 5 2) (hr : RtV 0 M (fun τ' => Lg τ' a K ∧ Sm τ τ' ∧ pkd τ' z ∧ τ' 6 (τ' 8 0) + τ' 13 0 ≤ 8)) : ∀ (k : Nat) (x fits more : Int) (σ : St), 0 ≤ x → x ≤ 10 → 10 - x < k → (fits = 0 ∨ fits = 1) → (more = 0 ∨ more = 1) → PV τ a K z fits σ → WX 0 M 15 [.inr 0, .inl z, .inl fits, .inl more, .inl x] [] σ := by
  intro k
  induction k with
  | zero => intro x fits more σ h1 h2 h3; omega
  | succ k ih =>
    intro x fits more σ h0 hx1 hk hf hm hV
    refine x_iload (q := 17) h dX0_provide_15 rfl rfl ?_
    refine x_bipush (q := 19) h dX0_provide_17 rfl (by decide) ?_
    refine x_icmp_ge (tgt := 51) (q := 22) h dX0_provide_19 (by decide) rfl (by omega) (by omega) (fun c19 => ?_) (fun c19 => ?_)
    · refine x_iload_n (q := 52) h dX0_provide_51 rfl rfl rfl ?_
      refine x_if_ne (tgt := 69) (q := 55) h dX0_provide_52 (by decide) rfl (by omega) (fun c52 => ?_) (fun c52 => ?_)
      · exact x_vret h hr dX0_provide_69 (⟨hV.1, hV.2.1, hV.2.2.1, by rcases hV.2.2.2 with q | q <;> omega⟩)
      · refine x_aload_n (q := 56) h dX0_provide_55 rfl rfl rfl ?_
        refine x_callv (q := 59) (xs := []) (st := []) h (mX0_rewrite (a := a) (K := K) hV.1 (fun p p0 p1 => by rw [hV.2.1.2.1]; exact hU p p0 p1) (by have := room_rg z; omega)) lkX0_rewrite rfl (by decide) (by decide) dX0_provide_56 rfl (by simp) rfl (fun τ56 s56 p56 => ?_)
        refine x_aload_n (q := 60) h dX0_provide_59 rfl rfl rfl ?_
        refine x_iload_n (q := 61) h dX0_provide_60 rfl rfl rfl ?_
        refine x_callv (q := 64) (xs := [z]) (st := []) h (mX0_pack z (by omega)) lkX0_pack rfl (by decide) (by decide) dX0_provide_61 rfl (by simp) rfl (fun τ61 s61 p61 => ?_)
        have hL3 := Lg_pack p56.1 p61.1
        have hS3 : Sm τ τ61 := Sm.tr hV.2.1 (Sm.tr p56.2.1 (Sm.pk p61.1))
        refine x_aload_n (q := 65) h dX0_provide_64 rfl rfl rfl ?_
        refine x_calli (q := 68) (xs := []) (st := []) h (mX0_openRoom hL3.1) lkX0_openRoom rfl (by decide) (by decide) dX0_provide_65 rfl (by simp) rfl (fun z65 τ65 s65 r65 p65 => ?_)
        have hV3 := pv_open hL3 hS3 p61.2 p65
        have hz1 : z65 = 1 := by
          rcases p65 with q | q
          · exact q.1
          · obtain ⟨s, s0, s1, s2⟩ := p56.2.2 (room z) (room_pos (by omega)) (room_rg z).2 ht
            have q2 := q.2.2 s s0 s1
            rw [p61.1 6 (by decide) (by decide), p61.2.1, ← room_rn hz.1] at q2
            omega
        refine x_pop (q := 69) h dX0_provide_68 rfl ?_
        exact x_vret h hr dX0_provide_69 (⟨hV3.1, hV3.2.1, hV3.2.2.1, by rcases hV3.2.2.2 with q | q <;> omega⟩)
    · refine x_iload_n (q := 23) h dX0_provide_22 rfl rfl rfl ?_
      refine x_if_ne (tgt := 51) (q := 26) h dX0_provide_23 (by decide) rfl (by omega) (fun c23 => ?_) (fun c23 => ?_)
      · refine x_iload_n (q := 52) h dX0_provide_51 rfl rfl rfl ?_
        refine x_if_ne (tgt := 69) (q := 55) h dX0_provide_52 (by decide) rfl (by omega) (fun c52 => ?_) (fun c52 => ?_)
        · exact x_vret h hr dX0_provide_69 (⟨hV.1, hV.2.1, hV.2.2.1, by rcases hV.2.2.2 with q | q <;> omega⟩)
        · refine x_aload_n (q := 56) h dX0_provide_55 rfl rfl rfl ?_
          refine x_callv (q := 59) (xs := []) (st := []) h (mX0_rewrite (a := a) (K := K) hV.1 (fun p p0 p1 => by rw [hV.2.1.2.1]; exact hU p p0 p1) (by have := room_rg z; omega)) lkX0_rewrite rfl (by decide) (by decide) dX0_provide_56 rfl (by simp) rfl (fun τ56 s56 p56 => ?_)
          refine x_aload_n (q := 60) h dX0_provide_59 rfl rfl rfl ?_
          refine x_iload_n (q := 61) h dX0_provide_60 rfl rfl rfl ?_
          refine x_callv (q := 64) (xs := [z]) (st := []) h (mX0_pack z (by omega)) lkX0_pack rfl (by decide) (by decide) dX0_provide_61 rfl (by simp) rfl (fun τ61 s61 p61 => ?_)
          have hL3 := Lg_pack p56.1 p61.1
          have hS3 : Sm τ τ61 := Sm.tr hV.2.1 (Sm.tr p56.2.1 (Sm.pk p61.1))
          refine x_aload_n (q := 65) h dX0_provide_64 rfl rfl rfl ?_
          refine x_calli (q := 68) (xs := []) (st := []) h (mX0_openRoom hL3.1) lkX0_openRoom rfl (by decide) (by decide) dX0_provide_65 rfl (by simp) rfl (fun z65 τ65 s65 r65 p65 => ?_)
          have hV3 := pv_open hL3 hS3 p61.2 p65
          have hz1 : z65 = 1 := by
            rcases p65 with q | q
            · exact q.1
            · obtain ⟨s, s0, s1, s2⟩ := p56.2.2 (room z) (room_pos (by omega)) (room_rg z).2 ht
              have q2 := q.2.2 s s0 s1
              rw [p61.1 6 (by decide) (by decide), p61.2.1, ← room_rn hz.1] at q2
              omega
          refine x_pop (q := 69) h dX0_provide_68 rfl ?_
          exact x_vret h hr dX0_provide_69 (⟨hV3.1, hV3.2.1, hV3.2.2.1, by rcases hV3.2.2.2 with q | q <;> omega⟩)
      · refine x_iload_n (q := 27) h dX0_provide_26 rfl rfl rfl ?_
        refine x_if_eq (tgt := 51) (q := 30) h dX0_provide_27 (by decide) rfl (by omega) (fun c27 => ?_) (fun c27 => ?_)
        · refine x_iload_n (q := 52) h dX0_provide_51 rfl rfl rfl ?_
          refine x_if_ne (tgt := 69) (q := 55) h dX0_provide_52 (by decide) rfl (by omega) (fun c52 => ?_) (fun c52 => ?_)
          · exact x_vret h hr dX0_provide_69 (⟨hV.1, hV.2.1, hV.2.2.1, by rcases hV.2.2.2 with q | q <;> omega⟩)
          · refine x_aload_n (q := 56) h dX0_provide_55 rfl rfl rfl ?_
            refine x_callv (q := 59) (xs := []) (st := []) h (mX0_rewrite (a := a) (K := K) hV.1 (fun p p0 p1 => by rw [hV.2.1.2.1]; exact hU p p0 p1) (by have := room_rg z; omega)) lkX0_rewrite rfl (by decide) (by decide) dX0_provide_56 rfl (by simp) rfl (fun τ56 s56 p56 => ?_)
            refine x_aload_n (q := 60) h dX0_provide_59 rfl rfl rfl ?_
            refine x_iload_n (q := 61) h dX0_provide_60 rfl rfl rfl ?_
            refine x_callv (q := 64) (xs := [z]) (st := []) h (mX0_pack z (by omega)) lkX0_pack rfl (by decide) (by decide) dX0_provide_61 rfl (by simp) rfl (fun τ61 s61 p61 => ?_)
            have hL3 := Lg_pack p56.1 p61.1
            have hS3 : Sm τ τ61 := Sm.tr hV.2.1 (Sm.tr p56.2.1 (Sm.pk p61.1))
            refine x_aload_n (q := 65) h dX0_provide_64 rfl rfl rfl ?_
            refine x_calli (q := 68) (xs := []) (st := []) h (mX0_openRoom hL3.1) lkX0_openRoom rfl (by decide) (by decide) dX0_provide_65 rfl (by simp) rfl (fun z65 τ65 s65 r65 p65 => ?_)
            have hV3 := pv_open hL3 hS3 p61.2 p65
            have hz1 : z65 = 1 := by
              rcases p65 with q | q
              · exact q.1
              · obtain ⟨s, s0, s1, s2⟩ := p56.2.2 (room z) (room_pos (by omega)) (room_rg z).2 ht
                have q2 := q.2.2 s s0 s1
                rw [p61.1 6 (by decide) (by decide), p61.2.1, ← room_rn hz.1] at q2
                omega
            refine x_pop (q := 69) h dX0_provide_68 rfl ?_
            exact x_vret h hr dX0_provide_69 (⟨hV3.1, hV3.2.1, hV3.2.2.1, by rcases hV3.2.2.2 with q | q <;> omega⟩)
        · refine x_aload_n (q := 31) h dX0_provide_30 rfl rfl rfl ?_
          refine x_calli (q := 34) (xs := []) (st := []) h (mX0_clean (a := a) (K := K) hV.1 (fun p p0 p1 => by rw [hV.2.1.2.1]; exact hU p p0 p1)) lkX0_clean rfl (by decide) (by decide) dX0_provide_31 rfl (by simp) rfl (fun z31 τ31 s31 r31 p31 => ?_)
          refine x_istore_n (q := 35) (vs' := [.inr 0, .inl z, .inl fits, .inl z31, .inl x]) h dX0_provide_34 rfl (by decide) (Nat.le_of_ble_eq_true rfl) rfl rfl ?_
          refine x_aload_n (q := 36) h dX0_provide_35 rfl rfl rfl ?_
          refine x_iload_n (q := 37) h dX0_provide_36 rfl rfl rfl ?_
          refine x_callv (q := 40) (xs := [z]) (st := []) h (mX0_pack z (by omega)) lkX0_pack rfl (by decide) (by decide) dX0_provide_37 rfl (by simp) rfl (fun τ37 s37 p37 => ?_)
          have hL2 := Lg_pack p31.2.1 p37.1
          have hS2 : Sm τ τ37 := Sm.tr hV.2.1 (Sm.tr p31.2.2 (Sm.pk p37.1))
          refine x_aload_n (q := 41) h dX0_provide_40 rfl rfl rfl ?_
          refine x_calli (q := 44) (xs := []) (st := []) h (mX0_openRoom hL2.1) lkX0_openRoom rfl (by decide) (by decide) dX0_provide_41 rfl (by simp) rfl (fun z41 τ41 s41 r41 p41 => ?_)
          refine x_istore_n (q := 45) (vs' := [.inr 0, .inl z, .inl z41, .inl z31, .inl x]) h dX0_provide_44 rfl (by decide) (Nat.le_of_ble_eq_true rfl) rfl rfl ?_
          refine x_iinc (q := 48) (vs' := [.inr 0, .inl z, .inl z41, .inl z31, .inl (x + 1)]) h dX0_provide_45 (by decide) rfl rfl rfl ?_
          refine x_goto (tgt := 15) h dX0_provide_48 (by decide) ?_
          exact ih (x + 1) _ _ _ (by omega) (by omega) (by omega) (by rcases p41 with q | q <;> omega) (by omega) (pv_open hL2 hS2 p37.2 p41)
set_option maxHeartbeats 4000000 in
theorem mX0_provide {τ : St} (z : Int) {a : Int → Bool} {K : Int → Int} (hz : 1 ≤ z ∧ z ≤ 4095) (hL : Lg τ a K) (hU : ∀ p : Int, 0 ≤ p → p < 33 → (a p = true ↔ 0 < τ 1 p)) (ht : tot a K + room z ≤ 48) : CtV 0 yX0_provide cX0_provide 5 2 [z] τ (fun τ' => Lg τ' a K ∧ Sm τ τ' ∧ pkd τ' z ∧ τ' 6 (τ' 8 0) + τ' 13 0 ≤ 8) := by
  refine CtV.of (by decide) rfl (Nat.le_of_ble_eq_true rfl) (fun M h hr => ?_)
  show WX 0 M 0 [.inr 0, .inl z] [] τ
  refine x_aload_n (q := 1) h dX0_provide_0 rfl rfl rfl ?_
  refine x_iload_n (q := 2) h dX0_provide_1 rfl rfl rfl ?_
  refine x_callv (q := 5) (xs := [z]) (st := []) h (mX0_pack z (by omega)) lkX0_pack rfl (by decide) (by decide) dX0_provide_2 rfl (by simp) rfl (fun τ2 s2 p2 => ?_)
  refine x_aload_n (q := 6) h dX0_provide_5 rfl rfl rfl ?_
  refine x_calli (q := 9) (xs := []) (st := []) h (mX0_openRoom (Lg_pack hL p2.1).1) lkX0_openRoom rfl (by decide) (by decide) dX0_provide_6 rfl (by simp) rfl (fun z6 τ6 s6 r6 p6 => ?_)
  refine x_istore_n (q := 10) (vs' := [.inr 0, .inl z, .inl z6]) h dX0_provide_9 rfl (by decide) (Nat.le_of_ble_eq_true rfl) rfl rfl ?_
  refine x_iconst (q := 11) h dX0_provide_10 rfl ?_
  refine x_istore_n (q := 12) (vs' := [.inr 0, .inl z, .inl z6, .inl 1]) h dX0_provide_11 rfl (by decide) (Nat.le_of_ble_eq_true rfl) rfl rfl ?_
  refine x_iconst (q := 13) h dX0_provide_12 rfl ?_
  refine x_istore (q := 15) (vs' := [.inr 0, .inl z, .inl z6, .inl 1, .inl 0]) h dX0_provide_13 (by decide) (Nat.le_of_ble_eq_true rfl) rfl rfl ?_
  exact l1X0_provide hz hU ht h hr 11 0 _ _ _ (by omega) (by omega) (by omega) (by rcases p6 with q | q <;> omega) (by omega) (pv_open (Lg_pack hL p2.1) (Sm.pk p2.1) p2.2 p6)
end
section
/-! DedupBlocks: holding and releasing (plain laws) -/
set_option maxRecDepth 100000
/-- what comes free if block n takes another content -/
def bk (τ : St) (n : Int) : Int := if 0 ≤ τ 0 n ∧ τ 1 (τ 0 n) = 1 then τ 4 (τ 0 n) else 0
theorem tot_rem {a : Int → Bool} {K : Int → Int} {p : Int} (p0 : 0 ≤ p) (p1 : p < 33) (ha : a p = true) : tot (upB a p false) K = tot a K - room (K p) := by
  unfold tot
  rw [sm_upd (f := fun q => if a q = true then room (K q) else 0) (g := fun q => if upB a p false q = true then room (K q) else 0) (p := p) (n := 33) p0 p1 (by
    intro j _ _ hj
    show (if upB a p false j = true then room (K j) else 0) = if a j = true then room (K j) else 0
    rw [upB_ne hj])]
  show _ + ((if upB a p false p = true then room (K p) else 0) - (if a p = true then room (K p) else 0)) = _
  rw [upB_eq, if_neg (by decide), ha, if_pos rfl]
  omega
theorem tot_new {a : Int → Bool} {K : Int → Int} {p z : Int} (p0 : 0 ≤ p) (p1 : p < 33) (ha : a p = false) : tot (upB a p true) (upF K p z) = tot a K + room z := by
  unfold tot
  rw [sm_upd (f := fun q => if a q = true then room (K q) else 0) (g := fun q => if upB a p true q = true then room (upF K p z q) else 0) (p := p) (n := 33) p0 p1 (by
    intro j _ _ hj
    show (if upB a p true j = true then room (upF K p z j) else 0) = if a j = true then room (K j) else 0
    rw [upB_ne hj, upF_ne hj])]
  show _ + ((if upB a p true p = true then room (upF K p z p) else 0) - (if a p = true then room (K p) else 0)) = _
  rw [upB_eq, upF_eq, if_pos rfl, ha, if_neg (by decide)]
  omega
theorem Hd_same {τ σ : St} {a : Int → Bool} {K c : Int → Int} (h : Hd τ a K c) (h0 : σ 0 = τ 0) (h1 : σ 1 = τ 1) (h9 : σ 9 = τ 9) : Hd σ a K c := by
  unfold Hd at h ⊢
  rw [h0, h1, h9]
  exact h
/-- block n gives its piece back; the piece stays if another block holds it -/
theorem Hd_rel {τ σ : St} {a : Int → Bool} {K c : Int → Int} {n p : Int} (h : Hd τ a K c) (n0 : 0 ≤ n) (n1 : n < 32) (hp : τ 0 n = p) (p0 : 0 ≤ p) (p1 : p < 33) (h0 : σ 0 = upF (τ 0) n (-4)) (h1 : σ 1 = upF (τ 1) p (τ 1 p - 1)) {a' : Int → Bool} (ha : (a' = a ∧ 1 < τ 1 p ∧ σ 9 0 = τ 9 0) ∨ (a' = upB a p false ∧ τ 1 p = 1 ∧ σ 9 0 = τ 9 0 - room (K p))) : Hd σ a' K (upF c n 0) := by
  obtain ⟨g1, g2, g3, g4, g5⟩ := h
  have hpa : a p = true := by
    rcases g1 n n0 n1 with q | q
    · omega
    · rw [hp] at q; exact q.2.2.1
  have hcnt : ∀ q : Int, 0 ≤ q → q < 33 → σ 1 q = cnt (σ 0) q 32 := by
    intro q q0 q1
    rw [h0, h1, cnt_up n0 n1, if_neg (show ¬ (-4 : Int) = q by omega), Int.add_zero, ← g2 q q0 q1, hp]
    by_cases e : q = p
    · rw [e, upF_eq, if_pos rfl]
    · rw [upF_ne e, if_neg (fun w => e w.symm), Int.sub_zero]
  have hone : ∀ q : Int, 0 ≤ q → q < 33 → (a' q = true ↔ 0 < σ 1 q) := by
    intro q q0 q1
    rw [h1]
    by_cases e : q = p
    · rw [e, upF_eq]
      rcases ha with ⟨ha, hu, -⟩ | ⟨ha, hu, -⟩
      · rw [ha, hpa]
        exact ⟨fun _ => by omega, fun _ => rfl⟩
      · rw [ha, upB_eq]
        exact ⟨fun w => (by cases w), fun w => by omega⟩
    · rw [upF_ne e]
      have e2 : a' q = a q := by
        rcases ha with ⟨ha, -⟩ | ⟨ha, -⟩
        · rw [ha]
        · rw [ha, upB_ne e]
      rw [e2]
      exact g3 q q0 q1
  refine ⟨fun m m0 m1 => ?_, hcnt, hone, ?_⟩
  · by_cases e : m = n
    · rw [e, h0, upF_eq, upF_eq]
      exact Or.inl ⟨rfl, rfl⟩
    · have e0 : σ 0 m = τ 0 m := by rw [h0, upF_ne e]
      rw [upF_ne e, e0]
      rcases g1 m m0 m1 with q | q
      · exact Or.inl q
      · refine Or.inr ⟨q.1, q.2.1, ?_, q.2.2.2⟩
        rw [hone _ q.1 q.2.1, hcnt _ q.1 q.2.1]
        exact cnt_pos (j := m) m0 m1 e0
  · rcases ha with ⟨ha, hu, h9⟩ | ⟨ha, hu, h9⟩
    · rw [ha, h9]; exact ⟨g4, g5⟩
    · have hr := room_rg (K p)
      rw [ha, h9, tot_rem p0 p1 hpa, g4]
      omega
theorem Hd_take {τ σ : St} {a : Int → Bool} {K c : Int → Int} {n p z : Int} (h : Hd τ a K c) (n0 : 0 ≤ n) (n1 : n < 32) (hn : τ 0 n = -4) (p0 : 0 ≤ p) (p1 : p < 33) (hp : a p = true) (hz : K p = z) (h0 : σ 0 = upF (τ 0) n p) (h1 : σ 1 = upF (τ 1) p (τ 1 p + 1)) (h9 : σ 9 = τ 9) : Hd σ a K (upF c n z) := by
  obtain ⟨g1, g2, g3, g4, g5⟩ := h
  refine ⟨fun m m0 m1 => ?_, fun q q0 q1 => ?_, fun q q0 q1 => ?_, by rw [h9]; exact ⟨g4, g5⟩⟩
  · by_cases e : m = n
    · rw [e, h0, upF_eq, upF_eq]
      exact Or.inr ⟨p0, p1, hp, hz.symm⟩
    · rw [h0, upF_ne e, upF_ne e]
      exact g1 m m0 m1
  · rw [h0, h1, cnt_up n0 n1, hn, if_neg (show ¬ (-4 : Int) = q by omega), Int.sub_zero, ← g2 q q0 q1]
    by_cases e : q = p
    · rw [e, upF_eq, if_pos rfl]
    · rw [upF_ne e, if_neg (fun w => e w.symm), Int.add_zero]
  · rw [h1]
    by_cases e : q = p
    · have g := (g3 p p0 p1).mp hp
      rw [e, upF_eq, hp]
      exact ⟨fun _ => by omega, fun _ => rfl⟩
    · rw [upF_ne e]
      exact g3 q q0 q1
theorem Hd_new {τ σ : St} {a : Int → Bool} {K c : Int → Int} {n p z : Int} (h : Hd τ a K c) (n0 : 0 ≤ n) (n1 : n < 32) (hn : τ 0 n = -4) (p0 : 0 ≤ p) (p1 : p < 33) (hp : a p = false) (h0 : σ 0 = upF (τ 0) n p) (h1 : σ 1 = upF (τ 1) p (τ 1 p + 1)) (h9 : σ 9 0 = τ 9 0 + room z) (h48 : τ 9 0 + room z ≤ 48) : Hd σ (upB a p true) (upF K p z) (upF c n z) := by
  obtain ⟨g1, g2, g3, g4, g5⟩ := h
  have hu : τ 1 p = 0 := by
    have g := g3 p p0 p1
    have g' := g2 p p0 p1
    have g'' := cnt_le (τ 0) p 32
    rw [hp] at g
    by_cases e : 0 < τ 1 p
    · cases g.mpr e
    · omega
  refine ⟨fun m m0 m1 => ?_, fun q q0 q1 => ?_, fun q q0 q1 => ?_, by rw [h9, tot_new p0 p1 hp, g4], by rw [h9]; exact h48⟩
  · by_cases e : m = n
    · rw [e, h0, upF_eq, upF_eq]
      exact Or.inr ⟨p0, p1, upB_eq, upF_eq.symm⟩
    · rw [h0, upF_ne e, upF_ne e]
      rcases g1 m m0 m1 with q | q
      · exact Or.inl q
      · have w : τ 0 m ≠ p := fun w => by rw [w, hp] at q; cases q.2.2.1
        rw [upB_ne w, upF_ne w]
        exact Or.inr q
  · rw [h0, h1, cnt_up n0 n1, hn, if_neg (show ¬ (-4 : Int) = q by omega), Int.sub_zero, ← g2 q q0 q1]
    by_cases e : q = p
    · rw [e, upF_eq, if_pos rfl]
    · rw [upF_ne e, if_neg (fun w => e w.symm), Int.add_zero]
  · rw [h1]
    by_cases e : q = p
    · rw [e, upF_eq, upB_eq, hu]
      exact ⟨fun _ => by decide, fun _ => rfl⟩
    · rw [upF_ne e, upB_ne e]
      exact g3 q q0 q1
/-- behind release -/
def Rl (τ : St) (a : Int → Bool) (K c : Int → Int) (n : Int) (σ : St) : Prop := ∃ a' : Int → Bool, Lg σ a' K ∧ Tb σ a' K ∧ Hd σ a' K (upF c n 0) ∧ σ 0 n = -4 ∧ σ 9 0 = τ 9 0 - bk τ n ∧ (∀ p : Int, a' p = true → a p = true) ∧ (∀ p : Int, p ≠ τ 0 n → a' p = a p)
theorem Rl_0 {τ : St} {a : Int → Bool} {K c : Int → Int} {n : Int} (hL : Lg τ a K) (hT : Tb τ a K) (hH : Hd τ a K c) (n0 : 0 ≤ n) (n1 : n < 32) (hn : τ 0 n < 0) : Rl τ a K c n (up τ 0 n (-4)) := by
  have h := hH.1 n n0 n1
  have h4 : τ 0 n = -4 ∧ c n = 0 := by
    rcases h with q | q
    · exact q
    · omega
  have e : up τ 0 n (-4) = τ := by
    funext k j
    unfold up
    by_cases q : k = 0 ∧ j = n
    · rw [if_pos q, q.1, q.2, h4.1]
    · rw [if_neg q]
  have e2 : upF c n 0 = c := by
    have := upF_self (f := c) (p := n)
    rw [h4.2] at this
    exact this
  rw [e]
  refine ⟨a, hL, hT, by rw [e2]; exact hH, h4.1, ?_, fun _ q => q, fun _ _ => rfl⟩
  unfold bk
  rw [if_neg (by omega), Int.sub_zero]
theorem Rl_1 {τ : St} {a : Int → Bool} {K c : Int → Int} {n p u : Int} (hL : Lg τ a K) (hT : Tb τ a K) (hH : Hd τ a K c) (n0 : 0 ≤ n) (n1 : n < 32) (hn : τ 0 n = p) (p0 : 0 ≤ p) (p1 : p < 33) (hu : u = τ 1 p) (hu1 : u - 1 ≠ 0) : Rl τ a K c n (up (up τ 0 n (-4)) 1 p (u - 1)) := by
  have f : ∀ k : Nat, k ≠ 0 → k ≠ 1 → (up (up τ 0 n (-4)) 1 p (u - 1)) k = τ k := fun k a1 a2 => by rw [up_fne a2, up_fne a1]
  have hpos : 0 < τ 1 p := by
    rcases hH.1 n n0 n1 with q | q
    · omega
    · rw [hn] at q
      exact (hH.2.2.1 p p0 p1).mp q.2.2.1
  refine ⟨a, Lg_same hL (f 2 (by decide) (by decide)) (f 3 (by decide) (by decide)) (f 4 (by decide) (by decide)) (f 5 (by decide) (by decide)) (f 6 (by decide) (by decide)) (f 7 (by decide) (by decide)) (by rw [f 8 (by decide) (by decide)]; exact hL.1), Tb_same hT (f 10 (by decide) (by decide)), ?_, by rw [up_ne (by decide), up_eq], ?_, fun _ q => q, fun _ _ => rfl⟩
  · refine Hd_rel hH n0 n1 hn p0 p1 (by rw [up_fne (by decide), up_upF]) (by rw [up_upF, up_fne (by decide), hu]) (Or.inl ⟨rfl, by omega, by rw [f 9 (by decide) (by decide)]⟩)
  · rw [f 9 (by decide) (by decide)]
    unfold bk
    rw [hn, if_neg (by omega), Int.sub_zero]
theorem Rl_2 {τ : St} {a : Int → Bool} {K c : Int → Int} {n p u i x y : Int} (hL : Lg τ a K) (hT : Tb τ a K) (hH : Hd τ a K c) (n0 : 0 ≤ n) (n1 : n < 32) (hn : τ 0 n = p) (p0 : 0 ≤ p) (p1 : p < 33) (hu : u = τ 1 p) (hu1 : u - 1 = 0) (i0 : 0 ≤ i) (i1 : i < 64) (hi : τ 10 i = p) (hx : x = τ 9 0 - τ 4 p) (hy : y = τ 7 (τ 2 p) - τ 4 p) : Rl τ a K c n (up (up (up (up (up τ 0 n (-4)) 1 p (u - 1)) 10 i (-5)) 9 0 x) 7 (τ 2 p) y) := by
  have f : ∀ k : Nat, k ≠ 0 → k ≠ 1 → k ≠ 10 → k ≠ 9 → k ≠ 7 → (up (up (up (up (up τ 0 n (-4)) 1 p (u - 1)) 10 i (-5)) 9 0 x) 7 (τ 2 p) y) k = τ k := fun k a1 a2 a3 a4 a5 => by rw [up_fne a5, up_fne a4, up_fne a3, up_fne a2, up_fne a1]
  have hpa : a p = true := by
    rcases hH.1 n n0 n1 with q | q
    · omega
    · rw [hn] at q; exact q.2.2.1
  have h4 : τ 4 p = room (K p) := (hL.2.2 p p0 p1 hpa).2.2.2.2.2.1
  have e9 : (up (up (up (up (up τ 0 n (-4)) 1 p (u - 1)) 10 i (-5)) 9 0 x) 7 (τ 2 p) y) 9 0 = τ 9 0 - room (K p) := by rw [up_ne (by decide), up_eq, hx, h4]
  refine ⟨upB a p false, ?_, ?_, ?_, ?_, ?_, fun q w => ?_, fun q w => by rw [hn] at w; exact upB_ne w⟩
  · exact Lg_leave hL hpa p0 p1 (by rw [up_upF, up_fne (by decide), up_fne (by decide), up_fne (by decide), up_fne (by decide), hy]) (f 2 (by decide) (by decide) (by decide) (by decide) (by decide)) (f 3 (by decide) (by decide) (by decide) (by decide) (by decide)) (f 4 (by decide) (by decide) (by decide) (by decide) (by decide)) (f 5 (by decide) (by decide) (by decide) (by decide) (by decide)) (f 6 (by decide) (by decide) (by decide) (by decide) (by decide)) (f 8 (by decide) (by decide) (by decide) (by decide) (by decide))
  · have h := Tb_leave (σ := up (up (up (up (up τ 0 n (-4)) 1 p (u - 1)) 10 i (-5)) 9 0 x) 7 (τ 2 p) y) hT i0 i1 (by omega) (by rw [up_fne (by decide), up_fne (by decide), up_upF, up_fne (by decide), up_fne (by decide)])
    rw [hi] at h
    exact h
  · exact Hd_rel hH n0 n1 hn p0 p1 (by rw [up_fne (by decide), up_fne (by decide), up_fne (by decide), up_fne (by decide), up_upF]) (by rw [up_fne (by decide), up_fne (by decide), up_fne (by decide), up_upF, up_fne (by decide), hu]) (Or.inr ⟨rfl, by omega, e9⟩)
  · rw [up_ne (by decide), up_ne (by decide), up_ne (by decide), up_ne (by decide), up_eq]
  · rw [e9]
    unfold bk
    rw [hn, if_pos ⟨p0, by omega⟩, h4]
  · by_cases e : q = p
    · rw [e]; exact hpa
    · rw [upB_ne e] at w; exact w
theorem Iv_take {τ : St} {a : Int → Bool} {K c : Int → Int} {n p z u : Int} (hL : Lg τ a K) (hT : Tb τ a K) (hH : Hd τ a K (upF c n 0)) (n0 : 0 ≤ n) (n1 : n < 32) (hn : τ 0 n = -4) (p0 : 0 ≤ p) (p1 : p < 33) (hp : a p = true) (hz : K p = z) (hu : u = τ 1 p) : Iv (up (up τ 1 p (u + 1)) 0 n p) (upF c n z) := by
  have f : ∀ k : Nat, k ≠ 0 → k ≠ 1 → (up (up τ 1 p (u + 1)) 0 n p) k = τ k := fun k a1 a2 => by rw [up_fne a1, up_fne a2]
  refine ⟨a, K, Lg_same hL (f 2 (by decide) (by decide)) (f 3 (by decide) (by decide)) (f 4 (by decide) (by decide)) (f 5 (by decide) (by decide)) (f 6 (by decide) (by decide)) (f 7 (by decide) (by decide)) (by rw [f 8 (by decide) (by decide)]; exact hL.1), Tb_same hT (f 10 (by decide) (by decide)), ?_⟩
  have h := Hd_take (σ := up (up τ 1 p (u + 1)) 0 n p) hH n0 n1 hn p0 p1 hp hz (by rw [up_upF, up_fne (by decide)]) (by rw [up_fne (by decide), up_upF, hu]) (f 9 (by decide) (by decide))
  have e : upF (upF c n 0) n z = upF c n z := by
    funext j
    unfold upF
    by_cases q : j = n
    · rw [if_pos q, if_pos q]
    · rw [if_neg q, if_neg q, if_neg q]
  rw [e] at h
  exact h
theorem Iv_new {τ σ ρ : St} {a : Int → Bool} {K c : Int → Int} {n p z u x d : Int} (hL : Lg τ a K) (hT : Tb τ a K) (hH : Hd τ a K (upF c n 0)) (hk : pkd τ z) (z0 : 1 ≤ z) (z1 : z ≤ 4095) (hf : τ 6 (τ 8 0) + τ 13 0 ≤ 8) (hnz : ∀ q : Int, 0 ≤ q → q < 33 → a q = true → K q ≠ z) (ht : tot a K + room z ≤ 48) (n0 : 0 ≤ n) (n1 : n < 32) (hn : τ 0 n = -4) (p0 : 0 ≤ p) (p1 : p < 33) (hp : a p = false) (hA : Ap τ p σ) (d0 : 0 ≤ d) (d1 : d < 64) (hd : σ 10 ((hsh z + d) % 64) < 0) (he : ∀ e : Int, 0 ≤ e → e < d → 0 ≤ σ 10 ((hsh z + e) % 64)) (hρ : ρ = up σ 10 ((hsh z + d) % 64) p) (hx : x = ρ 9 0 + ρ 13 0) (hu : u = τ 1 p) : Iv (up (up (up ρ 9 0 x) 1 p (u + 1)) 0 n p) (upF c n z) := by
  have hL2 := Lg_append hL hp p0 p1 z0 z1 hk hf hA
  have s := hA.1
  have f : ∀ k : Nat, k ≠ 0 → k ≠ 1 → k ≠ 9 → k ≠ 10 → (up (up (up ρ 9 0 x) 1 p (u + 1)) 0 n p) k = σ k := fun k a1 a2 a3 a4 => by rw [up_fne a1, up_fne a2, up_fne a3, hρ, up_fne a4]
  have s10 : σ 10 = τ 10 := s 10 (by decide) (by decide) (by decide) (by decide) (by decide) (by decide)
  have s0 : σ 0 = τ 0 := s 0 (by decide) (by decide) (by decide) (by decide) (by decide) (by decide)
  have s1 : σ 1 = τ 1 := s 1 (by decide) (by decide) (by decide) (by decide) (by decide) (by decide)
  have s9 : σ 9 = τ 9 := s 9 (by decide) (by decide) (by decide) (by decide) (by decide) (by decide)
  have s13 : σ 13 = τ 13 := s 13 (by decide) (by decide) (by decide) (by decide) (by decide) (by decide)
  refine ⟨upB a p true, upF K p z, Lg_same hL2 (f 2 (by decide) (by decide) (by decide) (by decide)) (f 3 (by decide) (by decide) (by decide) (by decide)) (f 4 (by decide) (by decide) (by decide) (by decide)) (f 5 (by decide) (by decide) (by decide) (by decide)) (f 6 (by decide) (by decide) (by decide) (by decide)) (f 7 (by decide) (by decide) (by decide) (by decide)) (by rw [f 8 (by decide) (by decide) (by decide) (by decide)]; exact hL2.1), ?_, ?_⟩
  · rw [s10] at hd he
    exact Tb_enter hT hp p0 p1 hnz d0 d1 hd he (by rw [up_fne (by decide), up_fne (by decide), up_fne (by decide), hρ, up_upF, s10])
  · have hps : τ 13 0 = room z := by rw [room_rn z0]; exact hk.1
    have h := Hd_new (σ := up (up (up ρ 9 0 x) 1 p (u + 1)) 0 n p) (z := z) hH n0 n1 hn p0 p1 hp (by rw [up_upF, up_fne (by decide), up_fne (by decide), hρ, up_fne (by decide), s0]) (by rw [up_fne (by decide), up_upF, up_fne (by decide), hρ, up_fne (by decide), s1, hu]) (by rw [up_ne (by decide), up_ne (by decide), up_eq, hx, hρ, up_ne (by decide), up_ne (by decide), s9, s13, hps]) (by rw [hH.2.2.2.1]; exact ht)
    have e : upF (upF c n 0) n z = upF c n z := by
      funext j
      unfold upF
      by_cases q : j = n
      · rw [if_pos q, if_pos q]
      · rw [if_neg q, if_neg q, if_neg q]
    rw [e] at h
    exact h
end
section
/-! DedupBlocks: what the pieces say of the contents (plain laws) -/
set_option maxRecDepth 100000
/-- blocks hold pieces H, pieces have contents K, contents c -/
def HK (H K c : Int → Int) : Prop := (∀ n : Int, 0 ≤ n → n < 32 → (H n = -4 ∧ c n = 0) ∨ (0 ≤ H n ∧ H n < 33 ∧ 1 ≤ K (H n) ∧ K (H n) ≤ 4095 ∧ c n = K (H n))) ∧ ∀ m n : Int, 0 ≤ m → m < 32 → 0 ≤ n → n < 32 → 0 ≤ H m → 0 ≤ H n → K (H m) = K (H n) → H m = H n
theorem HK_of {τ : St} {a : Int → Bool} {K c : Int → Int} (hL : Lg τ a K) (hT : Tb τ a K) (hH : Hd τ a K c) : HK (τ 0) K c := by
  have key : ∀ n : Int, 0 ≤ n → n < 32 → 0 ≤ τ 0 n → τ 0 n < 33 ∧ a (τ 0 n) = true := by
    intro n n0 n1 h
    rcases hH.1 n n0 n1 with q | q
    · omega
    · exact ⟨q.2.1, q.2.2.1⟩
  refine ⟨fun n n0 n1 => ?_, fun m n m0 m1 n0 n1 hm hn e => ?_⟩
  · rcases hH.1 n n0 n1 with q | q
    · exact Or.inl q
    · have hP := hL.2.2 _ q.1 q.2.1 q.2.2.1
      exact Or.inr ⟨q.1, q.2.1, hP.1, hP.2.1, q.2.2.2⟩
  · exact hT.2.2.2 _ _ hm (key m m0 m1 hm).1 hn (key n n0 n1 hn).1 (key m m0 m1 hm).2 (key n n0 n1 hn).2 e
theorem HK_ok {H K c : Int → Int} (h : HK H K c) : okC c := by
  intro j j0 j1
  rcases h.1 j j0 j1 with q | q <;> omega
theorem HK_eq {H K c : Int → Int} (h : HK H K c) {m n : Int} (m0 : 0 ≤ m) (m1 : m < 32) (n0 : 0 ≤ n) (n1 : n < 32) : c m = c n ↔ H m = H n := by
  have hm := h.1 m m0 m1
  have hn := h.1 n n0 n1
  constructor
  · intro e
    rcases hm with qm | qm
    · rcases hn with qn | qn
      · omega
      · omega
    · rcases hn with qn | qn
      · omega
      · exact h.2 m n m0 m1 n0 n1 qm.1 qn.1 (by omega)
  · intro e
    rcases hm with qm | qm
    · rcases hn with qn | qn
      · omega
      · omega
    · rcases hn with qn | qn
      · omega
      · rw [qm.2.2.2.2, qn.2.2.2.2, e]
theorem HK_cnt {H K c : Int → Int} (h : HK H K c) {n : Int} (n0 : 0 ≤ n) (n1 : n < 32) : ∀ N : Nat, N ≤ 32 → cnt c (c n) N = cnt H (H n) N
  | 0, _ => rfl
  | N + 1, hN => by
    have ih := HK_cnt h n0 n1 N (by omega)
    rw [cnt_s, cnt_s, ih]
    have e := HK_eq h (m := N) (n := n) (by omega) (by omega) n0 n1
    by_cases q : H N = H n
    · rw [if_pos q, if_pos (e.mpr q)]
    · rw [if_neg q, if_neg (fun w => q (e.mp w))]
theorem fsum_val2 {f g : Int → Int} {B : Nat} : ∀ (n : Nat), (∀ j : Int, 0 ≤ j → j < n → (0 ≤ f j ∧ f j < B) ∨ (¬ (0 ≤ f j ∧ f j < B) ∧ g (f j) = 0)) → fsum f g n = sm (fun v => if 0 < cnt f v n then g v else 0) B
  | 0, _ => by
    rw [sm_zero]
    · rfl
    · intro j _ _
      exact if_neg (by rw [cnt_0]; omega)
  | n + 1, h => by
    have h1 := fsum_val2 (f := f) (g := g) (B := B) n (fun j a b => h j a (by omega))
    have h3 := cnt_le f (f n) n
    rcases h n (by omega) (by omega) with h2 | h2
    · have e : sm (fun v => if 0 < cnt f v (n + 1) then g v else 0) B = sm (fun v => if 0 < cnt f v n then g v else 0) B + ((if 0 < cnt f (f n) (n + 1) then g (f n) else 0) - (if 0 < cnt f (f n) n then g (f n) else 0)) := by
        refine sm_upd h2.1 h2.2 ?_
        intro j _ _ hj
        show (if 0 < cnt f j (n + 1) then g j else 0) = if 0 < cnt f j n then g j else 0
        rw [cnt_s, if_neg (show ¬ f n = j from fun q => hj q.symm), Int.add_zero]
      rw [e, cnt_s, if_pos rfl, if_pos (show 0 < cnt f (f n) n + 1 by omega)]
      simp only [fsum]
      rw [h1, fs_cnt]
      by_cases q : 0 < cnt f (f n) n
      · rw [if_pos q, if_pos q, if_neg (by omega)]
        omega
      · rw [if_neg q, if_neg q, if_pos rfl]
        omega
    · have e : sm (fun v => if 0 < cnt f v (n + 1) then g v else 0) B = sm (fun v => if 0 < cnt f v n then g v else 0) B := by
        apply sm_congr
        intro j j0 j1
        show (if 0 < cnt f j (n + 1) then g j else 0) = if 0 < cnt f j n then g j else 0
        rw [cnt_s, if_neg (show ¬ f n = j from fun q => h2.1 (by omega)), Int.add_zero]
      rw [e]
      simp only [fsum]
      rw [h1, h2.2, ite_self, Int.add_zero]
theorem HK_fs {H K c : Int → Int} (h : HK H K c) {n : Int} (n0 : 0 ≤ n) (n1 : n < 32) {N : Nat} (hN : N ≤ 32) : fs c (c n) N = fs H (H n) N := by
  rw [fs_cnt, fs_cnt, HK_cnt h n0 n1 N hN]
/-- a sum over the different contents is a sum over the pieces held -/
theorem HK_fsum {H K c g : Int → Int} (h : HK H K c) (hg : g 0 = 0) : fsum c g 32 = sm (fun p => if 0 < cnt H p 32 then g (K p) else 0) 33 := by
  have e : ∀ N : Nat, N ≤ 32 → fsum c g N = fsum H (fun p => if 0 ≤ p then g (K p) else 0) N := by
    intro N
    induction N with
    | zero => intro _; rfl
    | succ N ih =>
      intro hN
      simp only [fsum]
      rw [ih (by omega), HK_fs h (by omega) (by omega) (by omega)]
      rcases h.1 N (by omega) (by omega) with q | q
      · rw [q.1, q.2, hg, if_neg (show ¬ (0 : Int) ≤ -4 by decide)]
      · rw [if_pos q.1, q.2.2.2.2]
  rw [e 32 (Nat.le_refl 32), fsum_val2 (B := 33) 32 (fun j j0 j1 => ?_)]
  · apply sm_congr
    intro p p0 _
    show (if 0 < cnt H p 32 then (if 0 ≤ p then g (K p) else 0) else 0) = if 0 < cnt H p 32 then g (K p) else 0
    rw [if_pos p0]
  · rcases h.1 j j0 j1 with q | q
    · refine Or.inr ⟨by omega, ?_⟩
      show (if 0 ≤ H j then g (K (H j)) else 0) = 0
      rw [if_neg (by omega)]
    · exact Or.inl ⟨q.1, q.2.1⟩
theorem used_Hd {τ : St} {a : Int → Bool} {K c : Int → Int} (hL : Lg τ a K) (hT : Tb τ a K) (hH : Hd τ a K c) : used c = τ 9 0 := by
  unfold used
  rw [HK_fsum (HK_of hL hT hH) room_0, hH.2.2.2.1]
  unfold tot
  apply sm_congr
  intro p p0 p1
  show (if 0 < cnt (τ 0) p 32 then room (K p) else 0) = if a p = true then room (K p) else 0
  have e := hH.2.2.1 p p0 p1
  rw [← hH.2.1 p p0 p1]
  by_cases q : a p = true
  · rw [if_pos q, if_pos (e.mp q)]
  · rw [if_neg q, if_neg (fun w => q (e.mpr w))]
theorem alone_Hd {τ : St} {a : Int → Bool} {K c : Int → Int} {n : Int} (hL : Lg τ a K) (hT : Tb τ a K) (hH : Hd τ a K c) (n0 : 0 ≤ n) (n1 : n < 32) : bk τ n = if cnt c (c n) 32 = 1 then room (c n) else 0 := by
  have hK := HK_of hL hT hH
  rw [HK_cnt hK n0 n1 32 (Nat.le_refl 32)]
  unfold bk
  rcases hH.1 n n0 n1 with q | q
  · rw [if_neg (by omega), q.2, room_0, ite_self]
  · rw [hH.2.1 _ q.1 q.2.1]
    by_cases w : cnt (τ 0) (τ 0 n) 32 = 1
    · rw [if_pos ⟨q.1, w⟩, if_pos w, q.2.2.2]
      exact (hL.2.2 _ q.1 q.2.1 q.2.2.1).2.2.2.2.2.1
    · rw [if_neg (fun w2 => w w2.2), if_neg w]
/-- a sum changed at two places -/
theorem sm_upd2 {f g : Int → Int} {p q : Int} {n : Nat} (hp0 : 0 ≤ p) (hp1 : p < n) (hq0 : 0 ≤ q) (hq1 : q < n) (hpq : p ≠ q) (h : ∀ j : Int, 0 ≤ j → j < n → j ≠ p → j ≠ q → g j = f j) : sm g n = sm f n + (g p - f p) + (g q - f q) := by
  have h1 := sm_upd (f := f) (g := fun j => if j = p then g p else f j) (p := p) (n := n) hp0 hp1 (fun j _ _ hj => if_neg hj)
  have h2 := sm_upd (f := fun j => if j = p then g p else f j) (g := g) (p := q) (n := n) hq0 hq1 (by
    intro j j0 j1 hj
    show g j = if j = p then g p else f j
    by_cases e : j = p
    · rw [if_pos e, e]
    · rw [if_neg e]; exact h j j0 j1 e hj)
  rw [h2, h1, if_pos rfl, if_neg (fun e => hpq e.symm)]
/-- the room used if block n takes content z -/
theorem used_up {c : Int → Int} {n z : Int} (hc : okC c) (n0 : 0 ≤ n) (n1 : n < 32) (z0 : 0 ≤ z) (z1 : z ≤ 4095) (hz : c n ≠ z) : used (upF c n z) = used c - (if cnt c (c n) 32 = 1 then room (c n) else 0) + (if cnt c z 32 = 0 then room z else 0) := by
  have hb : ∀ f : Int → Int, okC f → used f = sm (fun v => if 0 < cnt f v 32 then room v else 0) 4096 := by
    intro f hf
    exact fsum_val (B := 4096) 32 (fun j j0 j1 => by have := hf j j0 j1; omega)
  have hcn := hc n n0 n1
  rw [hb _ (okC_up hc ⟨z0, z1⟩), hb _ hc]
  rw [sm_upd2 (f := fun v => if 0 < cnt c v 32 then room v else 0) (g := fun v => if 0 < cnt (upF c n z) v 32 then room v else 0) (p := c n) (q := z) (n := 4096) hcn.1 (by omega) z0 (by omega) hz (by
    intro j _ _ j1 j2
    show (if 0 < cnt (upF c n z) j 32 then room j else 0) = if 0 < cnt c j 32 then room j else 0
    have k1 : cnt (upF c n z) j 32 = cnt c j 32 := by
      rw [cnt_up (N := 32) n0 n1, if_neg (show ¬ c n = j from fun e => j1 e.symm), if_neg (show ¬ z = j from fun e => j2 e.symm)]
      omega
    rw [k1])]
  have g1 := cnt_pos (f := c) (z := c n) (n := 32) n0 n1 rfl
  have g2 := cnt_le c z 32
  show _ + ((if 0 < cnt (upF c n z) (c n) 32 then room (c n) else 0) - (if 0 < cnt c (c n) 32 then room (c n) else 0)) + ((if 0 < cnt (upF c n z) z 32 then room z else 0) - (if 0 < cnt c z 32 then room z else 0)) = _
  have ka : cnt (upF c n z) (c n) 32 = cnt c (c n) 32 - 1 := by
    rw [cnt_up (N := 32) n0 n1, if_pos rfl, if_neg (show ¬ z = c n from fun e => hz e.symm)]
    omega
  have kb : cnt (upF c n z) z 32 = cnt c z 32 + 1 := by
    rw [cnt_up (N := 32) n0 n1, if_neg hz, if_pos rfl]
    omega
  rw [ka, kb, if_pos g1, if_pos (show 0 < cnt c z 32 + 1 by omega)]
  by_cases w : cnt c (c n) 32 = 1
  · rw [if_pos w, if_neg (show ¬ 0 < cnt c (c n) 32 - 1 by omega)]
    by_cases w2 : cnt c z 32 = 0
    · rw [if_pos w2, if_neg (by omega)]; omega
    · rw [if_neg w2, if_pos (by omega)]; omega
  · rw [if_neg w, if_pos (show 0 < cnt c (c n) 32 - 1 by omega)]
    by_cases w2 : cnt c z 32 = 0
    · rw [if_pos w2, if_neg (by omega)]; omega
    · rw [if_neg w2, if_pos (by omega)]; omega
/-- how many blocks hold the content of piece p -/
theorem cnt_piece {τ : St} {a : Int → Bool} {K c : Int → Int} {p z : Int} (hL : Lg τ a K) (hT : Tb τ a K) (hH : Hd τ a K c) (p0 : 0 ≤ p) (p1 : p < 33) (hp : a p = true) (hz : K p = z) : cnt c z 32 = τ 1 p := by
  rw [hH.2.1 p p0 p1]
  have hpos := (hH.2.2.1 p p0 p1).mp hp
  rw [hH.2.1 p p0 p1] at hpos
  obtain ⟨n, n0, n1, n2⟩ := cnt_ex hpos
  have h := HK_cnt (HK_of hL hT hH) n0 n1 32 (Nat.le_refl 32)
  rw [n2] at h
  rw [← h]
  rcases hH.1 n n0 n1 with q | q
  · omega
  · rw [q.2.2.2, n2, hz]
theorem cnt_nopiece {τ : St} {a : Int → Bool} {K c : Int → Int} {z : Int} (hH : Hd τ a K c) (hz : z ≠ 0) (h : ∀ p : Int, 0 ≤ p → p < 33 → a p = true → K p ≠ z) : cnt c z 32 = 0 := by
  apply cnt_none
  intro j j0 j1
  rcases hH.1 j j0 j1 with q | q
  · rw [q.2]; exact fun e => hz e.symm
  · rw [q.2.2.2]; exact h _ q.1 q.2.1 q.2.2.1
theorem Iv_congr {τ : St} {c c' : Int → Int} (h : Iv τ c) (he : eqC c' c) : Iv τ c' := by
  obtain ⟨a, K, hL, hT, hH⟩ := h
  refine ⟨a, K, hL, hT, fun n n0 n1 => ?_, hH.2⟩
  rw [he n n0 n1]
  exact hH.1 n n0 n1
theorem Iv_ok {τ : St} {c : Int → Int} (h : Iv τ c) : okC c := by
  obtain ⟨a, K, hL, hT, hH⟩ := h
  exact HK_ok (HK_of hL hT hH)
theorem Iv_used {τ : St} {c : Int → Int} (h : Iv τ c) : used c = τ 9 0 ∧ used c ≤ 48 := by
  obtain ⟨a, K, hL, hT, hH⟩ := h
  have := used_Hd hL hT hH
  exact ⟨this, by rw [this]; exact hH.2.2.2.2⟩
/-- sum over blocks of what their pieces are -/
theorem sm_blocks {H h : Int → Int} {B : Nat} : ∀ N : Nat, (∀ j : Int, 0 ≤ j → j < N → (0 ≤ H j ∧ H j < B) ∨ (¬ (0 ≤ H j ∧ H j < B) ∧ h (H j) = 0)) → sm (fun j => h (H j)) N = sm (fun p => cnt H p N * h p) B
  | 0, _ => by
    rw [sm_zero (f := fun p => cnt H p 0 * h p)]
    · rfl
    · intro j _ _
      show cnt H j 0 * h j = 0
      rw [cnt_0, Int.zero_mul]
  | N + 1, hj => by
    have ih := sm_blocks (H := H) (h := h) (B := B) N (fun j a b => hj j a (by omega))
    have e : sm (fun p => cnt H p (N + 1) * h p) B = sm (fun p => cnt H p N * h p) B + sm (fun p => if p = H N then h (H N) else 0) B := by
      rw [← sm_add]
      apply sm_congr
      intro p _ _
      show cnt H p (N + 1) * h p = cnt H p N * h p + if p = H N then h (H N) else 0
      rw [cnt_s, Int.add_mul]
      by_cases q : H N = p
      · rw [if_pos q, if_pos q.symm, Int.one_mul, q]
      · rw [if_neg q, if_neg (fun w => q w.symm), Int.zero_mul]
    rw [e, sm_one, ← ih]
    show sm (fun j => h (H j)) N + h (H N) = _
    rcases hj N (by omega) (by omega) with q | q
    · rw [if_pos q]
    · rw [if_neg q.1, q.2]
theorem saved_Hd {τ : St} {a : Int → Bool} {K c : Int → Int} (hL : Lg τ a K) (hT : Tb τ a K) (hH : Hd τ a K c) : sm (fun p => τ 1 p * τ 4 p) 33 - τ 9 0 = sSaved c := by
  unfold sSaved
  rw [used_Hd hL hT hH]
  congr 1
  have e1 : sm (fun j => room (c j)) 32 = sm (fun j => (fun p => if 0 ≤ p then room (K p) else 0) (τ 0 j)) 32 := by
    apply sm_congr
    intro j j0 j1
    show room (c j) = if 0 ≤ τ 0 j then room (K (τ 0 j)) else 0
    rcases hH.1 j j0 j1 with q | q
    · rw [q.2, if_neg (by omega), room_0]
    · rw [if_pos q.1, q.2.2.2]
  rw [e1, sm_blocks (h := fun p => if 0 ≤ p then room (K p) else 0) (B := 33) 32 (fun j j0 j1 => ?_)]
  · apply sm_congr
    intro p p0 p1
    show τ 1 p * τ 4 p = cnt (τ 0) p 32 * if 0 ≤ p then room (K p) else 0
    rw [if_pos p0, ← hH.2.1 p p0 p1]
    by_cases q : a p = true
    · rw [(hL.2.2 p p0 p1 q).2.2.2.2.2.1]
    · have h1 : τ 1 p = 0 := by
        have := hH.2.2.1 p p0 p1
        have h2 := cnt_le (τ 0) p 32
        rw [← hH.2.1 p p0 p1] at h2
        by_cases w : 0 < τ 1 p
        · exact absurd (this.mpr w) q
        · omega
      rw [h1, Int.zero_mul, Int.zero_mul]
  · rcases hH.1 j j0 j1 with q | q
    · refine Or.inr ⟨by omega, ?_⟩
      show (if 0 ≤ τ 0 j then room (K (τ 0 j)) else 0) = 0
      rw [if_neg (by omega)]
    · exact Or.inl ⟨q.1, q.2.1⟩
theorem distinct_Hd {τ : St} {a : Int → Bool} {K c : Int → Int} (hL : Lg τ a K) (hT : Tb τ a K) (hH : Hd τ a K c) : sm (fun p => if 0 < τ 1 p then 1 else 0) 33 = sDistinct c := by
  unfold sDistinct
  rw [HK_fsum (g := fun z => if z = 0 then 0 else 1) (HK_of hL hT hH) rfl]
  apply sm_congr
  intro p p0 p1
  show (if 0 < τ 1 p then (1 : Int) else 0) = if 0 < cnt (τ 0) p 32 then (if K p = 0 then 0 else 1) else 0
  rw [← hH.2.1 p p0 p1]
  by_cases q : 0 < τ 1 p
  · have ha := (hH.2.2.1 p p0 p1).mpr q
    have hP := (hL.2.2 p p0 p1 ha).1
    rw [if_pos q, if_pos q, if_neg (by omega)]
  · rw [if_neg q, if_neg q]
theorem cnt_fil {H : Int → Int} {v p : Int} (v0 : 0 ≤ v) (v1 : v ≤ 3) (hp : 0 ≤ p) : ∀ b : Nat, b ≤ 8 → cnt (fil H (8 * v) (8 * v + b) (-4)) p 32 = cnt H p 32 - sm (fun j => if H (8 * v + j) = p then 1 else 0) b
  | 0, _ => by
    have e : cnt (fil H (8 * v) (8 * v + (0 : Nat)) (-4)) p 32 = cnt H p 32 := by
      apply cnt_congr
      intro j _ _
      unfold fil
      rw [if_neg (by omega)]
    rw [e]
    show _ = _ - 0
    omega
  | b + 1, hb => by
    have ih := cnt_fil (H := H) v0 v1 hp b (by omega)
    have e : fil H (8 * v) (8 * v + ((b + 1 : Nat) : Int)) (-4) = upF (fil H (8 * v) (8 * v + b) (-4)) (8 * v + b) (-4) := by
      funext j
      unfold upF fil
      by_cases q : j = 8 * v + b
      · rw [if_pos q, if_pos (by omega)]
      · rw [if_neg q]
        by_cases w : 8 * v ≤ j ∧ j < 8 * v + b
        · rw [if_pos w, if_pos (by omega)]
        · rw [if_neg w, if_neg (by omega)]
    have e2 : fil H (8 * v) (8 * v + b) (-4) (8 * v + b) = H (8 * v + b) := by
      unfold fil
      rw [if_neg (by omega)]
    rw [e, cnt_up (by omega) (by omega), ih, e2, if_neg (show ¬ (-4 : Int) = p by omega)]
    simp only [sm]
    omega
theorem aloneIn_Hd {τ : St} {a : Int → Bool} {K c : Int → Int} {v : Int} (hL : Lg τ a K) (hT : Tb τ a K) (hH : Hd τ a K c) (v0 : 0 ≤ v) (v1 : v ≤ 3) : sm (fun p => if 0 < sm (fun j => if τ 0 (8 * v + j) = p then 1 else 0) 8 ∧ sm (fun j => if τ 0 (8 * v + j) = p then 1 else 0) 8 = τ 1 p then τ 4 p else 0) 33 = used c - used (fil c (8 * v) (8 * v + 8) 0) := by
  have hK := HK_of hL hT hH
  have hK2 : HK (fil (τ 0) (8 * v) (8 * v + 8) (-4)) K (fil c (8 * v) (8 * v + 8) 0) := by
    have e : ∀ n : Int, 0 ≤ fil (τ 0) (8 * v) (8 * v + 8) (-4) n → fil (τ 0) (8 * v) (8 * v + 8) (-4) n = τ 0 n := by
      intro n h
      unfold fil at h ⊢
      by_cases w : 8 * v ≤ n ∧ n < 8 * v + 8
      · rw [if_pos w] at h; omega
      · rw [if_neg w]
    refine ⟨fun n n0 n1 => ?_, fun m n m0 m1 n0 n1 hm hn q => ?_⟩
    · unfold fil
      by_cases w : 8 * v ≤ n ∧ n < 8 * v + 8
      · rw [if_pos w, if_pos w]; exact Or.inl ⟨rfl, rfl⟩
      · rw [if_neg w, if_neg w]; exact hK.1 n n0 n1
    · have em := e m hm
      have en := e n hn
      rw [em] at hm
      rw [en] at hn
      rw [em, en] at q ⊢
      exact hK.2 m n m0 m1 n0 n1 hm hn q
  unfold used
  rw [HK_fsum hK room_0, HK_fsum hK2 room_0, ← sm_sub]
  apply sm_congr
  intro p p0 p1
  show (if 0 < sm (fun j => if τ 0 (8 * v + j) = p then 1 else 0) 8 ∧ sm (fun j => if τ 0 (8 * v + j) = p then 1 else 0) 8 = τ 1 p then τ 4 p else 0) = (if 0 < cnt (τ 0) p 32 then room (K p) else 0) - (if 0 < cnt (fil (τ 0) (8 * v) (8 * v + 8) (-4)) p 32 then room (K p) else 0)
  have h8 := cnt_fil (H := τ 0) v0 v1 p0 8 (Nat.le_refl 8)
  have h8' : cnt (fil (τ 0) (8 * v) (8 * v + 8) (-4)) p 32 = cnt (τ 0) p 32 - sm (fun j => if τ 0 (8 * v + j) = p then 1 else 0) 8 := h8
  have hge := cnt_le (fil (τ 0) (8 * v) (8 * v + 8) (-4)) p 32
  have hs0 : 0 ≤ sm (fun j => if τ 0 (8 * v + j) = p then 1 else 0) 8 := by
    apply sm_nonneg
    intro j _ _
    show (0 : Int) ≤ if τ 0 (8 * v + j) = p then 1 else 0
    split <;> decide
  rw [h8'] at hge ⊢
  rw [← hH.2.1 p p0 p1] at hge ⊢
  generalize sm (fun j => if τ 0 (8 * v + j) = p then 1 else 0) 8 = s at *
  by_cases q : 0 < s ∧ s = τ 1 p
  · have ha := (hH.2.2.1 p p0 p1).mpr (by omega)
    rw [if_pos q, if_pos (by omega), if_neg (by omega), (hL.2.2 p p0 p1 ha).2.2.2.2.2.1]
    omega
  · rw [if_neg q]
    by_cases w : 0 < τ 1 p
    · rw [if_pos w, if_pos (by omega)]; omega
    · rw [if_neg w, if_neg (by omega)]; omega
theorem isTwin_uniq {f : Int → Int} {n r s : Int} (h : isTwin f n r) (g : isTwin f n s) : r = s := by
  rcases h with ⟨h1, h2⟩ | ⟨h1, h2, h3, h4, h5⟩
  · rcases g with ⟨g1, g2⟩ | ⟨g1, g2, g3, g4, g5⟩
    · omega
    · exact absurd g4 (h2 s g1 g2 g3)
  · rcases g with ⟨g1, g2⟩ | ⟨g1, g2, g3, g4, g5⟩
    · exact absurd h4 (g2 r h1 h2 h3)
    · by_cases e : r < s
      · exact absurd h4 (g5 r h1 e h3)
      · by_cases e2 : s < r
        · exact absurd g4 (h5 s g1 e2 g3)
        · omega
theorem isFav_uniq {f : Int → Int} {r s : Int} (h : isFav f r) (g : isFav f s) : r = s := by
  rcases h with ⟨h1, h2⟩ | ⟨h1, h2, h3⟩
  · rcases g with ⟨g1, g2⟩ | ⟨g1, g2, g3⟩
    · omega
    · obtain ⟨j, j0, j1, j2⟩ := cnt_ex g2
      have := h2 j j0 j1
      omega
  · rcases g with ⟨g1, g2⟩ | ⟨g1, g2, g3⟩
    · obtain ⟨j, j0, j1, j2⟩ := cnt_ex h2
      have := g2 j j0 j1
      omega
    · obtain ⟨j, j0, j1, j2⟩ := cnt_ex g2
      obtain ⟨i, i0, i1, i2⟩ := cnt_ex h2
      have a1 := h3 j j0 j1 (by omega)
      have a2 := g3 i i0 i1 (by omega)
      rw [j2] at a1
      rw [i2] at a2
      omega
theorem isTwin_congr {f g : Int → Int} {n r : Int} (h : eqC f g) (n0 : 0 ≤ n) (n1 : n ≤ 31) (hr : isTwin f n r) : isTwin g n r := by
  have hn := h n n0 (by omega)
  rcases hr with ⟨h1, h2⟩ | ⟨h1, h2, h3, h4, h5⟩
  · exact Or.inl ⟨h1, fun j a b c => by rw [← h j a b, ← hn]; exact h2 j a b c⟩
  · exact Or.inr ⟨h1, h2, h3, by rw [← h r h1 h2, ← hn]; exact h4, fun j a b c => by rw [← h j a (by omega), ← hn]; exact h5 j a b c⟩
end
section
/-! DedupBlocks: release, hold, write, read, patch -/
set_option maxRecDepth 100000
theorem tot_nn (a : Int → Bool) (K : Int → Int) : 0 ≤ tot a K := by
  apply sm_nonneg
  intro j _ _
  show 0 ≤ if a j = true then room (K j) else 0
  split
  · exact (room_rg _).1
  · exact Int.le_refl 0
theorem dX0_release_0 : decode cX0_release 0 = .ok (.aload_n 0, 1) := by decide +kernel
theorem dX0_release_1 : decode cX0_release 1 = .ok (.getfield 7, 3) := by decide +kernel
theorem dX0_release_4 : decode cX0_release 4 = .ok (.iload_n 1, 1) := by decide +kernel
theorem dX0_release_5 : decode cX0_release 5 = .ok (.iaload, 1) := by decide +kernel
theorem dX0_release_6 : decode cX0_release 6 = .ok (.istore_n 2, 1) := by decide +kernel
theorem dX0_release_7 : decode cX0_release 7 = .ok (.aload_n 0, 1) := by decide +kernel
theorem dX0_release_8 : decode cX0_release 8 = .ok (.getfield 7, 3) := by decide +kernel
theorem dX0_release_11 : decode cX0_release 11 = .ok (.iload_n 1, 1) := by decide +kernel
theorem dX0_release_12 : decode cX0_release 12 = .ok (.bipush (-4), 2) := by decide +kernel
theorem dX0_release_14 : decode cX0_release 14 = .ok (.iastore, 1) := by decide +kernel
theorem dX0_release_15 : decode cX0_release 15 = .ok (.iload_n 2, 1) := by decide +kernel
theorem dX0_release_16 : decode cX0_release 16 = .ok (.ifCond .ge 4, 3) := by decide +kernel
theorem dX0_release_19 : decode cX0_release 19 = .ok (.return_, 1) := by decide +kernel
theorem dX0_release_20 : decode cX0_release 20 = .ok (.aload_n 0, 1) := by decide +kernel
theorem dX0_release_21 : decode cX0_release 21 = .ok (.getfield 13, 3) := by decide +kernel
theorem dX0_release_24 : decode cX0_release 24 = .ok (.iload_n 2, 1) := by decide +kernel
theorem dX0_release_25 : decode cX0_release 25 = .ok (.aload_n 0, 1) := by decide +kernel
theorem dX0_release_26 : decode cX0_release 26 = .ok (.getfield 13, 3) := by decide +kernel
theorem dX0_release_29 : decode cX0_release 29 = .ok (.iload_n 2, 1) := by decide +kernel
theorem dX0_release_30 : decode cX0_release 30 = .ok (.iaload, 1) := by decide +kernel
theorem dX0_release_31 : decode cX0_release 31 = .ok (.iconst 1, 1) := by decide +kernel
theorem dX0_release_32 : decode cX0_release 32 = .ok (.isub, 1) := by decide +kernel
theorem dX0_release_33 : decode cX0_release 33 = .ok (.iastore, 1) := by decide +kernel
theorem dX0_release_34 : decode cX0_release 34 = .ok (.aload_n 0, 1) := by decide +kernel
theorem dX0_release_35 : decode cX0_release 35 = .ok (.getfield 13, 3) := by decide +kernel
theorem dX0_release_38 : decode cX0_release 38 = .ok (.iload_n 2, 1) := by decide +kernel
theorem dX0_release_39 : decode cX0_release 39 = .ok (.iaload, 1) := by decide +kernel
theorem dX0_release_40 : decode cX0_release 40 = .ok (.ifCond .ne 69, 3) := by decide +kernel
theorem dX0_release_43 : decode cX0_release 43 = .ok (.aload_n 0, 1) := by decide +kernel
theorem dX0_release_44 : decode cX0_release 44 = .ok (.iload_n 2, 1) := by decide +kernel
theorem dX0_release_45 : decode cX0_release 45 = .ok (.invokevirtual 56, 3) := by decide +kernel
theorem dX0_release_48 : decode cX0_release 48 = .ok (.istore_n 3, 1) := by decide +kernel
theorem dX0_release_49 : decode cX0_release 49 = .ok (.aload_n 0, 1) := by decide +kernel
theorem dX0_release_50 : decode cX0_release 50 = .ok (.iload_n 3, 1) := by decide +kernel
theorem dX0_release_51 : decode cX0_release 51 = .ok (.invokevirtual 59, 3) := by decide +kernel
theorem dX0_release_54 : decode cX0_release 54 = .ok (.istore 4, 2) := by decide +kernel
theorem dX0_release_56 : decode cX0_release 56 = .ok (.aload_n 0, 1) := by decide +kernel
theorem dX0_release_57 : decode cX0_release 57 = .ok (.getfield 34, 3) := by decide +kernel
theorem dX0_release_60 : decode cX0_release 60 = .ok (.iload 4, 2) := by decide +kernel
theorem dX0_release_62 : decode cX0_release 62 = .ok (.bipush (-5), 2) := by decide +kernel
theorem dX0_release_64 : decode cX0_release 64 = .ok (.iastore, 1) := by decide +kernel
theorem dX0_release_65 : decode cX0_release 65 = .ok (.aload_n 0, 1) := by decide +kernel
theorem dX0_release_66 : decode cX0_release 66 = .ok (.aload_n 0, 1) := by decide +kernel
theorem dX0_release_67 : decode cX0_release 67 = .ok (.getfield 78, 3) := by decide +kernel
theorem dX0_release_70 : decode cX0_release 70 = .ok (.aload_n 0, 1) := by decide +kernel
theorem dX0_release_71 : decode cX0_release 71 = .ok (.getfield 22, 3) := by decide +kernel
theorem dX0_release_74 : decode cX0_release 74 = .ok (.iload_n 2, 1) := by decide +kernel
theorem dX0_release_75 : decode cX0_release 75 = .ok (.iaload, 1) := by decide +kernel
theorem dX0_release_76 : decode cX0_release 76 = .ok (.isub, 1) := by decide +kernel
theorem dX0_release_77 : decode cX0_release 77 = .ok (.putfield 78, 3) := by decide +kernel
theorem dX0_release_80 : decode cX0_release 80 = .ok (.aload_n 0, 1) := by decide +kernel
theorem dX0_release_81 : decode cX0_release 81 = .ok (.getfield 31, 3) := by decide +kernel
theorem dX0_release_84 : decode cX0_release 84 = .ok (.aload_n 0, 1) := by decide +kernel
theorem dX0_release_85 : decode cX0_release 85 = .ok (.getfield 16, 3) := by decide +kernel
theorem dX0_release_88 : decode cX0_release 88 = .ok (.iload_n 2, 1) := by decide +kernel
theorem dX0_release_89 : decode cX0_release 89 = .ok (.iaload, 1) := by decide +kernel
theorem dX0_release_90 : decode cX0_release 90 = .ok (.aload_n 0, 1) := by decide +kernel
theorem dX0_release_91 : decode cX0_release 91 = .ok (.getfield 31, 3) := by decide +kernel
theorem dX0_release_94 : decode cX0_release 94 = .ok (.aload_n 0, 1) := by decide +kernel
theorem dX0_release_95 : decode cX0_release 95 = .ok (.getfield 16, 3) := by decide +kernel
theorem dX0_release_98 : decode cX0_release 98 = .ok (.iload_n 2, 1) := by decide +kernel
theorem dX0_release_99 : decode cX0_release 99 = .ok (.iaload, 1) := by decide +kernel
theorem dX0_release_100 : decode cX0_release 100 = .ok (.iaload, 1) := by decide +kernel
theorem dX0_release_101 : decode cX0_release 101 = .ok (.aload_n 0, 1) := by decide +kernel
theorem dX0_release_102 : decode cX0_release 102 = .ok (.getfield 22, 3) := by decide +kernel
theorem dX0_release_105 : decode cX0_release 105 = .ok (.iload_n 2, 1) := by decide +kernel
theorem dX0_release_106 : decode cX0_release 106 = .ok (.iaload, 1) := by decide +kernel
theorem dX0_release_107 : decode cX0_release 107 = .ok (.isub, 1) := by decide +kernel
theorem dX0_release_108 : decode cX0_release 108 = .ok (.iastore, 1) := by decide +kernel
theorem dX0_release_109 : decode cX0_release 109 = .ok (.return_, 1) := by decide +kernel
theorem lkX0_release : GoodIn lw_all (wsV RX0 81 RX0 yX0_release (ws_ yX0_release cX0_release 5 none)) ∧ yX0_release.cls = RX0 ∧ yX0_release.cls ≠ "java/lang/invoke/MethodHandle" ∧ yX0_release.cls ≠ "java/lang/invoke/VarHandle" ∧ (parseMethodDescriptor yX0_release.desc).map (fun d => d.parameters.length) = some 1 := ⟨lw_V q121 q123 qs8 q26 q124, by decide +kernel⟩
set_option maxHeartbeats 4000000 in
theorem mX0_release {τ : St} (n : Int) {a : Int → Bool} {K c : Int → Int} (hn : 0 ≤ n ∧ n < 32) (hL : Lg τ a K) (hT : Tb τ a K) (hH : Hd τ a K c) : CtV 0 yX0_release cX0_release 5 2 [n] τ (fun τ' => Rl τ a K c n τ') := by
  refine CtV.of (by decide) rfl (Nat.le_of_ble_eq_true rfl) (fun M h hr => ?_)
  show WX 0 M 0 [.inr 0, .inl n] [] τ
  refine x_aload_n (q := 1) h dX0_release_0 rfl rfl rfl ?_
  refine x0_geta (k := 0) (q := 4) h rfl q36 dX0_release_1 rfl ?_
  refine x_iload_n (q := 5) h dX0_release_4 rfl rfl rfl ?_
  refine x_iald (k := 0) (n := 32) (q := 6) h rfl dX0_release_5 rfl (by omega) (fun v5 e5 l5 u5 => ?_)
  have hn0 := hH.1 n hn.1 hn.2
  refine x_istore_n (q := 7) (vs' := [.inr 0, .inl n, .inl v5]) h dX0_release_6 rfl (by decide) (Nat.le_of_ble_eq_true rfl) rfl rfl ?_
  refine x_aload_n (q := 8) h dX0_release_7 rfl rfl rfl ?_
  refine x0_geta (k := 0) (q := 11) h rfl q36 dX0_release_8 rfl ?_
  refine x_iload_n (q := 12) h dX0_release_11 rfl rfl rfl ?_
  refine x_bipush (q := 14) h dX0_release_12 rfl (by decide) ?_
  refine x_iast (k := 0) (n := 32) (q := 15) h rfl dX0_release_14 rfl (by omega) (by omega) ?_
  refine x_iload_n (q := 16) h dX0_release_15 rfl rfl rfl ?_
  refine x_if_ge (tgt := 20) (q := 19) h dX0_release_16 (by decide) rfl (by omega) (fun c16 => ?_) (fun c16 => ?_)
  · have h5 : 0 ≤ v5 ∧ v5 < 33 ∧ a v5 = true := by
      rcases hn0 with q | q
      · omega
      · rw [← e5] at q; exact ⟨q.1, q.2.1, q.2.2.1⟩
    have hu5 := hH.2.1 v5 h5.1 h5.2.1
    have hc5 := cnt_le (τ 0) v5 32
    have hp5 := (hH.2.2.1 v5 h5.1 h5.2.1).mp h5.2.2
    have hP5 := hL.2.2 v5 h5.1 h5.2.1 h5.2.2
    refine x_aload_n (q := 21) h dX0_release_20 rfl rfl rfl ?_
    refine x0_geta (k := 1) (q := 24) h rfl q37 dX0_release_21 rfl ?_
    refine x_iload_n (q := 25) h dX0_release_24 rfl rfl rfl ?_
    refine x_aload_n (q := 26) h dX0_release_25 rfl rfl rfl ?_
    refine x0_geta (k := 1) (q := 29) h rfl q37 dX0_release_26 rfl ?_
    refine x_iload_n (q := 30) h dX0_release_29 rfl rfl rfl ?_
    refine x_iald (k := 1) (n := 33) (q := 31) h rfl dX0_release_30 rfl (by omega) (fun v30 e30 l30 u30 => ?_)
    rw [up_ne (by decide)] at e30
    refine x_iconst (q := 32) h dX0_release_31 rfl ?_
    refine x_isub (q := 33) h dX0_release_32 rfl ?_
    refine x_iast (k := 1) (n := 33) (q := 34) h rfl dX0_release_33 rfl (by omega) (by omega) ?_
    refine x_aload_n (q := 35) h dX0_release_34 rfl rfl rfl ?_
    refine x0_geta (k := 1) (q := 38) h rfl q37 dX0_release_35 rfl ?_
    refine x_iload_n (q := 39) h dX0_release_38 rfl rfl rfl ?_
    refine x_iald (k := 1) (n := 33) (q := 40) h rfl dX0_release_39 rfl (by omega) (fun v39 e39 l39 u39 => ?_)
    rw [up_eq] at e39
    refine x_if_ne (tgt := 109) (q := 43) h dX0_release_40 (by decide) rfl (by omega) (fun c40 => ?_) (fun c40 => ?_)
    · exact x_vret h hr dX0_release_109 (by
      first
        | exact Rl_1 hL hT hH hn.1 hn.2 e5.symm h5.1 h5.2.1 e30 (by omega)
        | (rw [e89]; exact Rl_2 hL hT hH hn.1 hn.2 e5.symm h5.1 h5.2.1 e30 (by omega) hpi.1 hpi.2.1 hpi.2.2 (by rw [e67, e75]) (by rw [e100, e106])))
    · refine x_aload_n (q := 44) h dX0_release_43 rfl rfl rfl ?_
      refine x_iload_n (q := 45) h dX0_release_44 rfl rfl rfl ?_
      have f : ∀ k : Nat, k ≠ 0 → k ≠ 1 → (up (up τ 0 n (-4)) 1 v5 (v30 - 1)) k = τ k := fun k a1 a2 => by rw [up_fne a2, up_fne a1]
      have hL2 : Lg (up (up τ 0 n (-4)) 1 v5 (v30 - 1)) a K := Lg_same hL (f 2 (by decide) (by decide)) (f 3 (by decide) (by decide)) (f 4 (by decide) (by decide)) (f 5 (by decide) (by decide)) (f 6 (by decide) (by decide)) (f 7 (by decide) (by decide)) (by rw [f 8 (by decide) (by decide)]; exact hL.1)
      have hT2 : Tb (up (up τ 0 n (-4)) 1 v5 (v30 - 1)) a K := Tb_same hT (f 10 (by decide) (by decide))
      refine x_calli (q := 48) (xs := [v5]) (st := []) h (mX0_contentOf v5 (by omega) (z := K v5) (Or.inr ⟨h5.1, h5.2.1, hL2.2.2 v5 h5.1 h5.2.1 h5.2.2⟩)) lkX0_contentOf rfl (by decide) (by decide) dX0_release_45 rfl (by simp) rfl (fun z45 τ45 s45 r45 p45 => ?_)
      obtain ⟨rfl, p45⟩ := p45
      have hk1 := hP5.1
      have hk2 := hP5.2.1
      refine x_istore_n (q := 49) (vs' := [.inr 0, .inl n, .inl v5, .inl z45]) h dX0_release_48 rfl (by decide) (Nat.le_of_ble_eq_true rfl) rfl rfl ?_
      refine x_aload_n (q := 50) h dX0_release_49 rfl rfl rfl ?_
      refine x_iload_n (q := 51) h dX0_release_50 rfl rfl rfl ?_
      refine x_calli (q := 54) (xs := [z45]) (st := []) h (mX0_placeInTable z45 (by omega) (a := a) (K := K) hL2 hT2) lkX0_placeInTable rfl (by decide) (by decide) dX0_release_51 rfl (by simp) rfl (fun z51 τ51 s51 r51 p51 => ?_)
      obtain ⟨rfl, p51⟩ := p51
      have hpi : 0 ≤ z51 ∧ z51 < 64 ∧ τ 10 z51 = v5 := by
        rcases p51 with q | q
        · rw [f 10 (by decide) (by decide)] at q
          exact ⟨q.1, q.2.1, hT.2.2.2 _ _ q.2.2.1 q.2.2.2.1 h5.1 h5.2.1 q.2.2.2.2.1 h5.2.2 (by rw [q.2.2.2.2.2, p45])⟩
        · exact absurd p45.symm (q.2 v5 h5.1 h5.2.1 h5.2.2)
      refine x_istore (q := 56) (vs' := [.inr 0, .inl n, .inl v5, .inl z45, .inl z51]) h dX0_release_54 (by decide) (Nat.le_of_ble_eq_true rfl) rfl rfl ?_
      refine x_aload_n (q := 57) h dX0_release_56 rfl rfl rfl ?_
      refine x0_geta (k := 10) (q := 60) h rfl q46 dX0_release_57 rfl ?_
      refine x_iload (q := 62) h dX0_release_60 rfl rfl ?_
      refine x_bipush (q := 64) h dX0_release_62 rfl (by decide) ?_
      refine x_iast (k := 10) (n := 64) (q := 65) h rfl dX0_release_64 rfl (by omega) (by omega) ?_
      refine x_aload_n (q := 66) h dX0_release_65 rfl rfl rfl ?_
      refine x_aload_n (q := 67) h dX0_release_66 rfl rfl rfl ?_
      refine x0_geti (k := 9) (q := 70) h (by decide) q45 dX0_release_67 rfl (fun v67 e67 l67 u67 => ?_)
      rw [up_ne (by decide), f 9 (by decide) (by decide)] at e67
      have h48 := hH.2.2.2.2
      have h90 : 0 ≤ τ 9 0 := by rw [hH.2.2.2.1]; exact tot_nn a K
      refine x_aload_n (q := 71) h dX0_release_70 rfl rfl rfl ?_
      refine x0_geta (k := 4) (q := 74) h rfl q40 dX0_release_71 rfl ?_
      refine x_iload_n (q := 75) h dX0_release_74 rfl rfl rfl ?_
      refine x_iald (k := 4) (n := 33) (q := 76) h rfl dX0_release_75 rfl (by omega) (fun v75 e75 l75 u75 => ?_)
      rw [up_ne (by decide), f 4 (by decide) (by decide)] at e75
      have hr5 := room_rg (K v5)
      have hs5 := hP5.2.2.2.2.2.1
      refine x_isub (q := 77) h dX0_release_76 rfl ?_
      refine x0_puti (k := 9) (q := 80) h (by decide) q45 dX0_release_77 rfl (by omega) ?_
      refine x_aload_n (q := 81) h dX0_release_80 rfl rfl rfl ?_
      refine x0_geta (k := 7) (q := 84) h rfl q43 dX0_release_81 rfl ?_
      refine x_aload_n (q := 85) h dX0_release_84 rfl rfl rfl ?_
      refine x0_geta (k := 2) (q := 88) h rfl q38 dX0_release_85 rfl ?_
      refine x_iload_n (q := 89) h dX0_release_88 rfl rfl rfl ?_
      refine x_iald (k := 2) (n := 33) (q := 90) h rfl dX0_release_89 rfl (by omega) (fun v89 e89 l89 u89 => ?_)
      rw [up_ne (by decide), up_ne (by decide), f 2 (by decide) (by decide)] at e89
      have hg3 := hP5.2.2.1
      have hg4 := hP5.2.2.2.1
      refine x_aload_n (q := 91) h dX0_release_90 rfl rfl rfl ?_
      refine x0_geta (k := 7) (q := 94) h rfl q43 dX0_release_91 rfl ?_
      refine x_aload_n (q := 95) h dX0_release_94 rfl rfl rfl ?_
      refine x0_geta (k := 2) (q := 98) h rfl q38 dX0_release_95 rfl ?_
      refine x_iload_n (q := 99) h dX0_release_98 rfl rfl rfl ?_
      refine x_iald (k := 2) (n := 33) (q := 100) h rfl dX0_release_99 rfl (by omega) (fun v99 e99 l99 u99 => ?_)
      rw [up_ne (by decide), up_ne (by decide), f 2 (by decide) (by decide)] at e99
      refine x_iald (k := 7) (n := 10) (q := 101) h rfl dX0_release_100 rfl (by omega) (fun v100 e100 l100 u100 => ?_)
      rw [up_ne (by decide), up_ne (by decide), f 7 (by decide) (by decide), e99] at e100
      have hl7 := hL.2.1 (τ 2 v5) hg3 hg4
      refine x_aload_n (q := 102) h dX0_release_101 rfl rfl rfl ?_
      refine x0_geta (k := 4) (q := 105) h rfl q40 dX0_release_102 rfl ?_
      refine x_iload_n (q := 106) h dX0_release_105 rfl rfl rfl ?_
      refine x_iald (k := 4) (n := 33) (q := 107) h rfl dX0_release_106 rfl (by omega) (fun v106 e106 l106 u106 => ?_)
      rw [up_ne (by decide), up_ne (by decide), f 4 (by decide) (by decide)] at e106
      refine x_isub (q := 108) h dX0_release_107 rfl ?_
      refine x_iast (k := 7) (n := 10) (q := 109) h rfl dX0_release_108 rfl (by omega) (by omega) ?_
      exact x_vret h hr dX0_release_109 (by
      first
        | exact Rl_1 hL hT hH hn.1 hn.2 e5.symm h5.1 h5.2.1 e30 (by omega)
        | (rw [e89]; exact Rl_2 hL hT hH hn.1 hn.2 e5.symm h5.1 h5.2.1 e30 (by omega) hpi.1 hpi.2.1 hpi.2.2 (by rw [e67, e75]) (by rw [e100, e106])))
  · exact x_vret h hr dX0_release_19 (Rl_0 hL hT hH hn.1 hn.2 (by omega))

theorem dX0_hold_0 : decode cX0_hold 0 = .ok (.aload_n 0, 1) := by decide +kernel
theorem dX0_hold_1 : decode cX0_hold 1 = .ok (.iload_n 1, 1) := by decide +kernel
theorem dX0_hold_2 : decode cX0_hold 2 = .ok (.invokevirtual 81, 3) := by decide +kernel
theorem dX0_hold_5 : decode cX0_hold 5 = .ok (.iload_n 2, 1) := by decide +kernel
theorem dX0_hold_6 : decode cX0_hold 6 = .ok (.ifCond .ne 4, 3) := by decide +kernel
theorem dX0_hold_9 : decode cX0_hold 9 = .ok (.return_, 1) := by decide +kernel
theorem dX0_hold_10 : decode cX0_hold 10 = .ok (.aload_n 0, 1) := by decide +kernel
theorem dX0_hold_11 : decode cX0_hold 11 = .ok (.iload_n 2, 1) := by decide +kernel
theorem dX0_hold_12 : decode cX0_hold 12 = .ok (.invokevirtual 84, 3) := by decide +kernel
theorem dX0_hold_15 : decode cX0_hold 15 = .ok (.istore_n 3, 1) := by decide +kernel
theorem dX0_hold_16 : decode cX0_hold 16 = .ok (.iload_n 3, 1) := by decide +kernel
theorem dX0_hold_17 : decode cX0_hold 17 = .ok (.ifCond .ge 37, 3) := by decide +kernel
theorem dX0_hold_20 : decode cX0_hold 20 = .ok (.aload_n 0, 1) := by decide +kernel
theorem dX0_hold_21 : decode cX0_hold 21 = .ok (.iload_n 2, 1) := by decide +kernel
theorem dX0_hold_22 : decode cX0_hold 22 = .ok (.invokevirtual 87, 3) := by decide +kernel
theorem dX0_hold_25 : decode cX0_hold 25 = .ok (.aload_n 0, 1) := by decide +kernel
theorem dX0_hold_26 : decode cX0_hold 26 = .ok (.invokevirtual 90, 3) := by decide +kernel
theorem dX0_hold_29 : decode cX0_hold 29 = .ok (.istore_n 3, 1) := by decide +kernel
theorem dX0_hold_30 : decode cX0_hold 30 = .ok (.aload_n 0, 1) := by decide +kernel
theorem dX0_hold_31 : decode cX0_hold 31 = .ok (.iload_n 3, 1) := by decide +kernel
theorem dX0_hold_32 : decode cX0_hold 32 = .ok (.invokevirtual 69, 3) := by decide +kernel
theorem dX0_hold_35 : decode cX0_hold 35 = .ok (.aload_n 0, 1) := by decide +kernel
theorem dX0_hold_36 : decode cX0_hold 36 = .ok (.iload_n 2, 1) := by decide +kernel
theorem dX0_hold_37 : decode cX0_hold 37 = .ok (.iload_n 3, 1) := by decide +kernel
theorem dX0_hold_38 : decode cX0_hold 38 = .ok (.invokevirtual 94, 3) := by decide +kernel
theorem dX0_hold_41 : decode cX0_hold 41 = .ok (.aload_n 0, 1) := by decide +kernel
theorem dX0_hold_42 : decode cX0_hold 42 = .ok (.aload_n 0, 1) := by decide +kernel
theorem dX0_hold_43 : decode cX0_hold 43 = .ok (.getfield 78, 3) := by decide +kernel
theorem dX0_hold_46 : decode cX0_hold 46 = .ok (.aload_n 0, 1) := by decide +kernel
theorem dX0_hold_47 : decode cX0_hold 47 = .ok (.getfield 43, 3) := by decide +kernel
theorem dX0_hold_50 : decode cX0_hold 50 = .ok (.iadd, 1) := by decide +kernel
theorem dX0_hold_51 : decode cX0_hold 51 = .ok (.putfield 78, 3) := by decide +kernel
theorem dX0_hold_54 : decode cX0_hold 54 = .ok (.aload_n 0, 1) := by decide +kernel
theorem dX0_hold_55 : decode cX0_hold 55 = .ok (.getfield 13, 3) := by decide +kernel
theorem dX0_hold_58 : decode cX0_hold 58 = .ok (.iload_n 3, 1) := by decide +kernel
theorem dX0_hold_59 : decode cX0_hold 59 = .ok (.aload_n 0, 1) := by decide +kernel
theorem dX0_hold_60 : decode cX0_hold 60 = .ok (.getfield 13, 3) := by decide +kernel
theorem dX0_hold_63 : decode cX0_hold 63 = .ok (.iload_n 3, 1) := by decide +kernel
theorem dX0_hold_64 : decode cX0_hold 64 = .ok (.iaload, 1) := by decide +kernel
theorem dX0_hold_65 : decode cX0_hold 65 = .ok (.iconst 1, 1) := by decide +kernel
theorem dX0_hold_66 : decode cX0_hold 66 = .ok (.iadd, 1) := by decide +kernel
theorem dX0_hold_67 : decode cX0_hold 67 = .ok (.iastore, 1) := by decide +kernel
theorem dX0_hold_68 : decode cX0_hold 68 = .ok (.aload_n 0, 1) := by decide +kernel
theorem dX0_hold_69 : decode cX0_hold 69 = .ok (.getfield 7, 3) := by decide +kernel
theorem dX0_hold_72 : decode cX0_hold 72 = .ok (.iload_n 1, 1) := by decide +kernel
theorem dX0_hold_73 : decode cX0_hold 73 = .ok (.iload_n 3, 1) := by decide +kernel
theorem dX0_hold_74 : decode cX0_hold 74 = .ok (.iastore, 1) := by decide +kernel
theorem dX0_hold_75 : decode cX0_hold 75 = .ok (.return_, 1) := by decide +kernel
theorem lkX0_hold : GoodIn lw_all (wsV RX0 108 RX0 yX0_hold (ws_ yX0_hold cX0_hold 4 none)) ∧ yX0_hold.cls = RX0 ∧ yX0_hold.cls ≠ "java/lang/invoke/MethodHandle" ∧ yX0_hold.cls ≠ "java/lang/invoke/VarHandle" ∧ (parseMethodDescriptor yX0_hold.desc).map (fun d => d.parameters.length) = some 2 := ⟨lw_V q117 q119 qs7 q26 q120, by decide +kernel⟩
set_option maxHeartbeats 4000000 in
theorem mX0_hold {τ : St} (n z : Int) {c : Int → Int} (hn : 0 ≤ n ∧ n < 32) (hz : 0 ≤ z ∧ z ≤ 4095) (hI : Iv τ c) (hz2 : z = 0 ∨ (∃ m : Int, 0 ≤ m ∧ m < 32 ∧ c m = z ∧ c n ≠ z) ∨ used c - (if cnt c (c n) 32 = 1 then room (c n) else 0) + room z ≤ 48) : CtV 0 yX0_hold cX0_hold 4 3 [n, z] τ (fun τ' => Iv τ' (upF c n z)) := by
  refine CtV.of (by decide) rfl (Nat.le_of_ble_eq_true rfl) (fun M h hr => ?_)
  show WX 0 M 0 [.inr 0, .inl n, .inl z] [] τ
  obtain ⟨a, K, hL, hT, hH⟩ := hI
  refine x_aload_n (q := 1) h dX0_hold_0 rfl rfl rfl ?_
  refine x_iload_n (q := 2) h dX0_hold_1 rfl rfl rfl ?_
  refine x_callv (q := 5) (xs := [n]) (st := []) h (mX0_release n hn hL hT hH) lkX0_release rfl (by decide) (by decide) dX0_hold_2 rfl (by simp) rfl (fun τ2 s2 p2 => ?_)
  obtain ⟨a', r1, r2, r3, r4, r5, r6, r7⟩ := p2
  refine x_iload_n (q := 6) h dX0_hold_5 rfl rfl rfl ?_
  refine x_if_ne (tgt := 10) (q := 9) h dX0_hold_6 (by decide) rfl (by omega) (fun c6 => ?_) (fun c6 => ?_)
  · refine x_aload_n (q := 11) h dX0_hold_10 rfl rfl rfl ?_
    refine x_iload_n (q := 12) h dX0_hold_11 rfl rfl rfl ?_
    refine x_calli (q := 15) (xs := [z]) (st := []) h (mX0_find z (by omega) (a := a') (K := K) r1 r2) lkX0_find rfl (by decide) (by decide) dX0_hold_12 rfl (by simp) rfl (fun z12 τ12 s12 r12 p12 => ?_)
    obtain ⟨rfl, p12⟩ := p12
    refine x_istore_n (q := 16) (vs' := [.inr 0, .inl n, .inl z, .inl z12]) h dX0_hold_15 rfl (by decide) (Nat.le_of_ble_eq_true rfl) rfl rfl ?_
    refine x_iload_n (q := 17) h dX0_hold_16 rfl rfl rfl ?_
    refine x_if_ge (tgt := 54) (q := 20) h dX0_hold_17 (by decide) rfl (by omega) (fun c17 => ?_) (fun c17 => ?_)
    · have q12 : 0 ≤ z12 ∧ z12 < 33 ∧ a' z12 = true ∧ K z12 = z := by
        rcases p12 with q | q
        · exact q
        · omega
      refine x_aload_n (q := 55) h dX0_hold_54 rfl rfl rfl ?_
      refine x0_geta (k := 1) (q := 58) h rfl q37 dX0_hold_55 rfl ?_
      refine x_iload_n (q := 59) h dX0_hold_58 rfl rfl rfl ?_
      refine x_aload_n (q := 60) h dX0_hold_59 rfl rfl rfl ?_
      refine x0_geta (k := 1) (q := 63) h rfl q37 dX0_hold_60 rfl ?_
      refine x_iload_n (q := 64) h dX0_hold_63 rfl rfl rfl ?_
      refine x_iald (k := 1) (n := 33) (q := 65) h rfl dX0_hold_64 rfl (by omega) (fun v64 e64 l64 u64 => ?_)
      have hub : v64 ≤ 32 := by
        first
          | (rw [e64, r3.2.1 z12 q12.1 q12.2.1]; have := cnt_le (τ2 0) z12 32; omega)
          | (obtain ⟨d, d0, d1, d2, d3, d4⟩ := p38; rw [e64, up_ne (by decide), d4, up_ne (by decide), p32.1 1 (by decide) (by decide) (by decide) (by decide) (by decide) (by decide), hf26.2.2]; decide)
      refine x_iconst (q := 66) h dX0_hold_65 rfl ?_
      refine x_iadd (q := 67) h dX0_hold_66 rfl ?_
      refine x_iast (k := 1) (n := 33) (q := 68) h rfl dX0_hold_67 rfl (by omega) (by omega) ?_
      refine x_aload_n (q := 69) h dX0_hold_68 rfl rfl rfl ?_
      refine x0_geta (k := 0) (q := 72) h rfl q36 dX0_hold_69 rfl ?_
      refine x_iload_n (q := 73) h dX0_hold_72 rfl rfl rfl ?_
      refine x_iload_n (q := 74) h dX0_hold_73 rfl rfl rfl ?_
      refine x_iast (k := 0) (n := 32) (q := 75) h rfl dX0_hold_74 rfl (by omega) (by omega) ?_
      refine x_vret h hr dX0_hold_75 ?_
      exact Iv_take r1 r2 r3 hn.1 hn.2 r4 q12.1 q12.2.1 q12.2.2.1 q12.2.2.2 e64
    · have hnz : ∀ p : Int, 0 ≤ p → p < 33 → a' p = true → K p ≠ z := by
        rcases p12 with q | q
        · omega
        · exact q.2
      have ht2 : tot a' K + room z ≤ 48 := by
        rw [← r3.2.2.2.1, r5]
        rcases hz2 with q | q | q
        · omega
        · obtain ⟨m, m0, m1, m2, m3⟩ := q
          exfalso
          rcases hH.1 m m0 m1 with w | w
          · omega
          · have w2 : τ 0 m ≠ τ 0 n := fun e => by
              rcases hH.1 n hn.1 hn.2 with u | u
              · omega
              · exact m3 (by rw [u.2.2.2, ← e, ← w.2.2.2, m2])
            exact hnz (τ 0 m) w.1 w.2.1 (by rw [r7 _ w2]; exact w.2.2.1) (by rw [← w.2.2.2, m2])
        · rw [alone_Hd hL hT hH hn.1 hn.2, ← used_Hd hL hT hH]; exact q
      refine x_aload_n (q := 21) h dX0_hold_20 rfl rfl rfl ?_
      refine x_iload_n (q := 22) h dX0_hold_21 rfl rfl rfl ?_
      refine x_callv (q := 25) (xs := [z]) (st := []) h (mX0_provide z (a := a') (K := K) (by omega) r1 r3.2.2.1 ht2) lkX0_provide rfl (by decide) (by decide) dX0_hold_22 rfl (by simp) rfl (fun τ22 s22 p22 => ?_)
      have hT22 : Tb τ22 a' K := Tb_same r2 p22.2.1.2.2.2
      have hH22 : Hd τ22 a' K (upF c n 0) := Hd_same r3 p22.2.1.1 p22.2.1.2.1 p22.2.1.2.2.1
      have hn22 : τ22 0 n = -4 := by rw [p22.2.1.1]; exact r4
      refine x_aload_n (q := 26) h dX0_hold_25 rfl rfl rfl ?_
      refine x_calli (q := 29) (xs := []) (st := []) h (mX0_freshPiece (fresh_ex hH22.2.1)) lkX0_freshPiece rfl (by decide) (by decide) dX0_hold_26 rfl (by simp) rfl (fun z26 τ26 s26 r26 p26 => ?_)
      obtain ⟨rfl, p26⟩ := p26
      have hf26 := p26
      have haf : a' z26 = false := by
        have g := hH22.2.2.1 z26 hf26.1 hf26.2.1
        rw [hf26.2.2] at g
        cases ha : a' z26 with
        | false => rfl
        | true => rw [ha] at g; have := g.mp rfl; omega
      have hpre := ap_pre p22.1 p22.2.2.1
      refine x_istore_n (q := 30) (vs' := [.inr 0, .inl n, .inl z, .inl z26]) h dX0_hold_29 rfl (by decide) (Nat.le_of_ble_eq_true rfl) rfl rfl ?_
      refine x_aload_n (q := 31) h dX0_hold_30 rfl rfl rfl ?_
      refine x_iload_n (q := 32) h dX0_hold_31 rfl rfl rfl ?_
      refine x_callv (q := 35) (xs := [z26]) (st := []) h (mX0_append z26 (by omega) p22.1.1 hpre.1 hpre.2.1 hpre.2.2 p22.2.2.2) lkX0_append rfl (by decide) (by decide) dX0_hold_32 rfl (by simp) rfl (fun τ32 s32 p32 => ?_)
      have hT32 : Tb τ32 a' K := Tb_same hT22 (p32.1 10 (by decide) (by decide) (by decide) (by decide) (by decide) (by decide))
      refine x_aload_n (q := 36) h dX0_hold_35 rfl rfl rfl ?_
      refine x_iload_n (q := 37) h dX0_hold_36 rfl rfl rfl ?_
      refine x_iload_n (q := 38) h dX0_hold_37 rfl rfl rfl ?_
      refine x_callv (q := 41) (xs := [z, z26]) (st := []) h (mX0_enter z z26 (by omega) (by omega) (tab_ex hT32)) lkX0_enter rfl (by decide) (by decide) dX0_hold_38 rfl (by simp) rfl (fun τ38 s38 p38 => ?_)
      have h9a : τ38 9 0 = tot a' K := by
        obtain ⟨d, d0, d1, d2, d3, d4⟩ := p38
        rw [d4, up_ne (by decide), p32.1 9 (by decide) (by decide) (by decide) (by decide) (by decide) (by decide), p22.2.1.2.2.1, r3.2.2.2.1]
      have h13 : τ38 13 0 = room z := by
        obtain ⟨d, d0, d1, d2, d3, d4⟩ := p38
        rw [d4, up_ne (by decide), p32.1 13 (by decide) (by decide) (by decide) (by decide) (by decide) (by decide), p22.2.2.1.1, room_rn (by omega)]
      have hrr := room_rg z
      refine x_aload_n (q := 42) h dX0_hold_41 rfl rfl rfl ?_
      refine x_aload_n (q := 43) h dX0_hold_42 rfl rfl rfl ?_
      refine x0_geti (k := 9) (q := 46) h (by decide) q45 dX0_hold_43 rfl (fun v43 e43 l43 u43 => ?_)
      refine x_aload_n (q := 47) h dX0_hold_46 rfl rfl rfl ?_
      refine x0_geti (k := 13) (q := 50) h (by decide) q49 dX0_hold_47 rfl (fun v47 e47 l47 u47 => ?_)
      refine x_iadd (q := 51) h dX0_hold_50 rfl ?_
      refine x0_puti (k := 9) (q := 54) h (by decide) q45 dX0_hold_51 rfl (by omega) ?_
      refine x_aload_n (q := 55) h dX0_hold_54 rfl rfl rfl ?_
      refine x0_geta (k := 1) (q := 58) h rfl q37 dX0_hold_55 rfl ?_
      refine x_iload_n (q := 59) h dX0_hold_58 rfl rfl rfl ?_
      refine x_aload_n (q := 60) h dX0_hold_59 rfl rfl rfl ?_
      refine x0_geta (k := 1) (q := 63) h rfl q37 dX0_hold_60 rfl ?_
      refine x_iload_n (q := 64) h dX0_hold_63 rfl rfl rfl ?_
      refine x_iald (k := 1) (n := 33) (q := 65) h rfl dX0_hold_64 rfl (by omega) (fun v64 e64 l64 u64 => ?_)
      have hub : v64 ≤ 32 := by
        first
          | (rw [e64, r3.2.1 z12 q12.1 q12.2.1]; have := cnt_le (τ2 0) z12 32; omega)
          | (obtain ⟨d, d0, d1, d2, d3, d4⟩ := p38; rw [e64, up_ne (by decide), d4, up_ne (by decide), p32.1 1 (by decide) (by decide) (by decide) (by decide) (by decide) (by decide), hf26.2.2]; decide)
      refine x_iconst (q := 66) h dX0_hold_65 rfl ?_
      refine x_iadd (q := 67) h dX0_hold_66 rfl ?_
      refine x_iast (k := 1) (n := 33) (q := 68) h rfl dX0_hold_67 rfl (by omega) (by omega) ?_
      refine x_aload_n (q := 69) h dX0_hold_68 rfl rfl rfl ?_
      refine x0_geta (k := 0) (q := 72) h rfl q36 dX0_hold_69 rfl ?_
      refine x_iload_n (q := 73) h dX0_hold_72 rfl rfl rfl ?_
      refine x_iload_n (q := 74) h dX0_hold_73 rfl rfl rfl ?_
      refine x_iast (k := 0) (n := 32) (q := 75) h rfl dX0_hold_74 rfl (by omega) (by omega) ?_
      obtain ⟨d, d0, d1, d2, d3, d4⟩ := p38
      refine x_vret h hr dX0_hold_75 ?_
      exact Iv_new p22.1 hT22 hH22 p22.2.2.1 (by omega) (by omega) p22.2.2.2 hnz ht2 hn.1 hn.2 hn22 hf26.1 hf26.2.1 haf p32 d0 d1 d2 d3 d4 (by rw [e43, e47]) (by rw [e64, up_ne (by decide), d4, up_ne (by decide), (p32.1 1 (by decide) (by decide) (by decide) (by decide) (by decide) (by decide))])
  · exact x_vret h hr dX0_hold_9 (by rw [c6]; exact ⟨a', K, r1, r2, r3⟩)

set_option maxHeartbeats 4000000 in
theorem mX0_alone {τ : St} (n : Int) (r_n : -2147483648 ≤ n ∧ n ≤ 2147483647) {a : Int → Bool} {K c : Int → Int} (hL : Lg τ a K) (hT : Tb τ a K) (hH : Hd τ a K c) : CtI 0 yX0_alone cX0_alone 3 1 .int [n] τ (fun r τ' => τ = τ' ∧ r = sAlone c n) := by
  refine CtI.of (by decide) rfl (Nat.le_of_ble_eq_true rfl) (fun M h hr => ?_)
  show WX 0 M 0 [.inr 0, .inl n] [] τ
  refine x_aload_n (q := 1) h dX0_alone_0 rfl rfl rfl ?_
  refine x_iload_n (q := 2) h dX0_alone_1 rfl rfl rfl ?_
  refine x_calli (q := 5) (xs := [n]) (st := []) h (mX0_bad n (by omega)) lkX0_bad rfl (by decide) (by decide) dX0_alone_2 rfl (by simp) rfl (fun z2 τ2 s2 r2 p2 => ?_)
  obtain ⟨rfl, p2⟩ := p2
  refine x_if_eq (tgt := 10) (q := 8) h dX0_alone_5 (by decide) rfl (by omega) (fun c5 => ?_) (fun c5 => ?_)
  · refine x_aload_n (q := 11) h dX0_alone_10 rfl rfl rfl ?_
    refine x0_geta (k := 0) (q := 14) h rfl q36 dX0_alone_11 rfl ?_
    refine x_iload_n (q := 15) h dX0_alone_14 rfl rfl rfl ?_
    refine x_iald (k := 0) (n := 32) (q := 16) h rfl dX0_alone_15 rfl (by omega) (fun v15 e15 l15 u15 => ?_)
    have hn0 := hH.1 n (by omega) (by omega)
    rw [← e15] at hn0
    have hal := alone_Hd hL hT hH (n := n) (by omega) (by omega)
    unfold bk at hal
    rw [← e15] at hal
    refine x_istore_n (q := 17) (vs' := [.inr 0, .inl n, .inl v15]) h dX0_alone_16 rfl (by decide) (Nat.le_of_ble_eq_true rfl) rfl rfl ?_
    refine x_iload_n (q := 18) h dX0_alone_17 rfl rfl rfl ?_
    refine x_if_lt (tgt := 40) (q := 21) h dX0_alone_18 (by decide) rfl (by omega) (fun c18 => ?_) (fun c18 => ?_)
    · refine x_iconst (q := 41) h dX0_alone_40 rfl ?_
      refine x_iret h hr dX0_alone_41 (by omega) ⟨rfl, ?_⟩
      unfold sAlone
      rw [if_neg (by omega), ← hal, if_neg]
      first | omega | (intro q; rw [← e26] at q; omega)
    · refine x_aload_n (q := 22) h dX0_alone_21 rfl rfl rfl ?_
      refine x0_geta (k := 1) (q := 25) h rfl q37 dX0_alone_22 rfl ?_
      refine x_iload_n (q := 26) h dX0_alone_25 rfl rfl rfl ?_
      refine x_iald (k := 1) (n := 33) (q := 27) h rfl dX0_alone_26 rfl (by rcases hn0 with q | q <;> omega) (fun v26 e26 l26 u26 => ?_)
      refine x_iconst (q := 28) h dX0_alone_27 rfl ?_
      refine x_icmp_ne (tgt := 40) (q := 31) h dX0_alone_28 (by decide) rfl (by omega) (by omega) (fun c28 => ?_) (fun c28 => ?_)
      · refine x_iconst (q := 41) h dX0_alone_40 rfl ?_
        refine x_iret h hr dX0_alone_41 (by omega) ⟨rfl, ?_⟩
        unfold sAlone
        rw [if_neg (by omega), ← hal, if_neg]
        first | omega | (intro q; rw [← e26] at q; omega)
      · refine x_aload_n (q := 32) h dX0_alone_31 rfl rfl rfl ?_
        refine x0_geta (k := 4) (q := 35) h rfl q40 dX0_alone_32 rfl ?_
        refine x_iload_n (q := 36) h dX0_alone_35 rfl rfl rfl ?_
        refine x_iald (k := 4) (n := 33) (q := 37) h rfl dX0_alone_36 rfl (by rcases hn0 with q | q <;> omega) (fun v36 e36 l36 u36 => ?_)
        refine x_goto (tgt := 41) h dX0_alone_37 (by decide) ?_
        refine x_iret h hr dX0_alone_41 (by omega) ⟨rfl, ?_⟩
        unfold sAlone
        rw [if_neg (by omega), ← hal, if_pos (by rw [← e26]; omega), e36]
  · refine x_iconst (q := 9) h dX0_alone_8 rfl ?_
    exact x_iret h hr dX0_alone_9 (by omega) (⟨rfl, by unfold sAlone; rw [if_pos (by omega)]⟩)

theorem blk_content {τ : St} {a : Int → Bool} {K c : Int → Int} {n p : Int} (hL : Lg τ a K) (hH : Hd τ a K c) (n0 : 0 ≤ n) (n1 : n < 32) (e : p = τ 0 n) : (p < 0 ∧ c n = 0) ∨ (0 ≤ p ∧ p < 33 ∧ Pl τ p (c n)) := by
  rcases hH.1 n n0 n1 with q | q
  · exact Or.inl ⟨by omega, q.2⟩
  · rw [← e] at q
    refine Or.inr ⟨q.1, q.2.1, ?_⟩
    rw [q.2.2.2]
    exact hL.2.2 p q.1 q.2.1 q.2.2.1
theorem dX0_write_0 : decode cX0_write 0 = .ok (.aload_n 0, 1) := by decide +kernel
theorem dX0_write_1 : decode cX0_write 1 = .ok (.iload_n 1, 1) := by decide +kernel
theorem dX0_write_2 : decode cX0_write 2 = .ok (.invokevirtual 98, 3) := by decide +kernel
theorem dX0_write_5 : decode cX0_write 5 = .ok (.ifCond .ne 14, 3) := by decide +kernel
theorem dX0_write_8 : decode cX0_write 8 = .ok (.iload_n 2, 1) := by decide +kernel
theorem dX0_write_9 : decode cX0_write 9 = .ok (.ifCond .lt 10, 3) := by decide +kernel
theorem dX0_write_12 : decode cX0_write 12 = .ok (.iload_n 2, 1) := by decide +kernel
theorem dX0_write_13 : decode cX0_write 13 = .ok (.sipush 4095, 3) := by decide +kernel
theorem dX0_write_16 : decode cX0_write 16 = .ok (.if_icmp .le 5, 3) := by decide +kernel
theorem dX0_write_19 : decode cX0_write 19 = .ok (.iconst (-1), 1) := by decide +kernel
theorem dX0_write_20 : decode cX0_write 20 = .ok (.ireturn, 1) := by decide +kernel
theorem dX0_write_21 : decode cX0_write 21 = .ok (.aload_n 0, 1) := by decide +kernel
theorem dX0_write_22 : decode cX0_write 22 = .ok (.aload_n 0, 1) := by decide +kernel
theorem dX0_write_23 : decode cX0_write 23 = .ok (.getfield 7, 3) := by decide +kernel
theorem dX0_write_26 : decode cX0_write 26 = .ok (.iload_n 1, 1) := by decide +kernel
theorem dX0_write_27 : decode cX0_write 27 = .ok (.iaload, 1) := by decide +kernel
theorem dX0_write_28 : decode cX0_write 28 = .ok (.invokevirtual 56, 3) := by decide +kernel
theorem dX0_write_31 : decode cX0_write 31 = .ok (.istore_n 3, 1) := by decide +kernel
theorem dX0_write_32 : decode cX0_write 32 = .ok (.iload_n 3, 1) := by decide +kernel
theorem dX0_write_33 : decode cX0_write 33 = .ok (.iload_n 2, 1) := by decide +kernel
theorem dX0_write_34 : decode cX0_write 34 = .ok (.if_icmp .ne 5, 3) := by decide +kernel
theorem dX0_write_37 : decode cX0_write 37 = .ok (.iload_n 3, 1) := by decide +kernel
theorem dX0_write_38 : decode cX0_write 38 = .ok (.ireturn, 1) := by decide +kernel
theorem dX0_write_39 : decode cX0_write 39 = .ok (.aload_n 0, 1) := by decide +kernel
theorem dX0_write_40 : decode cX0_write 40 = .ok (.iload_n 1, 1) := by decide +kernel
theorem dX0_write_41 : decode cX0_write 41 = .ok (.invokevirtual 102, 3) := by decide +kernel
theorem dX0_write_44 : decode cX0_write 44 = .ok (.istore 4, 2) := by decide +kernel
theorem dX0_write_46 : decode cX0_write 46 = .ok (.aload_n 0, 1) := by decide +kernel
theorem dX0_write_47 : decode cX0_write 47 = .ok (.iload_n 2, 1) := by decide +kernel
theorem dX0_write_48 : decode cX0_write 48 = .ok (.invokevirtual 84, 3) := by decide +kernel
theorem dX0_write_51 : decode cX0_write 51 = .ok (.istore 5, 2) := by decide +kernel
theorem dX0_write_53 : decode cX0_write 53 = .ok (.iload 5, 2) := by decide +kernel
theorem dX0_write_55 : decode cX0_write 55 = .ok (.ifCond .lt 7, 3) := by decide +kernel
theorem dX0_write_58 : decode cX0_write 58 = .ok (.iconst 0, 1) := by decide +kernel
theorem dX0_write_59 : decode cX0_write 59 = .ok (.goto 8, 3) := by decide +kernel
theorem dX0_write_62 : decode cX0_write 62 = .ok (.aload_n 0, 1) := by decide +kernel
theorem dX0_write_63 : decode cX0_write 63 = .ok (.iload_n 2, 1) := by decide +kernel
theorem dX0_write_64 : decode cX0_write 64 = .ok (.invokevirtual 105, 3) := by decide +kernel
theorem dX0_write_67 : decode cX0_write 67 = .ok (.istore 6, 2) := by decide +kernel
theorem dX0_write_69 : decode cX0_write 69 = .ok (.aload_n 0, 1) := by decide +kernel
theorem dX0_write_70 : decode cX0_write 70 = .ok (.getfield 78, 3) := by decide +kernel
theorem dX0_write_73 : decode cX0_write 73 = .ok (.iload 4, 2) := by decide +kernel
theorem dX0_write_75 : decode cX0_write 75 = .ok (.isub, 1) := by decide +kernel
theorem dX0_write_76 : decode cX0_write 76 = .ok (.iload 6, 2) := by decide +kernel
theorem dX0_write_78 : decode cX0_write 78 = .ok (.iadd, 1) := by decide +kernel
theorem dX0_write_79 : decode cX0_write 79 = .ok (.bipush 48, 2) := by decide +kernel
theorem dX0_write_81 : decode cX0_write 81 = .ok (.if_icmp .le 6, 3) := by decide +kernel
theorem dX0_write_84 : decode cX0_write 84 = .ok (.bipush (-2), 2) := by decide +kernel
theorem dX0_write_86 : decode cX0_write 86 = .ok (.ireturn, 1) := by decide +kernel
theorem dX0_write_87 : decode cX0_write 87 = .ok (.aload_n 0, 1) := by decide +kernel
theorem dX0_write_88 : decode cX0_write 88 = .ok (.iload_n 1, 1) := by decide +kernel
theorem dX0_write_89 : decode cX0_write 89 = .ok (.iload_n 2, 1) := by decide +kernel
theorem dX0_write_90 : decode cX0_write 90 = .ok (.invokevirtual 108, 3) := by decide +kernel
theorem dX0_write_93 : decode cX0_write 93 = .ok (.iload_n 3, 1) := by decide +kernel
theorem dX0_write_94 : decode cX0_write 94 = .ok (.ireturn, 1) := by decide +kernel
theorem lkX0_write : GoodIn lw_all (wsV RX0 111 RX0 yX0_write (ws_ yX0_write cX0_write 7 (some .int))) ∧ yX0_write.cls = RX0 ∧ yX0_write.cls ≠ "java/lang/invoke/MethodHandle" ∧ yX0_write.cls ≠ "java/lang/invoke/VarHandle" ∧ (parseMethodDescriptor yX0_write.desc).map (fun d => d.parameters.length) = some 2 := ⟨lw_V q161 q81 q82 q26 q83, by decide +kernel⟩
theorem cnt_ex' {c : Int → Int} {n z : Int} (h : 0 < cnt c z 32) (hn : c n ≠ z) : ∃ m : Int, 0 ≤ m ∧ m < 32 ∧ c m = z ∧ c n ≠ z := by
  obtain ⟨m, m0, m1, m2⟩ := cnt_ex h
  exact ⟨m, m0, m1, m2, hn⟩
set_option maxHeartbeats 4000000 in
theorem mX0_write {τ : St} (n z : Int) (r_n : -2147483648 ≤ n ∧ n ≤ 2147483647) (r_z : -2147483648 ≤ z ∧ z ≤ 2147483647) {c : Int → Int} (hI : Iv τ c) : CtI 0 yX0_write cX0_write 7 4 .int [n, z] τ (fun r τ' => r = (sWrite c n z).1 ∧ Iv τ' (sWrite c n z).2) := by
  refine CtI.of (by decide) rfl (Nat.le_of_ble_eq_true rfl) (fun M h hr => ?_)
  show WX 0 M 0 [.inr 0, .inl n, .inl z] [] τ
  obtain ⟨a, K, hL, hT, hH⟩ := hI
  refine x_aload_n (q := 1) h dX0_write_0 rfl rfl rfl ?_
  refine x_iload_n (q := 2) h dX0_write_1 rfl rfl rfl ?_
  refine x_calli (q := 5) (xs := [n]) (st := []) h (mX0_bad n (by omega)) lkX0_bad rfl (by decide) (by decide) dX0_write_2 rfl (by simp) rfl (fun z2 τ2 s2 r2 p2 => ?_)
  obtain ⟨rfl, p2⟩ := p2
  refine x_if_ne (tgt := 19) (q := 8) h dX0_write_5 (by decide) rfl (by omega) (fun c5 => ?_) (fun c5 => ?_)
  · refine x_iconst (q := 20) h dX0_write_19 rfl ?_
    exact x_iret h hr dX0_write_20 (by omega) (⟨by unfold sWrite; rw [if_pos (by omega)], by unfold sWrite; rw [if_pos (by omega)]; exact ⟨a, K, hL, hT, hH⟩⟩)
  · refine x_iload_n (q := 9) h dX0_write_8 rfl rfl rfl ?_
    refine x_if_lt (tgt := 19) (q := 12) h dX0_write_9 (by decide) rfl (by omega) (fun c9 => ?_) (fun c9 => ?_)
    · refine x_iconst (q := 20) h dX0_write_19 rfl ?_
      exact x_iret h hr dX0_write_20 (by omega) (⟨by unfold sWrite; rw [if_pos (by omega)], by unfold sWrite; rw [if_pos (by omega)]; exact ⟨a, K, hL, hT, hH⟩⟩)
    · refine x_iload_n (q := 13) h dX0_write_12 rfl rfl rfl ?_
      refine x_sipush (q := 16) h dX0_write_13 rfl (by decide) ?_
      refine x_icmp_le (tgt := 21) (q := 19) h dX0_write_16 (by decide) rfl (by omega) (by omega) (fun c16 => ?_) (fun c16 => ?_)
      · refine x_aload_n (q := 22) h dX0_write_21 rfl rfl rfl ?_
        refine x_aload_n (q := 23) h dX0_write_22 rfl rfl rfl ?_
        refine x0_geta (k := 0) (q := 26) h rfl q36 dX0_write_23 rfl ?_
        refine x_iload_n (q := 27) h dX0_write_26 rfl rfl rfl ?_
        refine x_iald (k := 0) (n := 32) (q := 28) h rfl dX0_write_27 rfl (by omega) (fun v27 e27 l27 u27 => ?_)
        have hok := HK_ok (HK_of hL hT hH) n (by omega) (by omega)
        refine x_calli (q := 31) (xs := [v27]) (st := []) h (mX0_contentOf v27 (by omega) (z := c n) (blk_content hL hH (by omega) (by omega) e27)) lkX0_contentOf rfl (by decide) (by decide) dX0_write_28 rfl (by simp) rfl (fun z28 τ28 s28 r28 p28 => ?_)
        obtain ⟨rfl, p28⟩ := p28
        have hus := used_Hd hL hT hH
        have hrg := used_rg c
        have h48 := hH.2.2.2.2
        refine x_istore_n (q := 32) (vs' := [.inr 0, .inl n, .inl z, .inl z28]) h dX0_write_31 rfl (by decide) (Nat.le_of_ble_eq_true rfl) rfl rfl ?_
        refine x_iload_n (q := 33) h dX0_write_32 rfl rfl rfl ?_
        refine x_iload_n (q := 34) h dX0_write_33 rfl rfl rfl ?_
        refine x_icmp_ne (tgt := 39) (q := 37) h dX0_write_34 (by decide) rfl (by omega) (by omega) (fun c34 => ?_) (fun c34 => ?_)
        · refine x_aload_n (q := 40) h dX0_write_39 rfl rfl rfl ?_
          refine x_iload_n (q := 41) h dX0_write_40 rfl rfl rfl ?_
          refine x_calli (q := 44) (xs := [n]) (st := []) h (mX0_alone n (by omega) hL hT hH) lkX0_alone rfl (by decide) (by decide) dX0_write_41 rfl (by simp) rfl (fun z41 τ41 s41 r41 p41 => ?_)
          obtain ⟨rfl, p41⟩ := p41
          unfold sAlone at p41
          rw [if_neg (by omega)] at p41
          have hup := used_up (c := c) (n := n) (z := z) (HK_ok (HK_of hL hT hH)) (by omega) (by omega) (by omega) (by omega) (by rw [← p28]; exact c34)
          rw [← p41] at hup
          have hr41 : 0 ≤ z41 ∧ z41 ≤ 5 := by
            rw [p41]; have := room_rg (c n); split <;> omega
          refine x_istore (q := 46) (vs' := [.inr 0, .inl n, .inl z, .inl z28, .inl z41]) h dX0_write_44 (by decide) (Nat.le_of_ble_eq_true rfl) rfl rfl ?_
          refine x_aload_n (q := 47) h dX0_write_46 rfl rfl rfl ?_
          refine x_iload_n (q := 48) h dX0_write_47 rfl rfl rfl ?_
          refine x_calli (q := 51) (xs := [z]) (st := []) h (mX0_find z (by omega) hL hT) lkX0_find rfl (by decide) (by decide) dX0_write_48 rfl (by simp) rfl (fun z48 τ48 s48 r48 p48 => ?_)
          obtain ⟨rfl, p48⟩ := p48
          refine x_istore (q := 53) (vs' := [.inr 0, .inl n, .inl z, .inl z28, .inl z41, .inl z48]) h dX0_write_51 (by decide) (Nat.le_of_ble_eq_true rfl) rfl rfl ?_
          refine x_iload (q := 55) h dX0_write_53 rfl rfl ?_
          refine x_if_lt (tgt := 62) (q := 58) h dX0_write_55 (by decide) rfl (by omega) (fun c55 => ?_) (fun c55 => ?_)
          · have hnz : ∀ p : Int, 0 ≤ p → p < 33 → a p = true → K p ≠ z := by
              rcases p48 with q | q
              · omega
              · exact q.2
            have hcz : (if cnt c z 32 = 0 then room z else 0) = room z := by
              by_cases e0 : z = 0
              · rw [e0, room_0, ite_self]
              · rw [if_pos (cnt_nopiece hH e0 hnz)]
            rw [hcz] at hup
            have hrz := room_rg z
            refine x_aload_n (q := 63) h dX0_write_62 rfl rfl rfl ?_
            refine x_iload_n (q := 64) h dX0_write_63 rfl rfl rfl ?_
            refine x_calli (q := 67) (xs := [z]) (st := []) h (mX0_roomOf z (by omega)) lkX0_roomOf rfl (by decide) (by decide) dX0_write_64 rfl (by simp) rfl (fun z64 τ64 s64 r64 p64 => ?_)
            obtain ⟨k64, p64⟩ := p64
            have hL6 := Lg_pack hL k64
            have hT6 : Tb τ64 a K := Tb_same hT (k64 10 (by decide) (by decide))
            have hH6 : Hd τ64 a K c := Hd_same hH (k64 0 (by decide) (by decide)) (k64 1 (by decide) (by decide)) (k64 9 (by decide) (by decide))
            refine x_istore (q := 69) (vs' := [.inr 0, .inl n, .inl z, .inl z28, .inl z41, .inl z48, .inl z64]) h dX0_write_67 (by decide) (Nat.le_of_ble_eq_true rfl) rfl rfl ?_
            refine x_aload_n (q := 70) h dX0_write_69 rfl rfl rfl ?_
            refine x0_geti (k := 9) (q := 73) h (by decide) q45 dX0_write_70 rfl (fun v70 e70 l70 u70 => ?_)
            first | rw [k64 9 (by decide) (by decide), ← hus] at e70 | rw [← hus] at e70
            refine x_iload (q := 75) h dX0_write_73 rfl rfl ?_
            refine x_isub (q := 76) h dX0_write_75 rfl ?_
            refine x_iload (q := 78) h dX0_write_76 rfl rfl ?_
            refine x_iadd (q := 79) h dX0_write_78 rfl ?_
            refine x_bipush (q := 81) h dX0_write_79 rfl (by decide) ?_
            refine x_icmp_le (tgt := 87) (q := 84) h dX0_write_81 (by decide) rfl (by omega) (by omega) (fun c81 => ?_) (fun c81 => ?_)
            · refine x_aload_n (q := 88) h dX0_write_87 rfl rfl rfl ?_
              refine x_iload_n (q := 89) h dX0_write_88 rfl rfl rfl ?_
              refine x_iload_n (q := 90) h dX0_write_89 rfl rfl rfl ?_
              refine x_callv (q := 93) (xs := [n, z]) (st := []) h (mX0_hold n z (by omega) (by omega) (c := c) ⟨a, K, hL6, hT6, hH6⟩ (Or.inr (Or.inr (by rw [← p41]; omega)))) lkX0_hold rfl (by decide) (by decide) dX0_write_90 rfl (by simp) rfl (fun τ90 s90 p90 => ?_)
              refine x_iload_n (q := 94) h dX0_write_93 rfl rfl rfl ?_
              exact x_iret h hr dX0_write_94 (by omega) (by unfold sWrite; rw [if_neg (by omega), if_pos (by omega)]; exact ⟨p28, p90⟩)
            · refine x_bipush (q := 86) h dX0_write_84 rfl (by decide) ?_
              exact x_iret h hr dX0_write_86 (by omega) (by unfold sWrite; rw [if_neg (by omega), if_neg (by omega)]; first | exact ⟨rfl, a, K, hL6, hT6, hH6⟩ | exact ⟨rfl, a, K, hL, hT, hH⟩)
          · have q48 : 0 ≤ z48 ∧ z48 < 33 ∧ a z48 = true ∧ K z48 = z := by
              rcases p48 with q | q
              · exact q
              · omega
            have hcp := cnt_piece hL hT hH q48.1 q48.2.1 q48.2.2.1 q48.2.2.2
            have hcu := (hH.2.2.1 z48 q48.1 q48.2.1).mp q48.2.2.1
            rw [if_neg (show ¬ cnt c z 32 = 0 by omega)] at hup
            refine x_iconst (q := 59) h dX0_write_58 rfl ?_
            refine x_goto (tgt := 67) h dX0_write_59 (by decide) ?_
            refine x_istore (q := 69) (vs' := [.inr 0, .inl n, .inl z, .inl z28, .inl z41, .inl z48, .inl 0]) h dX0_write_67 (by decide) (Nat.le_of_ble_eq_true rfl) rfl rfl ?_
            refine x_aload_n (q := 70) h dX0_write_69 rfl rfl rfl ?_
            refine x0_geti (k := 9) (q := 73) h (by decide) q45 dX0_write_70 rfl (fun v70 e70 l70 u70 => ?_)
            first | rw [k64 9 (by decide) (by decide), ← hus] at e70 | rw [← hus] at e70
            refine x_iload (q := 75) h dX0_write_73 rfl rfl ?_
            refine x_isub (q := 76) h dX0_write_75 rfl ?_
            refine x_iload (q := 78) h dX0_write_76 rfl rfl ?_
            refine x_iadd (q := 79) h dX0_write_78 rfl ?_
            refine x_bipush (q := 81) h dX0_write_79 rfl (by decide) ?_
            refine x_icmp_le (tgt := 87) (q := 84) h dX0_write_81 (by decide) rfl (by omega) (by omega) (fun c81 => ?_) (fun c81 => ?_)
            · refine x_aload_n (q := 88) h dX0_write_87 rfl rfl rfl ?_
              refine x_iload_n (q := 89) h dX0_write_88 rfl rfl rfl ?_
              refine x_iload_n (q := 90) h dX0_write_89 rfl rfl rfl ?_
              refine x_callv (q := 93) (xs := [n, z]) (st := []) h (mX0_hold n z (by omega) (by omega) (c := c) ⟨a, K, hL, hT, hH⟩ (Or.inr (Or.inl (cnt_ex' (by omega) (by rw [← p28]; exact c34))))) lkX0_hold rfl (by decide) (by decide) dX0_write_90 rfl (by simp) rfl (fun τ90 s90 p90 => ?_)
              refine x_iload_n (q := 94) h dX0_write_93 rfl rfl rfl ?_
              exact x_iret h hr dX0_write_94 (by omega) (by unfold sWrite; rw [if_neg (by omega), if_pos (by omega)]; exact ⟨p28, p90⟩)
            · refine x_bipush (q := 86) h dX0_write_84 rfl (by decide) ?_
              exact x_iret h hr dX0_write_86 (by omega) (by unfold sWrite; rw [if_neg (by omega), if_neg (by omega)]; first | exact ⟨rfl, a, K, hL6, hT6, hH6⟩ | exact ⟨rfl, a, K, hL, hT, hH⟩)
        · refine x_iload_n (q := 38) h dX0_write_37 rfl rfl rfl ?_
          exact x_iret h hr dX0_write_38 (by omega) (by unfold sWrite; rw [if_neg (by omega)]; have e : upF c n z = c := by { rw [← c34, p28]; exact upF_self }; rw [e, if_pos (by omega)]; exact ⟨p28, a, K, hL, hT, hH⟩)
      · refine x_iconst (q := 20) h dX0_write_19 rfl ?_
        exact x_iret h hr dX0_write_20 (by omega) (⟨by unfold sWrite; rw [if_pos (by omega)], by unfold sWrite; rw [if_pos (by omega)]; exact ⟨a, K, hL, hT, hH⟩⟩)

theorem dX0_read_0 : decode cX0_read 0 = .ok (.aload_n 0, 1) := by decide +kernel
theorem dX0_read_1 : decode cX0_read 1 = .ok (.iload_n 1, 1) := by decide +kernel
theorem dX0_read_2 : decode cX0_read 2 = .ok (.invokevirtual 98, 3) := by decide +kernel
theorem dX0_read_5 : decode cX0_read 5 = .ok (.ifCond .eq 7, 3) := by decide +kernel
theorem dX0_read_8 : decode cX0_read 8 = .ok (.iconst (-1), 1) := by decide +kernel
theorem dX0_read_9 : decode cX0_read 9 = .ok (.goto 13, 3) := by decide +kernel
theorem dX0_read_12 : decode cX0_read 12 = .ok (.aload_n 0, 1) := by decide +kernel
theorem dX0_read_13 : decode cX0_read 13 = .ok (.aload_n 0, 1) := by decide +kernel
theorem dX0_read_14 : decode cX0_read 14 = .ok (.getfield 7, 3) := by decide +kernel
theorem dX0_read_17 : decode cX0_read 17 = .ok (.iload_n 1, 1) := by decide +kernel
theorem dX0_read_18 : decode cX0_read 18 = .ok (.iaload, 1) := by decide +kernel
theorem dX0_read_19 : decode cX0_read 19 = .ok (.invokevirtual 56, 3) := by decide +kernel
theorem dX0_read_22 : decode cX0_read 22 = .ok (.ireturn, 1) := by decide +kernel
set_option maxHeartbeats 4000000 in
theorem mX0_read {τ : St} (n : Int) (r_n : -2147483648 ≤ n ∧ n ≤ 2147483647) {c : Int → Int} (hI : Iv τ c) : CtI 0 yX0_read cX0_read 2 1 .int [n] τ (fun r τ' => τ = τ' ∧ r = sRead c n) := by
  refine CtI.of (by decide) rfl (Nat.le_of_ble_eq_true rfl) (fun M h hr => ?_)
  show WX 0 M 0 [.inr 0, .inl n] [] τ
  obtain ⟨a, K, hL, hT, hH⟩ := hI
  refine x_aload_n (q := 1) h dX0_read_0 rfl rfl rfl ?_
  refine x_iload_n (q := 2) h dX0_read_1 rfl rfl rfl ?_
  refine x_calli (q := 5) (xs := [n]) (st := []) h (mX0_bad n (by omega)) lkX0_bad rfl (by decide) (by decide) dX0_read_2 rfl (by simp) rfl (fun z2 τ2 s2 r2 p2 => ?_)
  obtain ⟨rfl, p2⟩ := p2
  refine x_if_eq (tgt := 12) (q := 8) h dX0_read_5 (by decide) rfl (by omega) (fun c5 => ?_) (fun c5 => ?_)
  · refine x_aload_n (q := 13) h dX0_read_12 rfl rfl rfl ?_
    refine x_aload_n (q := 14) h dX0_read_13 rfl rfl rfl ?_
    refine x0_geta (k := 0) (q := 17) h rfl q36 dX0_read_14 rfl ?_
    refine x_iload_n (q := 18) h dX0_read_17 rfl rfl rfl ?_
    refine x_iald (k := 0) (n := 32) (q := 19) h rfl dX0_read_18 rfl (by omega) (fun v18 e18 l18 u18 => ?_)
    refine x_calli (q := 22) (xs := [v18]) (st := []) h (mX0_contentOf v18 (by omega) (z := c n) (blk_content hL hH (by omega) (by omega) e18)) lkX0_contentOf rfl (by decide) (by decide) dX0_read_19 rfl (by simp) rfl (fun z19 τ19 s19 r19 p19 => ?_)
    obtain ⟨rfl, p19⟩ := p19
    have hok := HK_ok (HK_of hL hT hH) n (by omega) (by omega)
    exact x_iret h hr dX0_read_22 (by omega) (⟨rfl, by unfold sRead; rw [if_neg (by omega), p19]⟩)
  · refine x_iconst (q := 9) h dX0_read_8 rfl ?_
    refine x_goto (tgt := 22) h dX0_read_9 (by decide) ?_
    exact x_iret h hr dX0_read_22 (by omega) (⟨rfl, by unfold sRead; rw [if_pos (by omega)]⟩)

theorem dX0_patch_0 : decode cX0_patch 0 = .ok (.aload_n 0, 1) := by decide +kernel
theorem dX0_patch_1 : decode cX0_patch 1 = .ok (.iload_n 1, 1) := by decide +kernel
theorem dX0_patch_2 : decode cX0_patch 2 = .ok (.invokevirtual 98, 3) := by decide +kernel
theorem dX0_patch_5 : decode cX0_patch 5 = .ok (.ifCond .ne 22, 3) := by decide +kernel
theorem dX0_patch_8 : decode cX0_patch 8 = .ok (.iload_n 2, 1) := by decide +kernel
theorem dX0_patch_9 : decode cX0_patch 9 = .ok (.ifCond .lt 18, 3) := by decide +kernel
theorem dX0_patch_12 : decode cX0_patch 12 = .ok (.iload_n 2, 1) := by decide +kernel
theorem dX0_patch_13 : decode cX0_patch 13 = .ok (.iconst 3, 1) := by decide +kernel
theorem dX0_patch_14 : decode cX0_patch 14 = .ok (.if_icmp .gt 13, 3) := by decide +kernel
theorem dX0_patch_17 : decode cX0_patch 17 = .ok (.iload_n 3, 1) := by decide +kernel
theorem dX0_patch_18 : decode cX0_patch 18 = .ok (.ifCond .lt 9, 3) := by decide +kernel
theorem dX0_patch_21 : decode cX0_patch 21 = .ok (.iload_n 3, 1) := by decide +kernel
theorem dX0_patch_22 : decode cX0_patch 22 = .ok (.bipush 7, 2) := by decide +kernel
theorem dX0_patch_24 : decode cX0_patch 24 = .ok (.if_icmp .le 5, 3) := by decide +kernel
theorem dX0_patch_27 : decode cX0_patch 27 = .ok (.iconst (-1), 1) := by decide +kernel
theorem dX0_patch_28 : decode cX0_patch 28 = .ok (.ireturn, 1) := by decide +kernel
theorem dX0_patch_29 : decode cX0_patch 29 = .ok (.aload_n 0, 1) := by decide +kernel
theorem dX0_patch_30 : decode cX0_patch 30 = .ok (.aload_n 0, 1) := by decide +kernel
theorem dX0_patch_31 : decode cX0_patch 31 = .ok (.getfield 7, 3) := by decide +kernel
theorem dX0_patch_34 : decode cX0_patch 34 = .ok (.iload_n 1, 1) := by decide +kernel
theorem dX0_patch_35 : decode cX0_patch 35 = .ok (.iaload, 1) := by decide +kernel
theorem dX0_patch_36 : decode cX0_patch 36 = .ok (.invokevirtual 56, 3) := by decide +kernel
theorem dX0_patch_39 : decode cX0_patch 39 = .ok (.istore 4, 2) := by decide +kernel
theorem dX0_patch_41 : decode cX0_patch 41 = .ok (.iload 4, 2) := by decide +kernel
theorem dX0_patch_43 : decode cX0_patch 43 = .ok (.iconst 3, 1) := by decide +kernel
theorem dX0_patch_44 : decode cX0_patch 44 = .ok (.iload_n 2, 1) := by decide +kernel
theorem dX0_patch_45 : decode cX0_patch 45 = .ok (.imul, 1) := by decide +kernel
theorem dX0_patch_46 : decode cX0_patch 46 = .ok (.ishr, 1) := by decide +kernel
theorem dX0_patch_47 : decode cX0_patch 47 = .ok (.bipush 7, 2) := by decide +kernel
theorem dX0_patch_49 : decode cX0_patch 49 = .ok (.iand, 1) := by decide +kernel
theorem dX0_patch_50 : decode cX0_patch 50 = .ok (.istore 5, 2) := by decide +kernel
theorem dX0_patch_52 : decode cX0_patch 52 = .ok (.aload_n 0, 1) := by decide +kernel
theorem dX0_patch_53 : decode cX0_patch 53 = .ok (.iload_n 1, 1) := by decide +kernel
theorem dX0_patch_54 : decode cX0_patch 54 = .ok (.iload 4, 2) := by decide +kernel
theorem dX0_patch_56 : decode cX0_patch 56 = .ok (.bipush 7, 2) := by decide +kernel
theorem dX0_patch_58 : decode cX0_patch 58 = .ok (.iconst 3, 1) := by decide +kernel
theorem dX0_patch_59 : decode cX0_patch 59 = .ok (.iload_n 2, 1) := by decide +kernel
theorem dX0_patch_60 : decode cX0_patch 60 = .ok (.imul, 1) := by decide +kernel
theorem dX0_patch_61 : decode cX0_patch 61 = .ok (.ishl, 1) := by decide +kernel
theorem dX0_patch_62 : decode cX0_patch 62 = .ok (.iconst (-1), 1) := by decide +kernel
theorem dX0_patch_63 : decode cX0_patch 63 = .ok (.ixor, 1) := by decide +kernel
theorem dX0_patch_64 : decode cX0_patch 64 = .ok (.iand, 1) := by decide +kernel
theorem dX0_patch_65 : decode cX0_patch 65 = .ok (.iload_n 3, 1) := by decide +kernel
theorem dX0_patch_66 : decode cX0_patch 66 = .ok (.iconst 3, 1) := by decide +kernel
theorem dX0_patch_67 : decode cX0_patch 67 = .ok (.iload_n 2, 1) := by decide +kernel
theorem dX0_patch_68 : decode cX0_patch 68 = .ok (.imul, 1) := by decide +kernel
theorem dX0_patch_69 : decode cX0_patch 69 = .ok (.ishl, 1) := by decide +kernel
theorem dX0_patch_70 : decode cX0_patch 70 = .ok (.ior, 1) := by decide +kernel
theorem dX0_patch_71 : decode cX0_patch 71 = .ok (.invokevirtual 111, 3) := by decide +kernel
theorem dX0_patch_74 : decode cX0_patch 74 = .ok (.istore 6, 2) := by decide +kernel
theorem dX0_patch_76 : decode cX0_patch 76 = .ok (.iload 6, 2) := by decide +kernel
theorem dX0_patch_78 : decode cX0_patch 78 = .ok (.ifCond .ge 8, 3) := by decide +kernel
theorem dX0_patch_81 : decode cX0_patch 81 = .ok (.iload 6, 2) := by decide +kernel
theorem dX0_patch_83 : decode cX0_patch 83 = .ok (.goto 5, 3) := by decide +kernel
theorem dX0_patch_86 : decode cX0_patch 86 = .ok (.iload 5, 2) := by decide +kernel
theorem dX0_patch_88 : decode cX0_patch 88 = .ok (.ireturn, 1) := by decide +kernel
theorem pt_write {c : Int → Int} {n i d : Int} (hn : 0 ≤ n ∧ n ≤ 31) (hi : 0 ≤ i ∧ i ≤ 3) (hd : 0 ≤ d ∧ d ≤ 7) (hp : 0 ≤ ptc (c n) i d ∧ ptc (c n) i d ≤ 4095) : (sPatch c n i d).2 = (sWrite c n (ptc (c n) i d)).2 ∧ (∀ r : Int, r = (sWrite c n (ptc (c n) i d)).1 → r < 0 → c n ≥ 0 → r = (sPatch c n i d).1) ∧ (∀ r : Int, r = (sWrite c n (ptc (c n) i d)).1 → 0 ≤ r → dgt (c n) i.toNat = (sPatch c n i d).1) := by
  unfold sPatch sWrite
  rw [if_neg (show ¬ (n < 0 ∨ 31 < n ∨ i < 0 ∨ 3 < i ∨ d < 0 ∨ 7 < d) by omega), if_neg (show ¬ (n < 0 ∨ 31 < n ∨ ptc (c n) i d < 0 ∨ 4095 < ptc (c n) i d) by omega)]
  by_cases e : used (upF c n (ptc (c n) i d)) ≤ 48
  · rw [if_pos e, if_pos e]
    exact ⟨rfl, fun r h1 h2 h3 => absurd h2 (by rw [h1]; show ¬ c n < 0; omega), fun r _ _ => rfl⟩
  · rw [if_neg e, if_neg e]
    exact ⟨rfl, fun r h1 _ _ => h1, fun r h1 h2 => absurd h2 (by rw [h1]; show ¬ (0 : Int) ≤ -2; decide)⟩
set_option maxHeartbeats 4000000 in
theorem mX0_patch {τ : St} (n i d : Int) (r_n : -2147483648 ≤ n ∧ n ≤ 2147483647) (r_i : -2147483648 ≤ i ∧ i ≤ 2147483647) (r_d : -2147483648 ≤ d ∧ d ≤ 2147483647) {c : Int → Int} (hI : Iv τ c) : CtI 0 yX0_patch cX0_patch 7 5 .int [n, i, d] τ (fun r τ' => r = (sPatch c n i d).1 ∧ Iv τ' (sPatch c n i d).2) := by
  refine CtI.of (by decide) rfl (Nat.le_of_ble_eq_true rfl) (fun M h hr => ?_)
  show WX 0 M 0 [.inr 0, .inl n, .inl i, .inl d] [] τ
  have hI2 := hI
  obtain ⟨a, K, hL, hT, hH⟩ := hI2
  refine x_aload_n (q := 1) h dX0_patch_0 rfl rfl rfl ?_
  refine x_iload_n (q := 2) h dX0_patch_1 rfl rfl rfl ?_
  refine x_calli (q := 5) (xs := [n]) (st := []) h (mX0_bad n (by omega)) lkX0_bad rfl (by decide) (by decide) dX0_patch_2 rfl (by simp) rfl (fun z2 τ2 s2 r2 p2 => ?_)
  obtain ⟨rfl, p2⟩ := p2
  refine x_if_ne (tgt := 27) (q := 8) h dX0_patch_5 (by decide) rfl (by omega) (fun c5 => ?_) (fun c5 => ?_)
  · refine x_iconst (q := 28) h dX0_patch_27 rfl ?_
    exact x_iret h hr dX0_patch_28 (by omega) (⟨by unfold sPatch; rw [if_pos (by omega)], by unfold sPatch; rw [if_pos (by omega)]; exact hI⟩)
  · refine x_iload_n (q := 9) h dX0_patch_8 rfl rfl rfl ?_
    refine x_if_lt (tgt := 27) (q := 12) h dX0_patch_9 (by decide) rfl (by omega) (fun c9 => ?_) (fun c9 => ?_)
    · refine x_iconst (q := 28) h dX0_patch_27 rfl ?_
      exact x_iret h hr dX0_patch_28 (by omega) (⟨by unfold sPatch; rw [if_pos (by omega)], by unfold sPatch; rw [if_pos (by omega)]; exact hI⟩)
    · refine x_iload_n (q := 13) h dX0_patch_12 rfl rfl rfl ?_
      refine x_iconst (q := 14) h dX0_patch_13 rfl ?_
      refine x_icmp_gt (tgt := 27) (q := 17) h dX0_patch_14 (by decide) rfl (by omega) (by omega) (fun c14 => ?_) (fun c14 => ?_)
      · refine x_iconst (q := 28) h dX0_patch_27 rfl ?_
        exact x_iret h hr dX0_patch_28 (by omega) (⟨by unfold sPatch; rw [if_pos (by omega)], by unfold sPatch; rw [if_pos (by omega)]; exact hI⟩)
      · refine x_iload_n (q := 18) h dX0_patch_17 rfl rfl rfl ?_
        refine x_if_lt (tgt := 27) (q := 21) h dX0_patch_18 (by decide) rfl (by omega) (fun c18 => ?_) (fun c18 => ?_)
        · refine x_iconst (q := 28) h dX0_patch_27 rfl ?_
          exact x_iret h hr dX0_patch_28 (by omega) (⟨by unfold sPatch; rw [if_pos (by omega)], by unfold sPatch; rw [if_pos (by omega)]; exact hI⟩)
        · refine x_iload_n (q := 22) h dX0_patch_21 rfl rfl rfl ?_
          refine x_bipush (q := 24) h dX0_patch_22 rfl (by decide) ?_
          refine x_icmp_le (tgt := 29) (q := 27) h dX0_patch_24 (by decide) rfl (by omega) (by omega) (fun c24 => ?_) (fun c24 => ?_)
          · refine x_aload_n (q := 30) h dX0_patch_29 rfl rfl rfl ?_
            refine x_aload_n (q := 31) h dX0_patch_30 rfl rfl rfl ?_
            refine x0_geta (k := 0) (q := 34) h rfl q36 dX0_patch_31 rfl ?_
            refine x_iload_n (q := 35) h dX0_patch_34 rfl rfl rfl ?_
            refine x_iald (k := 0) (n := 32) (q := 36) h rfl dX0_patch_35 rfl (by omega) (fun v35 e35 l35 u35 => ?_)
            refine x_calli (q := 39) (xs := [v35]) (st := []) h (mX0_contentOf v35 (by omega) (z := c n) (blk_content hL hH (by omega) (by omega) e35)) lkX0_contentOf rfl (by decide) (by decide) dX0_patch_36 rfl (by simp) rfl (fun z36 τ36 s36 r36 p36 => ?_)
            obtain ⟨rfl, p36⟩ := p36
            have hv := Iv_ok hI n (by omega) (by omega)
            rw [← p36] at hv
            obtain ⟨g7, gd⟩ := sh_rg (i := i) (by omega) (by omega)
            have gd := gd d (by omega) (by omega)
            have hg := shr_rg (z := z36) hv.1 hv.2 (3 * i.toNat)
            have hp := ptc_rg (v := z36) (i := i) (d := d) hv.1 hv.2 (by omega) (by omega) (by omega) (by omega)
            have hdr := dgt_rg z36 i.toNat
            refine x_istore (q := 41) (vs' := [.inr 0, .inl n, .inl i, .inl d, .inl z36]) h dX0_patch_39 (by decide) (Nat.le_of_ble_eq_true rfl) rfl rfl ?_
            refine x_iload (q := 43) h dX0_patch_41 rfl rfl ?_
            refine x_iconst (q := 44) h dX0_patch_43 rfl ?_
            refine x_iload_n (q := 45) h dX0_patch_44 rfl rfl rfl ?_
            refine x_imul (q := 46) h dX0_patch_45 rfl ?_
            refine x_top (show (3 : Int) * i = ((3 * i.toNat : Nat) : Int) by omega) ?_
            refine x_ishr (q := 47) (z36 / 2 ^ (3 * i.toNat)) h dX0_patch_46 (jI_shr hv.1 (by omega) (by omega)) rfl ?_
            refine x_bipush (q := 49) h dX0_patch_47 rfl (by decide) ?_
            refine x_iand (q := 50) (dgt z36 i.toNat) h dX0_patch_49 (jI_and7 hg.1 (by omega)) rfl ?_
            refine x_istore (q := 52) (vs' := [.inr 0, .inl n, .inl i, .inl d, .inl z36, .inl (dgt z36 i.toNat)]) h dX0_patch_50 (by decide) (Nat.le_of_ble_eq_true rfl) rfl rfl ?_
            refine x_aload_n (q := 53) h dX0_patch_52 rfl rfl rfl ?_
            refine x_iload_n (q := 54) h dX0_patch_53 rfl rfl rfl ?_
            refine x_iload (q := 56) h dX0_patch_54 rfl rfl ?_
            refine x_bipush (q := 58) h dX0_patch_56 rfl (by decide) ?_
            refine x_iconst (q := 59) h dX0_patch_58 rfl ?_
            refine x_iload_n (q := 60) h dX0_patch_59 rfl rfl rfl ?_
            refine x_imul (q := 61) h dX0_patch_60 rfl ?_
            refine x_top (show (3 : Int) * i = ((3 * i.toNat : Nat) : Int) by omega) ?_
            refine x_ishl (q := 62) (7 * 2 ^ (3 * i.toNat)) h dX0_patch_61 (jI_shl (by omega) g7 (by omega)) rfl ?_
            refine x_iconst (q := 63) h dX0_patch_62 rfl ?_
            refine x_ixor (q := 64) (-1 - 7 * 2 ^ (3 * i.toNat)) h dX0_patch_63 (pt_xor i.toNat (by omega)) rfl ?_
            refine x_iand (q := 65) (z36 - dgt z36 i.toNat * 2 ^ (3 * i.toNat)) h dX0_patch_64 (pt_and' (by omega) hv.1 hv.2) rfl ?_
            refine x_iload_n (q := 66) h dX0_patch_65 rfl rfl rfl ?_
            refine x_iconst (q := 67) h dX0_patch_66 rfl ?_
            refine x_iload_n (q := 68) h dX0_patch_67 rfl rfl rfl ?_
            refine x_imul (q := 69) h dX0_patch_68 rfl ?_
            refine x_top (show (3 : Int) * i = ((3 * i.toNat : Nat) : Int) by omega) ?_
            refine x_ishl (q := 70) (d * 2 ^ (3 * i.toNat)) h dX0_patch_69 (jI_shl (by omega) gd.2 (by omega)) rfl ?_
            refine x_ior (q := 71) (ptc z36 i d) h dX0_patch_70 (pt_or (by omega) hv.1 hv.2 (by omega) (by omega)) rfl ?_
            refine x_calli (q := 74) (xs := [n, (ptc z36 i d)]) (st := []) h (mX0_write n (ptc z36 i d) (by omega) (by omega) (c := c) hI) lkX0_write rfl (by decide) (by decide) dX0_patch_71 rfl (by simp) rfl (fun z71 τ71 s71 r71 p71 => ?_)
            have hw := pt_write (c := c) (n := n) (i := i) (d := d) (by omega) (by omega) (by omega) (by rw [← p36]; exact hp)
            rw [← p36] at hw
            refine x_istore (q := 76) (vs' := [.inr 0, .inl n, .inl i, .inl d, .inl z36, .inl (dgt z36 i.toNat), .inl z71]) h dX0_patch_74 (by decide) (Nat.le_of_ble_eq_true rfl) rfl rfl ?_
            refine x_iload (q := 78) h dX0_patch_76 rfl rfl ?_
            refine x_if_ge (tgt := 86) (q := 81) h dX0_patch_78 (by decide) rfl (by omega) (fun c78 => ?_) (fun c78 => ?_)
            · refine x_iload (q := 88) h dX0_patch_86 rfl rfl ?_
              refine x_iret h hr dX0_patch_88 (by omega) ?_
              exact ⟨hw.2.2 _ p71.1 (by omega), by rw [hw.1]; exact p71.2⟩
            · refine x_iload (q := 83) h dX0_patch_81 rfl rfl ?_
              refine x_goto (tgt := 88) h dX0_patch_83 (by decide) ?_
              refine x_iret h hr dX0_patch_88 (by omega) ?_
              exact ⟨hw.2.1 _ p71.1 (by omega) (by omega), by rw [hw.1]; exact p71.2⟩
          · refine x_iconst (q := 28) h dX0_patch_27 rfl ?_
            exact x_iret h hr dX0_patch_28 (by omega) (⟨by unfold sPatch; rw [if_pos (by omega)], by unfold sPatch; rw [if_pos (by omega)]; exact hI⟩)
end
section
/-! DedupBlocks: the other calls -/
set_option maxRecDepth 100000
theorem sm_s (f : Int → Int) (n : Nat) : sm f (n + 1) = sm f n + f n := rfl
theorem dX0_spread_0 : decode cX0_spread 0 = .ok (.aload_n 0, 1) := by decide +kernel
theorem dX0_spread_1 : decode cX0_spread 1 = .ok (.iload_n 1, 1) := by decide +kernel
theorem dX0_spread_2 : decode cX0_spread 2 = .ok (.invokevirtual 98, 3) := by decide +kernel
theorem dX0_spread_5 : decode cX0_spread 5 = .ok (.ifCond .ne 22, 3) := by decide +kernel
theorem dX0_spread_8 : decode cX0_spread 8 = .ok (.aload_n 0, 1) := by decide +kernel
theorem dX0_spread_9 : decode cX0_spread 9 = .ok (.iload_n 2, 1) := by decide +kernel
theorem dX0_spread_10 : decode cX0_spread 10 = .ok (.invokevirtual 98, 3) := by decide +kernel
theorem dX0_spread_13 : decode cX0_spread 13 = .ok (.ifCond .ne 14, 3) := by decide +kernel
theorem dX0_spread_16 : decode cX0_spread 16 = .ok (.iload_n 3, 1) := by decide +kernel
theorem dX0_spread_17 : decode cX0_spread 17 = .ok (.iconst 1, 1) := by decide +kernel
theorem dX0_spread_18 : decode cX0_spread 18 = .ok (.if_icmp .lt 9, 3) := by decide +kernel
theorem dX0_spread_21 : decode cX0_spread 21 = .ok (.iload_n 3, 1) := by decide +kernel
theorem dX0_spread_22 : decode cX0_spread 22 = .ok (.bipush 8, 2) := by decide +kernel
theorem dX0_spread_24 : decode cX0_spread 24 = .ok (.if_icmp .le 5, 3) := by decide +kernel
theorem dX0_spread_27 : decode cX0_spread 27 = .ok (.iconst (-1), 1) := by decide +kernel
theorem dX0_spread_28 : decode cX0_spread 28 = .ok (.ireturn, 1) := by decide +kernel
theorem dX0_spread_29 : decode cX0_spread 29 = .ok (.aload_n 0, 1) := by decide +kernel
theorem dX0_spread_30 : decode cX0_spread 30 = .ok (.aload_n 0, 1) := by decide +kernel
theorem dX0_spread_31 : decode cX0_spread 31 = .ok (.getfield 7, 3) := by decide +kernel
theorem dX0_spread_34 : decode cX0_spread 34 = .ok (.iload_n 2, 1) := by decide +kernel
theorem dX0_spread_35 : decode cX0_spread 35 = .ok (.iaload, 1) := by decide +kernel
theorem dX0_spread_36 : decode cX0_spread 36 = .ok (.invokevirtual 56, 3) := by decide +kernel
theorem dX0_spread_39 : decode cX0_spread 39 = .ok (.istore 4, 2) := by decide +kernel
theorem dX0_spread_41 : decode cX0_spread 41 = .ok (.iconst 0, 1) := by decide +kernel
theorem dX0_spread_42 : decode cX0_spread 42 = .ok (.istore 5, 2) := by decide +kernel
theorem dX0_spread_44 : decode cX0_spread 44 = .ok (.iload_n 1, 1) := by decide +kernel
theorem dX0_spread_45 : decode cX0_spread 45 = .ok (.istore 6, 2) := by decide +kernel
theorem dX0_spread_47 : decode cX0_spread 47 = .ok (.iload 6, 2) := by decide +kernel
theorem dX0_spread_49 : decode cX0_spread 49 = .ok (.iload_n 1, 1) := by decide +kernel
theorem dX0_spread_50 : decode cX0_spread 50 = .ok (.iload_n 3, 1) := by decide +kernel
theorem dX0_spread_51 : decode cX0_spread 51 = .ok (.iadd, 1) := by decide +kernel
theorem dX0_spread_52 : decode cX0_spread 52 = .ok (.if_icmp .ge 46, 3) := by decide +kernel
theorem dX0_spread_55 : decode cX0_spread 55 = .ok (.iload 6, 2) := by decide +kernel
theorem dX0_spread_57 : decode cX0_spread 57 = .ok (.iconst 3, 1) := by decide +kernel
theorem dX0_spread_58 : decode cX0_spread 58 = .ok (.ishr, 1) := by decide +kernel
theorem dX0_spread_59 : decode cX0_spread 59 = .ok (.iload_n 1, 1) := by decide +kernel
theorem dX0_spread_60 : decode cX0_spread 60 = .ok (.iconst 3, 1) := by decide +kernel
theorem dX0_spread_61 : decode cX0_spread 61 = .ok (.ishr, 1) := by decide +kernel
theorem dX0_spread_62 : decode cX0_spread 62 = .ok (.if_icmp .ne 36, 3) := by decide +kernel
theorem dX0_spread_65 : decode cX0_spread 65 = .ok (.aload_n 0, 1) := by decide +kernel
theorem dX0_spread_66 : decode cX0_spread 66 = .ok (.aload_n 0, 1) := by decide +kernel
theorem dX0_spread_67 : decode cX0_spread 67 = .ok (.getfield 7, 3) := by decide +kernel
theorem dX0_spread_70 : decode cX0_spread 70 = .ok (.iload 6, 2) := by decide +kernel
theorem dX0_spread_72 : decode cX0_spread 72 = .ok (.iaload, 1) := by decide +kernel
theorem dX0_spread_73 : decode cX0_spread 73 = .ok (.invokevirtual 56, 3) := by decide +kernel
theorem dX0_spread_76 : decode cX0_spread 76 = .ok (.iload 4, 2) := by decide +kernel
theorem dX0_spread_78 : decode cX0_spread 78 = .ok (.if_icmp .eq 11, 3) := by decide +kernel
theorem dX0_spread_81 : decode cX0_spread 81 = .ok (.aload_n 0, 1) := by decide +kernel
theorem dX0_spread_82 : decode cX0_spread 82 = .ok (.iload 6, 2) := by decide +kernel
theorem dX0_spread_84 : decode cX0_spread 84 = .ok (.iload 4, 2) := by decide +kernel
theorem dX0_spread_86 : decode cX0_spread 86 = .ok (.invokevirtual 108, 3) := by decide +kernel
theorem dX0_spread_89 : decode cX0_spread 89 = .ok (.iinc 5 1, 3) := by decide +kernel
theorem dX0_spread_92 : decode cX0_spread 92 = .ok (.iinc 6 1, 3) := by decide +kernel
theorem dX0_spread_95 : decode cX0_spread 95 = .ok (.goto (-48), 3) := by decide +kernel
theorem dX0_spread_98 : decode cX0_spread 98 = .ok (.iload 5, 2) := by decide +kernel
theorem dX0_spread_100 : decode cX0_spread 100 = .ok (.ireturn, 1) := by decide +kernel
set_option maxHeartbeats 4000000 in
theorem lpX0_spread {M : Mx} {c : Int → Int} {n m many z : Int} {Po : Int → St → Prop} (hz : 0 ≤ z ∧ z ≤ 4095) (hzm : c m = z) (hn : 0 ≤ n ∧ n ≤ 31) (hm : 0 ≤ m ∧ m ≤ 31) (hmany : 1 ≤ many ∧ many ≤ 8) (h : Cx 0 M cX0_spread 7 4) (hr : RtI 0 M .int Po) (hp : ∀ (r : Int) (τ' : St), r = spE n many - n → Iv τ' (fil c n (spE n many) z) → Po r τ') : ∀ (k : Nat) (x s : Int) (σ : St), n ≤ x → x ≤ spE n many → s = x - n → spE n many - x < k → Iv σ (fil c n x z) → WX 0 M 47 [.inr 0, .inl n, .inl m, .inl many, .inl z, .inl s, .inl x] [] σ := by
  intro k
  induction k with
  | zero => intro x s σ h1 h2 h3; omega
  | succ k ih =>
    intro x s σ hx hsp hs2 hk hI
    have hsp9 : spE n many ≤ 8 * (n / 8) + 8 ∧ spE n many ≤ n + many := by unfold spE; split <;> omega
    refine x_iload (q := 49) h dX0_spread_47 rfl rfl ?_
    refine x_iload_n (q := 50) h dX0_spread_49 rfl rfl rfl ?_
    refine x_iload_n (q := 51) h dX0_spread_50 rfl rfl rfl ?_
    refine x_iadd (q := 52) h dX0_spread_51 rfl ?_
    refine x_icmp_ge (tgt := 98) (q := 55) h dX0_spread_52 (by decide) rfl (by omega) (by omega) (fun c52 => ?_) (fun c52 => ?_)
    · have hxe : x = spE n many := by unfold spE at hsp ⊢; split at hsp <;> omega
      subst hxe
      refine x_iload (q := 100) h dX0_spread_98 rfl rfl ?_
      exact x_iret h hr dX0_spread_100 (by omega) (hp _ _ (by omega) hI)
    · refine x_iload (q := 57) h dX0_spread_55 rfl rfl ?_
      refine x_iconst (q := 58) h dX0_spread_57 rfl ?_
      refine x_ishr (q := 59) (x / 2 ^ 3) h dX0_spread_58 (jI_shr (k := 3) (by omega) (by omega) (by decide)) rfl ?_
      refine x_iload_n (q := 60) h dX0_spread_59 rfl rfl rfl ?_
      refine x_iconst (q := 61) h dX0_spread_60 rfl ?_
      refine x_ishr (q := 62) (n / 2 ^ 3) h dX0_spread_61 (jI_shr (k := 3) (by omega) (by omega) (by decide)) rfl ?_
      refine x_icmp_ne (tgt := 98) (q := 65) h dX0_spread_62 (by decide) rfl (by omega) (by omega) (fun c62 => ?_) (fun c62 => ?_)
      · have hxe : x = spE n many := by unfold spE at hsp ⊢; split at hsp <;> omega
        subst hxe
        refine x_iload (q := 100) h dX0_spread_98 rfl rfl ?_
        exact x_iret h hr dX0_spread_100 (by omega) (hp _ _ (by omega) hI)
      · have hI2 := hI
        obtain ⟨a, K, hL, hT, hH⟩ := hI2
        have hok := Iv_ok hI x (by omega) (by omega)
        have e9 : fil c n (x + 1) z = upF (fil c n x z) x z := by
          funext j
          unfold upF fil
          by_cases e : j = x
          · rw [if_pos e, if_pos (by omega)]
          · rw [if_neg e]
            by_cases e2 : n ≤ j ∧ j < x
            · rw [if_pos e2, if_pos (by omega)]
            · rw [if_neg e2, if_neg (by omega)]
        refine x_aload_n (q := 66) h dX0_spread_65 rfl rfl rfl ?_
        refine x_aload_n (q := 67) h dX0_spread_66 rfl rfl rfl ?_
        refine x0_geta (k := 0) (q := 70) h rfl q36 dX0_spread_67 rfl ?_
        refine x_iload (q := 72) h dX0_spread_70 rfl rfl ?_
        refine x_iald (k := 0) (n := 32) (q := 73) h rfl dX0_spread_72 rfl (by omega) (fun v72 e72 l72 u72 => ?_)
        refine x_calli (q := 76) (xs := [v72]) (st := []) h (mX0_contentOf v72 (by omega) (z := fil c n x z x) (blk_content hL hH (by omega) (by omega) e72)) lkX0_contentOf rfl (by decide) (by decide) dX0_spread_73 rfl (by simp) rfl (fun z73 τ73 s73 r73 p73 => ?_)
        obtain ⟨rfl, p73⟩ := p73
        refine x_iload (q := 78) h dX0_spread_76 rfl rfl ?_
        refine x_icmp_eq (tgt := 89) (q := 81) h dX0_spread_78 (by decide) rfl (by omega) (by omega) (fun c78 => ?_) (fun c78 => ?_)
        · refine x_iinc (q := 92) (vs' := [.inr 0, .inl n, .inl m, .inl many, .inl z, .inl (s + 1), .inl x]) h dX0_spread_89 (by decide) rfl rfl rfl ?_
          refine x_iinc (q := 95) (vs' := [.inr 0, .inl n, .inl m, .inl many, .inl z, .inl (s + 1), .inl (x + 1)]) h dX0_spread_92 (by decide) rfl rfl rfl ?_
          refine x_goto (tgt := 47) h dX0_spread_95 (by decide) ?_
          refine ih _ _ _ (by omega) (by unfold spE at hsp ⊢; split at hsp <;> omega) (by omega) (by omega) ?_
          refine Iv_congr hI (fun j a1 a2 => ?_)
          rw [e9]
          unfold upF
          by_cases e : j = x
          · rw [if_pos e, e, ← p73]; exact c78.symm
          · rw [if_neg e]
        · refine x_aload_n (q := 82) h dX0_spread_81 rfl rfl rfl ?_
          refine x_iload (q := 84) h dX0_spread_82 rfl rfl ?_
          refine x_iload (q := 86) h dX0_spread_84 rfl rfl ?_
          refine x_callv (q := 89) (xs := [x, z]) (st := []) h (mX0_hold x z (by omega) hz (c := fil c n x z) hI (Or.inr (Or.inl ⟨m, by omega, by omega, by unfold fil; rw [hzm, ite_self], by rw [← p73]; exact c78⟩))) lkX0_hold rfl (by decide) (by decide) dX0_spread_86 rfl (by simp) rfl (fun τ86 s86 p86 => ?_)
          refine x_iinc (q := 92) (vs' := [.inr 0, .inl n, .inl m, .inl many, .inl z, .inl (s + 1), .inl x]) h dX0_spread_89 (by decide) rfl rfl rfl ?_
          refine x_iinc (q := 95) (vs' := [.inr 0, .inl n, .inl m, .inl many, .inl z, .inl (s + 1), .inl (x + 1)]) h dX0_spread_92 (by decide) rfl rfl rfl ?_
          refine x_goto (tgt := 47) h dX0_spread_95 (by decide) ?_
          refine ih _ _ _ (by omega) (by unfold spE at hsp ⊢; split at hsp <;> omega) (by omega) (by omega) ?_
          rw [e9]; exact p86
set_option maxHeartbeats 4000000 in
theorem mX0_spread {τ : St} (n m many : Int) (r_n : -2147483648 ≤ n ∧ n ≤ 2147483647) (r_m : -2147483648 ≤ m ∧ m ≤ 2147483647) (r_many : -2147483648 ≤ many ∧ many ≤ 2147483647) {c : Int → Int} (hI : Iv τ c) : CtI 0 yX0_spread cX0_spread 7 4 .int [n, m, many] τ (fun r τ' => r = (sSpread c n m many).1 ∧ Iv τ' (sSpread c n m many).2) := by
  refine CtI.of (by decide) rfl (Nat.le_of_ble_eq_true rfl) (fun M h hr => ?_)
  show WX 0 M 0 [.inr 0, .inl n, .inl m, .inl many] [] τ
  refine x_aload_n (q := 1) h dX0_spread_0 rfl rfl rfl ?_
  refine x_iload_n (q := 2) h dX0_spread_1 rfl rfl rfl ?_
  refine x_calli (q := 5) (xs := [n]) (st := []) h (mX0_bad n (by omega)) lkX0_bad rfl (by decide) (by decide) dX0_spread_2 rfl (by simp) rfl (fun z2 τ2 s2 r2 p2 => ?_)
  obtain ⟨rfl, p2⟩ := p2
  refine x_if_ne (tgt := 27) (q := 8) h dX0_spread_5 (by decide) rfl (by omega) (fun c5 => ?_) (fun c5 => ?_)
  · refine x_iconst (q := 28) h dX0_spread_27 rfl ?_
    exact x_iret h hr dX0_spread_28 (by omega) (⟨by unfold sSpread; rw [if_pos (by omega)], by unfold sSpread; rw [if_pos (by omega)]; exact hI⟩)
  · refine x_aload_n (q := 9) h dX0_spread_8 rfl rfl rfl ?_
    refine x_iload_n (q := 10) h dX0_spread_9 rfl rfl rfl ?_
    refine x_calli (q := 13) (xs := [m]) (st := []) h (mX0_bad m (by omega)) lkX0_bad rfl (by decide) (by decide) dX0_spread_10 rfl (by simp) rfl (fun z10 τ10 s10 r10 p10 => ?_)
    obtain ⟨rfl, p10⟩ := p10
    refine x_if_ne (tgt := 27) (q := 16) h dX0_spread_13 (by decide) rfl (by omega) (fun c13 => ?_) (fun c13 => ?_)
    · refine x_iconst (q := 28) h dX0_spread_27 rfl ?_
      exact x_iret h hr dX0_spread_28 (by omega) (⟨by unfold sSpread; rw [if_pos (by omega)], by unfold sSpread; rw [if_pos (by omega)]; exact hI⟩)
    · refine x_iload_n (q := 17) h dX0_spread_16 rfl rfl rfl ?_
      refine x_iconst (q := 18) h dX0_spread_17 rfl ?_
      refine x_icmp_lt (tgt := 27) (q := 21) h dX0_spread_18 (by decide) rfl (by omega) (by omega) (fun c18 => ?_) (fun c18 => ?_)
      · refine x_iconst (q := 28) h dX0_spread_27 rfl ?_
        exact x_iret h hr dX0_spread_28 (by omega) (⟨by unfold sSpread; rw [if_pos (by omega)], by unfold sSpread; rw [if_pos (by omega)]; exact hI⟩)
      · refine x_iload_n (q := 22) h dX0_spread_21 rfl rfl rfl ?_
        refine x_bipush (q := 24) h dX0_spread_22 rfl (by decide) ?_
        refine x_icmp_le (tgt := 29) (q := 27) h dX0_spread_24 (by decide) rfl (by omega) (by omega) (fun c24 => ?_) (fun c24 => ?_)
        · refine x_aload_n (q := 30) h dX0_spread_29 rfl rfl rfl ?_
          refine x_aload_n (q := 31) h dX0_spread_30 rfl rfl rfl ?_
          refine x0_geta (k := 0) (q := 34) h rfl q36 dX0_spread_31 rfl ?_
          refine x_iload_n (q := 35) h dX0_spread_34 rfl rfl rfl ?_
          refine x_iald (k := 0) (n := 32) (q := 36) h rfl dX0_spread_35 rfl (by omega) (fun v35 e35 l35 u35 => ?_)
          have hI2 := hI
          obtain ⟨a, K, hL, hT, hH⟩ := hI2
          have hok := Iv_ok hI m (by omega) (by omega)
          refine x_calli (q := 39) (xs := [v35]) (st := []) h (mX0_contentOf v35 (by omega) (z := c m) (blk_content hL hH (by omega) (by omega) e35)) lkX0_contentOf rfl (by decide) (by decide) dX0_spread_36 rfl (by simp) rfl (fun z36 τ36 s36 r36 p36 => ?_)
          obtain ⟨rfl, p36⟩ := p36
          refine x_istore (q := 41) (vs' := [.inr 0, .inl n, .inl m, .inl many, .inl z36]) h dX0_spread_39 (by decide) (Nat.le_of_ble_eq_true rfl) rfl rfl ?_
          refine x_iconst (q := 42) h dX0_spread_41 rfl ?_
          refine x_istore (q := 44) (vs' := [.inr 0, .inl n, .inl m, .inl many, .inl z36, .inl 0]) h dX0_spread_42 (by decide) (Nat.le_of_ble_eq_true rfl) rfl rfl ?_
          refine x_iload_n (q := 45) h dX0_spread_44 rfl rfl rfl ?_
          refine x_istore (q := 47) (vs' := [.inr 0, .inl n, .inl m, .inl many, .inl z36, .inl 0, .inl n]) h dX0_spread_45 (by decide) (Nat.le_of_ble_eq_true rfl) rfl rfl ?_
          refine lpX0_spread (c := c) (by omega) p36.symm (by omega) (by omega) (by omega) h hr ?_ 33 _ _ τ (by omega) (by unfold spE; split <;> omega) (by omega) (by unfold spE; split <;> omega) (Iv_congr hI (fun j a1 a2 => by unfold fil; rw [if_neg (by omega)]))
          intro r τ' a1 a2
          unfold sSpread
          rw [if_neg (by omega)]
          rw [p36] at a2
          exact ⟨a1, a2⟩
        · refine x_iconst (q := 28) h dX0_spread_27 rfl ?_
          exact x_iret h hr dX0_spread_28 (by omega) (⟨by unfold sSpread; rw [if_pos (by omega)], by unfold sSpread; rw [if_pos (by omega)]; exact hI⟩)

theorem dX0_clone_0 : decode cX0_clone 0 = .ok (.aload_n 0, 1) := by decide +kernel
theorem dX0_clone_1 : decode cX0_clone 1 = .ok (.iload_n 1, 1) := by decide +kernel
theorem dX0_clone_2 : decode cX0_clone 2 = .ok (.invokevirtual 115, 3) := by decide +kernel
theorem dX0_clone_5 : decode cX0_clone 5 = .ok (.ifCond .ne 11, 3) := by decide +kernel
theorem dX0_clone_8 : decode cX0_clone 8 = .ok (.aload_n 0, 1) := by decide +kernel
theorem dX0_clone_9 : decode cX0_clone 9 = .ok (.iload_n 2, 1) := by decide +kernel
theorem dX0_clone_10 : decode cX0_clone 10 = .ok (.invokevirtual 115, 3) := by decide +kernel
theorem dX0_clone_13 : decode cX0_clone 13 = .ok (.ifCond .eq 5, 3) := by decide +kernel
theorem dX0_clone_16 : decode cX0_clone 16 = .ok (.iconst (-1), 1) := by decide +kernel
theorem dX0_clone_17 : decode cX0_clone 17 = .ok (.ireturn, 1) := by decide +kernel
theorem dX0_clone_18 : decode cX0_clone 18 = .ok (.iconst 0, 1) := by decide +kernel
theorem dX0_clone_19 : decode cX0_clone 19 = .ok (.istore_n 3, 1) := by decide +kernel
theorem dX0_clone_20 : decode cX0_clone 20 = .ok (.iconst 0, 1) := by decide +kernel
theorem dX0_clone_21 : decode cX0_clone 21 = .ok (.istore 4, 2) := by decide +kernel
theorem dX0_clone_23 : decode cX0_clone 23 = .ok (.iload 4, 2) := by decide +kernel
theorem dX0_clone_25 : decode cX0_clone 25 = .ok (.bipush 8, 2) := by decide +kernel
theorem dX0_clone_27 : decode cX0_clone 27 = .ok (.if_icmp .ge 70, 3) := by decide +kernel
theorem dX0_clone_30 : decode cX0_clone 30 = .ok (.aload_n 0, 1) := by decide +kernel
theorem dX0_clone_31 : decode cX0_clone 31 = .ok (.getfield 7, 3) := by decide +kernel
theorem dX0_clone_34 : decode cX0_clone 34 = .ok (.iload_n 1, 1) := by decide +kernel
theorem dX0_clone_35 : decode cX0_clone 35 = .ok (.bipush 8, 2) := by decide +kernel
theorem dX0_clone_37 : decode cX0_clone 37 = .ok (.imul, 1) := by decide +kernel
theorem dX0_clone_38 : decode cX0_clone 38 = .ok (.iload 4, 2) := by decide +kernel
theorem dX0_clone_40 : decode cX0_clone 40 = .ok (.iadd, 1) := by decide +kernel
theorem dX0_clone_41 : decode cX0_clone 41 = .ok (.iaload, 1) := by decide +kernel
theorem dX0_clone_42 : decode cX0_clone 42 = .ok (.aload_n 0, 1) := by decide +kernel
theorem dX0_clone_43 : decode cX0_clone 43 = .ok (.getfield 7, 3) := by decide +kernel
theorem dX0_clone_46 : decode cX0_clone 46 = .ok (.iload_n 2, 1) := by decide +kernel
theorem dX0_clone_47 : decode cX0_clone 47 = .ok (.bipush 8, 2) := by decide +kernel
theorem dX0_clone_49 : decode cX0_clone 49 = .ok (.imul, 1) := by decide +kernel
theorem dX0_clone_50 : decode cX0_clone 50 = .ok (.iload 4, 2) := by decide +kernel
theorem dX0_clone_52 : decode cX0_clone 52 = .ok (.iadd, 1) := by decide +kernel
theorem dX0_clone_53 : decode cX0_clone 53 = .ok (.iaload, 1) := by decide +kernel
theorem dX0_clone_54 : decode cX0_clone 54 = .ok (.if_icmp .eq 37, 3) := by decide +kernel
theorem dX0_clone_57 : decode cX0_clone 57 = .ok (.aload_n 0, 1) := by decide +kernel
theorem dX0_clone_58 : decode cX0_clone 58 = .ok (.aload_n 0, 1) := by decide +kernel
theorem dX0_clone_59 : decode cX0_clone 59 = .ok (.getfield 7, 3) := by decide +kernel
theorem dX0_clone_62 : decode cX0_clone 62 = .ok (.iload_n 2, 1) := by decide +kernel
theorem dX0_clone_63 : decode cX0_clone 63 = .ok (.bipush 8, 2) := by decide +kernel
theorem dX0_clone_65 : decode cX0_clone 65 = .ok (.imul, 1) := by decide +kernel
theorem dX0_clone_66 : decode cX0_clone 66 = .ok (.iload 4, 2) := by decide +kernel
theorem dX0_clone_68 : decode cX0_clone 68 = .ok (.iadd, 1) := by decide +kernel
theorem dX0_clone_69 : decode cX0_clone 69 = .ok (.iaload, 1) := by decide +kernel
theorem dX0_clone_70 : decode cX0_clone 70 = .ok (.invokevirtual 56, 3) := by decide +kernel
theorem dX0_clone_73 : decode cX0_clone 73 = .ok (.istore 5, 2) := by decide +kernel
theorem dX0_clone_75 : decode cX0_clone 75 = .ok (.aload_n 0, 1) := by decide +kernel
theorem dX0_clone_76 : decode cX0_clone 76 = .ok (.iload_n 1, 1) := by decide +kernel
theorem dX0_clone_77 : decode cX0_clone 77 = .ok (.bipush 8, 2) := by decide +kernel
theorem dX0_clone_79 : decode cX0_clone 79 = .ok (.imul, 1) := by decide +kernel
theorem dX0_clone_80 : decode cX0_clone 80 = .ok (.iload 4, 2) := by decide +kernel
theorem dX0_clone_82 : decode cX0_clone 82 = .ok (.iadd, 1) := by decide +kernel
theorem dX0_clone_83 : decode cX0_clone 83 = .ok (.iload 5, 2) := by decide +kernel
theorem dX0_clone_85 : decode cX0_clone 85 = .ok (.invokevirtual 108, 3) := by decide +kernel
theorem dX0_clone_88 : decode cX0_clone 88 = .ok (.iinc 3 1, 3) := by decide +kernel
theorem dX0_clone_91 : decode cX0_clone 91 = .ok (.iinc 4 1, 3) := by decide +kernel
theorem dX0_clone_94 : decode cX0_clone 94 = .ok (.goto (-71), 3) := by decide +kernel
theorem dX0_clone_97 : decode cX0_clone 97 = .ok (.iload_n 3, 1) := by decide +kernel
theorem dX0_clone_98 : decode cX0_clone 98 = .ok (.ireturn, 1) := by decide +kernel
set_option maxHeartbeats 4000000 in
theorem lpX0_clone {M : Mx} {c : Int → Int} {v w : Int} {Po : Int → St → Prop} (hv : 0 ≤ v ∧ v ≤ 3) (hw : 0 ≤ w ∧ w ≤ 3) (h : Cx 0 M cX0_clone 6 4) (hr : RtI 0 M .int Po) (hp : ∀ (r : Int) (τ' : St), r = dfV c v w 8 → Iv τ' (cpV c v w 8) → Po r τ') : ∀ (k b : Nat) (x s : Int) (σ : St), x = b → b ≤ 8 → 8 < b + k → Iv σ (cpV c v w b) → s = dfV c v w b → WX 0 M 23 [.inr 0, .inl v, .inl w, .inl s, .inl x] [] σ := by
  intro k
  induction k with
  | zero => intro b x s σ h1 h2 h3; omega
  | succ k ih =>
    intro b x s σ hx hb hk hI hs2
    have g0 := sm_le (f := fun _ => 0) (g := fun j => if c (8 * v + j) = c (8 * w + j) then 0 else 1) b (fun j _ _ => by show (0 : Int) ≤ if c (8 * v + j) = c (8 * w + j) then 0 else 1; split <;> decide)
    have g1 := sm_le (f := fun j => if c (8 * v + j) = c (8 * w + j) then 0 else 1) (g := fun _ => 1) b (fun j _ _ => by show (if c (8 * v + j) = c (8 * w + j) then (0 : Int) else 1) ≤ 1; split <;> decide)
    rw [sm_const] at g0 g1
    have hs3 : s = sm (fun j => if c (8 * v + j) = c (8 * w + j) then 0 else 1) b := hs2
    refine x_iload (q := 25) h dX0_clone_23 rfl rfl ?_
    refine x_bipush (q := 27) h dX0_clone_25 rfl (by decide) ?_
    refine x_icmp_ge (tgt := 97) (q := 30) h dX0_clone_27 (by decide) rfl (by omega) (by omega) (fun c27 => ?_) (fun c27 => ?_)
    · refine x_iload_n (q := 98) h dX0_clone_97 rfl rfl rfl ?_
      exact x_iret h hr dX0_clone_98 (by omega) (hp _ _ (by rw [hs2, show b = 8 by omega]) (by rw [show b = 8 by omega] at hI; exact hI))
    · have hI2 := hI
      obtain ⟨a, K, hL, hT, hH⟩ := hI2
      have hHK := HK_of hL hT hH
      have hc1 : cpV c v w b (v * 8 + x) = c (8 * v + b) := by unfold cpV; rw [if_neg (by omega)]; congr 1; omega
      have hc2 : cpV c v w b (w * 8 + x) = c (8 * w + b) := by unfold cpV; rw [if_neg (by omega)]; congr 1; omega
      have hiff : c (8 * v + b) = c (8 * w + b) ↔ σ 0 (v * 8 + x) = σ 0 (w * 8 + x) := by rw [← hc1, ← hc2]; exact HK_eq hHK (by omega) (by omega) (by omega) (by omega)
      have hok := Iv_ok hI (w * 8 + x) (by omega) (by omega)
      rw [hc2] at hok
      have e9 : cpV c v w ((b + 1 : Nat) : Int) = upF (cpV c v w b) (v * 8 + x) (c (8 * w + b)) := by
        funext j
        unfold upF cpV
        by_cases e : j = v * 8 + x
        · rw [if_pos e, if_pos (by omega)]; congr 1; omega
        · rw [if_neg e]
          by_cases e2 : 8 * v ≤ j ∧ j < 8 * v + b
          · rw [if_pos e2, if_pos (by omega)]
          · rw [if_neg e2, if_neg (by omega)]
      refine x_aload_n (q := 31) h dX0_clone_30 rfl rfl rfl ?_
      refine x0_geta (k := 0) (q := 34) h rfl q36 dX0_clone_31 rfl ?_
      refine x_iload_n (q := 35) h dX0_clone_34 rfl rfl rfl ?_
      refine x_bipush (q := 37) h dX0_clone_35 rfl (by decide) ?_
      refine x_imul (q := 38) h dX0_clone_37 rfl ?_
      refine x_iload (q := 40) h dX0_clone_38 rfl rfl ?_
      refine x_iadd (q := 41) h dX0_clone_40 rfl ?_
      refine x_iald (k := 0) (n := 32) (q := 42) h rfl dX0_clone_41 rfl (by omega) (fun v41 e41 l41 u41 => ?_)
      refine x_aload_n (q := 43) h dX0_clone_42 rfl rfl rfl ?_
      refine x0_geta (k := 0) (q := 46) h rfl q36 dX0_clone_43 rfl ?_
      refine x_iload_n (q := 47) h dX0_clone_46 rfl rfl rfl ?_
      refine x_bipush (q := 49) h dX0_clone_47 rfl (by decide) ?_
      refine x_imul (q := 50) h dX0_clone_49 rfl ?_
      refine x_iload (q := 52) h dX0_clone_50 rfl rfl ?_
      refine x_iadd (q := 53) h dX0_clone_52 rfl ?_
      refine x_iald (k := 0) (n := 32) (q := 54) h rfl dX0_clone_53 rfl (by omega) (fun v53 e53 l53 u53 => ?_)
      refine x_icmp_eq (tgt := 91) (q := 57) h dX0_clone_54 (by decide) rfl (by omega) (by omega) (fun c54 => ?_) (fun c54 => ?_)
      · refine x_iinc (q := 94) (vs' := [.inr 0, .inl v, .inl w, .inl s, .inl (x + 1)]) h dX0_clone_91 (by decide) rfl rfl rfl ?_
        refine x_goto (tgt := 23) h dX0_clone_94 (by decide) ?_
        refine x_drop (vs' := [.inr 0, .inl v, .inl w, .inl s, .inl (x + 1)]) 5 rfl ?_
        have hq := hiff.mpr (by rw [← e41, ← e53]; exact c54)
        refine ih (b + 1) _ _ _ (by omega) (by omega) (by omega) (Iv_congr hI (fun j a1 a2 => ?_)) ?_
        · rw [e9]
          unfold upF
          by_cases e : j = v * 8 + x
          · rw [if_pos e, e, hc1]; exact hq.symm
          · rw [if_neg e]
        · simp only [dfV, sm]
          rw [if_pos hq]
          unfold dfV at hs2; omega
      · refine x_aload_n (q := 58) h dX0_clone_57 rfl rfl rfl ?_
        refine x_aload_n (q := 59) h dX0_clone_58 rfl rfl rfl ?_
        refine x0_geta (k := 0) (q := 62) h rfl q36 dX0_clone_59 rfl ?_
        refine x_iload_n (q := 63) h dX0_clone_62 rfl rfl rfl ?_
        refine x_bipush (q := 65) h dX0_clone_63 rfl (by decide) ?_
        refine x_imul (q := 66) h dX0_clone_65 rfl ?_
        refine x_iload (q := 68) h dX0_clone_66 rfl rfl ?_
        refine x_iadd (q := 69) h dX0_clone_68 rfl ?_
        refine x_iald (k := 0) (n := 32) (q := 70) h rfl dX0_clone_69 rfl (by omega) (fun v69 e69 l69 u69 => ?_)
        rw [← hc2] at hok
        refine x_calli (q := 73) (xs := [v69]) (st := []) h (mX0_contentOf v69 (by omega) (z := cpV c v w b (w * 8 + x)) (blk_content hL hH (by omega) (by omega) e69)) lkX0_contentOf rfl (by decide) (by decide) dX0_clone_70 rfl (by simp) rfl (fun z70 τ70 s70 r70 p70 => ?_)
        obtain ⟨rfl, p70⟩ := p70
        rw [hc2] at p70 hok
        refine x_istore (q := 75) (vs' := [.inr 0, .inl v, .inl w, .inl s, .inl x, .inl z70]) h dX0_clone_73 (by decide) (Nat.le_of_ble_eq_true rfl) rfl rfl ?_
        refine x_aload_n (q := 76) h dX0_clone_75 rfl rfl rfl ?_
        refine x_iload_n (q := 77) h dX0_clone_76 rfl rfl rfl ?_
        refine x_bipush (q := 79) h dX0_clone_77 rfl (by decide) ?_
        refine x_imul (q := 80) h dX0_clone_79 rfl ?_
        refine x_iload (q := 82) h dX0_clone_80 rfl rfl ?_
        refine x_iadd (q := 83) h dX0_clone_82 rfl ?_
        refine x_iload (q := 85) h dX0_clone_83 rfl rfl ?_
        refine x_callv (q := 88) (xs := [((v * 8) + x), z70]) (st := []) h (mX0_hold (v * 8 + x) z70 (by omega) (by omega) (c := cpV c v w b) hI (Or.inr (Or.inl ⟨w * 8 + x, by omega, by omega, by rw [hc2, p70], by rw [hc1, p70]; exact fun q => c54 (by rw [e41, e53]; exact hiff.mp q)⟩))) lkX0_hold rfl (by decide) (by decide) dX0_clone_85 rfl (by simp) rfl (fun τ85 s85 p85 => ?_)
        rw [p70] at p85
        refine x_iinc (q := 91) (vs' := [.inr 0, .inl v, .inl w, .inl (s + 1), .inl x, .inl z70]) h dX0_clone_88 (by decide) rfl rfl rfl ?_
        refine x_iinc (q := 94) (vs' := [.inr 0, .inl v, .inl w, .inl (s + 1), .inl (x + 1), .inl z70]) h dX0_clone_91 (by decide) rfl rfl rfl ?_
        refine x_goto (tgt := 23) h dX0_clone_94 (by decide) ?_
        refine x_drop (vs' := [.inr 0, .inl v, .inl w, .inl (s + 1), .inl (x + 1)]) 5 rfl ?_
        refine ih (b + 1) _ _ _ (by omega) (by omega) (by omega) ?_ ?_
        · rw [e9]; exact p85
        · simp only [dfV, sm]
          rw [if_neg (show ¬ c (8 * v + b) = c (8 * w + b) from fun q => c54 (by rw [e41, e53]; exact hiff.mp q))]
          unfold dfV at hs2; omega
set_option maxHeartbeats 4000000 in
theorem mX0_clone {τ : St} (v w : Int) (r_v : -2147483648 ≤ v ∧ v ≤ 2147483647) (r_w : -2147483648 ≤ w ∧ w ≤ 2147483647) {c : Int → Int} (hI : Iv τ c) : CtI 0 yX0_clone cX0_clone 6 4 .int [v, w] τ (fun r τ' => r = (sClone c v w).1 ∧ Iv τ' (sClone c v w).2) := by
  refine CtI.of (by decide) rfl (Nat.le_of_ble_eq_true rfl) (fun M h hr => ?_)
  show WX 0 M 0 [.inr 0, .inl v, .inl w] [] τ
  refine x_aload_n (q := 1) h dX0_clone_0 rfl rfl rfl ?_
  refine x_iload_n (q := 2) h dX0_clone_1 rfl rfl rfl ?_
  refine x_calli (q := 5) (xs := [v]) (st := []) h (mX0_badVolume v (by omega)) lkX0_badVolume rfl (by decide) (by decide) dX0_clone_2 rfl (by simp) rfl (fun z2 τ2 s2 r2 p2 => ?_)
  obtain ⟨rfl, p2⟩ := p2
  refine x_if_ne (tgt := 16) (q := 8) h dX0_clone_5 (by decide) rfl (by omega) (fun c5 => ?_) (fun c5 => ?_)
  · refine x_iconst (q := 17) h dX0_clone_16 rfl ?_
    exact x_iret h hr dX0_clone_17 (by omega) (⟨by unfold sClone; rw [if_pos (by omega)], by unfold sClone; rw [if_pos (by omega)]; exact hI⟩)
  · refine x_aload_n (q := 9) h dX0_clone_8 rfl rfl rfl ?_
    refine x_iload_n (q := 10) h dX0_clone_9 rfl rfl rfl ?_
    refine x_calli (q := 13) (xs := [w]) (st := []) h (mX0_badVolume w (by omega)) lkX0_badVolume rfl (by decide) (by decide) dX0_clone_10 rfl (by simp) rfl (fun z10 τ10 s10 r10 p10 => ?_)
    obtain ⟨rfl, p10⟩ := p10
    refine x_if_eq (tgt := 18) (q := 16) h dX0_clone_13 (by decide) rfl (by omega) (fun c13 => ?_) (fun c13 => ?_)
    · refine x_iconst (q := 19) h dX0_clone_18 rfl ?_
      refine x_istore_n (q := 20) (vs' := [.inr 0, .inl v, .inl w, .inl 0]) h dX0_clone_19 rfl (by decide) (Nat.le_of_ble_eq_true rfl) rfl rfl ?_
      refine x_iconst (q := 21) h dX0_clone_20 rfl ?_
      refine x_istore (q := 23) (vs' := [.inr 0, .inl v, .inl w, .inl 0, .inl 0]) h dX0_clone_21 (by decide) (Nat.le_of_ble_eq_true rfl) rfl rfl ?_
      refine lpX0_clone (c := c) (by omega) (by omega) h hr ?_ 9 0 _ _ τ (by omega) (by omega) (by omega) (Iv_congr hI (fun j a1 a2 => by unfold cpV; rw [if_neg (by omega)])) rfl
      intro r τ' a1 a2
      unfold sClone
      rw [if_neg (by omega)]
      exact ⟨a1, a2⟩
    · refine x_iconst (q := 17) h dX0_clone_16 rfl ?_
      exact x_iret h hr dX0_clone_17 (by omega) (⟨by unfold sClone; rw [if_pos (by omega)], by unfold sClone; rw [if_pos (by omega)]; exact hI⟩)

theorem dX0_erase_0 : decode cX0_erase 0 = .ok (.aload_n 0, 1) := by decide +kernel
theorem dX0_erase_1 : decode cX0_erase 1 = .ok (.iload_n 1, 1) := by decide +kernel
theorem dX0_erase_2 : decode cX0_erase 2 = .ok (.invokevirtual 115, 3) := by decide +kernel
theorem dX0_erase_5 : decode cX0_erase 5 = .ok (.ifCond .eq 5, 3) := by decide +kernel
theorem dX0_erase_8 : decode cX0_erase 8 = .ok (.iconst (-1), 1) := by decide +kernel
theorem dX0_erase_9 : decode cX0_erase 9 = .ok (.ireturn, 1) := by decide +kernel
theorem dX0_erase_10 : decode cX0_erase 10 = .ok (.iconst 0, 1) := by decide +kernel
theorem dX0_erase_11 : decode cX0_erase 11 = .ok (.istore_n 2, 1) := by decide +kernel
theorem dX0_erase_12 : decode cX0_erase 12 = .ok (.iload_n 1, 1) := by decide +kernel
theorem dX0_erase_13 : decode cX0_erase 13 = .ok (.bipush 8, 2) := by decide +kernel
theorem dX0_erase_15 : decode cX0_erase 15 = .ok (.imul, 1) := by decide +kernel
theorem dX0_erase_16 : decode cX0_erase 16 = .ok (.istore_n 3, 1) := by decide +kernel
theorem dX0_erase_17 : decode cX0_erase 17 = .ok (.iload_n 3, 1) := by decide +kernel
theorem dX0_erase_18 : decode cX0_erase 18 = .ok (.iload_n 1, 1) := by decide +kernel
theorem dX0_erase_19 : decode cX0_erase 19 = .ok (.bipush 8, 2) := by decide +kernel
theorem dX0_erase_21 : decode cX0_erase 21 = .ok (.imul, 1) := by decide +kernel
theorem dX0_erase_22 : decode cX0_erase 22 = .ok (.bipush 8, 2) := by decide +kernel
theorem dX0_erase_24 : decode cX0_erase 24 = .ok (.iadd, 1) := by decide +kernel
theorem dX0_erase_25 : decode cX0_erase 25 = .ok (.if_icmp .ge 26, 3) := by decide +kernel
theorem dX0_erase_28 : decode cX0_erase 28 = .ok (.aload_n 0, 1) := by decide +kernel
theorem dX0_erase_29 : decode cX0_erase 29 = .ok (.getfield 7, 3) := by decide +kernel
theorem dX0_erase_32 : decode cX0_erase 32 = .ok (.iload_n 3, 1) := by decide +kernel
theorem dX0_erase_33 : decode cX0_erase 33 = .ok (.iaload, 1) := by decide +kernel
theorem dX0_erase_34 : decode cX0_erase 34 = .ok (.ifCond .lt 6, 3) := by decide +kernel
theorem dX0_erase_37 : decode cX0_erase 37 = .ok (.iinc 2 1, 3) := by decide +kernel
theorem dX0_erase_40 : decode cX0_erase 40 = .ok (.aload_n 0, 1) := by decide +kernel
theorem dX0_erase_41 : decode cX0_erase 41 = .ok (.iload_n 3, 1) := by decide +kernel
theorem dX0_erase_42 : decode cX0_erase 42 = .ok (.invokevirtual 81, 3) := by decide +kernel
theorem dX0_erase_45 : decode cX0_erase 45 = .ok (.iinc 3 1, 3) := by decide +kernel
theorem dX0_erase_48 : decode cX0_erase 48 = .ok (.goto (-31), 3) := by decide +kernel
theorem dX0_erase_51 : decode cX0_erase 51 = .ok (.iload_n 2, 1) := by decide +kernel
theorem dX0_erase_52 : decode cX0_erase 52 = .ok (.ireturn, 1) := by decide +kernel
set_option maxHeartbeats 4000000 in
theorem lpX0_erase {M : Mx} {c : Int → Int} {v : Int} {Po : Int → St → Prop} (hv : 0 ≤ v ∧ v ≤ 3) (h : Cx 0 M cX0_erase 4 3) (hr : RtI 0 M .int Po) (hp : ∀ (r : Int) (τ' : St), r = nzV c v 8 → Iv τ' (fil c (8 * v) (8 * v + 8) 0) → Po r τ') : ∀ (k b : Nat) (x s : Int) (σ : St), x = 8 * v + b → b ≤ 8 → 8 < b + k → Iv σ (fil c (8 * v) (8 * v + b) 0) → s = nzV c v b → WX 0 M 17 [.inr 0, .inl v, .inl s, .inl x] [] σ := by
  intro k
  induction k with
  | zero => intro b x s σ h1 h2 h3; omega
  | succ k ih =>
    intro b x s σ hx hb hk hI hs2
    have g0 := sm_le (f := fun _ => 0) (g := fun j => if c (8 * v + j) = 0 then 0 else 1) b (fun j _ _ => by show (0 : Int) ≤ if c (8 * v + j) = 0 then 0 else 1; split <;> decide)
    have g1 := sm_le (f := fun j => if c (8 * v + j) = 0 then 0 else 1) (g := fun _ => 1) b (fun j _ _ => by show (if c (8 * v + j) = 0 then (0 : Int) else 1) ≤ 1; split <;> decide)
    rw [sm_const] at g0 g1
    have hs3 : s = sm (fun j => if c (8 * v + j) = 0 then 0 else 1) b := hs2
    refine x_iload_n (q := 18) h dX0_erase_17 rfl rfl rfl ?_
    refine x_iload_n (q := 19) h dX0_erase_18 rfl rfl rfl ?_
    refine x_bipush (q := 21) h dX0_erase_19 rfl (by decide) ?_
    refine x_imul (q := 22) h dX0_erase_21 rfl ?_
    refine x_bipush (q := 24) h dX0_erase_22 rfl (by decide) ?_
    refine x_iadd (q := 25) h dX0_erase_24 rfl ?_
    refine x_icmp_ge (tgt := 51) (q := 28) h dX0_erase_25 (by decide) rfl (by omega) (by omega) (fun c25 => ?_) (fun c25 => ?_)
    · refine x_iload_n (q := 52) h dX0_erase_51 rfl rfl rfl ?_
      exact x_iret h hr dX0_erase_52 (by omega) (hp _ _ (by rw [hs2, show b = 8 by omega]) (by rw [show b = 8 by omega] at hI; exact hI))
    · have hI2 := hI
      obtain ⟨a, K, hL, hT, hH⟩ := hI2
      have hc1 : fil c (8 * v) (8 * v + b) 0 x = c (8 * v + b) := by unfold fil; rw [if_neg (by omega), hx]
      have e9 : fil c (8 * v) (8 * v + ((b + 1 : Nat) : Int)) 0 = upF (fil c (8 * v) (8 * v + b) 0) x 0 := by
        funext j
        unfold upF fil
        by_cases e : j = x
        · rw [if_pos e, if_pos (by omega)]
        · rw [if_neg e]
          by_cases e2 : 8 * v ≤ j ∧ j < 8 * v + b
          · rw [if_pos e2, if_pos (by omega)]
          · rw [if_neg e2, if_neg (by omega)]
      refine x_aload_n (q := 29) h dX0_erase_28 rfl rfl rfl ?_
      refine x0_geta (k := 0) (q := 32) h rfl q36 dX0_erase_29 rfl ?_
      refine x_iload_n (q := 33) h dX0_erase_32 rfl rfl rfl ?_
      refine x_iald (k := 0) (n := 32) (q := 34) h rfl dX0_erase_33 rfl (by omega) (fun v33 e33 l33 u33 => ?_)
      have hbx : (v33 < 0 ∧ c (8 * v + b) = 0) ∨ (0 ≤ v33 ∧ 1 ≤ c (8 * v + b)) := by
        rw [← hc1]
        rcases (HK_of hL hT hH).1 x (by omega) (by omega) with q | q
        · exact Or.inl ⟨by omega, q.2⟩
        · exact Or.inr ⟨by omega, by omega⟩
      refine x_if_lt (tgt := 40) (q := 37) h dX0_erase_34 (by decide) rfl (by omega) (fun c34 => ?_) (fun c34 => ?_)
      · refine x_aload_n (q := 41) h dX0_erase_40 rfl rfl rfl ?_
        refine x_iload_n (q := 42) h dX0_erase_41 rfl rfl rfl ?_
        refine x_callv (q := 45) (xs := [x]) (st := []) h (mX0_release x (by omega) hL hT hH) lkX0_release rfl (by decide) (by decide) dX0_erase_42 rfl (by simp) rfl (fun τ42 s42 p42 => ?_)
        have hI' : Iv τ42 (upF (fil c (8 * v) (8 * v + b) 0) x 0) := by
          obtain ⟨a', r1, r2, r3, -⟩ := p42
          exact ⟨a', K, r1, r2, r3⟩
        refine x_iinc (q := 48) (vs' := [.inr 0, .inl v, .inl s, .inl (x + 1)]) h dX0_erase_45 (by decide) rfl rfl rfl ?_
        refine x_goto (tgt := 17) h dX0_erase_48 (by decide) ?_
        refine ih (b + 1) _ _ _ (by omega) (by omega) (by omega) (by rw [e9]; exact hI') ?_
        simp only [nzV, sm]
        rw [if_pos (by rcases hbx with q | q <;> omega)]
        unfold nzV at hs2; omega
      · refine x_iinc (q := 40) (vs' := [.inr 0, .inl v, .inl (s + 1), .inl x]) h dX0_erase_37 (by decide) rfl rfl rfl ?_
        refine x_aload_n (q := 41) h dX0_erase_40 rfl rfl rfl ?_
        refine x_iload_n (q := 42) h dX0_erase_41 rfl rfl rfl ?_
        refine x_callv (q := 45) (xs := [x]) (st := []) h (mX0_release x (by omega) hL hT hH) lkX0_release rfl (by decide) (by decide) dX0_erase_42 rfl (by simp) rfl (fun τ42 s42 p42 => ?_)
        have hI' : Iv τ42 (upF (fil c (8 * v) (8 * v + b) 0) x 0) := by
          obtain ⟨a', r1, r2, r3, -⟩ := p42
          exact ⟨a', K, r1, r2, r3⟩
        refine x_iinc (q := 48) (vs' := [.inr 0, .inl v, .inl (s + 1), .inl (x + 1)]) h dX0_erase_45 (by decide) rfl rfl rfl ?_
        refine x_goto (tgt := 17) h dX0_erase_48 (by decide) ?_
        refine ih (b + 1) _ _ _ (by omega) (by omega) (by omega) (by rw [e9]; exact hI') ?_
        simp only [nzV, sm]
        rw [if_neg (by rcases hbx with q | q <;> omega)]
        unfold nzV at hs2; omega
set_option maxHeartbeats 4000000 in
theorem mX0_erase {τ : St} (v : Int) (r_v : -2147483648 ≤ v ∧ v ≤ 2147483647) {c : Int → Int} (hI : Iv τ c) : CtI 0 yX0_erase cX0_erase 4 3 .int [v] τ (fun r τ' => r = (sErase c v).1 ∧ Iv τ' (sErase c v).2) := by
  refine CtI.of (by decide) rfl (Nat.le_of_ble_eq_true rfl) (fun M h hr => ?_)
  show WX 0 M 0 [.inr 0, .inl v] [] τ
  refine x_aload_n (q := 1) h dX0_erase_0 rfl rfl rfl ?_
  refine x_iload_n (q := 2) h dX0_erase_1 rfl rfl rfl ?_
  refine x_calli (q := 5) (xs := [v]) (st := []) h (mX0_badVolume v (by omega)) lkX0_badVolume rfl (by decide) (by decide) dX0_erase_2 rfl (by simp) rfl (fun z2 τ2 s2 r2 p2 => ?_)
  obtain ⟨rfl, p2⟩ := p2
  refine x_if_eq (tgt := 10) (q := 8) h dX0_erase_5 (by decide) rfl (by omega) (fun c5 => ?_) (fun c5 => ?_)
  · refine x_iconst (q := 11) h dX0_erase_10 rfl ?_
    refine x_istore_n (q := 12) (vs' := [.inr 0, .inl v, .inl 0]) h dX0_erase_11 rfl (by decide) (Nat.le_of_ble_eq_true rfl) rfl rfl ?_
    refine x_iload_n (q := 13) h dX0_erase_12 rfl rfl rfl ?_
    refine x_bipush (q := 15) h dX0_erase_13 rfl (by decide) ?_
    refine x_imul (q := 16) h dX0_erase_15 rfl ?_
    refine x_istore_n (q := 17) (vs' := [.inr 0, .inl v, .inl 0, .inl (v * 8)]) h dX0_erase_16 rfl (by decide) (Nat.le_of_ble_eq_true rfl) rfl rfl ?_
    refine lpX0_erase (c := c) (by omega) h hr ?_ 9 0 _ _ τ (by omega) (by omega) (by omega) (Iv_congr hI (fun j a1 a2 => by unfold fil; rw [if_neg (by omega)])) rfl
    intro r τ' a1 a2
    unfold sErase
    rw [if_neg (by omega)]
    exact ⟨a1, a2⟩
  · refine x_iconst (q := 9) h dX0_erase_8 rfl ?_
    exact x_iret h hr dX0_erase_9 (by omega) (⟨by unfold sErase; rw [if_pos (by omega)], by unfold sErase; rw [if_pos (by omega)]; exact hI⟩)

theorem dX0_holders_0 : decode cX0_holders 0 = .ok (.iload_n 1, 1) := by decide +kernel
theorem dX0_holders_1 : decode cX0_holders 1 = .ok (.ifCond .lt 10, 3) := by decide +kernel
theorem dX0_holders_4 : decode cX0_holders 4 = .ok (.iload_n 1, 1) := by decide +kernel
theorem dX0_holders_5 : decode cX0_holders 5 = .ok (.sipush 4095, 3) := by decide +kernel
theorem dX0_holders_8 : decode cX0_holders 8 = .ok (.if_icmp .le 5, 3) := by decide +kernel
theorem dX0_holders_11 : decode cX0_holders 11 = .ok (.iconst (-1), 1) := by decide +kernel
theorem dX0_holders_12 : decode cX0_holders 12 = .ok (.ireturn, 1) := by decide +kernel
theorem dX0_holders_13 : decode cX0_holders 13 = .ok (.iload_n 1, 1) := by decide +kernel
theorem dX0_holders_14 : decode cX0_holders 14 = .ok (.ifCond .ne 38, 3) := by decide +kernel
theorem dX0_holders_17 : decode cX0_holders 17 = .ok (.iconst 0, 1) := by decide +kernel
theorem dX0_holders_18 : decode cX0_holders 18 = .ok (.istore_n 2, 1) := by decide +kernel
theorem dX0_holders_19 : decode cX0_holders 19 = .ok (.iconst 0, 1) := by decide +kernel
theorem dX0_holders_20 : decode cX0_holders 20 = .ok (.istore_n 3, 1) := by decide +kernel
theorem dX0_holders_21 : decode cX0_holders 21 = .ok (.iload_n 3, 1) := by decide +kernel
theorem dX0_holders_22 : decode cX0_holders 22 = .ok (.bipush 32, 2) := by decide +kernel
theorem dX0_holders_24 : decode cX0_holders 24 = .ok (.if_icmp .ge 26, 3) := by decide +kernel
theorem dX0_holders_27 : decode cX0_holders 27 = .ok (.aload_n 0, 1) := by decide +kernel
theorem dX0_holders_28 : decode cX0_holders 28 = .ok (.getfield 7, 3) := by decide +kernel
theorem dX0_holders_31 : decode cX0_holders 31 = .ok (.iload_n 3, 1) := by decide +kernel
theorem dX0_holders_32 : decode cX0_holders 32 = .ok (.iaload, 1) := by decide +kernel
theorem dX0_holders_33 : decode cX0_holders 33 = .ok (.ifCond .ge 9, 3) := by decide +kernel
theorem dX0_holders_36 : decode cX0_holders 36 = .ok (.iload_n 2, 1) := by decide +kernel
theorem dX0_holders_37 : decode cX0_holders 37 = .ok (.iconst 1, 1) := by decide +kernel
theorem dX0_holders_38 : decode cX0_holders 38 = .ok (.iadd, 1) := by decide +kernel
theorem dX0_holders_39 : decode cX0_holders 39 = .ok (.goto 4, 3) := by decide +kernel
theorem dX0_holders_42 : decode cX0_holders 42 = .ok (.iload_n 2, 1) := by decide +kernel
theorem dX0_holders_43 : decode cX0_holders 43 = .ok (.istore_n 2, 1) := by decide +kernel
theorem dX0_holders_44 : decode cX0_holders 44 = .ok (.iinc 3 1, 3) := by decide +kernel
theorem dX0_holders_47 : decode cX0_holders 47 = .ok (.goto (-26), 3) := by decide +kernel
theorem dX0_holders_50 : decode cX0_holders 50 = .ok (.iload_n 2, 1) := by decide +kernel
theorem dX0_holders_51 : decode cX0_holders 51 = .ok (.ireturn, 1) := by decide +kernel
theorem dX0_holders_52 : decode cX0_holders 52 = .ok (.aload_n 0, 1) := by decide +kernel
theorem dX0_holders_53 : decode cX0_holders 53 = .ok (.iload_n 1, 1) := by decide +kernel
theorem dX0_holders_54 : decode cX0_holders 54 = .ok (.invokevirtual 84, 3) := by decide +kernel
theorem dX0_holders_57 : decode cX0_holders 57 = .ok (.istore_n 2, 1) := by decide +kernel
theorem dX0_holders_58 : decode cX0_holders 58 = .ok (.iload_n 2, 1) := by decide +kernel
theorem dX0_holders_59 : decode cX0_holders 59 = .ok (.ifCond .ge 7, 3) := by decide +kernel
theorem dX0_holders_62 : decode cX0_holders 62 = .ok (.iconst 0, 1) := by decide +kernel
theorem dX0_holders_63 : decode cX0_holders 63 = .ok (.goto 9, 3) := by decide +kernel
theorem dX0_holders_66 : decode cX0_holders 66 = .ok (.aload_n 0, 1) := by decide +kernel
theorem dX0_holders_67 : decode cX0_holders 67 = .ok (.getfield 13, 3) := by decide +kernel
theorem dX0_holders_70 : decode cX0_holders 70 = .ok (.iload_n 2, 1) := by decide +kernel
theorem dX0_holders_71 : decode cX0_holders 71 = .ok (.iaload, 1) := by decide +kernel
theorem dX0_holders_72 : decode cX0_holders 72 = .ok (.ireturn, 1) := by decide +kernel
set_option maxHeartbeats 4000000 in
theorem lpX0_holders {M : Mx} {τ : St} {K c : Int → Int} {z : Int} {Po : Int → St → Prop} (hHK : HK (τ 0) K c) (h : Cx 0 M cX0_holders 4 3) (hr : RtI 0 M .int Po) (hp : ∀ r : Int, r = cnt c 0 32 → Po r τ) : ∀ (k i : Nat) (x s : Int), x = i → i ≤ 32 → 32 < i + k → s = cnt c 0 i → WX 0 M 21 [.inr 0, .inl z, .inl s, .inl x] [] τ := by
  intro k
  induction k with
  | zero => intro i x s h1 h2 h3; omega
  | succ k ih =>
    intro i x s hx hi hk hs2
    have hrg := cnt_le c 0 i
    refine x_iload_n (q := 22) h dX0_holders_21 rfl rfl rfl ?_
    refine x_bipush (q := 24) h dX0_holders_22 rfl (by decide) ?_
    refine x_icmp_ge (tgt := 50) (q := 27) h dX0_holders_24 (by decide) rfl (by omega) (by omega) (fun c24 => ?_) (fun c24 => ?_)
    · refine x_iload_n (q := 51) h dX0_holders_50 rfl rfl rfl ?_
      exact x_iret h hr dX0_holders_51 (by omega) (hp _ (by rw [hs2, show i = 32 by omega]))
    · refine x_aload_n (q := 28) h dX0_holders_27 rfl rfl rfl ?_
      refine x0_geta (k := 0) (q := 31) h rfl q36 dX0_holders_28 rfl ?_
      refine x_iload_n (q := 32) h dX0_holders_31 rfl rfl rfl ?_
      refine x_iald (k := 0) (n := 32) (q := 33) h rfl dX0_holders_32 rfl (by omega) (fun v32 e32 l32 u32 => ?_)
      have hbx : (v32 < 0 ∧ c x = 0) ∨ (0 ≤ v32 ∧ 1 ≤ c x) := by
        rcases hHK.1 x (by omega) (by omega) with q | q
        · exact Or.inl ⟨by omega, q.2⟩
        · exact Or.inr ⟨by omega, by omega⟩
      refine x_if_ge (tgt := 42) (q := 36) h dX0_holders_33 (by decide) rfl (by omega) (fun c33 => ?_) (fun c33 => ?_)
      · refine x_iload_n (q := 43) h dX0_holders_42 rfl rfl rfl ?_
        refine x_istore_n (q := 44) (vs' := [.inr 0, .inl z, .inl s, .inl x]) h dX0_holders_43 rfl (by decide) (Nat.le_of_ble_eq_true rfl) rfl rfl ?_
        refine x_iinc (q := 47) (vs' := [.inr 0, .inl z, .inl s, .inl (x + 1)]) h dX0_holders_44 (by decide) rfl rfl rfl ?_
        refine x_goto (tgt := 21) h dX0_holders_47 (by decide) ?_
        refine ih (i + 1) _ _ (by omega) (by omega) (by omega) ?_
        rw [cnt_s, ← hx]
        rw [if_neg (by rcases hbx with q | q <;> omega)]; omega
      · refine x_iload_n (q := 37) h dX0_holders_36 rfl rfl rfl ?_
        refine x_iconst (q := 38) h dX0_holders_37 rfl ?_
        refine x_iadd (q := 39) h dX0_holders_38 rfl ?_
        refine x_goto (tgt := 43) h dX0_holders_39 (by decide) ?_
        refine x_istore_n (q := 44) (vs' := [.inr 0, .inl z, .inl (s + 1), .inl x]) h dX0_holders_43 rfl (by decide) (Nat.le_of_ble_eq_true rfl) rfl rfl ?_
        refine x_iinc (q := 47) (vs' := [.inr 0, .inl z, .inl (s + 1), .inl (x + 1)]) h dX0_holders_44 (by decide) rfl rfl rfl ?_
        refine x_goto (tgt := 21) h dX0_holders_47 (by decide) ?_
        refine ih (i + 1) _ _ (by omega) (by omega) (by omega) ?_
        rw [cnt_s, ← hx]
        rw [if_pos (by rcases hbx with q | q <;> omega)]; omega
set_option maxHeartbeats 4000000 in
theorem mX0_holders {τ : St} (z : Int) (r_z : -2147483648 ≤ z ∧ z ≤ 2147483647) {c : Int → Int} (hI : Iv τ c) : CtI 0 yX0_holders cX0_holders 4 3 .int [z] τ (fun r τ' => τ = τ' ∧ r = sHolders c z) := by
  refine CtI.of (by decide) rfl (Nat.le_of_ble_eq_true rfl) (fun M h hr => ?_)
  show WX 0 M 0 [.inr 0, .inl z] [] τ
  obtain ⟨a, K, hL, hT, hH⟩ := hI
  refine x_iload_n (q := 1) h dX0_holders_0 rfl rfl rfl ?_
  refine x_if_lt (tgt := 11) (q := 4) h dX0_holders_1 (by decide) rfl (by omega) (fun c1 => ?_) (fun c1 => ?_)
  · refine x_iconst (q := 12) h dX0_holders_11 rfl ?_
    exact x_iret h hr dX0_holders_12 (by omega) (⟨rfl, by unfold sHolders; rw [if_pos (by omega)]⟩)
  · refine x_iload_n (q := 5) h dX0_holders_4 rfl rfl rfl ?_
    refine x_sipush (q := 8) h dX0_holders_5 rfl (by decide) ?_
    refine x_icmp_le (tgt := 13) (q := 11) h dX0_holders_8 (by decide) rfl (by omega) (by omega) (fun c8 => ?_) (fun c8 => ?_)
    · refine x_iload_n (q := 14) h dX0_holders_13 rfl rfl rfl ?_
      refine x_if_ne (tgt := 52) (q := 17) h dX0_holders_14 (by decide) rfl (by omega) (fun c14 => ?_) (fun c14 => ?_)
      · refine x_aload_n (q := 53) h dX0_holders_52 rfl rfl rfl ?_
        refine x_iload_n (q := 54) h dX0_holders_53 rfl rfl rfl ?_
        refine x_calli (q := 57) (xs := [z]) (st := []) h (mX0_find z (by omega) hL hT) lkX0_find rfl (by decide) (by decide) dX0_holders_54 rfl (by simp) rfl (fun z54 τ54 s54 r54 p54 => ?_)
        obtain ⟨rfl, p54⟩ := p54
        refine x_istore_n (q := 58) (vs' := [.inr 0, .inl z, .inl z54]) h dX0_holders_57 rfl (by decide) (Nat.le_of_ble_eq_true rfl) rfl rfl ?_
        refine x_iload_n (q := 59) h dX0_holders_58 rfl rfl rfl ?_
        refine x_if_ge (tgt := 66) (q := 62) h dX0_holders_59 (by decide) rfl (by omega) (fun c59 => ?_) (fun c59 => ?_)
        · refine x_aload_n (q := 67) h dX0_holders_66 rfl rfl rfl ?_
          refine x0_geta (k := 1) (q := 70) h rfl q37 dX0_holders_67 rfl ?_
          refine x_iload_n (q := 71) h dX0_holders_70 rfl rfl rfl ?_
          refine x_iald (k := 1) (n := 33) (q := 72) h rfl dX0_holders_71 rfl (by rcases p54 with q | q <;> omega) (fun v71 e71 l71 u71 => ?_)
          refine x_iret h hr dX0_holders_72 (by omega) ⟨rfl, ?_⟩
          unfold sHolders
          rw [if_neg (by omega)]
          rcases p54 with q | q
          · rw [e71]; exact (cnt_piece hL hT hH q.1 q.2.1 q.2.2.1 q.2.2.2).symm
          · omega
        · refine x_iconst (q := 63) h dX0_holders_62 rfl ?_
          refine x_goto (tgt := 72) h dX0_holders_63 (by decide) ?_
          refine x_iret h hr dX0_holders_72 (by omega) ⟨rfl, ?_⟩
          unfold sHolders
          rw [if_neg (by omega)]
          rcases p54 with q | q
          · omega
          · exact (cnt_nopiece hH c14 q.2).symm
      · refine x_iconst (q := 18) h dX0_holders_17 rfl ?_
        refine x_istore_n (q := 19) (vs' := [.inr 0, .inl z, .inl 0]) h dX0_holders_18 rfl (by decide) (Nat.le_of_ble_eq_true rfl) rfl rfl ?_
        refine x_iconst (q := 20) h dX0_holders_19 rfl ?_
        refine x_istore_n (q := 21) (vs' := [.inr 0, .inl z, .inl 0, .inl 0]) h dX0_holders_20 rfl (by decide) (Nat.le_of_ble_eq_true rfl) rfl rfl ?_
        refine lpX0_holders (HK_of hL hT hH) h hr ?_ 33 0 0 0 (by omega) (by omega) (by omega) rfl
        intro r a1
        exact ⟨rfl, by unfold sHolders; rw [if_neg (by omega), a1, c14]⟩
    · refine x_iconst (q := 12) h dX0_holders_11 rfl ?_
      exact x_iret h hr dX0_holders_12 (by omega) (⟨rfl, by unfold sHolders; rw [if_pos (by omega)]⟩)

theorem dX0_distinct_0 : decode cX0_distinct 0 = .ok (.iconst 0, 1) := by decide +kernel
theorem dX0_distinct_1 : decode cX0_distinct 1 = .ok (.istore_n 1, 1) := by decide +kernel
theorem dX0_distinct_2 : decode cX0_distinct 2 = .ok (.iconst 0, 1) := by decide +kernel
theorem dX0_distinct_3 : decode cX0_distinct 3 = .ok (.istore_n 2, 1) := by decide +kernel
theorem dX0_distinct_4 : decode cX0_distinct 4 = .ok (.iload_n 2, 1) := by decide +kernel
theorem dX0_distinct_5 : decode cX0_distinct 5 = .ok (.bipush 33, 2) := by decide +kernel
theorem dX0_distinct_7 : decode cX0_distinct 7 = .ok (.if_icmp .ge 21, 3) := by decide +kernel
theorem dX0_distinct_10 : decode cX0_distinct 10 = .ok (.aload_n 0, 1) := by decide +kernel
theorem dX0_distinct_11 : decode cX0_distinct 11 = .ok (.getfield 13, 3) := by decide +kernel
theorem dX0_distinct_14 : decode cX0_distinct 14 = .ok (.iload_n 2, 1) := by decide +kernel
theorem dX0_distinct_15 : decode cX0_distinct 15 = .ok (.iaload, 1) := by decide +kernel
theorem dX0_distinct_16 : decode cX0_distinct 16 = .ok (.ifCond .le 6, 3) := by decide +kernel
theorem dX0_distinct_19 : decode cX0_distinct 19 = .ok (.iinc 1 1, 3) := by decide +kernel
theorem dX0_distinct_22 : decode cX0_distinct 22 = .ok (.iinc 2 1, 3) := by decide +kernel
theorem dX0_distinct_25 : decode cX0_distinct 25 = .ok (.goto (-21), 3) := by decide +kernel
theorem dX0_distinct_28 : decode cX0_distinct 28 = .ok (.iload_n 1, 1) := by decide +kernel
theorem dX0_distinct_29 : decode cX0_distinct 29 = .ok (.ireturn, 1) := by decide +kernel
set_option maxHeartbeats 4000000 in
theorem lpX0_distinct {M : Mx} {τ : St} {y : Int} (hd : sm (fun p => if 0 < τ 1 p then 1 else 0) 33 = y) (h : Cx 0 M cX0_distinct 3 0) (hr : RtI 0 M .int (fun r τ' => τ = τ' ∧ r = y)) : ∀ (k i : Nat) (x s : Int), x = i → i ≤ 33 → 33 < i + k → s = sm (fun p => if 0 < τ 1 p then 1 else 0) i → WX 0 M 4 [.inr 0, .inl s, .inl x] [] τ := by
  intro k
  induction k with
  | zero => intro i x s h1 h2 h3; omega
  | succ k ih =>
    intro i x s hx hi hk hs2
    have g0 := sm_le (f := fun _ => 0) (g := fun p => if 0 < τ 1 p then 1 else 0) i (fun j _ _ => by show (0 : Int) ≤ if 0 < τ 1 j then 1 else 0; split <;> decide)
    have g1 := sm_le (f := fun p => if 0 < τ 1 p then 1 else 0) (g := fun _ => 1) i (fun j _ _ => by show (if 0 < τ 1 j then (1 : Int) else 0) ≤ 1; split <;> decide)
    rw [sm_const] at g0 g1
    refine x_iload_n (q := 5) h dX0_distinct_4 rfl rfl rfl ?_
    refine x_bipush (q := 7) h dX0_distinct_5 rfl (by decide) ?_
    refine x_icmp_ge (tgt := 28) (q := 10) h dX0_distinct_7 (by decide) rfl (by omega) (by omega) (fun c7 => ?_) (fun c7 => ?_)
    · refine x_iload_n (q := 29) h dX0_distinct_28 rfl rfl rfl ?_
      exact x_iret h hr dX0_distinct_29 (by omega) (⟨rfl, by rw [hs2, show i = 33 by omega]; exact hd⟩)
    · refine x_aload_n (q := 11) h dX0_distinct_10 rfl rfl rfl ?_
      refine x0_geta (k := 1) (q := 14) h rfl q37 dX0_distinct_11 rfl ?_
      refine x_iload_n (q := 15) h dX0_distinct_14 rfl rfl rfl ?_
      refine x_iald (k := 1) (n := 33) (q := 16) h rfl dX0_distinct_15 rfl (by omega) (fun v15 e15 l15 u15 => ?_)
      refine x_if_le (tgt := 22) (q := 19) h dX0_distinct_16 (by decide) rfl (by omega) (fun c16 => ?_) (fun c16 => ?_)
      · refine x_iinc (q := 25) (vs' := [.inr 0, .inl s, .inl (x + 1)]) h dX0_distinct_22 (by decide) rfl rfl rfl ?_
        refine x_goto (tgt := 4) h dX0_distinct_25 (by decide) ?_
        refine ih (i + 1) _ _ (by omega) (by omega) (by omega) ?_
        simp only [sm]
        rw [hx] at e15
        rw [if_neg (by omega)]; omega
      · refine x_iinc (q := 22) (vs' := [.inr 0, .inl (s + 1), .inl x]) h dX0_distinct_19 (by decide) rfl rfl rfl ?_
        refine x_iinc (q := 25) (vs' := [.inr 0, .inl (s + 1), .inl (x + 1)]) h dX0_distinct_22 (by decide) rfl rfl rfl ?_
        refine x_goto (tgt := 4) h dX0_distinct_25 (by decide) ?_
        refine ih (i + 1) _ _ (by omega) (by omega) (by omega) ?_
        simp only [sm]
        rw [hx] at e15
        rw [if_pos (by omega)]; omega
set_option maxHeartbeats 4000000 in
theorem mX0_distinct {τ : St} {c : Int → Int} (hI : Iv τ c) : CtI 0 yX0_distinct cX0_distinct 3 0 .int [] τ (fun r τ' => τ = τ' ∧ r = sDistinct c) := by
  refine CtI.of (by decide) rfl (Nat.le_of_ble_eq_true rfl) (fun M h hr => ?_)
  show WX 0 M 0 [.inr 0] [] τ
  obtain ⟨a, K, hL, hT, hH⟩ := hI
  refine x_iconst (q := 1) h dX0_distinct_0 rfl ?_
  refine x_istore_n (q := 2) (vs' := [.inr 0, .inl 0]) h dX0_distinct_1 rfl (by decide) (Nat.le_of_ble_eq_true rfl) rfl rfl ?_
  refine x_iconst (q := 3) h dX0_distinct_2 rfl ?_
  refine x_istore_n (q := 4) (vs' := [.inr 0, .inl 0, .inl 0]) h dX0_distinct_3 rfl (by decide) (Nat.le_of_ble_eq_true rfl) rfl rfl ?_
  exact lpX0_distinct (distinct_Hd hL hT hH) h hr 34 0 0 0 (by omega) (by omega) (by omega) rfl

theorem dX0_used_0 : decode cX0_used 0 = .ok (.aload_n 0, 1) := by decide +kernel
theorem dX0_used_1 : decode cX0_used 1 = .ok (.getfield 78, 3) := by decide +kernel
theorem dX0_used_4 : decode cX0_used 4 = .ok (.ireturn, 1) := by decide +kernel
set_option maxHeartbeats 4000000 in
theorem mX0_used {τ : St} {c : Int → Int} (hI : Iv τ c) : CtI 0 yX0_used cX0_used 1 0 .int [] τ (fun r τ' => τ = τ' ∧ r = used c) := by
  refine CtI.of (by decide) rfl (Nat.le_of_ble_eq_true rfl) (fun M h hr => ?_)
  show WX 0 M 0 [.inr 0] [] τ
  refine x_aload_n (q := 1) h dX0_used_0 rfl rfl rfl ?_
  refine x0_geti (k := 9) (q := 4) h (by decide) q45 dX0_used_1 rfl (fun v1 e1 l1 u1 => ?_)
  exact x_iret h hr dX0_used_4 (by omega) (⟨rfl, by rw [(Iv_used hI).1, e1]⟩)

theorem dX0_saved_0 : decode cX0_saved 0 = .ok (.iconst 0, 1) := by decide +kernel
theorem dX0_saved_1 : decode cX0_saved 1 = .ok (.istore_n 1, 1) := by decide +kernel
theorem dX0_saved_2 : decode cX0_saved 2 = .ok (.iconst 0, 1) := by decide +kernel
theorem dX0_saved_3 : decode cX0_saved 3 = .ok (.istore_n 2, 1) := by decide +kernel
theorem dX0_saved_4 : decode cX0_saved 4 = .ok (.iload_n 2, 1) := by decide +kernel
theorem dX0_saved_5 : decode cX0_saved 5 = .ok (.bipush 33, 2) := by decide +kernel
theorem dX0_saved_7 : decode cX0_saved 7 = .ok (.if_icmp .ge 25, 3) := by decide +kernel
theorem dX0_saved_10 : decode cX0_saved 10 = .ok (.iload_n 1, 1) := by decide +kernel
theorem dX0_saved_11 : decode cX0_saved 11 = .ok (.aload_n 0, 1) := by decide +kernel
theorem dX0_saved_12 : decode cX0_saved 12 = .ok (.getfield 13, 3) := by decide +kernel
theorem dX0_saved_15 : decode cX0_saved 15 = .ok (.iload_n 2, 1) := by decide +kernel
theorem dX0_saved_16 : decode cX0_saved 16 = .ok (.iaload, 1) := by decide +kernel
theorem dX0_saved_17 : decode cX0_saved 17 = .ok (.aload_n 0, 1) := by decide +kernel
theorem dX0_saved_18 : decode cX0_saved 18 = .ok (.getfield 22, 3) := by decide +kernel
theorem dX0_saved_21 : decode cX0_saved 21 = .ok (.iload_n 2, 1) := by decide +kernel
theorem dX0_saved_22 : decode cX0_saved 22 = .ok (.iaload, 1) := by decide +kernel
theorem dX0_saved_23 : decode cX0_saved 23 = .ok (.imul, 1) := by decide +kernel
theorem dX0_saved_24 : decode cX0_saved 24 = .ok (.iadd, 1) := by decide +kernel
theorem dX0_saved_25 : decode cX0_saved 25 = .ok (.istore_n 1, 1) := by decide +kernel
theorem dX0_saved_26 : decode cX0_saved 26 = .ok (.iinc 2 1, 3) := by decide +kernel
theorem dX0_saved_29 : decode cX0_saved 29 = .ok (.goto (-25), 3) := by decide +kernel
theorem dX0_saved_32 : decode cX0_saved 32 = .ok (.iload_n 1, 1) := by decide +kernel
theorem dX0_saved_33 : decode cX0_saved 33 = .ok (.aload_n 0, 1) := by decide +kernel
theorem dX0_saved_34 : decode cX0_saved 34 = .ok (.getfield 78, 3) := by decide +kernel
theorem dX0_saved_37 : decode cX0_saved 37 = .ok (.isub, 1) := by decide +kernel
theorem dX0_saved_38 : decode cX0_saved 38 = .ok (.ireturn, 1) := by decide +kernel
theorem sSaved_rg (c : Int → Int) : -2147483648 ≤ sSaved c ∧ sSaved c ≤ 2147483647 := by
  have h1 := used_rg c
  have g0 := sm_le (f := fun _ => 0) (g := fun j => room (c j)) 32 (fun j _ _ => (room_rg _).1)
  have g1 := sm_le (f := fun j => room (c j)) (g := fun _ => 5) 32 (fun j _ _ => (room_rg _).2)
  rw [sm_const] at g0 g1
  unfold sSaved
  omega
set_option maxHeartbeats 4000000 in
theorem lpX0_saved {M : Mx} {τ : St} {y : Int} (hd : sm (fun p => τ 1 p * τ 4 p) 33 - τ 9 0 = y) (hy : -2147483648 ≤ y ∧ y ≤ 2147483647) (h : Cx 0 M cX0_saved 3 0) (hr : RtI 0 M .int (fun r τ' => τ = τ' ∧ r = y)) : ∀ (k i : Nat) (x s : Int), x = i → i ≤ 33 → 33 < i + k → s = sm (fun p => τ 1 p * τ 4 p) i → WX 0 M 4 [.inr 0, .inl s, .inl x] [] τ := by
  intro k
  induction k with
  | zero => intro i x s h1 h2 h3; omega
  | succ k ih =>
    intro i x s hx hi hk hs2
    refine x_iload_n (q := 5) h dX0_saved_4 rfl rfl rfl ?_
    refine x_bipush (q := 7) h dX0_saved_5 rfl (by decide) ?_
    refine x_icmp_ge (tgt := 32) (q := 10) h dX0_saved_7 (by decide) rfl (by omega) (by omega) (fun c7 => ?_) (fun c7 => ?_)
    · refine x_iload_n (q := 33) h dX0_saved_32 rfl rfl rfl ?_
      refine x_aload_n (q := 34) h dX0_saved_33 rfl rfl rfl ?_
      refine x0_geti (k := 9) (q := 37) h (by decide) q45 dX0_saved_34 rfl (fun v34 e34 l34 u34 => ?_)
      refine x_isub (q := 38) h dX0_saved_37 rfl ?_
      exact x_iret h hr dX0_saved_38 (by rw [hs2, e34, show i = 33 by omega, hd]; exact hy) (⟨rfl, by rw [hs2, e34, show i = 33 by omega]; exact hd⟩)
    · refine x_iload_n (q := 11) h dX0_saved_10 rfl rfl rfl ?_
      refine x_aload_n (q := 12) h dX0_saved_11 rfl rfl rfl ?_
      refine x0_geta (k := 1) (q := 15) h rfl q37 dX0_saved_12 rfl ?_
      refine x_iload_n (q := 16) h dX0_saved_15 rfl rfl rfl ?_
      refine x_iald (k := 1) (n := 33) (q := 17) h rfl dX0_saved_16 rfl (by omega) (fun v16 e16 l16 u16 => ?_)
      refine x_aload_n (q := 18) h dX0_saved_17 rfl rfl rfl ?_
      refine x0_geta (k := 4) (q := 21) h rfl q40 dX0_saved_18 rfl ?_
      refine x_iload_n (q := 22) h dX0_saved_21 rfl rfl rfl ?_
      refine x_iald (k := 4) (n := 33) (q := 23) h rfl dX0_saved_22 rfl (by omega) (fun v22 e22 l22 u22 => ?_)
      refine x_imul (q := 24) h dX0_saved_23 rfl ?_
      refine x_iadd (q := 25) h dX0_saved_24 rfl ?_
      refine x_istore_n (q := 26) (vs' := [.inr 0, .inl (s + (v16 * v22)), .inl x]) h dX0_saved_25 rfl (by decide) (Nat.le_of_ble_eq_true rfl) rfl rfl ?_
      refine x_iinc (q := 29) (vs' := [.inr 0, .inl (s + (v16 * v22)), .inl (x + 1)]) h dX0_saved_26 (by decide) rfl rfl rfl ?_
      refine x_goto (tgt := 4) h dX0_saved_29 (by decide) ?_
      refine ih (i + 1) _ _ (by omega) (by omega) (by omega) ?_
      simp only [sm]
      rw [hs2, e16, e22, hx]
set_option maxHeartbeats 4000000 in
theorem mX0_saved {τ : St} {c : Int → Int} (hI : Iv τ c) : CtI 0 yX0_saved cX0_saved 3 0 .int [] τ (fun r τ' => τ = τ' ∧ r = sSaved c) := by
  refine CtI.of (by decide) rfl (Nat.le_of_ble_eq_true rfl) (fun M h hr => ?_)
  show WX 0 M 0 [.inr 0] [] τ
  obtain ⟨a, K, hL, hT, hH⟩ := hI
  refine x_iconst (q := 1) h dX0_saved_0 rfl ?_
  refine x_istore_n (q := 2) (vs' := [.inr 0, .inl 0]) h dX0_saved_1 rfl (by decide) (Nat.le_of_ble_eq_true rfl) rfl rfl ?_
  refine x_iconst (q := 3) h dX0_saved_2 rfl ?_
  refine x_istore_n (q := 4) (vs' := [.inr 0, .inl 0, .inl 0]) h dX0_saved_3 rfl (by decide) (Nat.le_of_ble_eq_true rfl) rfl rfl ?_
  exact lpX0_saved (saved_Hd hL hT hH) (sSaved_rg c) h hr 34 0 0 0 (by omega) (by omega) (by omega) rfl

theorem dX0_aloneIn_0 : decode cX0_aloneIn 0 = .ok (.aload_n 0, 1) := by decide +kernel
theorem dX0_aloneIn_1 : decode cX0_aloneIn 1 = .ok (.iload_n 1, 1) := by decide +kernel
theorem dX0_aloneIn_2 : decode cX0_aloneIn 2 = .ok (.invokevirtual 115, 3) := by decide +kernel
theorem dX0_aloneIn_5 : decode cX0_aloneIn 5 = .ok (.ifCond .eq 5, 3) := by decide +kernel
theorem dX0_aloneIn_8 : decode cX0_aloneIn 8 = .ok (.iconst (-1), 1) := by decide +kernel
theorem dX0_aloneIn_9 : decode cX0_aloneIn 9 = .ok (.ireturn, 1) := by decide +kernel
theorem dX0_aloneIn_10 : decode cX0_aloneIn 10 = .ok (.iconst 0, 1) := by decide +kernel
theorem dX0_aloneIn_11 : decode cX0_aloneIn 11 = .ok (.istore_n 2, 1) := by decide +kernel
theorem dX0_aloneIn_12 : decode cX0_aloneIn 12 = .ok (.iconst 0, 1) := by decide +kernel
theorem dX0_aloneIn_13 : decode cX0_aloneIn 13 = .ok (.istore_n 3, 1) := by decide +kernel
theorem dX0_aloneIn_14 : decode cX0_aloneIn 14 = .ok (.iload_n 3, 1) := by decide +kernel
theorem dX0_aloneIn_15 : decode cX0_aloneIn 15 = .ok (.bipush 33, 2) := by decide +kernel
theorem dX0_aloneIn_17 : decode cX0_aloneIn 17 = .ok (.if_icmp .ge 80, 3) := by decide +kernel
theorem dX0_aloneIn_20 : decode cX0_aloneIn 20 = .ok (.iconst 0, 1) := by decide +kernel
theorem dX0_aloneIn_21 : decode cX0_aloneIn 21 = .ok (.istore 4, 2) := by decide +kernel
theorem dX0_aloneIn_23 : decode cX0_aloneIn 23 = .ok (.iconst 0, 1) := by decide +kernel
theorem dX0_aloneIn_24 : decode cX0_aloneIn 24 = .ok (.istore 5, 2) := by decide +kernel
theorem dX0_aloneIn_26 : decode cX0_aloneIn 26 = .ok (.iload 5, 2) := by decide +kernel
theorem dX0_aloneIn_28 : decode cX0_aloneIn 28 = .ok (.bipush 8, 2) := by decide +kernel
theorem dX0_aloneIn_30 : decode cX0_aloneIn 30 = .ok (.if_icmp .ge 36, 3) := by decide +kernel
theorem dX0_aloneIn_33 : decode cX0_aloneIn 33 = .ok (.aload_n 0, 1) := by decide +kernel
theorem dX0_aloneIn_34 : decode cX0_aloneIn 34 = .ok (.getfield 7, 3) := by decide +kernel
theorem dX0_aloneIn_37 : decode cX0_aloneIn 37 = .ok (.iload_n 1, 1) := by decide +kernel
theorem dX0_aloneIn_38 : decode cX0_aloneIn 38 = .ok (.bipush 8, 2) := by decide +kernel
theorem dX0_aloneIn_40 : decode cX0_aloneIn 40 = .ok (.imul, 1) := by decide +kernel
theorem dX0_aloneIn_41 : decode cX0_aloneIn 41 = .ok (.iload 5, 2) := by decide +kernel
theorem dX0_aloneIn_43 : decode cX0_aloneIn 43 = .ok (.iadd, 1) := by decide +kernel
theorem dX0_aloneIn_44 : decode cX0_aloneIn 44 = .ok (.iaload, 1) := by decide +kernel
theorem dX0_aloneIn_45 : decode cX0_aloneIn 45 = .ok (.iload_n 3, 1) := by decide +kernel
theorem dX0_aloneIn_46 : decode cX0_aloneIn 46 = .ok (.if_icmp .ne 10, 3) := by decide +kernel
theorem dX0_aloneIn_49 : decode cX0_aloneIn 49 = .ok (.iload 4, 2) := by decide +kernel
theorem dX0_aloneIn_51 : decode cX0_aloneIn 51 = .ok (.iconst 1, 1) := by decide +kernel
theorem dX0_aloneIn_52 : decode cX0_aloneIn 52 = .ok (.iadd, 1) := by decide +kernel
theorem dX0_aloneIn_53 : decode cX0_aloneIn 53 = .ok (.goto 5, 3) := by decide +kernel
theorem dX0_aloneIn_56 : decode cX0_aloneIn 56 = .ok (.iload 4, 2) := by decide +kernel
theorem dX0_aloneIn_58 : decode cX0_aloneIn 58 = .ok (.istore 4, 2) := by decide +kernel
theorem dX0_aloneIn_60 : decode cX0_aloneIn 60 = .ok (.iinc 5 1, 3) := by decide +kernel
theorem dX0_aloneIn_63 : decode cX0_aloneIn 63 = .ok (.goto (-37), 3) := by decide +kernel
theorem dX0_aloneIn_66 : decode cX0_aloneIn 66 = .ok (.iload 4, 2) := by decide +kernel
theorem dX0_aloneIn_68 : decode cX0_aloneIn 68 = .ok (.ifCond .le 23, 3) := by decide +kernel
theorem dX0_aloneIn_71 : decode cX0_aloneIn 71 = .ok (.iload 4, 2) := by decide +kernel
theorem dX0_aloneIn_73 : decode cX0_aloneIn 73 = .ok (.aload_n 0, 1) := by decide +kernel
theorem dX0_aloneIn_74 : decode cX0_aloneIn 74 = .ok (.getfield 13, 3) := by decide +kernel
theorem dX0_aloneIn_77 : decode cX0_aloneIn 77 = .ok (.iload_n 3, 1) := by decide +kernel
theorem dX0_aloneIn_78 : decode cX0_aloneIn 78 = .ok (.iaload, 1) := by decide +kernel
theorem dX0_aloneIn_79 : decode cX0_aloneIn 79 = .ok (.if_icmp .ne 12, 3) := by decide +kernel
theorem dX0_aloneIn_82 : decode cX0_aloneIn 82 = .ok (.iload_n 2, 1) := by decide +kernel
theorem dX0_aloneIn_83 : decode cX0_aloneIn 83 = .ok (.aload_n 0, 1) := by decide +kernel
theorem dX0_aloneIn_84 : decode cX0_aloneIn 84 = .ok (.getfield 22, 3) := by decide +kernel
theorem dX0_aloneIn_87 : decode cX0_aloneIn 87 = .ok (.iload_n 3, 1) := by decide +kernel
theorem dX0_aloneIn_88 : decode cX0_aloneIn 88 = .ok (.iaload, 1) := by decide +kernel
theorem dX0_aloneIn_89 : decode cX0_aloneIn 89 = .ok (.iadd, 1) := by decide +kernel
theorem dX0_aloneIn_90 : decode cX0_aloneIn 90 = .ok (.istore_n 2, 1) := by decide +kernel
theorem dX0_aloneIn_91 : decode cX0_aloneIn 91 = .ok (.iinc 3 1, 3) := by decide +kernel
theorem dX0_aloneIn_94 : decode cX0_aloneIn 94 = .ok (.goto (-80), 3) := by decide +kernel
theorem dX0_aloneIn_97 : decode cX0_aloneIn 97 = .ok (.iload_n 2, 1) := by decide +kernel
theorem dX0_aloneIn_98 : decode cX0_aloneIn 98 = .ok (.ireturn, 1) := by decide +kernel
set_option maxHeartbeats 4000000 in
theorem lqX0_aloneIn {M : Mx} {τ : St} {v s p : Int} (hv : 0 ≤ v ∧ v ≤ 3) (hp : 0 ≤ p ∧ p < 33) (h : Cx 0 M cX0_aloneIn 6 1) (hx : ∀ x g : Int, g = sm (fun j => if τ 0 (8 * v + j) = p then 1 else 0) 8 → WX 0 M 66 [.inr 0, .inl v, .inl s, .inl p, .inl g, .inl x] [] τ) : ∀ (k i : Nat) (x g : Int), x = i → i ≤ 8 → 8 < i + k → g = sm (fun j => if τ 0 (8 * v + j) = p then 1 else 0) i → WX 0 M 26 [.inr 0, .inl v, .inl s, .inl p, .inl g, .inl x] [] τ := by
  intro k
  induction k with
  | zero => intro i x g h1 h2 h3; omega
  | succ k ih =>
    intro i x g hx2 hi hk hs2
    refine x_iload (q := 28) h dX0_aloneIn_26 rfl rfl ?_
    refine x_bipush (q := 30) h dX0_aloneIn_28 rfl (by decide) ?_
    refine x_icmp_ge (tgt := 66) (q := 33) h dX0_aloneIn_30 (by decide) rfl (by omega) (by omega) (fun c30 => ?_) (fun c30 => ?_)
    · exact hx x g (by rw [hs2, show i = 8 by omega])
    · refine x_aload_n (q := 34) h dX0_aloneIn_33 rfl rfl rfl ?_
      refine x0_geta (k := 0) (q := 37) h rfl q36 dX0_aloneIn_34 rfl ?_
      refine x_iload_n (q := 38) h dX0_aloneIn_37 rfl rfl rfl ?_
      refine x_bipush (q := 40) h dX0_aloneIn_38 rfl (by decide) ?_
      refine x_imul (q := 41) h dX0_aloneIn_40 rfl ?_
      refine x_iload (q := 43) h dX0_aloneIn_41 rfl rfl ?_
      refine x_iadd (q := 44) h dX0_aloneIn_43 rfl ?_
      refine x_iald (k := 0) (n := 32) (q := 45) h rfl dX0_aloneIn_44 rfl (by omega) (fun v44 e44 l44 u44 => ?_)
      refine x_iload_n (q := 46) h dX0_aloneIn_45 rfl rfl rfl ?_
      refine x_icmp_ne (tgt := 56) (q := 49) h dX0_aloneIn_46 (by decide) rfl (by omega) (by omega) (fun c46 => ?_) (fun c46 => ?_)
      · refine x_iload (q := 58) h dX0_aloneIn_56 rfl rfl ?_
        refine x_istore (q := 60) (vs' := [.inr 0, .inl v, .inl s, .inl p, .inl g, .inl x]) h dX0_aloneIn_58 (by decide) (Nat.le_of_ble_eq_true rfl) rfl rfl ?_
        refine x_iinc (q := 63) (vs' := [.inr 0, .inl v, .inl s, .inl p, .inl g, .inl (x + 1)]) h dX0_aloneIn_60 (by decide) rfl rfl rfl ?_
        refine x_goto (tgt := 26) h dX0_aloneIn_63 (by decide) ?_
        refine ih (i + 1) _ _ (by omega) (by omega) (by omega) ?_
        simp only [sm]
        rw [show v * 8 + x = 8 * v + (i : Int) by omega] at e44
        rw [if_neg (by omega)]; omega
      · refine x_iload (q := 51) h dX0_aloneIn_49 rfl rfl ?_
        refine x_iconst (q := 52) h dX0_aloneIn_51 rfl ?_
        refine x_iadd (q := 53) h dX0_aloneIn_52 rfl ?_
        refine x_goto (tgt := 58) h dX0_aloneIn_53 (by decide) ?_
        refine x_istore (q := 60) (vs' := [.inr 0, .inl v, .inl s, .inl p, .inl (g + 1), .inl x]) h dX0_aloneIn_58 (by decide) (Nat.le_of_ble_eq_true rfl) rfl rfl ?_
        refine x_iinc (q := 63) (vs' := [.inr 0, .inl v, .inl s, .inl p, .inl (g + 1), .inl (x + 1)]) h dX0_aloneIn_60 (by decide) rfl rfl rfl ?_
        refine x_goto (tgt := 26) h dX0_aloneIn_63 (by decide) ?_
        refine ih (i + 1) _ _ (by omega) (by omega) (by omega) ?_
        simp only [sm]
        rw [show v * 8 + x = 8 * v + (i : Int) by omega] at e44
        rw [if_pos (by omega)]; omega
set_option maxHeartbeats 4000000 in
theorem lpX0_aloneIn {M : Mx} {τ : St} {v y : Int} (hv : 0 ≤ v ∧ v ≤ 3) (hd : sm (fun p => if 0 < sm (fun j => if τ 0 (8 * v + j) = p then 1 else 0) 8 ∧ sm (fun j => if τ 0 (8 * v + j) = p then 1 else 0) 8 = τ 1 p then τ 4 p else 0) 33 = y) (hy : -2147483648 ≤ y ∧ y ≤ 2147483647) (h : Cx 0 M cX0_aloneIn 6 1) (hr : RtI 0 M .int (fun r τ' => τ = τ' ∧ r = y)) : ∀ (k i : Nat) (x s : Int), x = i → i ≤ 33 → 33 < i + k → s = sm (fun p => if 0 < sm (fun j => if τ 0 (8 * v + j) = p then 1 else 0) 8 ∧ sm (fun j => if τ 0 (8 * v + j) = p then 1 else 0) 8 = τ 1 p then τ 4 p else 0) i → WX 0 M 14 [.inr 0, .inl v, .inl s, .inl x] [] τ := by
  intro k
  induction k with
  | zero => intro i x s h1 h2 h3; omega
  | succ k ih =>
    intro i x s hx hi hk hs2
    refine x_iload_n (q := 15) h dX0_aloneIn_14 rfl rfl rfl ?_
    refine x_bipush (q := 17) h dX0_aloneIn_15 rfl (by decide) ?_
    refine x_icmp_ge (tgt := 97) (q := 20) h dX0_aloneIn_17 (by decide) rfl (by omega) (by omega) (fun c17 => ?_) (fun c17 => ?_)
    · refine x_iload_n (q := 98) h dX0_aloneIn_97 rfl rfl rfl ?_
      exact x_iret h hr dX0_aloneIn_98 (by rw [hs2, show i = 33 by omega, hd]; exact hy) (⟨rfl, by rw [hs2, show i = 33 by omega]; exact hd⟩)
    · refine x_iconst (q := 21) h dX0_aloneIn_20 rfl ?_
      refine x_istore (q := 23) (vs' := [.inr 0, .inl v, .inl s, .inl x, .inl 0]) h dX0_aloneIn_21 (by decide) (Nat.le_of_ble_eq_true rfl) rfl rfl ?_
      refine x_iconst (q := 24) h dX0_aloneIn_23 rfl ?_
      refine x_istore (q := 26) (vs' := [.inr 0, .inl v, .inl s, .inl x, .inl 0, .inl 0]) h dX0_aloneIn_24 (by decide) (Nat.le_of_ble_eq_true rfl) rfl rfl ?_
      refine lqX0_aloneIn (v := v) (p := x) hv (by omega) h ?_ 9 0 0 0 (by omega) (by omega) (by omega) rfl
      intro x9 g hg
      have hg8 : 0 ≤ g ∧ g ≤ 8 := by
        have g0 := sm_le (f := fun _ => 0) (g := fun j => if τ 0 (8 * v + j) = x then 1 else 0) 8 (fun j _ _ => by show (0 : Int) ≤ if τ 0 (8 * v + j) = x then 1 else 0; split <;> decide)
        have g1 := sm_le (f := fun j => if τ 0 (8 * v + j) = x then 1 else 0) (g := fun _ => 1) 8 (fun j _ _ => by show (if τ 0 (8 * v + j) = x then (1 : Int) else 0) ≤ 1; split <;> decide)
        rw [sm_const] at g0 g1
        omega
      refine x_iload (q := 68) h dX0_aloneIn_66 rfl rfl ?_
      refine x_if_le (tgt := 91) (q := 71) h dX0_aloneIn_68 (by decide) rfl (by omega) (fun c68 => ?_) (fun c68 => ?_)
      · refine x_iinc (q := 94) (vs' := [.inr 0, .inl v, .inl s, .inl (x + 1), .inl g, .inl x9]) h dX0_aloneIn_91 (by decide) rfl rfl rfl ?_
        refine x_goto (tgt := 14) h dX0_aloneIn_94 (by decide) ?_
        refine x_drop (vs' := [.inr 0, .inl v, .inl s, .inl (x + 1)]) 4 rfl ?_
        refine ih (i + 1) _ _ (by omega) (by omega) (by omega) ?_
        rw [sm_s, ← hs2, ← hx]
        rw [if_neg (by first | (rw [← hg]; omega) | (rw [← hg, ← e78]; omega)), Int.add_zero]
      · refine x_iload (q := 73) h dX0_aloneIn_71 rfl rfl ?_
        refine x_aload_n (q := 74) h dX0_aloneIn_73 rfl rfl rfl ?_
        refine x0_geta (k := 1) (q := 77) h rfl q37 dX0_aloneIn_74 rfl ?_
        refine x_iload_n (q := 78) h dX0_aloneIn_77 rfl rfl rfl ?_
        refine x_iald (k := 1) (n := 33) (q := 79) h rfl dX0_aloneIn_78 rfl (by omega) (fun v78 e78 l78 u78 => ?_)
        refine x_icmp_ne (tgt := 91) (q := 82) h dX0_aloneIn_79 (by decide) rfl (by omega) (by omega) (fun c79 => ?_) (fun c79 => ?_)
        · refine x_iinc (q := 94) (vs' := [.inr 0, .inl v, .inl s, .inl (x + 1), .inl g, .inl x9]) h dX0_aloneIn_91 (by decide) rfl rfl rfl ?_
          refine x_goto (tgt := 14) h dX0_aloneIn_94 (by decide) ?_
          refine x_drop (vs' := [.inr 0, .inl v, .inl s, .inl (x + 1)]) 4 rfl ?_
          refine ih (i + 1) _ _ (by omega) (by omega) (by omega) ?_
          rw [sm_s, ← hs2, ← hx]
          rw [if_neg (by first | (rw [← hg]; omega) | (rw [← hg, ← e78]; omega)), Int.add_zero]
        · refine x_iload_n (q := 83) h dX0_aloneIn_82 rfl rfl rfl ?_
          refine x_aload_n (q := 84) h dX0_aloneIn_83 rfl rfl rfl ?_
          refine x0_geta (k := 4) (q := 87) h rfl q40 dX0_aloneIn_84 rfl ?_
          refine x_iload_n (q := 88) h dX0_aloneIn_87 rfl rfl rfl ?_
          refine x_iald (k := 4) (n := 33) (q := 89) h rfl dX0_aloneIn_88 rfl (by omega) (fun v88 e88 l88 u88 => ?_)
          refine x_iadd (q := 90) h dX0_aloneIn_89 rfl ?_
          refine x_istore_n (q := 91) (vs' := [.inr 0, .inl v, .inl (s + v88), .inl x, .inl g, .inl x9]) h dX0_aloneIn_90 rfl (by decide) (Nat.le_of_ble_eq_true rfl) rfl rfl ?_
          refine x_iinc (q := 94) (vs' := [.inr 0, .inl v, .inl (s + v88), .inl (x + 1), .inl g, .inl x9]) h dX0_aloneIn_91 (by decide) rfl rfl rfl ?_
          refine x_goto (tgt := 14) h dX0_aloneIn_94 (by decide) ?_
          refine x_drop (vs' := [.inr 0, .inl v, .inl (s + v88), .inl (x + 1)]) 4 rfl ?_
          refine ih (i + 1) _ _ (by omega) (by omega) (by omega) ?_
          rw [sm_s, ← hs2, ← hx]
          rw [if_pos (by rw [← hg, ← e78]; omega), e88]
set_option maxHeartbeats 4000000 in
theorem mX0_aloneIn {τ : St} (v : Int) (r_v : -2147483648 ≤ v ∧ v ≤ 2147483647) {c : Int → Int} (hI : Iv τ c) : CtI 0 yX0_aloneIn cX0_aloneIn 6 1 .int [v] τ (fun r τ' => τ = τ' ∧ r = sAloneIn c v) := by
  refine CtI.of (by decide) rfl (Nat.le_of_ble_eq_true rfl) (fun M h hr => ?_)
  show WX 0 M 0 [.inr 0, .inl v] [] τ
  obtain ⟨a, K, hL, hT, hH⟩ := hI
  refine x_aload_n (q := 1) h dX0_aloneIn_0 rfl rfl rfl ?_
  refine x_iload_n (q := 2) h dX0_aloneIn_1 rfl rfl rfl ?_
  refine x_calli (q := 5) (xs := [v]) (st := []) h (mX0_badVolume v (by omega)) lkX0_badVolume rfl (by decide) (by decide) dX0_aloneIn_2 rfl (by simp) rfl (fun z2 τ2 s2 r2 p2 => ?_)
  obtain ⟨rfl, p2⟩ := p2
  refine x_if_eq (tgt := 10) (q := 8) h dX0_aloneIn_5 (by decide) rfl (by omega) (fun c5 => ?_) (fun c5 => ?_)
  · refine x_iconst (q := 11) h dX0_aloneIn_10 rfl ?_
    refine x_istore_n (q := 12) (vs' := [.inr 0, .inl v, .inl 0]) h dX0_aloneIn_11 rfl (by decide) (Nat.le_of_ble_eq_true rfl) rfl rfl ?_
    refine x_iconst (q := 13) h dX0_aloneIn_12 rfl ?_
    refine x_istore_n (q := 14) (vs' := [.inr 0, .inl v, .inl 0, .inl 0]) h dX0_aloneIn_13 rfl (by decide) (Nat.le_of_ble_eq_true rfl) rfl rfl ?_
    have hal := aloneIn_Hd hL hT hH (v := v) (by omega) (by omega)
    have u1 := used_rg c
    have u2 := used_rg (fil c (8 * v) (8 * v + 8) 0)
    have e9 : (fun (r : Int) (τ' : St) => τ = τ' ∧ r = sAloneIn c v) = fun r τ' => τ = τ' ∧ r = used c - used (fil c (8 * v) (8 * v + 8) 0) := by
      unfold sAloneIn
      rw [if_neg (by omega)]
    rw [e9] at hr
    exact lpX0_aloneIn (by omega) hal (by omega) h hr 34 0 0 0 (by omega) (by omega) (by omega) rfl
  · refine x_iconst (q := 9) h dX0_aloneIn_8 rfl ?_
    exact x_iret h hr dX0_aloneIn_9 (by omega) (⟨rfl, by unfold sAloneIn; rw [if_pos (by omega)]⟩)

theorem dX0_twin_0 : decode cX0_twin 0 = .ok (.aload_n 0, 1) := by decide +kernel
theorem dX0_twin_1 : decode cX0_twin 1 = .ok (.iload_n 1, 1) := by decide +kernel
theorem dX0_twin_2 : decode cX0_twin 2 = .ok (.invokevirtual 98, 3) := by decide +kernel
theorem dX0_twin_5 : decode cX0_twin 5 = .ok (.ifCond .eq 5, 3) := by decide +kernel
theorem dX0_twin_8 : decode cX0_twin 8 = .ok (.iconst (-1), 1) := by decide +kernel
theorem dX0_twin_9 : decode cX0_twin 9 = .ok (.ireturn, 1) := by decide +kernel
theorem dX0_twin_10 : decode cX0_twin 10 = .ok (.iconst 0, 1) := by decide +kernel
theorem dX0_twin_11 : decode cX0_twin 11 = .ok (.istore_n 2, 1) := by decide +kernel
theorem dX0_twin_12 : decode cX0_twin 12 = .ok (.iload_n 2, 1) := by decide +kernel
theorem dX0_twin_13 : decode cX0_twin 13 = .ok (.bipush 32, 2) := by decide +kernel
theorem dX0_twin_15 : decode cX0_twin 15 = .ok (.if_icmp .ge 31, 3) := by decide +kernel
theorem dX0_twin_18 : decode cX0_twin 18 = .ok (.iload_n 2, 1) := by decide +kernel
theorem dX0_twin_19 : decode cX0_twin 19 = .ok (.iload_n 1, 1) := by decide +kernel
theorem dX0_twin_20 : decode cX0_twin 20 = .ok (.if_icmp .eq 20, 3) := by decide +kernel
theorem dX0_twin_23 : decode cX0_twin 23 = .ok (.aload_n 0, 1) := by decide +kernel
theorem dX0_twin_24 : decode cX0_twin 24 = .ok (.getfield 7, 3) := by decide +kernel
theorem dX0_twin_27 : decode cX0_twin 27 = .ok (.iload_n 2, 1) := by decide +kernel
theorem dX0_twin_28 : decode cX0_twin 28 = .ok (.iaload, 1) := by decide +kernel
theorem dX0_twin_29 : decode cX0_twin 29 = .ok (.aload_n 0, 1) := by decide +kernel
theorem dX0_twin_30 : decode cX0_twin 30 = .ok (.getfield 7, 3) := by decide +kernel
theorem dX0_twin_33 : decode cX0_twin 33 = .ok (.iload_n 1, 1) := by decide +kernel
theorem dX0_twin_34 : decode cX0_twin 34 = .ok (.iaload, 1) := by decide +kernel
theorem dX0_twin_35 : decode cX0_twin 35 = .ok (.if_icmp .ne 5, 3) := by decide +kernel
theorem dX0_twin_38 : decode cX0_twin 38 = .ok (.iload_n 2, 1) := by decide +kernel
theorem dX0_twin_39 : decode cX0_twin 39 = .ok (.ireturn, 1) := by decide +kernel
theorem dX0_twin_40 : decode cX0_twin 40 = .ok (.iinc 2 1, 3) := by decide +kernel
theorem dX0_twin_43 : decode cX0_twin 43 = .ok (.goto (-31), 3) := by decide +kernel
theorem dX0_twin_46 : decode cX0_twin 46 = .ok (.bipush (-4), 2) := by decide +kernel
theorem dX0_twin_48 : decode cX0_twin 48 = .ok (.ireturn, 1) := by decide +kernel
set_option maxHeartbeats 4000000 in
theorem lpX0_twin {M : Mx} {τ : St} {K c : Int → Int} {n : Int} {Po : Int → St → Prop} (hHK : HK (τ 0) K c) (hn : 0 ≤ n ∧ n ≤ 31) (h : Cx 0 M cX0_twin 3 1) (hr : RtI 0 M .int Po) (hp : ∀ r : Int, isTwin c n r → Po r τ) : ∀ (k : Nat) (x : Int), 0 ≤ x → x ≤ 32 → 32 - x < k → (∀ j : Int, 0 ≤ j → j < x → j ≠ n → c j ≠ c n) → WX 0 M 12 [.inr 0, .inl n, .inl x] [] τ := by
  intro k
  induction k with
  | zero => intro x h1 h2 h3; omega
  | succ k ih =>
    intro x h0 hx hk h2
    refine x_iload_n (q := 13) h dX0_twin_12 rfl rfl rfl ?_
    refine x_bipush (q := 15) h dX0_twin_13 rfl (by decide) ?_
    refine x_icmp_ge (tgt := 46) (q := 18) h dX0_twin_15 (by decide) rfl (by omega) (by omega) (fun c15 => ?_) (fun c15 => ?_)
    · refine x_bipush (q := 48) h dX0_twin_46 rfl (by decide) ?_
      exact x_iret h hr dX0_twin_48 (by omega) (hp _ (Or.inl ⟨rfl, fun j a b => h2 j a (by omega)⟩))
    · refine x_iload_n (q := 19) h dX0_twin_18 rfl rfl rfl ?_
      refine x_iload_n (q := 20) h dX0_twin_19 rfl rfl rfl ?_
      refine x_icmp_eq (tgt := 40) (q := 23) h dX0_twin_20 (by decide) rfl (by omega) (by omega) (fun c20 => ?_) (fun c20 => ?_)
      · refine x_iinc (q := 43) (vs' := [.inr 0, .inl n, .inl (x + 1)]) h dX0_twin_40 (by decide) rfl rfl rfl ?_
        refine x_goto (tgt := 12) h dX0_twin_43 (by decide) ?_
        refine ih (x + 1) (by omega) (by omega) (by omega) ?_
        intro j a b hj
        by_cases e : j = x
        · subst e
          first | exact absurd c20 hj | exact (fun q => c35 (by rw [e28, e34]; exact (HK_eq hHK a (by omega) (by omega) (by omega)).mp q))
        · exact h2 j a (by omega) hj
      · refine x_aload_n (q := 24) h dX0_twin_23 rfl rfl rfl ?_
        refine x0_geta (k := 0) (q := 27) h rfl q36 dX0_twin_24 rfl ?_
        refine x_iload_n (q := 28) h dX0_twin_27 rfl rfl rfl ?_
        refine x_iald (k := 0) (n := 32) (q := 29) h rfl dX0_twin_28 rfl (by omega) (fun v28 e28 l28 u28 => ?_)
        refine x_aload_n (q := 30) h dX0_twin_29 rfl rfl rfl ?_
        refine x0_geta (k := 0) (q := 33) h rfl q36 dX0_twin_30 rfl ?_
        refine x_iload_n (q := 34) h dX0_twin_33 rfl rfl rfl ?_
        refine x_iald (k := 0) (n := 32) (q := 35) h rfl dX0_twin_34 rfl (by omega) (fun v34 e34 l34 u34 => ?_)
        refine x_icmp_ne (tgt := 40) (q := 38) h dX0_twin_35 (by decide) rfl (by omega) (by omega) (fun c35 => ?_) (fun c35 => ?_)
        · refine x_iinc (q := 43) (vs' := [.inr 0, .inl n, .inl (x + 1)]) h dX0_twin_40 (by decide) rfl rfl rfl ?_
          refine x_goto (tgt := 12) h dX0_twin_43 (by decide) ?_
          refine ih (x + 1) (by omega) (by omega) (by omega) ?_
          intro j a b hj
          by_cases e : j = x
          · subst e
            first | exact absurd c20 hj | exact (fun q => c35 (by rw [e28, e34]; exact (HK_eq hHK a (by omega) (by omega) (by omega)).mp q))
          · exact h2 j a (by omega) hj
        · refine x_iload_n (q := 39) h dX0_twin_38 rfl rfl rfl ?_
          exact x_iret h hr dX0_twin_39 (by omega) (hp _ (Or.inr ⟨by omega, by omega, c20, (HK_eq hHK (by omega) (by omega) (by omega) (by omega)).mpr (by rw [← e28, ← e34]; exact c35), h2⟩))
set_option maxHeartbeats 4000000 in
theorem mX0_twin {τ : St} (n : Int) (r_n : -2147483648 ≤ n ∧ n ≤ 2147483647) {c : Int → Int} (hI : Iv τ c) : CtI 0 yX0_twin cX0_twin 3 1 .int [n] τ (fun r τ' => τ = τ' ∧ (((n < 0 ∨ 31 < n) ∧ r = -1) ∨ (0 ≤ n ∧ n ≤ 31 ∧ isTwin c n r))) := by
  refine CtI.of (by decide) rfl (Nat.le_of_ble_eq_true rfl) (fun M h hr => ?_)
  show WX 0 M 0 [.inr 0, .inl n] [] τ
  obtain ⟨a, K, hL, hT, hH⟩ := hI
  refine x_aload_n (q := 1) h dX0_twin_0 rfl rfl rfl ?_
  refine x_iload_n (q := 2) h dX0_twin_1 rfl rfl rfl ?_
  refine x_calli (q := 5) (xs := [n]) (st := []) h (mX0_bad n (by omega)) lkX0_bad rfl (by decide) (by decide) dX0_twin_2 rfl (by simp) rfl (fun z2 τ2 s2 r2 p2 => ?_)
  obtain ⟨rfl, p2⟩ := p2
  refine x_if_eq (tgt := 10) (q := 8) h dX0_twin_5 (by decide) rfl (by omega) (fun c5 => ?_) (fun c5 => ?_)
  · refine x_iconst (q := 11) h dX0_twin_10 rfl ?_
    refine x_istore_n (q := 12) (vs' := [.inr 0, .inl n, .inl 0]) h dX0_twin_11 rfl (by decide) (Nat.le_of_ble_eq_true rfl) rfl rfl ?_
    exact lpX0_twin (HK_of hL hT hH) (by omega) h hr (fun r q => ⟨rfl, Or.inr ⟨by omega, by omega, q⟩⟩) 33 0 (by omega) (by omega) (by omega) (fun j a b => by omega)
  · refine x_iconst (q := 9) h dX0_twin_8 rfl ?_
    exact x_iret h hr dX0_twin_9 (by omega) (⟨rfl, Or.inl ⟨by omega, rfl⟩⟩)

theorem dX0_favourite_0 : decode cX0_favourite 0 = .ok (.bipush (-4), 2) := by decide +kernel
theorem dX0_favourite_2 : decode cX0_favourite 2 = .ok (.istore_n 1, 1) := by decide +kernel
theorem dX0_favourite_3 : decode cX0_favourite 3 = .ok (.iconst 0, 1) := by decide +kernel
theorem dX0_favourite_4 : decode cX0_favourite 4 = .ok (.istore_n 2, 1) := by decide +kernel
theorem dX0_favourite_5 : decode cX0_favourite 5 = .ok (.iconst 0, 1) := by decide +kernel
theorem dX0_favourite_6 : decode cX0_favourite 6 = .ok (.istore_n 3, 1) := by decide +kernel
theorem dX0_favourite_7 : decode cX0_favourite 7 = .ok (.iload_n 3, 1) := by decide +kernel
theorem dX0_favourite_8 : decode cX0_favourite 8 = .ok (.bipush 33, 2) := by decide +kernel
theorem dX0_favourite_10 : decode cX0_favourite 10 = .ok (.if_icmp .ge 61, 3) := by decide +kernel
theorem dX0_favourite_13 : decode cX0_favourite 13 = .ok (.aload_n 0, 1) := by decide +kernel
theorem dX0_favourite_14 : decode cX0_favourite 14 = .ok (.getfield 13, 3) := by decide +kernel
theorem dX0_favourite_17 : decode cX0_favourite 17 = .ok (.iload_n 3, 1) := by decide +kernel
theorem dX0_favourite_18 : decode cX0_favourite 18 = .ok (.iaload, 1) := by decide +kernel
theorem dX0_favourite_19 : decode cX0_favourite 19 = .ok (.iload_n 2, 1) := by decide +kernel
theorem dX0_favourite_20 : decode cX0_favourite 20 = .ok (.if_icmp .lt 45, 3) := by decide +kernel
theorem dX0_favourite_23 : decode cX0_favourite 23 = .ok (.aload_n 0, 1) := by decide +kernel
theorem dX0_favourite_24 : decode cX0_favourite 24 = .ok (.getfield 13, 3) := by decide +kernel
theorem dX0_favourite_27 : decode cX0_favourite 27 = .ok (.iload_n 3, 1) := by decide +kernel
theorem dX0_favourite_28 : decode cX0_favourite 28 = .ok (.iaload, 1) := by decide +kernel
theorem dX0_favourite_29 : decode cX0_favourite 29 = .ok (.ifCond .le 36, 3) := by decide +kernel
theorem dX0_favourite_32 : decode cX0_favourite 32 = .ok (.aload_n 0, 1) := by decide +kernel
theorem dX0_favourite_33 : decode cX0_favourite 33 = .ok (.iload_n 3, 1) := by decide +kernel
theorem dX0_favourite_34 : decode cX0_favourite 34 = .ok (.invokevirtual 56, 3) := by decide +kernel
theorem dX0_favourite_37 : decode cX0_favourite 37 = .ok (.istore 4, 2) := by decide +kernel
theorem dX0_favourite_39 : decode cX0_favourite 39 = .ok (.aload_n 0, 1) := by decide +kernel
theorem dX0_favourite_40 : decode cX0_favourite 40 = .ok (.getfield 13, 3) := by decide +kernel
theorem dX0_favourite_43 : decode cX0_favourite 43 = .ok (.iload_n 3, 1) := by decide +kernel
theorem dX0_favourite_44 : decode cX0_favourite 44 = .ok (.iaload, 1) := by decide +kernel
theorem dX0_favourite_45 : decode cX0_favourite 45 = .ok (.iload_n 2, 1) := by decide +kernel
theorem dX0_favourite_46 : decode cX0_favourite 46 = .ok (.if_icmp .gt 9, 3) := by decide +kernel
theorem dX0_favourite_49 : decode cX0_favourite 49 = .ok (.iload 4, 2) := by decide +kernel
theorem dX0_favourite_51 : decode cX0_favourite 51 = .ok (.iload_n 1, 1) := by decide +kernel
theorem dX0_favourite_52 : decode cX0_favourite 52 = .ok (.if_icmp .ge 13, 3) := by decide +kernel
theorem dX0_favourite_55 : decode cX0_favourite 55 = .ok (.iload 4, 2) := by decide +kernel
theorem dX0_favourite_57 : decode cX0_favourite 57 = .ok (.istore_n 1, 1) := by decide +kernel
theorem dX0_favourite_58 : decode cX0_favourite 58 = .ok (.aload_n 0, 1) := by decide +kernel
theorem dX0_favourite_59 : decode cX0_favourite 59 = .ok (.getfield 13, 3) := by decide +kernel
theorem dX0_favourite_62 : decode cX0_favourite 62 = .ok (.iload_n 3, 1) := by decide +kernel
theorem dX0_favourite_63 : decode cX0_favourite 63 = .ok (.iaload, 1) := by decide +kernel
theorem dX0_favourite_64 : decode cX0_favourite 64 = .ok (.istore_n 2, 1) := by decide +kernel
theorem dX0_favourite_65 : decode cX0_favourite 65 = .ok (.iinc 3 1, 3) := by decide +kernel
theorem dX0_favourite_68 : decode cX0_favourite 68 = .ok (.goto (-61), 3) := by decide +kernel
theorem dX0_favourite_71 : decode cX0_favourite 71 = .ok (.iload_n 1, 1) := by decide +kernel
theorem dX0_favourite_72 : decode cX0_favourite 72 = .ok (.ireturn, 1) := by decide +kernel
/-- the best of the pieces up to x -/
def favP (τ : St) (a : Int → Bool) (K : Int → Int) (x best most : Int) : Prop := (best = -4 ∧ most = 0 ∧ ∀ p : Int, 0 ≤ p → p < x → ¬ 0 < τ 1 p) ∨ (1 ≤ best ∧ best ≤ 4095 ∧ 0 < most ∧ most ≤ 32 ∧ (∃ p : Int, 0 ≤ p ∧ p < 33 ∧ a p = true ∧ K p = best ∧ τ 1 p = most) ∧ ∀ p : Int, 0 ≤ p → p < x → 0 < τ 1 p → τ 1 p < most ∨ (τ 1 p = most ∧ best ≤ K p))
theorem fp_end {τ : St} {a : Int → Bool} {K c : Int → Int} {x best most : Int} (hL : Lg τ a K) (hT : Tb τ a K) (hH : Hd τ a K c) (h : favP τ a K x best most) (hx : 33 ≤ x) : isFav c best := by
  rcases h with ⟨h1, h2, h3⟩ | ⟨h1, h1b, h2, h2b, ⟨p, p0, p1, p2, p3, p4⟩, h4⟩
  · refine Or.inl ⟨h1, fun j j0 j1 => ?_⟩
    rcases hH.1 j j0 j1 with q | q
    · exact q.2
    · exact absurd ((hH.2.2.1 _ q.1 q.2.1).mp q.2.2.1) (h3 _ q.1 (by omega))
  · have hb := cnt_piece hL hT hH p0 p1 p2 p3
    refine Or.inr ⟨by omega, by omega, fun j j0 j1 hj => ?_⟩
    rcases hH.1 j j0 j1 with q | q
    · exact absurd q.2 hj
    · have hq := cnt_piece hL hT hH q.1 q.2.1 q.2.2.1 q.2.2.2.symm
      have h5 := h4 _ q.1 (by omega) ((hH.2.2.1 _ q.1 q.2.1).mp q.2.2.1)
      rw [hb, hq, p4]
      rw [q.2.2.2]
      exact h5
theorem fp_old {τ : St} {a : Int → Bool} {K : Int → Int} {x best most v : Int} (h : favP τ a K x best most) (x0 : 0 ≤ x) (x1 : x < 33) (e : v = τ 1 x) (hn : v < most ∨ v ≤ 0 ∨ (v ≤ most ∧ best ≤ K x)) : favP τ a K (x + 1) best most := by
  rcases h with ⟨h1, h2, h3⟩ | ⟨h1, h1b, h2, h2b, h3, h4⟩
  · refine Or.inl ⟨h1, h2, fun p p0 p1 => ?_⟩
    by_cases q : p = x
    · subst q; omega
    · exact h3 p p0 (by omega)
  · refine Or.inr ⟨h1, h1b, h2, h2b, h3, fun p p0 p1 hp => ?_⟩
    by_cases q : p = x
    · subst q; omega
    · exact h4 p p0 (by omega) hp
theorem fp_new {τ : St} {a : Int → Bool} {K : Int → Int} {x best most v z : Int} (h : favP τ a K x best most) (x0 : 0 ≤ x) (x1 : x < 33) (ha : a x = true) (hK : 1 ≤ K x ∧ K x ≤ 4095) (hU : τ 1 x = cnt (τ 0) x 32) (hz : z = K x) (hv : v = τ 1 x ∧ 0 < v ∧ v ≤ 32) (hn : most < v ∨ (v = most ∧ z < best)) : favP τ a K (x + 1) z v := by
  refine Or.inr ⟨by omega, by omega, by omega, by omega, ⟨x, x0, x1, ha, hz.symm, hv.1.symm⟩, fun p p0 p1 hp => ?_⟩
  by_cases q : p = x
  · subst q; omega
  · rcases h with ⟨h1, h2, h3⟩ | ⟨h1, h1b, h2, h2b, h3, h4⟩
    · exact absurd hp (h3 p p0 (by omega))
    · have := h4 p p0 (by omega) hp
      omega
set_option maxHeartbeats 4000000 in
theorem lpX0_favourite {M : Mx} {τ : St} {a : Int → Bool} {K c : Int → Int} (hL : Lg τ a K) (hT : Tb τ a K) (hH : Hd τ a K c) (h : Cx 0 M cX0_favourite 5 1) (hr : RtI 0 M .int (fun r τ' => τ = τ' ∧ isFav c r)) : ∀ (k : Nat) (x best most : Int), 0 ≤ x → x ≤ 33 → 33 - x < k → favP τ a K x best most → WX 0 M 7 [.inr 0, .inl best, .inl most, .inl x] [] τ := by
  intro k
  induction k with
  | zero => intro x best most h1 h2 h3; omega
  | succ k ih =>
    intro x best most h0 hx hk h2
    have hbm : -4 ≤ best ∧ best ≤ 4095 ∧ 0 ≤ most ∧ most ≤ 32 := by
      rcases h2 with ⟨h1, h2, h3⟩ | ⟨h1, h1b, h2, h2b, h3, h4⟩ <;> omega
    refine x_iload_n (q := 8) h dX0_favourite_7 rfl rfl rfl ?_
    refine x_bipush (q := 10) h dX0_favourite_8 rfl (by decide) ?_
    refine x_icmp_ge (tgt := 71) (q := 13) h dX0_favourite_10 (by decide) rfl (by omega) (by omega) (fun c10 => ?_) (fun c10 => ?_)
    · refine x_iload_n (q := 72) h dX0_favourite_71 rfl rfl rfl ?_
      exact x_iret h hr dX0_favourite_72 (by omega) (⟨rfl, fp_end hL hT hH h2 (by omega)⟩)
    · have hUx := hH.2.1 x h0 (by omega)
      have hUr := cnt_le (τ 0) x 32
      rw [← hUx] at hUr
      refine x_aload_n (q := 14) h dX0_favourite_13 rfl rfl rfl ?_
      refine x0_geta (k := 1) (q := 17) h rfl q37 dX0_favourite_14 rfl ?_
      refine x_iload_n (q := 18) h dX0_favourite_17 rfl rfl rfl ?_
      refine x_iald (k := 1) (n := 33) (q := 19) h rfl dX0_favourite_18 rfl (by omega) (fun v18 e18 l18 u18 => ?_)
      refine x_iload_n (q := 20) h dX0_favourite_19 rfl rfl rfl ?_
      refine x_icmp_lt (tgt := 65) (q := 23) h dX0_favourite_20 (by decide) rfl (by omega) (by omega) (fun c20 => ?_) (fun c20 => ?_)
      · refine x_iinc (q := 68) (vs' := [.inr 0, .inl best, .inl most, .inl (x + 1)]) h dX0_favourite_65 (by decide) rfl rfl rfl ?_
        refine x_goto (tgt := 7) h dX0_favourite_68 (by decide) ?_
        refine x_drop (vs' := [.inr 0, .inl best, .inl most, .inl (x + 1)]) 4 rfl ?_
        refine ih (x + 1) _ _ (by omega) (by omega) (by omega) ?_
        exact fp_old h2 h0 (by omega) e18 (by first | omega | (rw [p34] at *; omega))
      · refine x_aload_n (q := 24) h dX0_favourite_23 rfl rfl rfl ?_
        refine x0_geta (k := 1) (q := 27) h rfl q37 dX0_favourite_24 rfl ?_
        refine x_iload_n (q := 28) h dX0_favourite_27 rfl rfl rfl ?_
        refine x_iald (k := 1) (n := 33) (q := 29) h rfl dX0_favourite_28 rfl (by omega) (fun v28 e28 l28 u28 => ?_)
        refine x_if_le (tgt := 65) (q := 32) h dX0_favourite_29 (by decide) rfl (by omega) (fun c29 => ?_) (fun c29 => ?_)
        · refine x_iinc (q := 68) (vs' := [.inr 0, .inl best, .inl most, .inl (x + 1)]) h dX0_favourite_65 (by decide) rfl rfl rfl ?_
          refine x_goto (tgt := 7) h dX0_favourite_68 (by decide) ?_
          refine x_drop (vs' := [.inr 0, .inl best, .inl most, .inl (x + 1)]) 4 rfl ?_
          refine ih (x + 1) _ _ (by omega) (by omega) (by omega) ?_
          exact fp_old h2 h0 (by omega) e18 (by first | omega | (rw [p34] at *; omega))
        · refine x_aload_n (q := 33) h dX0_favourite_32 rfl rfl rfl ?_
          refine x_iload_n (q := 34) h dX0_favourite_33 rfl rfl rfl ?_
          have hax : a x = true := (hH.2.2.1 x h0 (by omega)).mpr (by rw [← e28]; exact c29)
          have hPx := hL.2.2 x h0 (by omega) hax
          have hKx : 1 ≤ K x ∧ K x ≤ 4095 := ⟨hPx.1, hPx.2.1⟩
          refine x_calli (q := 37) (xs := [x]) (st := []) h (mX0_contentOf x (by omega) (z := K x) (Or.inr ⟨by omega, by omega, hPx⟩)) lkX0_contentOf rfl (by decide) (by decide) dX0_favourite_34 rfl (by simp) rfl (fun z34 τ34 s34 r34 p34 => ?_)
          obtain ⟨rfl, p34⟩ := p34
          refine x_istore (q := 39) (vs' := [.inr 0, .inl best, .inl most, .inl x, .inl z34]) h dX0_favourite_37 (by decide) (Nat.le_of_ble_eq_true rfl) rfl rfl ?_
          refine x_aload_n (q := 40) h dX0_favourite_39 rfl rfl rfl ?_
          refine x0_geta (k := 1) (q := 43) h rfl q37 dX0_favourite_40 rfl ?_
          refine x_iload_n (q := 44) h dX0_favourite_43 rfl rfl rfl ?_
          refine x_iald (k := 1) (n := 33) (q := 45) h rfl dX0_favourite_44 rfl (by omega) (fun v44 e44 l44 u44 => ?_)
          refine x_iload_n (q := 46) h dX0_favourite_45 rfl rfl rfl ?_
          refine x_icmp_gt (tgt := 55) (q := 49) h dX0_favourite_46 (by decide) rfl (by omega) (by omega) (fun c46 => ?_) (fun c46 => ?_)
          · refine x_iload (q := 57) h dX0_favourite_55 rfl rfl ?_
            refine x_istore_n (q := 58) (vs' := [.inr 0, .inl z34, .inl most, .inl x, .inl z34]) h dX0_favourite_57 rfl (by decide) (Nat.le_of_ble_eq_true rfl) rfl rfl ?_
            refine x_aload_n (q := 59) h dX0_favourite_58 rfl rfl rfl ?_
            refine x0_geta (k := 1) (q := 62) h rfl q37 dX0_favourite_59 rfl ?_
            refine x_iload_n (q := 63) h dX0_favourite_62 rfl rfl rfl ?_
            refine x_iald (k := 1) (n := 33) (q := 64) h rfl dX0_favourite_63 rfl (by omega) (fun v63 e63 l63 u63 => ?_)
            refine x_istore_n (q := 65) (vs' := [.inr 0, .inl z34, .inl v63, .inl x, .inl z34]) h dX0_favourite_64 rfl (by decide) (Nat.le_of_ble_eq_true rfl) rfl rfl ?_
            refine x_iinc (q := 68) (vs' := [.inr 0, .inl z34, .inl v63, .inl (x + 1), .inl z34]) h dX0_favourite_65 (by decide) rfl rfl rfl ?_
            refine x_goto (tgt := 7) h dX0_favourite_68 (by decide) ?_
            refine x_drop (vs' := [.inr 0, .inl z34, .inl v63, .inl (x + 1)]) 4 rfl ?_
            refine ih (x + 1) _ _ (by omega) (by omega) (by omega) ?_
            exact fp_new h2 h0 (by omega) hax hKx hUx p34 (by omega) (by omega)
          · refine x_iload (q := 51) h dX0_favourite_49 rfl rfl ?_
            refine x_iload_n (q := 52) h dX0_favourite_51 rfl rfl rfl ?_
            refine x_icmp_ge (tgt := 65) (q := 55) h dX0_favourite_52 (by decide) rfl (by omega) (by omega) (fun c52 => ?_) (fun c52 => ?_)
            · refine x_iinc (q := 68) (vs' := [.inr 0, .inl best, .inl most, .inl (x + 1), .inl z34]) h dX0_favourite_65 (by decide) rfl rfl rfl ?_
              refine x_goto (tgt := 7) h dX0_favourite_68 (by decide) ?_
              refine x_drop (vs' := [.inr 0, .inl best, .inl most, .inl (x + 1)]) 4 rfl ?_
              refine ih (x + 1) _ _ (by omega) (by omega) (by omega) ?_
              exact fp_old h2 h0 (by omega) e18 (by first | omega | (rw [p34] at *; omega))
            · refine x_iload (q := 57) h dX0_favourite_55 rfl rfl ?_
              refine x_istore_n (q := 58) (vs' := [.inr 0, .inl z34, .inl most, .inl x, .inl z34]) h dX0_favourite_57 rfl (by decide) (Nat.le_of_ble_eq_true rfl) rfl rfl ?_
              refine x_aload_n (q := 59) h dX0_favourite_58 rfl rfl rfl ?_
              refine x0_geta (k := 1) (q := 62) h rfl q37 dX0_favourite_59 rfl ?_
              refine x_iload_n (q := 63) h dX0_favourite_62 rfl rfl rfl ?_
              refine x_iald (k := 1) (n := 33) (q := 64) h rfl dX0_favourite_63 rfl (by omega) (fun v63 e63 l63 u63 => ?_)
              refine x_istore_n (q := 65) (vs' := [.inr 0, .inl z34, .inl v63, .inl x, .inl z34]) h dX0_favourite_64 rfl (by decide) (Nat.le_of_ble_eq_true rfl) rfl rfl ?_
              refine x_iinc (q := 68) (vs' := [.inr 0, .inl z34, .inl v63, .inl (x + 1), .inl z34]) h dX0_favourite_65 (by decide) rfl rfl rfl ?_
              refine x_goto (tgt := 7) h dX0_favourite_68 (by decide) ?_
              refine x_drop (vs' := [.inr 0, .inl z34, .inl v63, .inl (x + 1)]) 4 rfl ?_
              refine ih (x + 1) _ _ (by omega) (by omega) (by omega) ?_
              exact fp_new h2 h0 (by omega) hax hKx hUx p34 (by omega) (by omega)
set_option maxHeartbeats 4000000 in
theorem mX0_favourite {τ : St} {c : Int → Int} (hI : Iv τ c) : CtI 0 yX0_favourite cX0_favourite 5 1 .int [] τ (fun r τ' => τ = τ' ∧ isFav c r) := by
  refine CtI.of (by decide) rfl (Nat.le_of_ble_eq_true rfl) (fun M h hr => ?_)
  show WX 0 M 0 [.inr 0] [] τ
  obtain ⟨a, K, hL, hT, hH⟩ := hI
  refine x_bipush (q := 2) h dX0_favourite_0 rfl (by decide) ?_
  refine x_istore_n (q := 3) (vs' := [.inr 0, .inl (-4)]) h dX0_favourite_2 rfl (by decide) (Nat.le_of_ble_eq_true rfl) rfl rfl ?_
  refine x_iconst (q := 4) h dX0_favourite_3 rfl ?_
  refine x_istore_n (q := 5) (vs' := [.inr 0, .inl (-4), .inl 0]) h dX0_favourite_4 rfl (by decide) (Nat.le_of_ble_eq_true rfl) rfl rfl ?_
  refine x_iconst (q := 6) h dX0_favourite_5 rfl ?_
  refine x_istore_n (q := 7) (vs' := [.inr 0, .inl (-4), .inl 0, .inl 0]) h dX0_favourite_6 rfl (by decide) (Nat.le_of_ble_eq_true rfl) rfl rfl ?_
  exact lpX0_favourite hL hT hH h hr 34 0 _ _ (by omega) (by omega) (by omega) (Or.inl ⟨rfl, rfl, fun p a1 a2 => by omega⟩)

theorem dX0_tidy_0 : decode cX0_tidy 0 = .ok (.aload_n 0, 1) := by decide +kernel
theorem dX0_tidy_1 : decode cX0_tidy 1 = .ok (.invokevirtual 72, 3) := by decide +kernel
theorem dX0_tidy_4 : decode cX0_tidy 4 = .ok (.pop, 1) := by decide +kernel
theorem dX0_tidy_5 : decode cX0_tidy 5 = .ok (.return_, 1) := by decide +kernel
set_option maxHeartbeats 4000000 in
theorem mX0_tidy {τ : St} {c : Int → Int} (hI : Iv τ c) : CtV 0 yX0_tidy cX0_tidy 1 2 [] τ (fun τ' => Iv τ' c) := by
  refine CtV.of (by decide) rfl (Nat.le_of_ble_eq_true rfl) (fun M h hr => ?_)
  show WX 0 M 0 [.inr 0] [] τ
  obtain ⟨a, K, hL, hT, hH⟩ := hI
  refine x_aload_n (q := 1) h dX0_tidy_0 rfl rfl rfl ?_
  refine x_calli (q := 4) (xs := []) (st := []) h (mX0_clean hL hH.2.2.1) lkX0_clean rfl (by decide) (by decide) dX0_tidy_1 rfl (by simp) rfl (fun z1 τ1 s1 r1 p1 => ?_)
  refine x_pop (q := 5) h dX0_tidy_4 rfl ?_
  exact x_vret h hr dX0_tidy_5 (⟨a, K, p1.2.1, Tb_same hT p1.2.2.2.2.2, Hd_same hH p1.2.2.1 p1.2.2.2.1 p1.2.2.2.2.1⟩)
end
section
/-! the constructors -/
set_option maxRecDepth 100000
theorem newa_ha (N : Nat) : ∀ cA : ClassId, vp_cell cA (N, .inl (fun _ => jI 0)) = arrV cA N (fun _ => defaultValue .int) := by
  intro cA
  rw [vp_cell_i, ← jI_0]
  rfl
theorem same_arr {D : va_G} {cl : List vw_C} {tys : List (ClassId × FieldType)} {U : State} (h : va_K D cl tys U) {i j : Nat} {a b : ClassId} (hi : tys[i]? = some (a, .int)) (hj : tys[j]? = some (b, .int)) : a = b := by
  have h1 : U.vm.findClass ("[" ++ FieldType.int.toString) = some a := (h.2 i _ hi).2
  have h2 : U.vm.findClass ("[" ++ FieldType.int.toString) = some b := (h.2 j _ hj).2
  exact Option.some.inj (h1.symm.trans h2)
def tz : St := fun _ _ => 0
theorem tz_sml : sml tz := fun _ _ => ⟨by show (-100000 : Int) ≤ 0; decide, by show (0 : Int) ≤ 100000; decide⟩
theorem Iv_init {τ : St} (h0 : ∀ j : Int, 0 ≤ j → j < 32 → τ 0 j = -4) (h10 : ∀ i : Int, 0 ≤ i → i < 64 → τ 10 i = -4) (hk : ∀ k : Nat, k ≠ 0 → k ≠ 10 → τ k = fun _ => 0) : Iv τ (fun _ => 0) := by
  have f : ∀ (k : Nat) (j : Int), k ≠ 0 → k ≠ 10 → τ k j = 0 := fun k j a b => by rw [hk k a b]
  refine ⟨fun _ => false, fun _ => 0, ⟨?_, fun s s0 s1 => ?_, fun p p0 p1 q => by cases q⟩, ⟨fun i i0 i1 => Or.inl (h10 i i0 i1), fun p p0 p1 q => (by cases q), fun i j i0 i1 j0 j1 g e => ?_, fun p q p0 p1 q0 q1 a b => (by cases a)⟩, fun n n0 n1 => Or.inl ⟨h0 n n0 n1, rfl⟩, fun p p0 p1 => ?_, fun p p0 p1 => ?_, ?_, ?_⟩
  · rw [f 8 0 (by decide) (by decide)]; decide
  · rw [f 7 s (by decide) (by decide), f 6 s (by decide) (by decide)]
    refine ⟨by decide, by decide, by decide, ?_⟩
    rw [sm_zero]
    intro j _ _
    exact if_neg (fun q => by cases q.1)
  · have := h10 i i0 i1
    omega
  · rw [f 1 p (by decide) (by decide), cnt_none]
    intro j j0 j1
    have := h0 j j0 j1
    omega
  · rw [f 1 p (by decide) (by decide)]
    exact ⟨fun q => (by cases q), fun q => by omega⟩
  · rw [f 9 0 (by decide) (by decide)]
    unfold tot
    rw [sm_zero]
    intro j _ _
    exact if_neg (fun q => by cases q)
  · rw [f 9 0 (by decide) (by decide)]; decide
theorem dX1_init_0 : decode cX1_init 0 = .ok (.aload_n 0, 1) := by decide +kernel
theorem dX1_init_1 : decode cX1_init 1 = .ok (.invokespecial 1, 3) := by decide +kernel
theorem dX1_init_4 : decode cX1_init 4 = .ok (.aload_n 0, 1) := by decide +kernel
theorem dX1_init_5 : decode cX1_init 5 = .ok (.bipush 32, 2) := by decide +kernel
theorem dX1_init_7 : decode cX1_init 7 = .ok (.newarray .int, 2) := by decide +kernel
theorem dX1_init_9 : decode cX1_init 9 = .ok (.putfield 7, 3) := by decide +kernel
theorem dX1_init_12 : decode cX1_init 12 = .ok (.aload_n 0, 1) := by decide +kernel
theorem dX1_init_13 : decode cX1_init 13 = .ok (.bipush 32, 2) := by decide +kernel
theorem dX1_init_15 : decode cX1_init 15 = .ok (.newarray .int, 2) := by decide +kernel
theorem dX1_init_17 : decode cX1_init 17 = .ok (.putfield 13, 3) := by decide +kernel
theorem dX1_init_20 : decode cX1_init 20 = .ok (.return_, 1) := by decide +kernel
def ad3 (h0 a b : Nat) (k : Nat) : Nat := match k with
  | 0 => h0
  | 1 => a
  | _ => b
set_option maxHeartbeats 8000000 in
theorem mX1_init (l : Launch) (D : va_G) (h0 sz : Nat) : Met l yX1_init (ws_ yX1_init cX1_init 1 none) ({ frames := 1, cells := 2, slots := 64, locals := 27 }) (va_Pc [.ref h0] (fun U => U.heap.size = sz ∧ va_P D vwCl [(h0, .inr (1, [.null, .null]))] U.heap ∧ va_K D vwCl [] U ∧ va_D (fun _ => True) [(h0, .inr (1, [.null, .null]))])) (va_Qv (fun (u : (Nat → Nat) × ClassId × St) => u.1 0 = h0 ∧ sml u.2.2 ∧ ∀ j : Int, u.2.2 0 j = 0) (fun u t => va_P D vwCl (cs 1 u.2.1 u.1 u.2.2) t.heap ∧ va_K D vwCl [(u.2.1, .int)] t ∧ va_D (va_A [(h0, .inr (1, [.null, .null]))] sz) (cs 1 u.2.1 u.1 u.2.2)) (va_A [(h0, .inr (1, [.null, .null]))] sz)) 2 64 (va_A [(h0, .inr (1, [.null, .null]))] sz) := by
  refine Met.ofW (cc := cX1_init) (maxL := 1) (ret := none) (by decide) rfl ?_
  intro p e s m args below meth c s₁ B hml hv
  obtain ⟨rfl, hsz, hP, hK, hD0⟩ := hv
  have hx := B.exec
  have hb := B.bytes
  have hr := B.returns
  have hts := atoms_spec (ws := ws_ yX1_init cX1_init 1 none) B.pre
  have hts : ∀ w ∈ lw_all, w.before _ s = true := fun w h => hts w (List.mem_cons_of_mem _ h)
  have hown : s.vm.findClass RX1 = some m.cls := findClass_of_methodNamed B.named
  have hlocks := B.notSynchronized
  have hin : meth.name = "<init>" := (name_of_methodNamed B.named B.method).1
  subst hsz
  have hD := hD0.self (sz := s.heap.size)
  generalize hAe : va_A [(h0, .inr (1, [.null, .null]))] s.heap.size = A at hD ⊢
  have hA : ∀ q : Nat, s.heap.size ≤ q → A q := fun q h => by rw [← hAe]; exact Or.inr h
  have hS : va_S A s.heap s.heap [] := va_S.rf
  have hP : va_P D vwCl [(h0, .inr (1, [.null, .null]))] s.heap := hP
  have hl := lv_entry ([.ref h0]) (n := 1) (Nat.le_of_ble_eq_true rfl)
  rw [lg_entry_eq]
  generalize (lg_sl ([.ref h0]) ++ List.replicate (1 - (lg_sl ([.ref h0])).length) Slot.unset).toArray = ls at hl ⊢
  have hl : lv_has ls 1 [(0, .ref h0)] := hl
  refine lv_aload_n hx hb dX1_init_0 rfl (lv_at hl 0 rfl) ?_
  refine W.objInit hx hb hown (hts _ q216) (hts _ q34) (hts _ q35) rfl (by rw [hml]; exact hl.1) rfl dX1_init_1 (Nat.le_of_ble_eq_true rfl) (Nat.le_of_ble_eq_true rfl) ?_
  refine W.eq (g2 := F0 m 4 ls []) rfl ?_
  refine lv_aload_n hx hb dX1_init_4 rfl (lv_at hl 0 rfl) ?_
  refine lv_bipush (v := 32) hx hb dX1_init_5 (by decide) ?_
  refine va_newa (D := D) (atype := .int) (a0 := (32, .inl (fun _ => jI 0))) (ty := .int) (N' := 32) hx hb (hts _ q79) rfl hK hP hD hS hA (newa_ha 32) (by decide) (by decide) (by decide) (Nat.le_of_ble_eq_true rfl) (Nat.le_of_ble_eq_true rfl) dX1_init_7 (fun q_1 cA1 H hK hP hD hS => ?_)
  refine W.widen (k := 1) (n := 32) (Nat.le_of_ble_eq_true rfl) (Nat.le_of_ble_eq_true rfl) ?_
  have hP : va_P D vwCl [(h0, .inr (1, [.null, .null])), (q_1, .inl (cA1, 32, .inl (fun _ => jI 0)))] H := hP
  have hD : va_D A [(h0, .inr (1, [.null, .null])), (q_1, .inl (cA1, 32, .inl (fun _ => jI 0)))] := hD
  obtain ⟨dd, rfl⟩ : ∃ z, z = cA1 := ⟨_, rfl⟩
  have hK : va_K D vwCl [(dd, .int)] s := hK
  refine va_putF (D := D) (ci := 1) (v := .ref q_1) (ty := .array .int) (C := RX1) (T := TX1) (N := 2) hx hb hts in_X1 tyX1 tyX1_ok nmX1 hown hK hP hD hS 0 rfl rfl 0 (by decide) (hts _ q217) (fun _ h9 => h9) rfl hin rfl (by decide +kernel) rfl rfl (Nat.le_of_ble_eq_true rfl) dX1_init_9 (fun H locs hP hD hS => ?_)
  have hP : va_P D vwCl [(h0, .inr (1, [.ref q_1, .null])), (q_1, .inl (dd, 32, .inl (fun _ => jI 0)))] H := hP
  have hD : va_D A [(h0, .inr (1, [.ref q_1, .null])), (q_1, .inl (dd, 32, .inl (fun _ => jI 0)))] := hD
  refine lv_aload_n hx hb dX1_init_12 rfl (lv_at hl 0 rfl) ?_
  refine lv_bipush (v := 32) hx hb dX1_init_13 (by decide) ?_
  refine va_newa (D := D) (atype := .int) (a0 := (32, .inl (fun _ => jI 0))) (ty := .int) (N' := 32) hx hb (hts _ q79) rfl hK hP hD hS hA (newa_ha 32) (by decide) (by decide) (by decide) (Nat.le_of_ble_eq_true rfl) (Nat.le_of_ble_eq_true rfl) dX1_init_15 (fun q_2 cA2 H hK hP hD hS => ?_)
  refine W.widen (k := 2) (n := 64) (Nat.le_of_ble_eq_true rfl) (Nat.le_of_ble_eq_true rfl) ?_
  have hP : va_P D vwCl [(h0, .inr (1, [.ref q_1, .null])), (q_1, .inl (dd, 32, .inl (fun _ => jI 0))), (q_2, .inl (cA2, 32, .inl (fun _ => jI 0)))] H := hP
  have hD : va_D A [(h0, .inr (1, [.ref q_1, .null])), (q_1, .inl (dd, 32, .inl (fun _ => jI 0))), (q_2, .inl (cA2, 32, .inl (fun _ => jI 0)))] := hD
  have hK : va_K D vwCl [(dd, .int), (cA2, .int)] s := hK
  have ec : cA2 = dd := same_arr hK (i := 1) (j := 0) rfl rfl
  rw [ec] at hP hD
  have hK : va_K D vwCl [(dd, .int)] s := hK.sub [0] rfl
  refine va_putF (D := D) (ci := 1) (v := .ref q_2) (ty := .array .int) (C := RX1) (T := TX1) (N := 2) hx hb hts in_X1 tyX1 tyX1_ok nmX1 hown hK hP hD hS 0 rfl rfl 1 (by decide) (hts _ q218) (fun _ h9 => h9) rfl hin rfl (by decide +kernel) rfl rfl (Nat.le_of_ble_eq_true rfl) dX1_init_17 (fun H locs hP hD hS => ?_)
  have hP : va_P D vwCl [(h0, .inr (1, [.ref q_1, .ref q_2])), (q_1, .inl (dd, 32, .inl (fun _ => jI 0))), (q_2, .inl (dd, 32, .inl (fun _ => jI 0)))] H := hP
  have hD : va_D A [(h0, .inr (1, [.ref q_1, .ref q_2])), (q_1, .inl (dd, 32, .inl (fun _ => jI 0))), (q_2, .inl (dd, 32, .inl (fun _ => jI 0)))] := hD
  exact W.vret hx hb hr (fun t ht hW => ⟨⟨(ad3 h0 q_1 q_2, dd, tz), rfl, ⟨rfl, tz_sml, fun _ => rfl⟩, by rw [ht]; exact hP, va_K.moved hW.alike hK, hD⟩, hS.F ht⟩) hS.2.2 dX1_init_20
theorem dX0_init_0 : decode cX0_init 0 = .ok (.aload_n 0, 1) := by decide +kernel
theorem dX0_init_1 : decode cX0_init 1 = .ok (.invokespecial 1, 3) := by decide +kernel
theorem dX0_init_4 : decode cX0_init 4 = .ok (.aload_n 0, 1) := by decide +kernel
theorem dX0_init_5 : decode cX0_init 5 = .ok (.bipush 32, 2) := by decide +kernel
theorem dX0_init_7 : decode cX0_init 7 = .ok (.newarray .int, 2) := by decide +kernel
theorem dX0_init_9 : decode cX0_init 9 = .ok (.putfield 7, 3) := by decide +kernel
theorem dX0_init_12 : decode cX0_init 12 = .ok (.aload_n 0, 1) := by decide +kernel
theorem dX0_init_13 : decode cX0_init 13 = .ok (.bipush 33, 2) := by decide +kernel
theorem dX0_init_15 : decode cX0_init 15 = .ok (.newarray .int, 2) := by decide +kernel
theorem dX0_init_17 : decode cX0_init 17 = .ok (.putfield 13, 3) := by decide +kernel
theorem dX0_init_20 : decode cX0_init 20 = .ok (.aload_n 0, 1) := by decide +kernel
theorem dX0_init_21 : decode cX0_init 21 = .ok (.bipush 33, 2) := by decide +kernel
theorem dX0_init_23 : decode cX0_init 23 = .ok (.newarray .int, 2) := by decide +kernel
theorem dX0_init_25 : decode cX0_init 25 = .ok (.putfield 16, 3) := by decide +kernel
theorem dX0_init_28 : decode cX0_init 28 = .ok (.aload_n 0, 1) := by decide +kernel
theorem dX0_init_29 : decode cX0_init 29 = .ok (.bipush 33, 2) := by decide +kernel
theorem dX0_init_31 : decode cX0_init 31 = .ok (.newarray .int, 2) := by decide +kernel
theorem dX0_init_33 : decode cX0_init 33 = .ok (.putfield 19, 3) := by decide +kernel
theorem dX0_init_36 : decode cX0_init 36 = .ok (.aload_n 0, 1) := by decide +kernel
theorem dX0_init_37 : decode cX0_init 37 = .ok (.bipush 33, 2) := by decide +kernel
theorem dX0_init_39 : decode cX0_init 39 = .ok (.newarray .int, 2) := by decide +kernel
theorem dX0_init_41 : decode cX0_init 41 = .ok (.putfield 22, 3) := by decide +kernel
theorem dX0_init_44 : decode cX0_init 44 = .ok (.aload_n 0, 1) := by decide +kernel
theorem dX0_init_45 : decode cX0_init 45 = .ok (.bipush 80, 2) := by decide +kernel
theorem dX0_init_47 : decode cX0_init 47 = .ok (.newarray .int, 2) := by decide +kernel
theorem dX0_init_49 : decode cX0_init 49 = .ok (.putfield 25, 3) := by decide +kernel
theorem dX0_init_52 : decode cX0_init 52 = .ok (.aload_n 0, 1) := by decide +kernel
theorem dX0_init_53 : decode cX0_init 53 = .ok (.bipush 10, 2) := by decide +kernel
theorem dX0_init_55 : decode cX0_init 55 = .ok (.newarray .int, 2) := by decide +kernel
theorem dX0_init_57 : decode cX0_init 57 = .ok (.putfield 28, 3) := by decide +kernel
theorem dX0_init_60 : decode cX0_init 60 = .ok (.aload_n 0, 1) := by decide +kernel
theorem dX0_init_61 : decode cX0_init 61 = .ok (.bipush 10, 2) := by decide +kernel
theorem dX0_init_63 : decode cX0_init 63 = .ok (.newarray .int, 2) := by decide +kernel
theorem dX0_init_65 : decode cX0_init 65 = .ok (.putfield 31, 3) := by decide +kernel
theorem dX0_init_68 : decode cX0_init 68 = .ok (.aload_n 0, 1) := by decide +kernel
theorem dX0_init_69 : decode cX0_init 69 = .ok (.bipush 64, 2) := by decide +kernel
theorem dX0_init_71 : decode cX0_init 71 = .ok (.newarray .int, 2) := by decide +kernel
theorem dX0_init_73 : decode cX0_init 73 = .ok (.putfield 34, 3) := by decide +kernel
theorem dX0_init_76 : decode cX0_init 76 = .ok (.aload_n 0, 1) := by decide +kernel
theorem dX0_init_77 : decode cX0_init 77 = .ok (.bipush 33, 2) := by decide +kernel
theorem dX0_init_79 : decode cX0_init 79 = .ok (.newarray .int, 2) := by decide +kernel
theorem dX0_init_81 : decode cX0_init 81 = .ok (.putfield 37, 3) := by decide +kernel
theorem dX0_init_84 : decode cX0_init 84 = .ok (.aload_n 0, 1) := by decide +kernel
theorem dX0_init_85 : decode cX0_init 85 = .ok (.iconst 5, 1) := by decide +kernel
theorem dX0_init_86 : decode cX0_init 86 = .ok (.newarray .int, 2) := by decide +kernel
theorem dX0_init_88 : decode cX0_init 88 = .ok (.putfield 40, 3) := by decide +kernel
theorem dX0_init_91 : decode cX0_init 91 = .ok (.iconst 0, 1) := by decide +kernel
theorem dX0_init_92 : decode cX0_init 92 = .ok (.istore_n 1, 1) := by decide +kernel
theorem dX0_init_93 : decode cX0_init 93 = .ok (.iload_n 1, 1) := by decide +kernel
theorem dX0_init_94 : decode cX0_init 94 = .ok (.bipush 32, 2) := by decide +kernel
theorem dX0_init_96 : decode cX0_init 96 = .ok (.if_icmp .ge 17, 3) := by decide +kernel
theorem dX0_init_99 : decode cX0_init 99 = .ok (.aload_n 0, 1) := by decide +kernel
theorem dX0_init_100 : decode cX0_init 100 = .ok (.getfield 7, 3) := by decide +kernel
theorem dX0_init_103 : decode cX0_init 103 = .ok (.iload_n 1, 1) := by decide +kernel
theorem dX0_init_104 : decode cX0_init 104 = .ok (.bipush (-4), 2) := by decide +kernel
theorem dX0_init_106 : decode cX0_init 106 = .ok (.iastore, 1) := by decide +kernel
theorem dX0_init_107 : decode cX0_init 107 = .ok (.iinc 1 1, 3) := by decide +kernel
theorem dX0_init_110 : decode cX0_init 110 = .ok (.goto (-17), 3) := by decide +kernel
theorem dX0_init_113 : decode cX0_init 113 = .ok (.iconst 0, 1) := by decide +kernel
theorem dX0_init_114 : decode cX0_init 114 = .ok (.istore_n 1, 1) := by decide +kernel
theorem dX0_init_115 : decode cX0_init 115 = .ok (.iload_n 1, 1) := by decide +kernel
theorem dX0_init_116 : decode cX0_init 116 = .ok (.bipush 64, 2) := by decide +kernel
theorem dX0_init_118 : decode cX0_init 118 = .ok (.if_icmp .ge 17, 3) := by decide +kernel
theorem dX0_init_121 : decode cX0_init 121 = .ok (.aload_n 0, 1) := by decide +kernel
theorem dX0_init_122 : decode cX0_init 122 = .ok (.getfield 34, 3) := by decide +kernel
theorem dX0_init_125 : decode cX0_init 125 = .ok (.iload_n 1, 1) := by decide +kernel
theorem dX0_init_126 : decode cX0_init 126 = .ok (.bipush (-4), 2) := by decide +kernel
theorem dX0_init_128 : decode cX0_init 128 = .ok (.iastore, 1) := by decide +kernel
theorem dX0_init_129 : decode cX0_init 129 = .ok (.iinc 1 1, 3) := by decide +kernel
theorem dX0_init_132 : decode cX0_init 132 = .ok (.goto (-17), 3) := by decide +kernel
theorem dX0_init_135 : decode cX0_init 135 = .ok (.return_, 1) := by decide +kernel
set_option maxHeartbeats 4000000 in
theorem l1X0_init {M : Mx} {τ : St} (h : Cx 0 M cX0_init 2 1) (hx : ∀ (x : Int) (σ : St), 32 ≤ x → (∀ k' : Nat, k' ≠ 0 → σ k' = τ k') → (∀ j : Int, 0 ≤ j → j < x → σ 0 j = -4) → WX 0 M 113 [.inr 0, .inl x] [] σ) : ∀ (k : Nat) (x : Int) (σ : St), 0 ≤ x → x ≤ 32 → 32 - x < k → (∀ k' : Nat, k' ≠ 0 → σ k' = τ k') → (∀ j : Int, 0 ≤ j → j < x → σ 0 j = -4) → WX 0 M 93 [.inr 0, .inl x] [] σ := by
  intro k
  induction k with
  | zero => intro x σ h1 h2 h3; omega
  | succ k ih =>
    intro x σ h0 hx1 hk h1 h2
    refine x_iload_n (q := 94) h dX0_init_93 rfl rfl rfl ?_
    refine x_bipush (q := 96) h dX0_init_94 rfl (by decide) ?_
    refine x_icmp_ge (tgt := 113) (q := 99) h dX0_init_96 (by decide) rfl (by omega) (by omega) (fun c96 => ?_) (fun c96 => ?_)
    · exact hx x σ (by omega) h1 h2
    · refine x_aload_n (q := 100) h dX0_init_99 rfl rfl rfl ?_
      refine x0_geta (k := 0) (q := 103) h rfl q36 dX0_init_100 rfl ?_
      refine x_iload_n (q := 104) h dX0_init_103 rfl rfl rfl ?_
      refine x_bipush (q := 106) h dX0_init_104 rfl (by decide) ?_
      refine x_iast (k := 0) (n := 32) (q := 107) h rfl dX0_init_106 rfl (by omega) (by omega) ?_
      refine x_iinc (q := 110) (vs' := [.inr 0, .inl (x + 1)]) h dX0_init_107 (by decide) rfl rfl rfl ?_
      refine x_goto (tgt := 93) h dX0_init_110 (by decide) ?_
      refine ih (x + 1) _ (by omega) (by omega) (by omega) (fun k' a1 => by rw [up_fne a1]; exact h1 k' a1) ?_
      intro j a b
      rw [up_if]
      by_cases e : j = x
      · rw [if_pos e]
      · rw [if_neg e]; exact h2 j a (by omega)
set_option maxHeartbeats 4000000 in
theorem l2X0_init {M : Mx} {τ : St} (h : Cx 0 M cX0_init 2 1) (hx : ∀ (x : Int) (σ : St), 64 ≤ x → (∀ k' : Nat, k' ≠ 10 → σ k' = τ k') → (∀ j : Int, 0 ≤ j → j < x → σ 10 j = -4) → WX 0 M 135 [.inr 0, .inl x] [] σ) : ∀ (k : Nat) (x : Int) (σ : St), 0 ≤ x → x ≤ 64 → 64 - x < k → (∀ k' : Nat, k' ≠ 10 → σ k' = τ k') → (∀ j : Int, 0 ≤ j → j < x → σ 10 j = -4) → WX 0 M 115 [.inr 0, .inl x] [] σ := by
  intro k
  induction k with
  | zero => intro x σ h1 h2 h3; omega
  | succ k ih =>
    intro x σ h0 hx1 hk h1 h2
    refine x_iload_n (q := 116) h dX0_init_115 rfl rfl rfl ?_
    refine x_bipush (q := 118) h dX0_init_116 rfl (by decide) ?_
    refine x_icmp_ge (tgt := 135) (q := 121) h dX0_init_118 (by decide) rfl (by omega) (by omega) (fun c118 => ?_) (fun c118 => ?_)
    · exact hx x σ (by omega) h1 h2
    · refine x_aload_n (q := 122) h dX0_init_121 rfl rfl rfl ?_
      refine x0_geta (k := 10) (q := 125) h rfl q46 dX0_init_122 rfl ?_
      refine x_iload_n (q := 126) h dX0_init_125 rfl rfl rfl ?_
      refine x_bipush (q := 128) h dX0_init_126 rfl (by decide) ?_
      refine x_iast (k := 10) (n := 64) (q := 129) h rfl dX0_init_128 rfl (by omega) (by omega) ?_
      refine x_iinc (q := 132) (vs' := [.inr 0, .inl (x + 1)]) h dX0_init_129 (by decide) rfl rfl rfl ?_
      refine x_goto (tgt := 115) h dX0_init_132 (by decide) ?_
      refine ih (x + 1) _ (by omega) (by omega) (by omega) (fun k' a1 => by rw [up_fne a1]; exact h1 k' a1) ?_
      intro j a b
      rw [up_if]
      by_cases e : j = x
      · rw [if_pos e]
      · rw [if_neg e]; exact h2 j a (by omega)
set_option maxHeartbeats 4000000 in
theorem ltX0_init {M : Mx} (h : Cx 0 M cX0_init 2 1) (hx : ∀ (x : Int) (τ : St), sml τ → Iv τ (fun _ => 0) → WX 0 M 135 [.inr 0, .inl x] [] τ) : WX 0 M 91 [.inr 0] [] tz := by
  refine x_iconst (q := 92) h dX0_init_91 rfl ?_
  refine x_istore_n (q := 93) (vs' := [.inr 0, .inl 0]) h dX0_init_92 rfl (by decide) (Nat.le_of_ble_eq_true rfl) rfl rfl ?_
  refine l1X0_init (τ := tz) h ?_ 33 0 tz (by omega) (by omega) (by omega) (fun k' _ => rfl) (fun j a b => by omega)
  intro x1 σ hx1 h1 h2
  refine x_iconst (q := 114) h dX0_init_113 rfl ?_
  refine x_istore_n (q := 115) (vs' := [.inr 0, .inl 0]) h dX0_init_114 rfl (by decide) (Nat.le_of_ble_eq_true rfl) rfl rfl ?_
  refine l2X0_init (τ := σ) h ?_ 65 0 σ (by omega) (by omega) (by omega) (fun k' _ => rfl) (fun j a b => by omega)
  intro x2 ρ hx2 h3 h4
  refine x_sml (fun hsρ => hx x2 ρ hsρ (Iv_init ?_ ?_ ?_))
  · intro j a b
    rw [h3 0 (by decide)]
    exact h2 j a (by omega)
  · intro i a b
    exact h4 i a (by omega)
  · intro k' a b
    rw [h3 k' b, h1 k' a]
    rfl
def ad12 (h0 q_1 q_2 q_3 q_4 q_5 q_6 q_7 q_8 q_9 q_10 q_11 : Nat) (k : Nat) : Nat := match k with
  | 0 => h0
  | 1 => q_1
  | 2 => q_2
  | 3 => q_3
  | 4 => q_4
  | 5 => q_5
  | 6 => q_6
  | 7 => q_7
  | 8 => q_8
  | 11 => q_9
  | 12 => q_10
  | _ => q_11
set_option maxHeartbeats 8000000 in
theorem mX0_init (l : Launch) (D : va_G) (h0 sz : Nat) : Met l yX0_init (ws_ yX0_init cX0_init 2 none) ({ frames := 1, cells := 11, slots := 366, locals := 27 }) (va_Pc [.ref h0] (fun U => U.heap.size = sz ∧ va_P D vwCl [(h0, .inr (0, [.null, .null, .null, .null, .null, .null, .null, .null, .int (jI 0), .int (jI 0), .null, .null, .null, .int (jI 0)]))] U.heap ∧ va_K D vwCl [] U ∧ va_D (fun _ => True) [(h0, .inr (0, [.null, .null, .null, .null, .null, .null, .null, .null, .int (jI 0), .int (jI 0), .null, .null, .null, .int (jI 0)]))])) (va_Qv (fun (u : (Nat → Nat) × ClassId × St) => u.1 0 = h0 ∧ sml u.2.2 ∧ Iv u.2.2 (fun _ => 0)) (fun u t => va_P D vwCl (cs 0 u.2.1 u.1 u.2.2) t.heap ∧ va_K D vwCl [(u.2.1, .int)] t ∧ va_D (va_A [(h0, .inr (0, [.null, .null, .null, .null, .null, .null, .null, .null, .int (jI 0), .int (jI 0), .null, .null, .null, .int (jI 0)]))] sz) (cs 0 u.2.1 u.1 u.2.2)) (va_A [(h0, .inr (0, [.null, .null, .null, .null, .null, .null, .null, .null, .int (jI 0), .int (jI 0), .null, .null, .null, .int (jI 0)]))] sz)) 11 366 (va_A [(h0, .inr (0, [.null, .null, .null, .null, .null, .null, .null, .null, .int (jI 0), .int (jI 0), .null, .null, .null, .int (jI 0)]))] sz) := by
  refine Met.ofW (cc := cX0_init) (maxL := 2) (ret := none) (by decide) rfl ?_
  intro p e s m args below meth c s₁ B hml hv
  obtain ⟨rfl, hsz, hP, hK, hD0⟩ := hv
  have hx := B.exec
  have hb := B.bytes
  have hr := B.returns
  have hts := atoms_spec (ws := ws_ yX0_init cX0_init 2 none) B.pre
  have hts : ∀ w ∈ lw_all, w.before _ s = true := fun w h => hts w (List.mem_cons_of_mem _ h)
  have hown : s.vm.findClass RX0 = some m.cls := findClass_of_methodNamed B.named
  have hlocks := B.notSynchronized
  have hin : meth.name = "<init>" := (name_of_methodNamed B.named B.method).1
  subst hsz
  have hD := hD0.self (sz := s.heap.size)
  generalize hAe : va_A [(h0, .inr (0, [.null, .null, .null, .null, .null, .null, .null, .null, .int (jI 0), .int (jI 0), .null, .null, .null, .int (jI 0)]))] s.heap.size = A at hD ⊢
  have hA : ∀ q : Nat, s.heap.size ≤ q → A q := fun q h => by rw [← hAe]; exact Or.inr h
  have hS : va_S A s.heap s.heap [] := va_S.rf
  have hP : va_P D vwCl [(h0, .inr (0, [.null, .null, .null, .null, .null, .null, .null, .null, .int (jI 0), .int (jI 0), .null, .null, .null, .int (jI 0)]))] s.heap := hP
  have hl := lv_entry ([.ref h0]) (n := 2) (Nat.le_of_ble_eq_true rfl)
  rw [lg_entry_eq]
  generalize (lg_sl ([.ref h0]) ++ List.replicate (2 - (lg_sl ([.ref h0])).length) Slot.unset).toArray = ls at hl ⊢
  have hl : lv_has ls 2 [(0, .ref h0)] := hl
  refine lv_aload_n hx hb dX0_init_0 rfl (lv_at hl 0 rfl) ?_
  refine W.objInit hx hb hown (hts _ q33) (hts _ q34) (hts _ q35) rfl (by rw [hml]; exact hl.1) rfl dX0_init_1 (Nat.le_of_ble_eq_true rfl) (Nat.le_of_ble_eq_true rfl) ?_
  refine W.eq (g2 := F0 m 4 ls []) rfl ?_
  refine lv_aload_n hx hb dX0_init_4 rfl (lv_at hl 0 rfl) ?_
  refine lv_bipush (v := 32) hx hb dX0_init_5 (by decide) ?_
  refine va_newa (D := D) (atype := .int) (a0 := (32, .inl (fun _ => jI 0))) (ty := .int) (N' := 32) hx hb (hts _ q79) rfl hK hP hD hS hA (newa_ha 32) (by decide) (by decide) (by decide) (Nat.le_of_ble_eq_true rfl) (Nat.le_of_ble_eq_true rfl) dX0_init_7 (fun q_1 cA1 H hK hP hD hS => ?_)
  refine W.widen (k := 1) (n := 32) (Nat.le_of_ble_eq_true rfl) (Nat.le_of_ble_eq_true rfl) ?_
  have hP : va_P D vwCl [(h0, .inr (0, [.null, .null, .null, .null, .null, .null, .null, .null, .int (jI 0), .int (jI 0), .null, .null, .null, .int (jI 0)])), (q_1, .inl (cA1, 32, .inl (fun _ => jI 0)))] H := hP
  have hD : va_D A [(h0, .inr (0, [.null, .null, .null, .null, .null, .null, .null, .null, .int (jI 0), .int (jI 0), .null, .null, .null, .int (jI 0)])), (q_1, .inl (cA1, 32, .inl (fun _ => jI 0)))] := hD
  obtain ⟨dd, rfl⟩ : ∃ z, z = cA1 := ⟨_, rfl⟩
  have hK : va_K D vwCl [(dd, .int)] s := hK
  refine va_putF (D := D) (ci := 0) (v := .ref q_1) (ty := .array .int) (C := RX0) (T := TX0) (N := 14) hx hb hts in_X0 tyX0 tyX0_ok nmX0 hown hK hP hD hS 0 rfl rfl 0 (by decide) (hts _ q36) (fun _ h9 => h9) rfl hin rfl (by decide +kernel) rfl rfl (Nat.le_of_ble_eq_true rfl) dX0_init_9 (fun H locs hP hD hS => ?_)
  have hP : va_P D vwCl [(h0, .inr (0, [.ref q_1, .null, .null, .null, .null, .null, .null, .null, .int (jI 0), .int (jI 0), .null, .null, .null, .int (jI 0)])), (q_1, .inl (dd, 32, .inl (fun _ => jI 0)))] H := hP
  have hD : va_D A [(h0, .inr (0, [.ref q_1, .null, .null, .null, .null, .null, .null, .null, .int (jI 0), .int (jI 0), .null, .null, .null, .int (jI 0)])), (q_1, .inl (dd, 32, .inl (fun _ => jI 0)))] := hD
  refine lv_aload_n hx hb dX0_init_12 rfl (lv_at hl 0 rfl) ?_
  refine lv_bipush (v := 33) hx hb dX0_init_13 (by decide) ?_
  refine va_newa (D := D) (atype := .int) (a0 := (33, .inl (fun _ => jI 0))) (ty := .int) (N' := 33) hx hb (hts _ q79) rfl hK hP hD hS hA (newa_ha 33) (by decide) (by decide) (by decide) (Nat.le_of_ble_eq_true rfl) (Nat.le_of_ble_eq_true rfl) dX0_init_15 (fun q_2 cA2 H hK hP hD hS => ?_)
  refine W.widen (k := 2) (n := 65) (Nat.le_of_ble_eq_true rfl) (Nat.le_of_ble_eq_true rfl) ?_
  have hP : va_P D vwCl [(h0, .inr (0, [.ref q_1, .null, .null, .null, .null, .null, .null, .null, .int (jI 0), .int (jI 0), .null, .null, .null, .int (jI 0)])), (q_1, .inl (dd, 32, .inl (fun _ => jI 0))), (q_2, .inl (cA2, 33, .inl (fun _ => jI 0)))] H := hP
  have hD : va_D A [(h0, .inr (0, [.ref q_1, .null, .null, .null, .null, .null, .null, .null, .int (jI 0), .int (jI 0), .null, .null, .null, .int (jI 0)])), (q_1, .inl (dd, 32, .inl (fun _ => jI 0))), (q_2, .inl (cA2, 33, .inl (fun _ => jI 0)))] := hD
  have hK : va_K D vwCl [(dd, .int), (cA2, .int)] s := hK
  have ec : cA2 = dd := same_arr hK (i := 1) (j := 0) rfl rfl
  rw [ec] at hP hD
  have hK : va_K D vwCl [(dd, .int)] s := hK.sub [0] rfl
  refine va_putF (D := D) (ci := 0) (v := .ref q_2) (ty := .array .int) (C := RX0) (T := TX0) (N := 14) hx hb hts in_X0 tyX0 tyX0_ok nmX0 hown hK hP hD hS 0 rfl rfl 1 (by decide) (hts _ q37) (fun _ h9 => h9) rfl hin rfl (by decide +kernel) rfl rfl (Nat.le_of_ble_eq_true rfl) dX0_init_17 (fun H locs hP hD hS => ?_)
  have hP : va_P D vwCl [(h0, .inr (0, [.ref q_1, .ref q_2, .null, .null, .null, .null, .null, .null, .int (jI 0), .int (jI 0), .null, .null, .null, .int (jI 0)])), (q_1, .inl (dd, 32, .inl (fun _ => jI 0))), (q_2, .inl (dd, 33, .inl (fun _ => jI 0)))] H := hP
  have hD : va_D A [(h0, .inr (0, [.ref q_1, .ref q_2, .null, .null, .null, .null, .null, .null, .int (jI 0), .int (jI 0), .null, .null, .null, .int (jI 0)])), (q_1, .inl (dd, 32, .inl (fun _ => jI 0))), (q_2, .inl (dd, 33, .inl (fun _ => jI 0)))] := hD
  refine lv_aload_n hx hb dX0_init_20 rfl (lv_at hl 0 rfl) ?_
  refine lv_bipush (v := 33) hx hb dX0_init_21 (by decide) ?_
  refine va_newa (D := D) (atype := .int) (a0 := (33, .inl (fun _ => jI 0))) (ty := .int) (N' := 33) hx hb (hts _ q79) rfl hK hP hD hS hA (newa_ha 33) (by decide) (by decide) (by decide) (Nat.le_of_ble_eq_true rfl) (Nat.le_of_ble_eq_true rfl) dX0_init_23 (fun q_3 cA3 H hK hP hD hS => ?_)
  refine W.widen (k := 3) (n := 98) (Nat.le_of_ble_eq_true rfl) (Nat.le_of_ble_eq_true rfl) ?_
  have hP : va_P D vwCl [(h0, .inr (0, [.ref q_1, .ref q_2, .null, .null, .null, .null, .null, .null, .int (jI 0), .int (jI 0), .null, .null, .null, .int (jI 0)])), (q_1, .inl (dd, 32, .inl (fun _ => jI 0))), (q_2, .inl (dd, 33, .inl (fun _ => jI 0))), (q_3, .inl (cA3, 33, .inl (fun _ => jI 0)))] H := hP
  have hD : va_D A [(h0, .inr (0, [.ref q_1, .ref q_2, .null, .null, .null, .null, .null, .null, .int (jI 0), .int (jI 0), .null, .null, .null, .int (jI 0)])), (q_1, .inl (dd, 32, .inl (fun _ => jI 0))), (q_2, .inl (dd, 33, .inl (fun _ => jI 0))), (q_3, .inl (cA3, 33, .inl (fun _ => jI 0)))] := hD
  have hK : va_K D vwCl [(dd, .int), (cA3, .int)] s := hK
  have ec : cA3 = dd := same_arr hK (i := 1) (j := 0) rfl rfl
  rw [ec] at hP hD
  have hK : va_K D vwCl [(dd, .int)] s := hK.sub [0] rfl
  refine va_putF (D := D) (ci := 0) (v := .ref q_3) (ty := .array .int) (C := RX0) (T := TX0) (N := 14) hx hb hts in_X0 tyX0 tyX0_ok nmX0 hown hK hP hD hS 0 rfl rfl 2 (by decide) (hts _ q38) (fun _ h9 => h9) rfl hin rfl (by decide +kernel) rfl rfl (Nat.le_of_ble_eq_true rfl) dX0_init_25 (fun H locs hP hD hS => ?_)
  have hP : va_P D vwCl [(h0, .inr (0, [.ref q_1, .ref q_2, .ref q_3, .null, .null, .null, .null, .null, .int (jI 0), .int (jI 0), .null, .null, .null, .int (jI 0)])), (q_1, .inl (dd, 32, .inl (fun _ => jI 0))), (q_2, .inl (dd, 33, .inl (fun _ => jI 0))), (q_3, .inl (dd, 33, .inl (fun _ => jI 0)))] H := hP
  have hD : va_D A [(h0, .inr (0, [.ref q_1, .ref q_2, .ref q_3, .null, .null, .null, .null, .null, .int (jI 0), .int (jI 0), .null, .null, .null, .int (jI 0)])), (q_1, .inl (dd, 32, .inl (fun _ => jI 0))), (q_2, .inl (dd, 33, .inl (fun _ => jI 0))), (q_3, .inl (dd, 33, .inl (fun _ => jI 0)))] := hD
  refine lv_aload_n hx hb dX0_init_28 rfl (lv_at hl 0 rfl) ?_
  refine lv_bipush (v := 33) hx hb dX0_init_29 (by decide) ?_
  refine va_newa (D := D) (atype := .int) (a0 := (33, .inl (fun _ => jI 0))) (ty := .int) (N' := 33) hx hb (hts _ q79) rfl hK hP hD hS hA (newa_ha 33) (by decide) (by decide) (by decide) (Nat.le_of_ble_eq_true rfl) (Nat.le_of_ble_eq_true rfl) dX0_init_31 (fun q_4 cA4 H hK hP hD hS => ?_)
  refine W.widen (k := 4) (n := 131) (Nat.le_of_ble_eq_true rfl) (Nat.le_of_ble_eq_true rfl) ?_
  have hP : va_P D vwCl [(h0, .inr (0, [.ref q_1, .ref q_2, .ref q_3, .null, .null, .null, .null, .null, .int (jI 0), .int (jI 0), .null, .null, .null, .int (jI 0)])), (q_1, .inl (dd, 32, .inl (fun _ => jI 0))), (q_2, .inl (dd, 33, .inl (fun _ => jI 0))), (q_3, .inl (dd, 33, .inl (fun _ => jI 0))), (q_4, .inl (cA4, 33, .inl (fun _ => jI 0)))] H := hP
  have hD : va_D A [(h0, .inr (0, [.ref q_1, .ref q_2, .ref q_3, .null, .null, .null, .null, .null, .int (jI 0), .int (jI 0), .null, .null, .null, .int (jI 0)])), (q_1, .inl (dd, 32, .inl (fun _ => jI 0))), (q_2, .inl (dd, 33, .inl (fun _ => jI 0))), (q_3, .inl (dd, 33, .inl (fun _ => jI 0))), (q_4, .inl (cA4, 33, .inl (fun _ => jI 0)))] := hD
  have hK : va_K D vwCl [(dd, .int), (cA4, .int)] s := hK
  have ec : cA4 = dd := same_arr hK (i := 1) (j := 0) rfl rfl
  rw [ec] at hP hD
  have hK : va_K D vwCl [(dd, .int)] s := hK.sub [0] rfl
  refine va_putF (D := D) (ci := 0) (v := .ref q_4) (ty := .array .int) (C := RX0) (T := TX0) (N := 14) hx hb hts in_X0 tyX0 tyX0_ok nmX0 hown hK hP hD hS 0 rfl rfl 3 (by decide) (hts _ q39) (fun _ h9 => h9) rfl hin rfl (by decide +kernel) rfl rfl (Nat.le_of_ble_eq_true rfl) dX0_init_33 (fun H locs hP hD hS => ?_)
  have hP : va_P D vwCl [(h0, .inr (0, [.ref q_1, .ref q_2, .ref q_3, .ref q_4, .null, .null, .null, .null, .int (jI 0), .int (jI 0), .null, .null, .null, .int (jI 0)])), (q_1, .inl (dd, 32, .inl (fun _ => jI 0))), (q_2, .inl (dd, 33, .inl (fun _ => jI 0))), (q_3, .inl (dd, 33, .inl (fun _ => jI 0))), (q_4, .inl (dd, 33, .inl (fun _ => jI 0)))] H := hP
  have hD : va_D A [(h0, .inr (0, [.ref q_1, .ref q_2, .ref q_3, .ref q_4, .null, .null, .null, .null, .int (jI 0), .int (jI 0), .null, .null, .null, .int (jI 0)])), (q_1, .inl (dd, 32, .inl (fun _ => jI 0))), (q_2, .inl (dd, 33, .inl (fun _ => jI 0))), (q_3, .inl (dd, 33, .inl (fun _ => jI 0))), (q_4, .inl (dd, 33, .inl (fun _ => jI 0)))] := hD
  refine lv_aload_n hx hb dX0_init_36 rfl (lv_at hl 0 rfl) ?_
  refine lv_bipush (v := 33) hx hb dX0_init_37 (by decide) ?_
  refine va_newa (D := D) (atype := .int) (a0 := (33, .inl (fun _ => jI 0))) (ty := .int) (N' := 33) hx hb (hts _ q79) rfl hK hP hD hS hA (newa_ha 33) (by decide) (by decide) (by decide) (Nat.le_of_ble_eq_true rfl) (Nat.le_of_ble_eq_true rfl) dX0_init_39 (fun q_5 cA5 H hK hP hD hS => ?_)
  refine W.widen (k := 5) (n := 164) (Nat.le_of_ble_eq_true rfl) (Nat.le_of_ble_eq_true rfl) ?_
  have hP : va_P D vwCl [(h0, .inr (0, [.ref q_1, .ref q_2, .ref q_3, .ref q_4, .null, .null, .null, .null, .int (jI 0), .int (jI 0), .null, .null, .null, .int (jI 0)])), (q_1, .inl (dd, 32, .inl (fun _ => jI 0))), (q_2, .inl (dd, 33, .inl (fun _ => jI 0))), (q_3, .inl (dd, 33, .inl (fun _ => jI 0))), (q_4, .inl (dd, 33, .inl (fun _ => jI 0))), (q_5, .inl (cA5, 33, .inl (fun _ => jI 0)))] H := hP
  have hD : va_D A [(h0, .inr (0, [.ref q_1, .ref q_2, .ref q_3, .ref q_4, .null, .null, .null, .null, .int (jI 0), .int (jI 0), .null, .null, .null, .int (jI 0)])), (q_1, .inl (dd, 32, .inl (fun _ => jI 0))), (q_2, .inl (dd, 33, .inl (fun _ => jI 0))), (q_3, .inl (dd, 33, .inl (fun _ => jI 0))), (q_4, .inl (dd, 33, .inl (fun _ => jI 0))), (q_5, .inl (cA5, 33, .inl (fun _ => jI 0)))] := hD
  have hK : va_K D vwCl [(dd, .int), (cA5, .int)] s := hK
  have ec : cA5 = dd := same_arr hK (i := 1) (j := 0) rfl rfl
  rw [ec] at hP hD
  have hK : va_K D vwCl [(dd, .int)] s := hK.sub [0] rfl
  refine va_putF (D := D) (ci := 0) (v := .ref q_5) (ty := .array .int) (C := RX0) (T := TX0) (N := 14) hx hb hts in_X0 tyX0 tyX0_ok nmX0 hown hK hP hD hS 0 rfl rfl 4 (by decide) (hts _ q40) (fun _ h9 => h9) rfl hin rfl (by decide +kernel) rfl rfl (Nat.le_of_ble_eq_true rfl) dX0_init_41 (fun H locs hP hD hS => ?_)
  have hP : va_P D vwCl [(h0, .inr (0, [.ref q_1, .ref q_2, .ref q_3, .ref q_4, .ref q_5, .null, .null, .null, .int (jI 0), .int (jI 0), .null, .null, .null, .int (jI 0)])), (q_1, .inl (dd, 32, .inl (fun _ => jI 0))), (q_2, .inl (dd, 33, .inl (fun _ => jI 0))), (q_3, .inl (dd, 33, .inl (fun _ => jI 0))), (q_4, .inl (dd, 33, .inl (fun _ => jI 0))), (q_5, .inl (dd, 33, .inl (fun _ => jI 0)))] H := hP
  have hD : va_D A [(h0, .inr (0, [.ref q_1, .ref q_2, .ref q_3, .ref q_4, .ref q_5, .null, .null, .null, .int (jI 0), .int (jI 0), .null, .null, .null, .int (jI 0)])), (q_1, .inl (dd, 32, .inl (fun _ => jI 0))), (q_2, .inl (dd, 33, .inl (fun _ => jI 0))), (q_3, .inl (dd, 33, .inl (fun _ => jI 0))), (q_4, .inl (dd, 33, .inl (fun _ => jI 0))), (q_5, .inl (dd, 33, .inl (fun _ => jI 0)))] := hD
  refine lv_aload_n hx hb dX0_init_44 rfl (lv_at hl 0 rfl) ?_
  refine lv_bipush (v := 80) hx hb dX0_init_45 (by decide) ?_
  refine va_newa (D := D) (atype := .int) (a0 := (80, .inl (fun _ => jI 0))) (ty := .int) (N' := 80) hx hb (hts _ q79) rfl hK hP hD hS hA (newa_ha 80) (by decide) (by decide) (by decide) (Nat.le_of_ble_eq_true rfl) (Nat.le_of_ble_eq_true rfl) dX0_init_47 (fun q_6 cA6 H hK hP hD hS => ?_)
  refine W.widen (k := 6) (n := 244) (Nat.le_of_ble_eq_true rfl) (Nat.le_of_ble_eq_true rfl) ?_
  have hP : va_P D vwCl [(h0, .inr (0, [.ref q_1, .ref q_2, .ref q_3, .ref q_4, .ref q_5, .null, .null, .null, .int (jI 0), .int (jI 0), .null, .null, .null, .int (jI 0)])), (q_1, .inl (dd, 32, .inl (fun _ => jI 0))), (q_2, .inl (dd, 33, .inl (fun _ => jI 0))), (q_3, .inl (dd, 33, .inl (fun _ => jI 0))), (q_4, .inl (dd, 33, .inl (fun _ => jI 0))), (q_5, .inl (dd, 33, .inl (fun _ => jI 0))), (q_6, .inl (cA6, 80, .inl (fun _ => jI 0)))] H := hP
  have hD : va_D A [(h0, .inr (0, [.ref q_1, .ref q_2, .ref q_3, .ref q_4, .ref q_5, .null, .null, .null, .int (jI 0), .int (jI 0), .null, .null, .null, .int (jI 0)])), (q_1, .inl (dd, 32, .inl (fun _ => jI 0))), (q_2, .inl (dd, 33, .inl (fun _ => jI 0))), (q_3, .inl (dd, 33, .inl (fun _ => jI 0))), (q_4, .inl (dd, 33, .inl (fun _ => jI 0))), (q_5, .inl (dd, 33, .inl (fun _ => jI 0))), (q_6, .inl (cA6, 80, .inl (fun _ => jI 0)))] := hD
  have hK : va_K D vwCl [(dd, .int), (cA6, .int)] s := hK
  have ec : cA6 = dd := same_arr hK (i := 1) (j := 0) rfl rfl
  rw [ec] at hP hD
  have hK : va_K D vwCl [(dd, .int)] s := hK.sub [0] rfl
  refine va_putF (D := D) (ci := 0) (v := .ref q_6) (ty := .array .int) (C := RX0) (T := TX0) (N := 14) hx hb hts in_X0 tyX0 tyX0_ok nmX0 hown hK hP hD hS 0 rfl rfl 5 (by decide) (hts _ q41) (fun _ h9 => h9) rfl hin rfl (by decide +kernel) rfl rfl (Nat.le_of_ble_eq_true rfl) dX0_init_49 (fun H locs hP hD hS => ?_)
  have hP : va_P D vwCl [(h0, .inr (0, [.ref q_1, .ref q_2, .ref q_3, .ref q_4, .ref q_5, .ref q_6, .null, .null, .int (jI 0), .int (jI 0), .null, .null, .null, .int (jI 0)])), (q_1, .inl (dd, 32, .inl (fun _ => jI 0))), (q_2, .inl (dd, 33, .inl (fun _ => jI 0))), (q_3, .inl (dd, 33, .inl (fun _ => jI 0))), (q_4, .inl (dd, 33, .inl (fun _ => jI 0))), (q_5, .inl (dd, 33, .inl (fun _ => jI 0))), (q_6, .inl (dd, 80, .inl (fun _ => jI 0)))] H := hP
  have hD : va_D A [(h0, .inr (0, [.ref q_1, .ref q_2, .ref q_3, .ref q_4, .ref q_5, .ref q_6, .null, .null, .int (jI 0), .int (jI 0), .null, .null, .null, .int (jI 0)])), (q_1, .inl (dd, 32, .inl (fun _ => jI 0))), (q_2, .inl (dd, 33, .inl (fun _ => jI 0))), (q_3, .inl (dd, 33, .inl (fun _ => jI 0))), (q_4, .inl (dd, 33, .inl (fun _ => jI 0))), (q_5, .inl (dd, 33, .inl (fun _ => jI 0))), (q_6, .inl (dd, 80, .inl (fun _ => jI 0)))] := hD
  refine lv_aload_n hx hb dX0_init_52 rfl (lv_at hl 0 rfl) ?_
  refine lv_bipush (v := 10) hx hb dX0_init_53 (by decide) ?_
  refine va_newa (D := D) (atype := .int) (a0 := (10, .inl (fun _ => jI 0))) (ty := .int) (N' := 10) hx hb (hts _ q79) rfl hK hP hD hS hA (newa_ha 10) (by decide) (by decide) (by decide) (Nat.le_of_ble_eq_true rfl) (Nat.le_of_ble_eq_true rfl) dX0_init_55 (fun q_7 cA7 H hK hP hD hS => ?_)
  refine W.widen (k := 7) (n := 254) (Nat.le_of_ble_eq_true rfl) (Nat.le_of_ble_eq_true rfl) ?_
  have hP : va_P D vwCl [(h0, .inr (0, [.ref q_1, .ref q_2, .ref q_3, .ref q_4, .ref q_5, .ref q_6, .null, .null, .int (jI 0), .int (jI 0), .null, .null, .null, .int (jI 0)])), (q_1, .inl (dd, 32, .inl (fun _ => jI 0))), (q_2, .inl (dd, 33, .inl (fun _ => jI 0))), (q_3, .inl (dd, 33, .inl (fun _ => jI 0))), (q_4, .inl (dd, 33, .inl (fun _ => jI 0))), (q_5, .inl (dd, 33, .inl (fun _ => jI 0))), (q_6, .inl (dd, 80, .inl (fun _ => jI 0))), (q_7, .inl (cA7, 10, .inl (fun _ => jI 0)))] H := hP
  have hD : va_D A [(h0, .inr (0, [.ref q_1, .ref q_2, .ref q_3, .ref q_4, .ref q_5, .ref q_6, .null, .null, .int (jI 0), .int (jI 0), .null, .null, .null, .int (jI 0)])), (q_1, .inl (dd, 32, .inl (fun _ => jI 0))), (q_2, .inl (dd, 33, .inl (fun _ => jI 0))), (q_3, .inl (dd, 33, .inl (fun _ => jI 0))), (q_4, .inl (dd, 33, .inl (fun _ => jI 0))), (q_5, .inl (dd, 33, .inl (fun _ => jI 0))), (q_6, .inl (dd, 80, .inl (fun _ => jI 0))), (q_7, .inl (cA7, 10, .inl (fun _ => jI 0)))] := hD
  have hK : va_K D vwCl [(dd, .int), (cA7, .int)] s := hK
  have ec : cA7 = dd := same_arr hK (i := 1) (j := 0) rfl rfl
  rw [ec] at hP hD
  have hK : va_K D vwCl [(dd, .int)] s := hK.sub [0] rfl
  refine va_putF (D := D) (ci := 0) (v := .ref q_7) (ty := .array .int) (C := RX0) (T := TX0) (N := 14) hx hb hts in_X0 tyX0 tyX0_ok nmX0 hown hK hP hD hS 0 rfl rfl 6 (by decide) (hts _ q42) (fun _ h9 => h9) rfl hin rfl (by decide +kernel) rfl rfl (Nat.le_of_ble_eq_true rfl) dX0_init_57 (fun H locs hP hD hS => ?_)
  have hP : va_P D vwCl [(h0, .inr (0, [.ref q_1, .ref q_2, .ref q_3, .ref q_4, .ref q_5, .ref q_6, .ref q_7, .null, .int (jI 0), .int (jI 0), .null, .null, .null, .int (jI 0)])), (q_1, .inl (dd, 32, .inl (fun _ => jI 0))), (q_2, .inl (dd, 33, .inl (fun _ => jI 0))), (q_3, .inl (dd, 33, .inl (fun _ => jI 0))), (q_4, .inl (dd, 33, .inl (fun _ => jI 0))), (q_5, .inl (dd, 33, .inl (fun _ => jI 0))), (q_6, .inl (dd, 80, .inl (fun _ => jI 0))), (q_7, .inl (dd, 10, .inl (fun _ => jI 0)))] H := hP
  have hD : va_D A [(h0, .inr (0, [.ref q_1, .ref q_2, .ref q_3, .ref q_4, .ref q_5, .ref q_6, .ref q_7, .null, .int (jI 0), .int (jI 0), .null, .null, .null, .int (jI 0)])), (q_1, .inl (dd, 32, .inl (fun _ => jI 0))), (q_2, .inl (dd, 33, .inl (fun _ => jI 0))), (q_3, .inl (dd, 33, .inl (fun _ => jI 0))), (q_4, .inl (dd, 33, .inl (fun _ => jI 0))), (q_5, .inl (dd, 33, .inl (fun _ => jI 0))), (q_6, .inl (dd, 80, .inl (fun _ => jI 0))), (q_7, .inl (dd, 10, .inl (fun _ => jI 0)))] := hD
  refine lv_aload_n hx hb dX0_init_60 rfl (lv_at hl 0 rfl) ?_
  refine lv_bipush (v := 10) hx hb dX0_init_61 (by decide) ?_
  refine va_newa (D := D) (atype := .int) (a0 := (10, .inl (fun _ => jI 0))) (ty := .int) (N' := 10) hx hb (hts _ q79) rfl hK hP hD hS hA (newa_ha 10) (by decide) (by decide) (by decide) (Nat.le_of_ble_eq_true rfl) (Nat.le_of_ble_eq_true rfl) dX0_init_63 (fun q_8 cA8 H hK hP hD hS => ?_)
  refine W.widen (k := 8) (n := 264) (Nat.le_of_ble_eq_true rfl) (Nat.le_of_ble_eq_true rfl) ?_
  have hP : va_P D vwCl [(h0, .inr (0, [.ref q_1, .ref q_2, .ref q_3, .ref q_4, .ref q_5, .ref q_6, .ref q_7, .null, .int (jI 0), .int (jI 0), .null, .null, .null, .int (jI 0)])), (q_1, .inl (dd, 32, .inl (fun _ => jI 0))), (q_2, .inl (dd, 33, .inl (fun _ => jI 0))), (q_3, .inl (dd, 33, .inl (fun _ => jI 0))), (q_4, .inl (dd, 33, .inl (fun _ => jI 0))), (q_5, .inl (dd, 33, .inl (fun _ => jI 0))), (q_6, .inl (dd, 80, .inl (fun _ => jI 0))), (q_7, .inl (dd, 10, .inl (fun _ => jI 0))), (q_8, .inl (cA8, 10, .inl (fun _ => jI 0)))] H := hP
  have hD : va_D A [(h0, .inr (0, [.ref q_1, .ref q_2, .ref q_3, .ref q_4, .ref q_5, .ref q_6, .ref q_7, .null, .int (jI 0), .int (jI 0), .null, .null, .null, .int (jI 0)])), (q_1, .inl (dd, 32, .inl (fun _ => jI 0))), (q_2, .inl (dd, 33, .inl (fun _ => jI 0))), (q_3, .inl (dd, 33, .inl (fun _ => jI 0))), (q_4, .inl (dd, 33, .inl (fun _ => jI 0))), (q_5, .inl (dd, 33, .inl (fun _ => jI 0))), (q_6, .inl (dd, 80, .inl (fun _ => jI 0))), (q_7, .inl (dd, 10, .inl (fun _ => jI 0))), (q_8, .inl (cA8, 10, .inl (fun _ => jI 0)))] := hD
  have hK : va_K D vwCl [(dd, .int), (cA8, .int)] s := hK
  have ec : cA8 = dd := same_arr hK (i := 1) (j := 0) rfl rfl
  rw [ec] at hP hD
  have hK : va_K D vwCl [(dd, .int)] s := hK.sub [0] rfl
  refine va_putF (D := D) (ci := 0) (v := .ref q_8) (ty := .array .int) (C := RX0) (T := TX0) (N := 14) hx hb hts in_X0 tyX0 tyX0_ok nmX0 hown hK hP hD hS 0 rfl rfl 7 (by decide) (hts _ q43) (fun _ h9 => h9) rfl hin rfl (by decide +kernel) rfl rfl (Nat.le_of_ble_eq_true rfl) dX0_init_65 (fun H locs hP hD hS => ?_)
  have hP : va_P D vwCl [(h0, .inr (0, [.ref q_1, .ref q_2, .ref q_3, .ref q_4, .ref q_5, .ref q_6, .ref q_7, .ref q_8, .int (jI 0), .int (jI 0), .null, .null, .null, .int (jI 0)])), (q_1, .inl (dd, 32, .inl (fun _ => jI 0))), (q_2, .inl (dd, 33, .inl (fun _ => jI 0))), (q_3, .inl (dd, 33, .inl (fun _ => jI 0))), (q_4, .inl (dd, 33, .inl (fun _ => jI 0))), (q_5, .inl (dd, 33, .inl (fun _ => jI 0))), (q_6, .inl (dd, 80, .inl (fun _ => jI 0))), (q_7, .inl (dd, 10, .inl (fun _ => jI 0))), (q_8, .inl (dd, 10, .inl (fun _ => jI 0)))] H := hP
  have hD : va_D A [(h0, .inr (0, [.ref q_1, .ref q_2, .ref q_3, .ref q_4, .ref q_5, .ref q_6, .ref q_7, .ref q_8, .int (jI 0), .int (jI 0), .null, .null, .null, .int (jI 0)])), (q_1, .inl (dd, 32, .inl (fun _ => jI 0))), (q_2, .inl (dd, 33, .inl (fun _ => jI 0))), (q_3, .inl (dd, 33, .inl (fun _ => jI 0))), (q_4, .inl (dd, 33, .inl (fun _ => jI 0))), (q_5, .inl (dd, 33, .inl (fun _ => jI 0))), (q_6, .inl (dd, 80, .inl (fun _ => jI 0))), (q_7, .inl (dd, 10, .inl (fun _ => jI 0))), (q_8, .inl (dd, 10, .inl (fun _ => jI 0)))] := hD
  refine lv_aload_n hx hb dX0_init_68 rfl (lv_at hl 0 rfl) ?_
  refine lv_bipush (v := 64) hx hb dX0_init_69 (by decide) ?_
  refine va_newa (D := D) (atype := .int) (a0 := (64, .inl (fun _ => jI 0))) (ty := .int) (N' := 64) hx hb (hts _ q79) rfl hK hP hD hS hA (newa_ha 64) (by decide) (by decide) (by decide) (Nat.le_of_ble_eq_true rfl) (Nat.le_of_ble_eq_true rfl) dX0_init_71 (fun q_9 cA9 H hK hP hD hS => ?_)
  refine W.widen (k := 9) (n := 328) (Nat.le_of_ble_eq_true rfl) (Nat.le_of_ble_eq_true rfl) ?_
  have hP : va_P D vwCl [(h0, .inr (0, [.ref q_1, .ref q_2, .ref q_3, .ref q_4, .ref q_5, .ref q_6, .ref q_7, .ref q_8, .int (jI 0), .int (jI 0), .null, .null, .null, .int (jI 0)])), (q_1, .inl (dd, 32, .inl (fun _ => jI 0))), (q_2, .inl (dd, 33, .inl (fun _ => jI 0))), (q_3, .inl (dd, 33, .inl (fun _ => jI 0))), (q_4, .inl (dd, 33, .inl (fun _ => jI 0))), (q_5, .inl (dd, 33, .inl (fun _ => jI 0))), (q_6, .inl (dd, 80, .inl (fun _ => jI 0))), (q_7, .inl (dd, 10, .inl (fun _ => jI 0))), (q_8, .inl (dd, 10, .inl (fun _ => jI 0))), (q_9, .inl (cA9, 64, .inl (fun _ => jI 0)))] H := hP
  have hD : va_D A [(h0, .inr (0, [.ref q_1, .ref q_2, .ref q_3, .ref q_4, .ref q_5, .ref q_6, .ref q_7, .ref q_8, .int (jI 0), .int (jI 0), .null, .null, .null, .int (jI 0)])), (q_1, .inl (dd, 32, .inl (fun _ => jI 0))), (q_2, .inl (dd, 33, .inl (fun _ => jI 0))), (q_3, .inl (dd, 33, .inl (fun _ => jI 0))), (q_4, .inl (dd, 33, .inl (fun _ => jI 0))), (q_5, .inl (dd, 33, .inl (fun _ => jI 0))), (q_6, .inl (dd, 80, .inl (fun _ => jI 0))), (q_7, .inl (dd, 10, .inl (fun _ => jI 0))), (q_8, .inl (dd, 10, .inl (fun _ => jI 0))), (q_9, .inl (cA9, 64, .inl (fun _ => jI 0)))] := hD
  have hK : va_K D vwCl [(dd, .int), (cA9, .int)] s := hK
  have ec : cA9 = dd := same_arr hK (i := 1) (j := 0) rfl rfl
  rw [ec] at hP hD
  have hK : va_K D vwCl [(dd, .int)] s := hK.sub [0] rfl
  refine va_putF (D := D) (ci := 0) (v := .ref q_9) (ty := .array .int) (C := RX0) (T := TX0) (N := 14) hx hb hts in_X0 tyX0 tyX0_ok nmX0 hown hK hP hD hS 0 rfl rfl 10 (by decide) (hts _ q46) (fun _ h9 => h9) rfl hin rfl (by decide +kernel) rfl rfl (Nat.le_of_ble_eq_true rfl) dX0_init_73 (fun H locs hP hD hS => ?_)
  have hP : va_P D vwCl [(h0, .inr (0, [.ref q_1, .ref q_2, .ref q_3, .ref q_4, .ref q_5, .ref q_6, .ref q_7, .ref q_8, .int (jI 0), .int (jI 0), .ref q_9, .null, .null, .int (jI 0)])), (q_1, .inl (dd, 32, .inl (fun _ => jI 0))), (q_2, .inl (dd, 33, .inl (fun _ => jI 0))), (q_3, .inl (dd, 33, .inl (fun _ => jI 0))), (q_4, .inl (dd, 33, .inl (fun _ => jI 0))), (q_5, .inl (dd, 33, .inl (fun _ => jI 0))), (q_6, .inl (dd, 80, .inl (fun _ => jI 0))), (q_7, .inl (dd, 10, .inl (fun _ => jI 0))), (q_8, .inl (dd, 10, .inl (fun _ => jI 0))), (q_9, .inl (dd, 64, .inl (fun _ => jI 0)))] H := hP
  have hD : va_D A [(h0, .inr (0, [.ref q_1, .ref q_2, .ref q_3, .ref q_4, .ref q_5, .ref q_6, .ref q_7, .ref q_8, .int (jI 0), .int (jI 0), .ref q_9, .null, .null, .int (jI 0)])), (q_1, .inl (dd, 32, .inl (fun _ => jI 0))), (q_2, .inl (dd, 33, .inl (fun _ => jI 0))), (q_3, .inl (dd, 33, .inl (fun _ => jI 0))), (q_4, .inl (dd, 33, .inl (fun _ => jI 0))), (q_5, .inl (dd, 33, .inl (fun _ => jI 0))), (q_6, .inl (dd, 80, .inl (fun _ => jI 0))), (q_7, .inl (dd, 10, .inl (fun _ => jI 0))), (q_8, .inl (dd, 10, .inl (fun _ => jI 0))), (q_9, .inl (dd, 64, .inl (fun _ => jI 0)))] := hD
  refine lv_aload_n hx hb dX0_init_76 rfl (lv_at hl 0 rfl) ?_
  refine lv_bipush (v := 33) hx hb dX0_init_77 (by decide) ?_
  refine va_newa (D := D) (atype := .int) (a0 := (33, .inl (fun _ => jI 0))) (ty := .int) (N' := 33) hx hb (hts _ q79) rfl hK hP hD hS hA (newa_ha 33) (by decide) (by decide) (by decide) (Nat.le_of_ble_eq_true rfl) (Nat.le_of_ble_eq_true rfl) dX0_init_79 (fun q_10 cA10 H hK hP hD hS => ?_)
  refine W.widen (k := 10) (n := 361) (Nat.le_of_ble_eq_true rfl) (Nat.le_of_ble_eq_true rfl) ?_
  have hP : va_P D vwCl [(h0, .inr (0, [.ref q_1, .ref q_2, .ref q_3, .ref q_4, .ref q_5, .ref q_6, .ref q_7, .ref q_8, .int (jI 0), .int (jI 0), .ref q_9, .null, .null, .int (jI 0)])), (q_1, .inl (dd, 32, .inl (fun _ => jI 0))), (q_2, .inl (dd, 33, .inl (fun _ => jI 0))), (q_3, .inl (dd, 33, .inl (fun _ => jI 0))), (q_4, .inl (dd, 33, .inl (fun _ => jI 0))), (q_5, .inl (dd, 33, .inl (fun _ => jI 0))), (q_6, .inl (dd, 80, .inl (fun _ => jI 0))), (q_7, .inl (dd, 10, .inl (fun _ => jI 0))), (q_8, .inl (dd, 10, .inl (fun _ => jI 0))), (q_9, .inl (dd, 64, .inl (fun _ => jI 0))), (q_10, .inl (cA10, 33, .inl (fun _ => jI 0)))] H := hP
  have hD : va_D A [(h0, .inr (0, [.ref q_1, .ref q_2, .ref q_3, .ref q_4, .ref q_5, .ref q_6, .ref q_7, .ref q_8, .int (jI 0), .int (jI 0), .ref q_9, .null, .null, .int (jI 0)])), (q_1, .inl (dd, 32, .inl (fun _ => jI 0))), (q_2, .inl (dd, 33, .inl (fun _ => jI 0))), (q_3, .inl (dd, 33, .inl (fun _ => jI 0))), (q_4, .inl (dd, 33, .inl (fun _ => jI 0))), (q_5, .inl (dd, 33, .inl (fun _ => jI 0))), (q_6, .inl (dd, 80, .inl (fun _ => jI 0))), (q_7, .inl (dd, 10, .inl (fun _ => jI 0))), (q_8, .inl (dd, 10, .inl (fun _ => jI 0))), (q_9, .inl (dd, 64, .inl (fun _ => jI 0))), (q_10, .inl (cA10, 33, .inl (fun _ => jI 0)))] := hD
  have hK : va_K D vwCl [(dd, .int), (cA10, .int)] s := hK
  have ec : cA10 = dd := same_arr hK (i := 1) (j := 0) rfl rfl
  rw [ec] at hP hD
  have hK : va_K D vwCl [(dd, .int)] s := hK.sub [0] rfl
  refine va_putF (D := D) (ci := 0) (v := .ref q_10) (ty := .array .int) (C := RX0) (T := TX0) (N := 14) hx hb hts in_X0 tyX0 tyX0_ok nmX0 hown hK hP hD hS 0 rfl rfl 11 (by decide) (hts _ q47) (fun _ h9 => h9) rfl hin rfl (by decide +kernel) rfl rfl (Nat.le_of_ble_eq_true rfl) dX0_init_81 (fun H locs hP hD hS => ?_)
  have hP : va_P D vwCl [(h0, .inr (0, [.ref q_1, .ref q_2, .ref q_3, .ref q_4, .ref q_5, .ref q_6, .ref q_7, .ref q_8, .int (jI 0), .int (jI 0), .ref q_9, .ref q_10, .null, .int (jI 0)])), (q_1, .inl (dd, 32, .inl (fun _ => jI 0))), (q_2, .inl (dd, 33, .inl (fun _ => jI 0))), (q_3, .inl (dd, 33, .inl (fun _ => jI 0))), (q_4, .inl (dd, 33, .inl (fun _ => jI 0))), (q_5, .inl (dd, 33, .inl (fun _ => jI 0))), (q_6, .inl (dd, 80, .inl (fun _ => jI 0))), (q_7, .inl (dd, 10, .inl (fun _ => jI 0))), (q_8, .inl (dd, 10, .inl (fun _ => jI 0))), (q_9, .inl (dd, 64, .inl (fun _ => jI 0))), (q_10, .inl (dd, 33, .inl (fun _ => jI 0)))] H := hP
  have hD : va_D A [(h0, .inr (0, [.ref q_1, .ref q_2, .ref q_3, .ref q_4, .ref q_5, .ref q_6, .ref q_7, .ref q_8, .int (jI 0), .int (jI 0), .ref q_9, .ref q_10, .null, .int (jI 0)])), (q_1, .inl (dd, 32, .inl (fun _ => jI 0))), (q_2, .inl (dd, 33, .inl (fun _ => jI 0))), (q_3, .inl (dd, 33, .inl (fun _ => jI 0))), (q_4, .inl (dd, 33, .inl (fun _ => jI 0))), (q_5, .inl (dd, 33, .inl (fun _ => jI 0))), (q_6, .inl (dd, 80, .inl (fun _ => jI 0))), (q_7, .inl (dd, 10, .inl (fun _ => jI 0))), (q_8, .inl (dd, 10, .inl (fun _ => jI 0))), (q_9, .inl (dd, 64, .inl (fun _ => jI 0))), (q_10, .inl (dd, 33, .inl (fun _ => jI 0)))] := hD
  refine lv_aload_n hx hb dX0_init_84 rfl (lv_at hl 0 rfl) ?_
  refine lv_iconst (v := 5) hx hb dX0_init_85 (by decide) ?_
  refine va_newa (D := D) (atype := .int) (a0 := (5, .inl (fun _ => jI 0))) (ty := .int) (N' := 5) hx hb (hts _ q79) rfl hK hP hD hS hA (newa_ha 5) (by decide) (by decide) (by decide) (Nat.le_of_ble_eq_true rfl) (Nat.le_of_ble_eq_true rfl) dX0_init_86 (fun q_11 cA11 H hK hP hD hS => ?_)
  refine W.widen (k := 11) (n := 366) (Nat.le_of_ble_eq_true rfl) (Nat.le_of_ble_eq_true rfl) ?_
  have hP : va_P D vwCl [(h0, .inr (0, [.ref q_1, .ref q_2, .ref q_3, .ref q_4, .ref q_5, .ref q_6, .ref q_7, .ref q_8, .int (jI 0), .int (jI 0), .ref q_9, .ref q_10, .null, .int (jI 0)])), (q_1, .inl (dd, 32, .inl (fun _ => jI 0))), (q_2, .inl (dd, 33, .inl (fun _ => jI 0))), (q_3, .inl (dd, 33, .inl (fun _ => jI 0))), (q_4, .inl (dd, 33, .inl (fun _ => jI 0))), (q_5, .inl (dd, 33, .inl (fun _ => jI 0))), (q_6, .inl (dd, 80, .inl (fun _ => jI 0))), (q_7, .inl (dd, 10, .inl (fun _ => jI 0))), (q_8, .inl (dd, 10, .inl (fun _ => jI 0))), (q_9, .inl (dd, 64, .inl (fun _ => jI 0))), (q_10, .inl (dd, 33, .inl (fun _ => jI 0))), (q_11, .inl (cA11, 5, .inl (fun _ => jI 0)))] H := hP
  have hD : va_D A [(h0, .inr (0, [.ref q_1, .ref q_2, .ref q_3, .ref q_4, .ref q_5, .ref q_6, .ref q_7, .ref q_8, .int (jI 0), .int (jI 0), .ref q_9, .ref q_10, .null, .int (jI 0)])), (q_1, .inl (dd, 32, .inl (fun _ => jI 0))), (q_2, .inl (dd, 33, .inl (fun _ => jI 0))), (q_3, .inl (dd, 33, .inl (fun _ => jI 0))), (q_4, .inl (dd, 33, .inl (fun _ => jI 0))), (q_5, .inl (dd, 33, .inl (fun _ => jI 0))), (q_6, .inl (dd, 80, .inl (fun _ => jI 0))), (q_7, .inl (dd, 10, .inl (fun _ => jI 0))), (q_8, .inl (dd, 10, .inl (fun _ => jI 0))), (q_9, .inl (dd, 64, .inl (fun _ => jI 0))), (q_10, .inl (dd, 33, .inl (fun _ => jI 0))), (q_11, .inl (cA11, 5, .inl (fun _ => jI 0)))] := hD
  have hK : va_K D vwCl [(dd, .int), (cA11, .int)] s := hK
  have ec : cA11 = dd := same_arr hK (i := 1) (j := 0) rfl rfl
  rw [ec] at hP hD
  have hK : va_K D vwCl [(dd, .int)] s := hK.sub [0] rfl
  refine va_putF (D := D) (ci := 0) (v := .ref q_11) (ty := .array .int) (C := RX0) (T := TX0) (N := 14) hx hb hts in_X0 tyX0 tyX0_ok nmX0 hown hK hP hD hS 0 rfl rfl 12 (by decide) (hts _ q48) (fun _ h9 => h9) rfl hin rfl (by decide +kernel) rfl rfl (Nat.le_of_ble_eq_true rfl) dX0_init_88 (fun H locs hP hD hS => ?_)
  have hP : va_P D vwCl [(h0, .inr (0, [.ref q_1, .ref q_2, .ref q_3, .ref q_4, .ref q_5, .ref q_6, .ref q_7, .ref q_8, .int (jI 0), .int (jI 0), .ref q_9, .ref q_10, .ref q_11, .int (jI 0)])), (q_1, .inl (dd, 32, .inl (fun _ => jI 0))), (q_2, .inl (dd, 33, .inl (fun _ => jI 0))), (q_3, .inl (dd, 33, .inl (fun _ => jI 0))), (q_4, .inl (dd, 33, .inl (fun _ => jI 0))), (q_5, .inl (dd, 33, .inl (fun _ => jI 0))), (q_6, .inl (dd, 80, .inl (fun _ => jI 0))), (q_7, .inl (dd, 10, .inl (fun _ => jI 0))), (q_8, .inl (dd, 10, .inl (fun _ => jI 0))), (q_9, .inl (dd, 64, .inl (fun _ => jI 0))), (q_10, .inl (dd, 33, .inl (fun _ => jI 0))), (q_11, .inl (dd, 5, .inl (fun _ => jI 0)))] H := hP
  have hD : va_D A [(h0, .inr (0, [.ref q_1, .ref q_2, .ref q_3, .ref q_4, .ref q_5, .ref q_6, .ref q_7, .ref q_8, .int (jI 0), .int (jI 0), .ref q_9, .ref q_10, .ref q_11, .int (jI 0)])), (q_1, .inl (dd, 32, .inl (fun _ => jI 0))), (q_2, .inl (dd, 33, .inl (fun _ => jI 0))), (q_3, .inl (dd, 33, .inl (fun _ => jI 0))), (q_4, .inl (dd, 33, .inl (fun _ => jI 0))), (q_5, .inl (dd, 33, .inl (fun _ => jI 0))), (q_6, .inl (dd, 80, .inl (fun _ => jI 0))), (q_7, .inl (dd, 10, .inl (fun _ => jI 0))), (q_8, .inl (dd, 10, .inl (fun _ => jI 0))), (q_9, .inl (dd, 64, .inl (fun _ => jI 0))), (q_10, .inl (dd, 33, .inl (fun _ => jI 0))), (q_11, .inl (dd, 5, .inl (fun _ => jI 0)))] := hD
  have hP : va_P D vwCl (cs 0 dd (ad12 h0 q_1 q_2 q_3 q_4 q_5 q_6 q_7 q_8 q_9 q_10 q_11) tz) H := hP
  have hD : va_D A (cs 0 dd (ad12 h0 q_1 q_2 q_3 q_4 q_5 q_6 q_7 q_8 q_9 q_10 q_11) tz) := hD
  refine ltX0_init (M := (p, l, e, _, s, m, _, below, meth, c, D, dd, A, (ad12 h0 q_1 q_2 q_3 q_4 q_5 q_6 q_7 q_8 q_9 q_10 q_11), _, 2, 11, 366)) ⟨hx, hb, hml, rfl, hown, hts, hK, Nat.le_refl 1, Nat.le_refl 27, hA, Nat.le_refl 11, Nat.le_refl 366⟩ ?_ tz_sml H locs ls hl hP hD hS
  intro x τ hsτ hI hs H locs ls hl hP hD hS
  exact W.vret hx hb hr (fun t ht hW => ⟨⟨((ad12 h0 q_1 q_2 q_3 q_4 q_5 q_6 q_7 q_8 q_9 q_10 q_11), dd, τ), rfl, ⟨rfl, hs, hI⟩, by rw [ht]; exact hP, va_K.moved hW.alike hK, hD⟩, hS.F ht⟩) hS.2.2 dX0_init_135
end
section
/-! the law: rows of its own world (both objects) -/
set_option maxRecDepth 100000
abbrev cL_law : ByteArray := code
theorem dL_law_0 : decode cL_law 0 = .ok (.new 7, 3) := by decide +kernel
theorem dL_law_3 : decode cL_law 3 = .ok (.dup, 1) := by decide +kernel
theorem dL_law_4 : decode cL_law 4 = .ok (.invokespecial 9, 3) := by decide +kernel
theorem dL_law_7 : decode cL_law 7 = .ok (.astore_n 1, 1) := by decide +kernel
theorem dL_law_8 : decode cL_law 8 = .ok (.new 10, 3) := by decide +kernel
theorem dL_law_11 : decode cL_law 11 = .ok (.dup, 1) := by decide +kernel
theorem dL_law_12 : decode cL_law 12 = .ok (.invokespecial 12, 3) := by decide +kernel
theorem dL_law_15 : decode cL_law 15 = .ok (.astore_n 2, 1) := by decide +kernel
theorem dL_law_16 : decode cL_law 16 = .ok (.iconst 0, 1) := by decide +kernel
theorem dL_law_17 : decode cL_law 17 = .ok (.istore_n 3, 1) := by decide +kernel
theorem dL_law_18 : decode cL_law 18 = .ok (.iload_n 3, 1) := by decide +kernel
theorem dL_law_19 : decode cL_law 19 = .ok (.aload_n 0, 1) := by decide +kernel
theorem dL_law_20 : decode cL_law 20 = .ok (.arraylength, 1) := by decide +kernel
theorem dL_law_21 : decode cL_law 21 = .ok (.iconst 4, 1) := by decide +kernel
theorem dL_law_22 : decode cL_law 22 = .ok (.isub, 1) := by decide +kernel
theorem dL_law_23 : decode cL_law 23 = .ok (.if_icmp .gt 444, 3) := by decide +kernel
theorem dL_law_26 : decode cL_law 26 = .ok (.aload_n 0, 1) := by decide +kernel
theorem dL_law_27 : decode cL_law 27 = .ok (.iload_n 3, 1) := by decide +kernel
theorem dL_law_28 : decode cL_law 28 = .ok (.iaload, 1) := by decide +kernel
theorem dL_law_29 : decode cL_law 29 = .ok (.bipush 15, 2) := by decide +kernel
theorem dL_law_31 : decode cL_law 31 = .ok (.iand, 1) := by decide +kernel
theorem dL_law_32 : decode cL_law 32 = .ok (.tableswitch 429 0 14 #[76, 109, 132, 175, 218, 251, 274, 297, 310, 323, 336, 359, 382, 405, 418], 76) := by decide +kernel
theorem dL_law_108 : decode cL_law 108 = .ok (.aload_n 1, 1) := by decide +kernel
theorem dL_law_109 : decode cL_law 109 = .ok (.aload_n 0, 1) := by decide +kernel
theorem dL_law_110 : decode cL_law 110 = .ok (.iload_n 3, 1) := by decide +kernel
theorem dL_law_111 : decode cL_law 111 = .ok (.iconst 1, 1) := by decide +kernel
theorem dL_law_112 : decode cL_law 112 = .ok (.iadd, 1) := by decide +kernel
theorem dL_law_113 : decode cL_law 113 = .ok (.iaload, 1) := by decide +kernel
theorem dL_law_114 : decode cL_law 114 = .ok (.aload_n 0, 1) := by decide +kernel
theorem dL_law_115 : decode cL_law 115 = .ok (.iload_n 3, 1) := by decide +kernel
theorem dL_law_116 : decode cL_law 116 = .ok (.iconst 2, 1) := by decide +kernel
theorem dL_law_117 : decode cL_law 117 = .ok (.iadd, 1) := by decide +kernel
theorem dL_law_118 : decode cL_law 118 = .ok (.iaload, 1) := by decide +kernel
theorem dL_law_119 : decode cL_law 119 = .ok (.invokevirtual 13, 3) := by decide +kernel
theorem dL_law_122 : decode cL_law 122 = .ok (.aload_n 2, 1) := by decide +kernel
theorem dL_law_123 : decode cL_law 123 = .ok (.aload_n 0, 1) := by decide +kernel
theorem dL_law_124 : decode cL_law 124 = .ok (.iload_n 3, 1) := by decide +kernel
theorem dL_law_125 : decode cL_law 125 = .ok (.iconst 1, 1) := by decide +kernel
theorem dL_law_126 : decode cL_law 126 = .ok (.iadd, 1) := by decide +kernel
theorem dL_law_127 : decode cL_law 127 = .ok (.iaload, 1) := by decide +kernel
theorem dL_law_128 : decode cL_law 128 = .ok (.aload_n 0, 1) := by decide +kernel
theorem dL_law_129 : decode cL_law 129 = .ok (.iload_n 3, 1) := by decide +kernel
theorem dL_law_130 : decode cL_law 130 = .ok (.iconst 2, 1) := by decide +kernel
theorem dL_law_131 : decode cL_law 131 = .ok (.iadd, 1) := by decide +kernel
theorem dL_law_132 : decode cL_law 132 = .ok (.iaload, 1) := by decide +kernel
theorem dL_law_133 : decode cL_law 133 = .ok (.invokevirtual 17, 3) := by decide +kernel
theorem dL_law_136 : decode cL_law 136 = .ok (.if_icmp .eq 325, 3) := by decide +kernel
theorem dL_law_139 : decode cL_law 139 = .ok (.iconst 0, 1) := by decide +kernel
theorem dL_law_140 : decode cL_law 140 = .ok (.ireturn, 1) := by decide +kernel
theorem dL_law_141 : decode cL_law 141 = .ok (.aload_n 1, 1) := by decide +kernel
theorem dL_law_142 : decode cL_law 142 = .ok (.aload_n 0, 1) := by decide +kernel
theorem dL_law_143 : decode cL_law 143 = .ok (.iload_n 3, 1) := by decide +kernel
theorem dL_law_144 : decode cL_law 144 = .ok (.iconst 1, 1) := by decide +kernel
theorem dL_law_145 : decode cL_law 145 = .ok (.iadd, 1) := by decide +kernel
theorem dL_law_146 : decode cL_law 146 = .ok (.iaload, 1) := by decide +kernel
theorem dL_law_147 : decode cL_law 147 = .ok (.invokevirtual 18, 3) := by decide +kernel
theorem dL_law_150 : decode cL_law 150 = .ok (.aload_n 2, 1) := by decide +kernel
theorem dL_law_151 : decode cL_law 151 = .ok (.aload_n 0, 1) := by decide +kernel
theorem dL_law_152 : decode cL_law 152 = .ok (.iload_n 3, 1) := by decide +kernel
theorem dL_law_153 : decode cL_law 153 = .ok (.iconst 1, 1) := by decide +kernel
theorem dL_law_154 : decode cL_law 154 = .ok (.iadd, 1) := by decide +kernel
theorem dL_law_155 : decode cL_law 155 = .ok (.iaload, 1) := by decide +kernel
theorem dL_law_156 : decode cL_law 156 = .ok (.invokevirtual 22, 3) := by decide +kernel
theorem dL_law_159 : decode cL_law 159 = .ok (.if_icmp .eq 302, 3) := by decide +kernel
theorem dL_law_162 : decode cL_law 162 = .ok (.iconst 0, 1) := by decide +kernel
theorem dL_law_163 : decode cL_law 163 = .ok (.ireturn, 1) := by decide +kernel
theorem dL_law_164 : decode cL_law 164 = .ok (.aload_n 1, 1) := by decide +kernel
theorem dL_law_165 : decode cL_law 165 = .ok (.aload_n 0, 1) := by decide +kernel
theorem dL_law_166 : decode cL_law 166 = .ok (.iload_n 3, 1) := by decide +kernel
theorem dL_law_167 : decode cL_law 167 = .ok (.iconst 1, 1) := by decide +kernel
theorem dL_law_168 : decode cL_law 168 = .ok (.iadd, 1) := by decide +kernel
theorem dL_law_169 : decode cL_law 169 = .ok (.iaload, 1) := by decide +kernel
theorem dL_law_170 : decode cL_law 170 = .ok (.aload_n 0, 1) := by decide +kernel
theorem dL_law_171 : decode cL_law 171 = .ok (.iload_n 3, 1) := by decide +kernel
theorem dL_law_172 : decode cL_law 172 = .ok (.iconst 2, 1) := by decide +kernel
theorem dL_law_173 : decode cL_law 173 = .ok (.iadd, 1) := by decide +kernel
theorem dL_law_174 : decode cL_law 174 = .ok (.iaload, 1) := by decide +kernel
theorem dL_law_175 : decode cL_law 175 = .ok (.aload_n 0, 1) := by decide +kernel
theorem dL_law_176 : decode cL_law 176 = .ok (.iload_n 3, 1) := by decide +kernel
theorem dL_law_177 : decode cL_law 177 = .ok (.iconst 3, 1) := by decide +kernel
theorem dL_law_178 : decode cL_law 178 = .ok (.iadd, 1) := by decide +kernel
theorem dL_law_179 : decode cL_law 179 = .ok (.iaload, 1) := by decide +kernel
theorem dL_law_180 : decode cL_law 180 = .ok (.invokevirtual 23, 3) := by decide +kernel
theorem dL_law_183 : decode cL_law 183 = .ok (.aload_n 2, 1) := by decide +kernel
theorem dL_law_184 : decode cL_law 184 = .ok (.aload_n 0, 1) := by decide +kernel
theorem dL_law_185 : decode cL_law 185 = .ok (.iload_n 3, 1) := by decide +kernel
theorem dL_law_186 : decode cL_law 186 = .ok (.iconst 1, 1) := by decide +kernel
theorem dL_law_187 : decode cL_law 187 = .ok (.iadd, 1) := by decide +kernel
theorem dL_law_188 : decode cL_law 188 = .ok (.iaload, 1) := by decide +kernel
theorem dL_law_189 : decode cL_law 189 = .ok (.aload_n 0, 1) := by decide +kernel
theorem dL_law_190 : decode cL_law 190 = .ok (.iload_n 3, 1) := by decide +kernel
theorem dL_law_191 : decode cL_law 191 = .ok (.iconst 2, 1) := by decide +kernel
theorem dL_law_192 : decode cL_law 192 = .ok (.iadd, 1) := by decide +kernel
theorem dL_law_193 : decode cL_law 193 = .ok (.iaload, 1) := by decide +kernel
theorem dL_law_194 : decode cL_law 194 = .ok (.aload_n 0, 1) := by decide +kernel
theorem dL_law_195 : decode cL_law 195 = .ok (.iload_n 3, 1) := by decide +kernel
theorem dL_law_196 : decode cL_law 196 = .ok (.iconst 3, 1) := by decide +kernel
theorem dL_law_197 : decode cL_law 197 = .ok (.iadd, 1) := by decide +kernel
theorem dL_law_198 : decode cL_law 198 = .ok (.iaload, 1) := by decide +kernel
theorem dL_law_199 : decode cL_law 199 = .ok (.invokevirtual 27, 3) := by decide +kernel
theorem dL_law_202 : decode cL_law 202 = .ok (.if_icmp .eq 259, 3) := by decide +kernel
theorem dL_law_205 : decode cL_law 205 = .ok (.iconst 0, 1) := by decide +kernel
theorem dL_law_206 : decode cL_law 206 = .ok (.ireturn, 1) := by decide +kernel
theorem dL_law_207 : decode cL_law 207 = .ok (.aload_n 1, 1) := by decide +kernel
theorem dL_law_208 : decode cL_law 208 = .ok (.aload_n 0, 1) := by decide +kernel
theorem dL_law_209 : decode cL_law 209 = .ok (.iload_n 3, 1) := by decide +kernel
theorem dL_law_210 : decode cL_law 210 = .ok (.iconst 1, 1) := by decide +kernel
theorem dL_law_211 : decode cL_law 211 = .ok (.iadd, 1) := by decide +kernel
theorem dL_law_212 : decode cL_law 212 = .ok (.iaload, 1) := by decide +kernel
theorem dL_law_213 : decode cL_law 213 = .ok (.aload_n 0, 1) := by decide +kernel
theorem dL_law_214 : decode cL_law 214 = .ok (.iload_n 3, 1) := by decide +kernel
theorem dL_law_215 : decode cL_law 215 = .ok (.iconst 2, 1) := by decide +kernel
theorem dL_law_216 : decode cL_law 216 = .ok (.iadd, 1) := by decide +kernel
theorem dL_law_217 : decode cL_law 217 = .ok (.iaload, 1) := by decide +kernel
theorem dL_law_218 : decode cL_law 218 = .ok (.aload_n 0, 1) := by decide +kernel
theorem dL_law_219 : decode cL_law 219 = .ok (.iload_n 3, 1) := by decide +kernel
theorem dL_law_220 : decode cL_law 220 = .ok (.iconst 3, 1) := by decide +kernel
theorem dL_law_221 : decode cL_law 221 = .ok (.iadd, 1) := by decide +kernel
theorem dL_law_222 : decode cL_law 222 = .ok (.iaload, 1) := by decide +kernel
theorem dL_law_223 : decode cL_law 223 = .ok (.invokevirtual 28, 3) := by decide +kernel
theorem dL_law_226 : decode cL_law 226 = .ok (.aload_n 2, 1) := by decide +kernel
theorem dL_law_227 : decode cL_law 227 = .ok (.aload_n 0, 1) := by decide +kernel
theorem dL_law_228 : decode cL_law 228 = .ok (.iload_n 3, 1) := by decide +kernel
theorem dL_law_229 : decode cL_law 229 = .ok (.iconst 1, 1) := by decide +kernel
theorem dL_law_230 : decode cL_law 230 = .ok (.iadd, 1) := by decide +kernel
theorem dL_law_231 : decode cL_law 231 = .ok (.iaload, 1) := by decide +kernel
theorem dL_law_232 : decode cL_law 232 = .ok (.aload_n 0, 1) := by decide +kernel
theorem dL_law_233 : decode cL_law 233 = .ok (.iload_n 3, 1) := by decide +kernel
theorem dL_law_234 : decode cL_law 234 = .ok (.iconst 2, 1) := by decide +kernel
theorem dL_law_235 : decode cL_law 235 = .ok (.iadd, 1) := by decide +kernel
theorem dL_law_236 : decode cL_law 236 = .ok (.iaload, 1) := by decide +kernel
theorem dL_law_237 : decode cL_law 237 = .ok (.aload_n 0, 1) := by decide +kernel
theorem dL_law_238 : decode cL_law 238 = .ok (.iload_n 3, 1) := by decide +kernel
theorem dL_law_239 : decode cL_law 239 = .ok (.iconst 3, 1) := by decide +kernel
theorem dL_law_240 : decode cL_law 240 = .ok (.iadd, 1) := by decide +kernel
theorem dL_law_241 : decode cL_law 241 = .ok (.iaload, 1) := by decide +kernel
theorem dL_law_242 : decode cL_law 242 = .ok (.invokevirtual 31, 3) := by decide +kernel
theorem dL_law_245 : decode cL_law 245 = .ok (.if_icmp .eq 216, 3) := by decide +kernel
theorem dL_law_248 : decode cL_law 248 = .ok (.iconst 0, 1) := by decide +kernel
theorem dL_law_249 : decode cL_law 249 = .ok (.ireturn, 1) := by decide +kernel
theorem dL_law_250 : decode cL_law 250 = .ok (.aload_n 1, 1) := by decide +kernel
theorem dL_law_251 : decode cL_law 251 = .ok (.aload_n 0, 1) := by decide +kernel
theorem dL_law_252 : decode cL_law 252 = .ok (.iload_n 3, 1) := by decide +kernel
theorem dL_law_253 : decode cL_law 253 = .ok (.iconst 1, 1) := by decide +kernel
theorem dL_law_254 : decode cL_law 254 = .ok (.iadd, 1) := by decide +kernel
theorem dL_law_255 : decode cL_law 255 = .ok (.iaload, 1) := by decide +kernel
theorem dL_law_256 : decode cL_law 256 = .ok (.aload_n 0, 1) := by decide +kernel
theorem dL_law_257 : decode cL_law 257 = .ok (.iload_n 3, 1) := by decide +kernel
theorem dL_law_258 : decode cL_law 258 = .ok (.iconst 2, 1) := by decide +kernel
theorem dL_law_259 : decode cL_law 259 = .ok (.iadd, 1) := by decide +kernel
theorem dL_law_260 : decode cL_law 260 = .ok (.iaload, 1) := by decide +kernel
theorem dL_law_261 : decode cL_law 261 = .ok (.invokevirtual 32, 3) := by decide +kernel
theorem dL_law_264 : decode cL_law 264 = .ok (.aload_n 2, 1) := by decide +kernel
theorem dL_law_265 : decode cL_law 265 = .ok (.aload_n 0, 1) := by decide +kernel
theorem dL_law_266 : decode cL_law 266 = .ok (.iload_n 3, 1) := by decide +kernel
theorem dL_law_267 : decode cL_law 267 = .ok (.iconst 1, 1) := by decide +kernel
theorem dL_law_268 : decode cL_law 268 = .ok (.iadd, 1) := by decide +kernel
theorem dL_law_269 : decode cL_law 269 = .ok (.iaload, 1) := by decide +kernel
theorem dL_law_270 : decode cL_law 270 = .ok (.aload_n 0, 1) := by decide +kernel
theorem dL_law_271 : decode cL_law 271 = .ok (.iload_n 3, 1) := by decide +kernel
theorem dL_law_272 : decode cL_law 272 = .ok (.iconst 2, 1) := by decide +kernel
theorem dL_law_273 : decode cL_law 273 = .ok (.iadd, 1) := by decide +kernel
theorem dL_law_274 : decode cL_law 274 = .ok (.iaload, 1) := by decide +kernel
theorem dL_law_275 : decode cL_law 275 = .ok (.invokevirtual 35, 3) := by decide +kernel
theorem dL_law_278 : decode cL_law 278 = .ok (.if_icmp .eq 183, 3) := by decide +kernel
theorem dL_law_281 : decode cL_law 281 = .ok (.iconst 0, 1) := by decide +kernel
theorem dL_law_282 : decode cL_law 282 = .ok (.ireturn, 1) := by decide +kernel
theorem dL_law_283 : decode cL_law 283 = .ok (.aload_n 1, 1) := by decide +kernel
theorem dL_law_284 : decode cL_law 284 = .ok (.aload_n 0, 1) := by decide +kernel
theorem dL_law_285 : decode cL_law 285 = .ok (.iload_n 3, 1) := by decide +kernel
theorem dL_law_286 : decode cL_law 286 = .ok (.iconst 1, 1) := by decide +kernel
theorem dL_law_287 : decode cL_law 287 = .ok (.iadd, 1) := by decide +kernel
theorem dL_law_288 : decode cL_law 288 = .ok (.iaload, 1) := by decide +kernel
theorem dL_law_289 : decode cL_law 289 = .ok (.invokevirtual 36, 3) := by decide +kernel
theorem dL_law_292 : decode cL_law 292 = .ok (.aload_n 2, 1) := by decide +kernel
theorem dL_law_293 : decode cL_law 293 = .ok (.aload_n 0, 1) := by decide +kernel
theorem dL_law_294 : decode cL_law 294 = .ok (.iload_n 3, 1) := by decide +kernel
theorem dL_law_295 : decode cL_law 295 = .ok (.iconst 1, 1) := by decide +kernel
theorem dL_law_296 : decode cL_law 296 = .ok (.iadd, 1) := by decide +kernel
theorem dL_law_297 : decode cL_law 297 = .ok (.iaload, 1) := by decide +kernel
theorem dL_law_298 : decode cL_law 298 = .ok (.invokevirtual 39, 3) := by decide +kernel
theorem dL_law_301 : decode cL_law 301 = .ok (.if_icmp .eq 160, 3) := by decide +kernel
theorem dL_law_304 : decode cL_law 304 = .ok (.iconst 0, 1) := by decide +kernel
theorem dL_law_305 : decode cL_law 305 = .ok (.ireturn, 1) := by decide +kernel
theorem dL_law_306 : decode cL_law 306 = .ok (.aload_n 1, 1) := by decide +kernel
theorem dL_law_307 : decode cL_law 307 = .ok (.aload_n 0, 1) := by decide +kernel
theorem dL_law_308 : decode cL_law 308 = .ok (.iload_n 3, 1) := by decide +kernel
theorem dL_law_309 : decode cL_law 309 = .ok (.iconst 1, 1) := by decide +kernel
theorem dL_law_310 : decode cL_law 310 = .ok (.iadd, 1) := by decide +kernel
theorem dL_law_311 : decode cL_law 311 = .ok (.iaload, 1) := by decide +kernel
theorem dL_law_312 : decode cL_law 312 = .ok (.invokevirtual 40, 3) := by decide +kernel
theorem dL_law_315 : decode cL_law 315 = .ok (.aload_n 2, 1) := by decide +kernel
theorem dL_law_316 : decode cL_law 316 = .ok (.aload_n 0, 1) := by decide +kernel
theorem dL_law_317 : decode cL_law 317 = .ok (.iload_n 3, 1) := by decide +kernel
theorem dL_law_318 : decode cL_law 318 = .ok (.iconst 1, 1) := by decide +kernel
theorem dL_law_319 : decode cL_law 319 = .ok (.iadd, 1) := by decide +kernel
theorem dL_law_320 : decode cL_law 320 = .ok (.iaload, 1) := by decide +kernel
theorem dL_law_321 : decode cL_law 321 = .ok (.invokevirtual 43, 3) := by decide +kernel
theorem dL_law_324 : decode cL_law 324 = .ok (.if_icmp .eq 137, 3) := by decide +kernel
theorem dL_law_327 : decode cL_law 327 = .ok (.iconst 0, 1) := by decide +kernel
theorem dL_law_328 : decode cL_law 328 = .ok (.ireturn, 1) := by decide +kernel
theorem dL_law_329 : decode cL_law 329 = .ok (.aload_n 1, 1) := by decide +kernel
theorem dL_law_330 : decode cL_law 330 = .ok (.invokevirtual 44, 3) := by decide +kernel
theorem dL_law_333 : decode cL_law 333 = .ok (.aload_n 2, 1) := by decide +kernel
theorem dL_law_334 : decode cL_law 334 = .ok (.invokevirtual 48, 3) := by decide +kernel
theorem dL_law_337 : decode cL_law 337 = .ok (.if_icmp .eq 124, 3) := by decide +kernel
theorem dL_law_340 : decode cL_law 340 = .ok (.iconst 0, 1) := by decide +kernel
theorem dL_law_341 : decode cL_law 341 = .ok (.ireturn, 1) := by decide +kernel
theorem dL_law_342 : decode cL_law 342 = .ok (.aload_n 1, 1) := by decide +kernel
theorem dL_law_343 : decode cL_law 343 = .ok (.invokevirtual 49, 3) := by decide +kernel
theorem dL_law_346 : decode cL_law 346 = .ok (.aload_n 2, 1) := by decide +kernel
theorem dL_law_347 : decode cL_law 347 = .ok (.invokevirtual 52, 3) := by decide +kernel
theorem dL_law_350 : decode cL_law 350 = .ok (.if_icmp .eq 111, 3) := by decide +kernel
theorem dL_law_353 : decode cL_law 353 = .ok (.iconst 0, 1) := by decide +kernel
theorem dL_law_354 : decode cL_law 354 = .ok (.ireturn, 1) := by decide +kernel
theorem dL_law_355 : decode cL_law 355 = .ok (.aload_n 1, 1) := by decide +kernel
theorem dL_law_356 : decode cL_law 356 = .ok (.invokevirtual 53, 3) := by decide +kernel
theorem dL_law_359 : decode cL_law 359 = .ok (.aload_n 2, 1) := by decide +kernel
theorem dL_law_360 : decode cL_law 360 = .ok (.invokevirtual 56, 3) := by decide +kernel
theorem dL_law_363 : decode cL_law 363 = .ok (.if_icmp .eq 98, 3) := by decide +kernel
theorem dL_law_366 : decode cL_law 366 = .ok (.iconst 0, 1) := by decide +kernel
theorem dL_law_367 : decode cL_law 367 = .ok (.ireturn, 1) := by decide +kernel
theorem dL_law_368 : decode cL_law 368 = .ok (.aload_n 1, 1) := by decide +kernel
theorem dL_law_369 : decode cL_law 369 = .ok (.aload_n 0, 1) := by decide +kernel
theorem dL_law_370 : decode cL_law 370 = .ok (.iload_n 3, 1) := by decide +kernel
theorem dL_law_371 : decode cL_law 371 = .ok (.iconst 1, 1) := by decide +kernel
theorem dL_law_372 : decode cL_law 372 = .ok (.iadd, 1) := by decide +kernel
theorem dL_law_373 : decode cL_law 373 = .ok (.iaload, 1) := by decide +kernel
theorem dL_law_374 : decode cL_law 374 = .ok (.invokevirtual 57, 3) := by decide +kernel
theorem dL_law_377 : decode cL_law 377 = .ok (.aload_n 2, 1) := by decide +kernel
theorem dL_law_378 : decode cL_law 378 = .ok (.aload_n 0, 1) := by decide +kernel
theorem dL_law_379 : decode cL_law 379 = .ok (.iload_n 3, 1) := by decide +kernel
theorem dL_law_380 : decode cL_law 380 = .ok (.iconst 1, 1) := by decide +kernel
theorem dL_law_381 : decode cL_law 381 = .ok (.iadd, 1) := by decide +kernel
theorem dL_law_382 : decode cL_law 382 = .ok (.iaload, 1) := by decide +kernel
theorem dL_law_383 : decode cL_law 383 = .ok (.invokevirtual 60, 3) := by decide +kernel
theorem dL_law_386 : decode cL_law 386 = .ok (.if_icmp .eq 75, 3) := by decide +kernel
theorem dL_law_389 : decode cL_law 389 = .ok (.iconst 0, 1) := by decide +kernel
theorem dL_law_390 : decode cL_law 390 = .ok (.ireturn, 1) := by decide +kernel
theorem dL_law_391 : decode cL_law 391 = .ok (.aload_n 1, 1) := by decide +kernel
theorem dL_law_392 : decode cL_law 392 = .ok (.aload_n 0, 1) := by decide +kernel
theorem dL_law_393 : decode cL_law 393 = .ok (.iload_n 3, 1) := by decide +kernel
theorem dL_law_394 : decode cL_law 394 = .ok (.iconst 1, 1) := by decide +kernel
theorem dL_law_395 : decode cL_law 395 = .ok (.iadd, 1) := by decide +kernel
theorem dL_law_396 : decode cL_law 396 = .ok (.iaload, 1) := by decide +kernel
theorem dL_law_397 : decode cL_law 397 = .ok (.invokevirtual 61, 3) := by decide +kernel
theorem dL_law_400 : decode cL_law 400 = .ok (.aload_n 2, 1) := by decide +kernel
theorem dL_law_401 : decode cL_law 401 = .ok (.aload_n 0, 1) := by decide +kernel
theorem dL_law_402 : decode cL_law 402 = .ok (.iload_n 3, 1) := by decide +kernel
theorem dL_law_403 : decode cL_law 403 = .ok (.iconst 1, 1) := by decide +kernel
theorem dL_law_404 : decode cL_law 404 = .ok (.iadd, 1) := by decide +kernel
theorem dL_law_405 : decode cL_law 405 = .ok (.iaload, 1) := by decide +kernel
theorem dL_law_406 : decode cL_law 406 = .ok (.invokevirtual 64, 3) := by decide +kernel
theorem dL_law_409 : decode cL_law 409 = .ok (.if_icmp .eq 52, 3) := by decide +kernel
theorem dL_law_412 : decode cL_law 412 = .ok (.iconst 0, 1) := by decide +kernel
theorem dL_law_413 : decode cL_law 413 = .ok (.ireturn, 1) := by decide +kernel
theorem dL_law_414 : decode cL_law 414 = .ok (.aload_n 1, 1) := by decide +kernel
theorem dL_law_415 : decode cL_law 415 = .ok (.aload_n 0, 1) := by decide +kernel
theorem dL_law_416 : decode cL_law 416 = .ok (.iload_n 3, 1) := by decide +kernel
theorem dL_law_417 : decode cL_law 417 = .ok (.iconst 1, 1) := by decide +kernel
theorem dL_law_418 : decode cL_law 418 = .ok (.iadd, 1) := by decide +kernel
theorem dL_law_419 : decode cL_law 419 = .ok (.iaload, 1) := by decide +kernel
theorem dL_law_420 : decode cL_law 420 = .ok (.invokevirtual 65, 3) := by decide +kernel
theorem dL_law_423 : decode cL_law 423 = .ok (.aload_n 2, 1) := by decide +kernel
theorem dL_law_424 : decode cL_law 424 = .ok (.aload_n 0, 1) := by decide +kernel
theorem dL_law_425 : decode cL_law 425 = .ok (.iload_n 3, 1) := by decide +kernel
theorem dL_law_426 : decode cL_law 426 = .ok (.iconst 1, 1) := by decide +kernel
theorem dL_law_427 : decode cL_law 427 = .ok (.iadd, 1) := by decide +kernel
theorem dL_law_428 : decode cL_law 428 = .ok (.iaload, 1) := by decide +kernel
theorem dL_law_429 : decode cL_law 429 = .ok (.invokevirtual 68, 3) := by decide +kernel
theorem dL_law_432 : decode cL_law 432 = .ok (.if_icmp .eq 29, 3) := by decide +kernel
theorem dL_law_435 : decode cL_law 435 = .ok (.iconst 0, 1) := by decide +kernel
theorem dL_law_436 : decode cL_law 436 = .ok (.ireturn, 1) := by decide +kernel
theorem dL_law_437 : decode cL_law 437 = .ok (.aload_n 1, 1) := by decide +kernel
theorem dL_law_438 : decode cL_law 438 = .ok (.invokevirtual 69, 3) := by decide +kernel
theorem dL_law_441 : decode cL_law 441 = .ok (.aload_n 2, 1) := by decide +kernel
theorem dL_law_442 : decode cL_law 442 = .ok (.invokevirtual 72, 3) := by decide +kernel
theorem dL_law_445 : decode cL_law 445 = .ok (.if_icmp .eq 16, 3) := by decide +kernel
theorem dL_law_448 : decode cL_law 448 = .ok (.iconst 0, 1) := by decide +kernel
theorem dL_law_449 : decode cL_law 449 = .ok (.ireturn, 1) := by decide +kernel
theorem dL_law_450 : decode cL_law 450 = .ok (.aload_n 1, 1) := by decide +kernel
theorem dL_law_451 : decode cL_law 451 = .ok (.invokevirtual 73, 3) := by decide +kernel
theorem dL_law_454 : decode cL_law 454 = .ok (.aload_n 2, 1) := by decide +kernel
theorem dL_law_455 : decode cL_law 455 = .ok (.invokevirtual 76, 3) := by decide +kernel
theorem dL_law_458 : decode cL_law 458 = .ok (.goto 3, 3) := by decide +kernel
theorem dL_law_461 : decode cL_law 461 = .ok (.iinc 3 4, 3) := by decide +kernel
theorem dL_law_464 : decode cL_law 464 = .ok (.goto (-446), 3) := by decide +kernel
theorem dL_law_467 : decode cL_law 467 = .ok (.iconst 1, 1) := by decide +kernel
theorem dL_law_468 : decode cL_law 468 = .ok (.ireturn, 1) := by decide +kernel
theorem lkL_X0_write : GoodIn lw_all (wsV "DedupBlocksLaw" 13 RX0 yX0_write (ws_ yX0_write cX0_write 7 (some .int))) ∧ yX0_write.cls = RX0 ∧ yX0_write.cls ≠ "java/lang/invoke/MethodHandle" ∧ yX0_write.cls ≠ "java/lang/invoke/VarHandle" ∧ (parseMethodDescriptor yX0_write.desc).map (fun d => d.parameters.length) = some 2 := ⟨lw_V q80 q81 q82 q26 q83, by decide +kernel⟩
theorem lkL_X1_write : GoodIn lw_all (wsV "DedupBlocksLaw" 17 RX1 yX1_write (ws_ yX1_write cX1_write 3 (some .int))) ∧ yX1_write.cls = RX1 ∧ yX1_write.cls ≠ "java/lang/invoke/MethodHandle" ∧ yX1_write.cls ≠ "java/lang/invoke/VarHandle" ∧ (parseMethodDescriptor yX1_write.desc).map (fun d => d.parameters.length) = some 2 := ⟨lw_V q224 q225 q226 q27 q227, by decide +kernel⟩
theorem lkL_X0_read : GoodIn lw_all (wsV "DedupBlocksLaw" 18 RX0 yX0_read (ws_ yX0_read cX0_read 2 (some .int))) ∧ yX0_read.cls = RX0 ∧ yX0_read.cls ≠ "java/lang/invoke/MethodHandle" ∧ yX0_read.cls ≠ "java/lang/invoke/VarHandle" ∧ (parseMethodDescriptor yX0_read.desc).map (fun d => d.parameters.length) = some 1 := ⟨lw_V q153 q154 q155 q26 q156, by decide +kernel⟩
theorem lkL_X1_read : GoodIn lw_all (wsV "DedupBlocksLaw" 22 RX1 yX1_read (ws_ yX1_read cX1_read 2 (some .int))) ∧ yX1_read.cls = RX1 ∧ yX1_read.cls ≠ "java/lang/invoke/MethodHandle" ∧ yX1_read.cls ≠ "java/lang/invoke/VarHandle" ∧ (parseMethodDescriptor yX1_read.desc).map (fun d => d.parameters.length) = some 1 := ⟨lw_V q256 q257 q258 q27 q259, by decide +kernel⟩
theorem lkL_X0_patch : GoodIn lw_all (wsV "DedupBlocksLaw" 23 RX0 yX0_patch (ws_ yX0_patch cX0_patch 7 (some .int))) ∧ yX0_patch.cls = RX0 ∧ yX0_patch.cls ≠ "java/lang/invoke/MethodHandle" ∧ yX0_patch.cls ≠ "java/lang/invoke/VarHandle" ∧ (parseMethodDescriptor yX0_patch.desc).map (fun d => d.parameters.length) = some 3 := ⟨lw_V q157 q158 q159 q26 q160, by decide +kernel⟩
theorem lkL_X1_patch : GoodIn lw_all (wsV "DedupBlocksLaw" 27 RX1 yX1_patch (ws_ yX1_patch cX1_patch 4 (some .int))) ∧ yX1_patch.cls = RX1 ∧ yX1_patch.cls ≠ "java/lang/invoke/MethodHandle" ∧ yX1_patch.cls ≠ "java/lang/invoke/VarHandle" ∧ (parseMethodDescriptor yX1_patch.desc).map (fun d => d.parameters.length) = some 3 := ⟨lw_V q260 q261 q262 q27 q263, by decide +kernel⟩
theorem lkL_X0_spread : GoodIn lw_all (wsV "DedupBlocksLaw" 28 RX0 yX0_spread (ws_ yX0_spread cX0_spread 7 (some .int))) ∧ yX0_spread.cls = RX0 ∧ yX0_spread.cls ≠ "java/lang/invoke/MethodHandle" ∧ yX0_spread.cls ≠ "java/lang/invoke/VarHandle" ∧ (parseMethodDescriptor yX0_spread.desc).map (fun d => d.parameters.length) = some 3 := ⟨lw_V q162 q163 q164 q26 q165, by decide +kernel⟩
theorem lkL_X1_spread : GoodIn lw_all (wsV "DedupBlocksLaw" 31 RX1 yX1_spread (ws_ yX1_spread cX1_spread 6 (some .int))) ∧ yX1_spread.cls = RX1 ∧ yX1_spread.cls ≠ "java/lang/invoke/MethodHandle" ∧ yX1_spread.cls ≠ "java/lang/invoke/VarHandle" ∧ (parseMethodDescriptor yX1_spread.desc).map (fun d => d.parameters.length) = some 3 := ⟨lw_V q264 q265 q266 q27 q267, by decide +kernel⟩
theorem lkL_X0_clone : GoodIn lw_all (wsV "DedupBlocksLaw" 32 RX0 yX0_clone (ws_ yX0_clone cX0_clone 6 (some .int))) ∧ yX0_clone.cls = RX0 ∧ yX0_clone.cls ≠ "java/lang/invoke/MethodHandle" ∧ yX0_clone.cls ≠ "java/lang/invoke/VarHandle" ∧ (parseMethodDescriptor yX0_clone.desc).map (fun d => d.parameters.length) = some 2 := ⟨lw_V q166 q167 q168 q26 q169, by decide +kernel⟩
theorem lkL_X1_clone : GoodIn lw_all (wsV "DedupBlocksLaw" 35 RX1 yX1_clone (ws_ yX1_clone cX1_clone 5 (some .int))) ∧ yX1_clone.cls = RX1 ∧ yX1_clone.cls ≠ "java/lang/invoke/MethodHandle" ∧ yX1_clone.cls ≠ "java/lang/invoke/VarHandle" ∧ (parseMethodDescriptor yX1_clone.desc).map (fun d => d.parameters.length) = some 2 := ⟨lw_V q268 q269 q270 q27 q271, by decide +kernel⟩
theorem lkL_X0_erase : GoodIn lw_all (wsV "DedupBlocksLaw" 36 RX0 yX0_erase (ws_ yX0_erase cX0_erase 4 (some .int))) ∧ yX0_erase.cls = RX0 ∧ yX0_erase.cls ≠ "java/lang/invoke/MethodHandle" ∧ yX0_erase.cls ≠ "java/lang/invoke/VarHandle" ∧ (parseMethodDescriptor yX0_erase.desc).map (fun d => d.parameters.length) = some 1 := ⟨lw_V q174 q175 q176 q26 q177, by decide +kernel⟩
theorem lkL_X1_erase : GoodIn lw_all (wsV "DedupBlocksLaw" 39 RX1 yX1_erase (ws_ yX1_erase cX1_erase 4 (some .int))) ∧ yX1_erase.cls = RX1 ∧ yX1_erase.cls ≠ "java/lang/invoke/MethodHandle" ∧ yX1_erase.cls ≠ "java/lang/invoke/VarHandle" ∧ (parseMethodDescriptor yX1_erase.desc).map (fun d => d.parameters.length) = some 1 := ⟨lw_V q276 q277 q278 q27 q279, by decide +kernel⟩
theorem lkL_X0_holders : GoodIn lw_all (wsV "DedupBlocksLaw" 40 RX0 yX0_holders (ws_ yX0_holders cX0_holders 4 (some .int))) ∧ yX0_holders.cls = RX0 ∧ yX0_holders.cls ≠ "java/lang/invoke/MethodHandle" ∧ yX0_holders.cls ≠ "java/lang/invoke/VarHandle" ∧ (parseMethodDescriptor yX0_holders.desc).map (fun d => d.parameters.length) = some 1 := ⟨lw_V q178 q179 q180 q26 q181, by decide +kernel⟩
theorem lkL_X1_holders : GoodIn lw_all (wsV "DedupBlocksLaw" 43 RX1 yX1_holders (ws_ yX1_holders cX1_holders 2 (some .int))) ∧ yX1_holders.cls = RX1 ∧ yX1_holders.cls ≠ "java/lang/invoke/MethodHandle" ∧ yX1_holders.cls ≠ "java/lang/invoke/VarHandle" ∧ (parseMethodDescriptor yX1_holders.desc).map (fun d => d.parameters.length) = some 1 := ⟨lw_V q280 q281 q282 q27 q283, by decide +kernel⟩
theorem lkL_X0_distinct : GoodIn lw_all (wsV "DedupBlocksLaw" 44 RX0 yX0_distinct (ws_ yX0_distinct cX0_distinct 3 (some .int))) ∧ yX0_distinct.cls = RX0 ∧ yX0_distinct.cls ≠ "java/lang/invoke/MethodHandle" ∧ yX0_distinct.cls ≠ "java/lang/invoke/VarHandle" ∧ (parseMethodDescriptor yX0_distinct.desc).map (fun d => d.parameters.length) = some 0 := ⟨lw_V q182 q183 q184 q26 q185, by decide +kernel⟩
theorem lkL_X1_distinct : GoodIn lw_all (wsV "DedupBlocksLaw" 48 RX1 yX1_distinct (ws_ yX1_distinct cX1_distinct 3 (some .int))) ∧ yX1_distinct.cls = RX1 ∧ yX1_distinct.cls ≠ "java/lang/invoke/MethodHandle" ∧ yX1_distinct.cls ≠ "java/lang/invoke/VarHandle" ∧ (parseMethodDescriptor yX1_distinct.desc).map (fun d => d.parameters.length) = some 0 := ⟨lw_V q288 q289 q290 q27 q291, by decide +kernel⟩
theorem lkL_X0_used : GoodIn lw_all (wsV "DedupBlocksLaw" 49 RX0 yX0_used (ws_ yX0_used cX0_used 1 (some .int))) ∧ yX0_used.cls = RX0 ∧ yX0_used.cls ≠ "java/lang/invoke/MethodHandle" ∧ yX0_used.cls ≠ "java/lang/invoke/VarHandle" ∧ (parseMethodDescriptor yX0_used.desc).map (fun d => d.parameters.length) = some 0 := ⟨lw_V q186 q187 q188 q26 q189, by decide +kernel⟩
theorem lkL_X1_used : GoodIn lw_all (wsV "DedupBlocksLaw" 52 RX1 yX1_used (ws_ yX1_used cX1_used 3 (some .int))) ∧ yX1_used.cls = RX1 ∧ yX1_used.cls ≠ "java/lang/invoke/MethodHandle" ∧ yX1_used.cls ≠ "java/lang/invoke/VarHandle" ∧ (parseMethodDescriptor yX1_used.desc).map (fun d => d.parameters.length) = some 0 := ⟨lw_V q292 q245 q246 q27 q247, by decide +kernel⟩
theorem lkL_X0_saved : GoodIn lw_all (wsV "DedupBlocksLaw" 53 RX0 yX0_saved (ws_ yX0_saved cX0_saved 3 (some .int))) ∧ yX0_saved.cls = RX0 ∧ yX0_saved.cls ≠ "java/lang/invoke/MethodHandle" ∧ yX0_saved.cls ≠ "java/lang/invoke/VarHandle" ∧ (parseMethodDescriptor yX0_saved.desc).map (fun d => d.parameters.length) = some 0 := ⟨lw_V q190 q191 q192 q26 q193, by decide +kernel⟩
theorem lkL_X1_saved : GoodIn lw_all (wsV "DedupBlocksLaw" 56 RX1 yX1_saved (ws_ yX1_saved cX1_saved 3 (some .int))) ∧ yX1_saved.cls = RX1 ∧ yX1_saved.cls ≠ "java/lang/invoke/MethodHandle" ∧ yX1_saved.cls ≠ "java/lang/invoke/VarHandle" ∧ (parseMethodDescriptor yX1_saved.desc).map (fun d => d.parameters.length) = some 0 := ⟨lw_V q293 q294 q295 q27 q296, by decide +kernel⟩
theorem lkL_X0_alone : GoodIn lw_all (wsV "DedupBlocksLaw" 57 RX0 yX0_alone (ws_ yX0_alone cX0_alone 3 (some .int))) ∧ yX0_alone.cls = RX0 ∧ yX0_alone.cls ≠ "java/lang/invoke/MethodHandle" ∧ yX0_alone.cls ≠ "java/lang/invoke/VarHandle" ∧ (parseMethodDescriptor yX0_alone.desc).map (fun d => d.parameters.length) = some 1 := ⟨lw_V q194 q93 q94 q26 q95, by decide +kernel⟩
theorem lkL_X1_alone : GoodIn lw_all (wsV "DedupBlocksLaw" 60 RX1 yX1_alone (ws_ yX1_alone cX1_alone 2 (some .int))) ∧ yX1_alone.cls = RX1 ∧ yX1_alone.cls ≠ "java/lang/invoke/MethodHandle" ∧ yX1_alone.cls ≠ "java/lang/invoke/VarHandle" ∧ (parseMethodDescriptor yX1_alone.desc).map (fun d => d.parameters.length) = some 1 := ⟨lw_V q297 q298 q299 q27 q300, by decide +kernel⟩
theorem lkL_X0_aloneIn : GoodIn lw_all (wsV "DedupBlocksLaw" 61 RX0 yX0_aloneIn (ws_ yX0_aloneIn cX0_aloneIn 6 (some .int))) ∧ yX0_aloneIn.cls = RX0 ∧ yX0_aloneIn.cls ≠ "java/lang/invoke/MethodHandle" ∧ yX0_aloneIn.cls ≠ "java/lang/invoke/VarHandle" ∧ (parseMethodDescriptor yX0_aloneIn.desc).map (fun d => d.parameters.length) = some 1 := ⟨lw_V q195 q196 q197 q26 q198, by decide +kernel⟩
theorem lkL_X1_aloneIn : GoodIn lw_all (wsV "DedupBlocksLaw" 64 RX1 yX1_aloneIn (ws_ yX1_aloneIn cX1_aloneIn 5 (some .int))) ∧ yX1_aloneIn.cls = RX1 ∧ yX1_aloneIn.cls ≠ "java/lang/invoke/MethodHandle" ∧ yX1_aloneIn.cls ≠ "java/lang/invoke/VarHandle" ∧ (parseMethodDescriptor yX1_aloneIn.desc).map (fun d => d.parameters.length) = some 1 := ⟨lw_V q301 q302 q303 q27 q304, by decide +kernel⟩
theorem lkL_X0_twin : GoodIn lw_all (wsV "DedupBlocksLaw" 65 RX0 yX0_twin (ws_ yX0_twin cX0_twin 3 (some .int))) ∧ yX0_twin.cls = RX0 ∧ yX0_twin.cls ≠ "java/lang/invoke/MethodHandle" ∧ yX0_twin.cls ≠ "java/lang/invoke/VarHandle" ∧ (parseMethodDescriptor yX0_twin.desc).map (fun d => d.parameters.length) = some 1 := ⟨lw_V q199 q200 q201 q26 q202, by decide +kernel⟩
theorem lkL_X1_twin : GoodIn lw_all (wsV "DedupBlocksLaw" 68 RX1 yX1_twin (ws_ yX1_twin cX1_twin 3 (some .int))) ∧ yX1_twin.cls = RX1 ∧ yX1_twin.cls ≠ "java/lang/invoke/MethodHandle" ∧ yX1_twin.cls ≠ "java/lang/invoke/VarHandle" ∧ (parseMethodDescriptor yX1_twin.desc).map (fun d => d.parameters.length) = some 1 := ⟨lw_V q306 q307 q308 q27 q309, by decide +kernel⟩
theorem lkL_X0_favourite : GoodIn lw_all (wsV "DedupBlocksLaw" 69 RX0 yX0_favourite (ws_ yX0_favourite cX0_favourite 5 (some .int))) ∧ yX0_favourite.cls = RX0 ∧ yX0_favourite.cls ≠ "java/lang/invoke/MethodHandle" ∧ yX0_favourite.cls ≠ "java/lang/invoke/VarHandle" ∧ (parseMethodDescriptor yX0_favourite.desc).map (fun d => d.parameters.length) = some 0 := ⟨lw_V q203 q204 q205 q26 q206, by decide +kernel⟩
theorem lkL_X1_favourite : GoodIn lw_all (wsV "DedupBlocksLaw" 72 RX1 yX1_favourite (ws_ yX1_favourite cX1_favourite 6 (some .int))) ∧ yX1_favourite.cls = RX1 ∧ yX1_favourite.cls ≠ "java/lang/invoke/MethodHandle" ∧ yX1_favourite.cls ≠ "java/lang/invoke/VarHandle" ∧ (parseMethodDescriptor yX1_favourite.desc).map (fun d => d.parameters.length) = some 0 := ⟨lw_V q310 q311 q312 q27 q313, by decide +kernel⟩
theorem lkL_X0_tidy : GoodIn lw_all (wsV "DedupBlocksLaw" 73 RX0 yX0_tidy (ws_ yX0_tidy cX0_tidy 1 none)) ∧ yX0_tidy.cls = RX0 ∧ yX0_tidy.cls ≠ "java/lang/invoke/MethodHandle" ∧ yX0_tidy.cls ≠ "java/lang/invoke/VarHandle" ∧ (parseMethodDescriptor yX0_tidy.desc).map (fun d => d.parameters.length) = some 0 := ⟨lw_V q207 q208 q209 q26 q210, by decide +kernel⟩
theorem lkL_X1_tidy : GoodIn lw_all (wsV "DedupBlocksLaw" 76 RX1 yX1_tidy (ws_ yX1_tidy cX1_tidy 1 none)) ∧ yX1_tidy.cls = RX1 ∧ yX1_tidy.cls ≠ "java/lang/invoke/MethodHandle" ∧ yX1_tidy.cls ≠ "java/lang/invoke/VarHandle" ∧ (parseMethodDescriptor yX1_tidy.desc).map (fun d => d.parameters.length) = some 0 := ⟨lw_V q314 q315 q316 q27 q317, by decide +kernel⟩
theorem mrg_sml {τ0 τ1 : St} (h0 : sml τ0) (h1 : sml τ1) : sml (mrg τ0 τ1) := by
  intro k j
  unfold mrg
  split
  · exact h0 k j
  · exact h1 _ j
theorem cs2 {d0 : ClassId} {ad : Nat → Nat} {τ0 τ1 : St} : cs 2 d0 ad (mrg τ0 τ1) = cs 0 d0 (aX ad) τ0 ++ cs 1 d0 (aM ad) τ1 := rfl
theorem cv_inl (ad : Nat → Nat) : ∀ xs : List Int, (xs.map Sum.inl).map (cv ad) = xs.map (fun a => Value.int (jI a))
  | [] => rfl
  | a :: xs => by
    have h := cv_inl ad xs
    simp only [List.map_cons]
    rw [h]
    rfl
/-- the script, at the address 0 -/
def SX (M : Mx) (L : Nat) (xs : Nat → Int32) : Prop := match M with
  | (p, l, e, R, s, m, args, below, meth, c, D, d0, A, ad, Q, nL, nc, ns) => va_X (ad 0) L xs s s.heap ∧ ad 0 < s.heap.size ∧ ¬ A (ad 0) ∧ L ≤ 256
section XL
variable {M : Mx} {cc : ByteArray} {nL F pc q : Nat} {vs st st0 : List AV} {τ τ0 τ1 : St} {L : Nat} {xs0 : Nat → Int32} {y : MethodName} {ccy : ByteArray} {nLy Fy idx n : Nat} {ty : FieldType} {xs : List Int}
theorem x2_sld {i : Int} (h : Cx 2 M cc nL F) (hX : SX M L xs0) (d : decode cc pc = .ok (.iaload, 1)) (hq : pc + 1 = q) (hi : 0 ≤ i ∧ i < L) (kk : ∀ v : Int, v = (xs0 i.toNat).toInt → -2147483648 ≤ v ∧ v ≤ 2147483647 → WX 2 M q vs (.inl v :: st) τ) : WX 2 M pc vs (.inl i :: .inr 0 :: st) τ := by
  subst hq
  obtain ⟨p, l, e, R, s, m, args, below, meth, c, D, d0, A, ad, Q, nL', nc, ns⟩ := M
  obtain ⟨hx, hb, -⟩ := h
  obtain ⟨hX1, hbl, hbA, hL⟩ := hX
  intro hs H locs ls hl hP hD hS
  have hin : vp_in (jI i) L := jI_in hi.1 hi.2 (by omega)
  refine va_sld hx hb hX1 hbl hbA hS hin d ?_
  rw [jI_clamp hi.1 (by omega), jI_of (xs0 i.toNat)]
  exact kk _ rfl (jI_rg _) hs H locs ls hl hP hD hS
theorem x2_slen (h : Cx 2 M cc nL F) (hX : SX M L xs0) (d : decode cc pc = .ok (.arraylength, 1)) (hq : pc + 1 = q) (kk : WX 2 M q vs (.inl (L : Int) :: st) τ) : WX 2 M pc vs (.inr 0 :: st) τ := by
  subst hq
  obtain ⟨p, l, e, R, s, m, args, below, meth, c, D, d0, A, ad, Q, nL', nc, ns⟩ := M
  obtain ⟨hx, hb, -⟩ := h
  obtain ⟨hX1, hbl, hbA, hL⟩ := hX
  intro hs H locs ls hl hP hD hS
  refine va_slen hx hb hX1 hbl hbA hS d ?_
  rw [show Int32.ofNat L = jI (L : Int) from (jI_nat L).symm]
  exact kk hs H locs ls hl hP hD hS
theorem x2_switch {a dflt lo hi off : Int} {offs : Array Int} {len tgt : Nat} (h : Cx 2 M cc nL F) (d : decode cc pc = .ok (.tableswitch dflt lo hi offs, len)) (hra : -2147483648 ≤ a ∧ a ≤ 2147483647) (h1 : ¬ a < lo) (h2 : ¬ hi < a) (ho : offs[(a - lo).toNat]? = some off) (ht : (pc : Int) + off = (tgt : Int)) (kk : WX 2 M tgt vs st τ) : WX 2 M pc vs (.inl a :: st) τ := by
  obtain ⟨p, l, e, R, s, m, args, below, meth, c, D, d0, A, ad, Q, nL', nc, ns⟩ := M
  obtain ⟨hx, hb, -⟩ := h
  intro hs H locs ls hl hP hD hS
  have ea := jI_toInt hra
  exact lv_tableIn (x := jI a) hx hb d (by rw [ea]; exact h1) (by rw [ea]; exact h2) (by rw [ea]; exact ho) ht (kk hs H locs ls hl hP hD hS)
theorem x2_dflt {a dflt lo hi : Int} {offs : Array Int} {len tgt : Nat} (h : Cx 2 M cc nL F) (d : decode cc pc = .ok (.tableswitch dflt lo hi offs, len)) (hra : -2147483648 ≤ a ∧ a ≤ 2147483647) (h1 : a < lo ∨ hi < a) (ht : (pc : Int) + dflt = (tgt : Int)) (kk : WX 2 M tgt vs st τ) : WX 2 M pc vs (.inl a :: st) τ := by
  obtain ⟨p, l, e, R, s, m, args, below, meth, c, D, d0, A, ad, Q, nL', nc, ns⟩ := M
  obtain ⟨hx, hb, -⟩ := h
  intro hs H locs ls hl hP hD hS
  have ea := jI_toInt hra
  exact lv_tableOut (x := jI a) hx hb d (by rw [ea]; exact h1) ht (kk hs H locs ls hl hP hD hS)
theorem x2_call0i {Po : Int → St → Prop} (h : Cx 2 M cc nL F) (hM : CtI 0 y ccy nLy Fy ty xs τ0 Po) (hG : GoodIn lw_all (wsV "DedupBlocksLaw" idx RX0 y (ws_ y ccy nLy (some ty))) ∧ y.cls = RX0 ∧ y.cls ≠ "java/lang/invoke/MethodHandle" ∧ y.cls ≠ "java/lang/invoke/VarHandle" ∧ (parseMethodDescriptor y.desc).map (fun d => d.parameters.length) = some n) (hxs : xs.length = n) (hF : Fy + 1 ≤ F) (hL : nLy ≤ 8) (d : decode cc pc = .ok (.invokevirtual idx, 3)) (hq : pc + 3 = q) (hlen : st.length ≤ 8) (hst : st0 = xs.reverse.map Sum.inl ++ .inr 1 :: st) (hs0 : sml τ0) (hs1 : sml τ1) (kk : ∀ (z : Int) (τ' : St), sml τ' → -2147483648 ≤ z ∧ z ≤ 2147483647 → Po z τ' → WX 2 M q vs (.inl z :: st) (mrg τ' τ1)) : WX 2 M pc vs st0 (mrg τ0 τ1) := by
  subst hq
  subst hst
  obtain ⟨p, l, e, R, s, m, args, below, meth, c, D, d0, A, ad, Q, nL', nc, ns⟩ := M
  obtain ⟨hx, hb, hml, hnL, hown, hts, hK, hfr, hlo, hA, hnc, hns⟩ := h
  intro hs H locs ls hl hP hD hS
  rw [cs2] at hP hD
  have hPc : va_P D vwCl (cs 0 d0 (aX ad) τ0) H := hP.sub [0, 1, 2, 3, 4, 5, 6, 7, 8, 9, 10, 11] rfl
  have hDc : va_D A (cs 0 d0 (aX ad) τ0) := hD.sub [0, 1, 2, 3, 4, 5, 6, 7, 8, 9, 10, 11] (by decide) rfl
  have hFc : ∀ q, va_A (cs 0 d0 (aX ad) τ0) H.size q → A q := va_free (wc := cs 0 d0 (aX ad) τ0) hD hS hA [0, 1, 2, 3, 4, 5, 6, 7, 8, 9, 10, 11] rfl
  refine va_calli (va_runV (As := (xs.map Sum.inl).map (cv (aX ad))) (rest := st.map (cv ad)) ⟨hx, hb, hml, hown, hts⟩ (hM hs0 l D d0 (aX ad) H.size) (cwV n hts hG.1 rfl rfl rfl hG.2 ⟨by show Fy + 1 ≤ R.frames; omega, by show 8 + (nLy + 11) + 27 * Fy ≤ R.locals; omega⟩) ⟨Pc_blind, cs_recv (by decide) hK hPc, fun U hU hW => ⟨rfl, by rw [hU], by rw [hU]; exact hPc, va_K.moved hW.alike hK, hDc.weaken (fun _ _ _ _ => trivial)⟩⟩ rfl (by simpa using hxs) hl.1 (by show ((xs.reverse.map Sum.inl ++ (Sum.inr 1 : AV) :: st : List AV)).map (cv ad) = _; rw [List.map_append, cv_inl, cv_inl, List.map_reverse]; rfl) (lv_room (by rw [lz_sum]; exact hlen)) d ⟨hnc, hns⟩) hS (fun q _ h => hFc q h) hFc (fun r u t H1 locs1 ht hvm hpost hB hz1 hk1 hS1 => ?_)
  obtain ⟨z, rfl, hrz, hsu, hpo⟩ := hpost
  obtain ⟨hP1, hK1, hD1⟩ := hB
  rw [ht] at hP1
  obtain ⟨hP2, hD2⟩ := va_join (wc := cs 0 d0 (aX ad) τ0) (wr := cs 1 d0 (aM ad) τ1) (w1 := cs 0 d0 (aX ad) u) hP hD [0, 1, 2, 3, 4, 5, 6, 7, 8, 9, 10, 11] [12, 13, 14] rfl rfl (by decide) (by decide) hk1 hFc hP1 hD1
  have hP3 : va_P D vwCl (cs 0 d0 (aX ad) u ++ cs 1 d0 (aM ad) τ1) H1 := hP2.sub [3, 4, 5, 6, 7, 8, 9, 10, 11, 12, 13, 14, 0, 1, 2] rfl
  have hD3 : va_D A (cs 0 d0 (aX ad) u ++ cs 1 d0 (aM ad) τ1) := hD2.sub [3, 4, 5, 6, 7, 8, 9, 10, 11, 12, 13, 14, 0, 1, 2] (by decide) rfl
  exact kk z u hsu hrz hpo (mrg_sml hsu hs1) H1 locs1 ls hl hP3 hD3 hS1
theorem x2_call0v {Po : St → Prop} (h : Cx 2 M cc nL F) (hM : CtV 0 y ccy nLy Fy xs τ0 Po) (hG : GoodIn lw_all (wsV "DedupBlocksLaw" idx RX0 y (ws_ y ccy nLy none)) ∧ y.cls = RX0 ∧ y.cls ≠ "java/lang/invoke/MethodHandle" ∧ y.cls ≠ "java/lang/invoke/VarHandle" ∧ (parseMethodDescriptor y.desc).map (fun d => d.parameters.length) = some n) (hxs : xs.length = n) (hF : Fy + 1 ≤ F) (hL : nLy ≤ 8) (d : decode cc pc = .ok (.invokevirtual idx, 3)) (hq : pc + 3 = q) (hlen : st.length ≤ 8) (hst : st0 = xs.reverse.map Sum.inl ++ .inr 1 :: st) (hs0 : sml τ0) (hs1 : sml τ1) (kk : ∀ (τ' : St), sml τ' → Po τ' → WX 2 M q vs st (mrg τ' τ1)) : WX 2 M pc vs st0 (mrg τ0 τ1) := by
  subst hq
  subst hst
  obtain ⟨p, l, e, R, s, m, args, below, meth, c, D, d0, A, ad, Q, nL', nc, ns⟩ := M
  obtain ⟨hx, hb, hml, hnL, hown, hts, hK, hfr, hlo, hA, hnc, hns⟩ := h
  intro hs H locs ls hl hP hD hS
  rw [cs2] at hP hD
  have hPc : va_P D vwCl (cs 0 d0 (aX ad) τ0) H := hP.sub [0, 1, 2, 3, 4, 5, 6, 7, 8, 9, 10, 11] rfl
  have hDc : va_D A (cs 0 d0 (aX ad) τ0) := hD.sub [0, 1, 2, 3, 4, 5, 6, 7, 8, 9, 10, 11] (by decide) rfl
  have hFc : ∀ q, va_A (cs 0 d0 (aX ad) τ0) H.size q → A q := va_free (wc := cs 0 d0 (aX ad) τ0) hD hS hA [0, 1, 2, 3, 4, 5, 6, 7, 8, 9, 10, 11] rfl
  refine va_callv (va_runV (As := (xs.map Sum.inl).map (cv (aX ad))) (rest := st.map (cv ad)) ⟨hx, hb, hml, hown, hts⟩ (hM hs0 l D d0 (aX ad) H.size) (cwV n hts hG.1 rfl rfl rfl hG.2 ⟨by show Fy + 1 ≤ R.frames; omega, by show 8 + (nLy + 11) + 27 * Fy ≤ R.locals; omega⟩) ⟨Pc_blind, cs_recv (by decide) hK hPc, fun U hU hW => ⟨rfl, by rw [hU], by rw [hU]; exact hPc, va_K.moved hW.alike hK, hDc.weaken (fun _ _ _ _ => trivial)⟩⟩ rfl (by simpa using hxs) hl.1 (by show ((xs.reverse.map Sum.inl ++ (Sum.inr 1 : AV) :: st : List AV)).map (cv ad) = _; rw [List.map_append, cv_inl, cv_inl, List.map_reverse]; rfl) (lv_room (by rw [lz_sum]; exact hlen)) d ⟨hnc, hns⟩) hS (fun q _ h => hFc q h) hFc (fun u t H1 locs1 ht hvm hpost hB hz1 hk1 hS1 => ?_)
  obtain ⟨hsu, hpo⟩ := hpost
  obtain ⟨hP1, hK1, hD1⟩ := hB
  rw [ht] at hP1
  obtain ⟨hP2, hD2⟩ := va_join (wc := cs 0 d0 (aX ad) τ0) (wr := cs 1 d0 (aM ad) τ1) (w1 := cs 0 d0 (aX ad) u) hP hD [0, 1, 2, 3, 4, 5, 6, 7, 8, 9, 10, 11] [12, 13, 14] rfl rfl (by decide) (by decide) hk1 hFc hP1 hD1
  have hP3 : va_P D vwCl (cs 0 d0 (aX ad) u ++ cs 1 d0 (aM ad) τ1) H1 := hP2.sub [3, 4, 5, 6, 7, 8, 9, 10, 11, 12, 13, 14, 0, 1, 2] rfl
  have hD3 : va_D A (cs 0 d0 (aX ad) u ++ cs 1 d0 (aM ad) τ1) := hD2.sub [3, 4, 5, 6, 7, 8, 9, 10, 11, 12, 13, 14, 0, 1, 2] (by decide) rfl
  exact kk u hsu hpo (mrg_sml hsu hs1) H1 locs1 ls hl hP3 hD3 hS1
theorem x2_call1i {Po : Int → St → Prop} (h : Cx 2 M cc nL F) (hM : CtI 1 y ccy nLy Fy ty xs τ1 Po) (hG : GoodIn lw_all (wsV "DedupBlocksLaw" idx RX1 y (ws_ y ccy nLy (some ty))) ∧ y.cls = RX1 ∧ y.cls ≠ "java/lang/invoke/MethodHandle" ∧ y.cls ≠ "java/lang/invoke/VarHandle" ∧ (parseMethodDescriptor y.desc).map (fun d => d.parameters.length) = some n) (hxs : xs.length = n) (hF : Fy + 1 ≤ F) (hL : nLy ≤ 8) (d : decode cc pc = .ok (.invokevirtual idx, 3)) (hq : pc + 3 = q) (hlen : st.length ≤ 8) (hst : st0 = xs.reverse.map Sum.inl ++ .inr 2 :: st) (hs0 : sml τ0) (hs1 : sml τ1) (kk : ∀ (z : Int) (τ' : St), sml τ' → -2147483648 ≤ z ∧ z ≤ 2147483647 → Po z τ' → WX 2 M q vs (.inl z :: st) (mrg τ0 τ')) : WX 2 M pc vs st0 (mrg τ0 τ1) := by
  subst hq
  subst hst
  obtain ⟨p, l, e, R, s, m, args, below, meth, c, D, d0, A, ad, Q, nL', nc, ns⟩ := M
  obtain ⟨hx, hb, hml, hnL, hown, hts, hK, hfr, hlo, hA, hnc, hns⟩ := h
  intro hs H locs ls hl hP hD hS
  rw [cs2] at hP hD
  have hPc : va_P D vwCl (cs 1 d0 (aM ad) τ1) H := hP.sub [12, 13, 14] rfl
  have hDc : va_D A (cs 1 d0 (aM ad) τ1) := hD.sub [12, 13, 14] (by decide) rfl
  have hFc : ∀ q, va_A (cs 1 d0 (aM ad) τ1) H.size q → A q := va_free (wc := cs 1 d0 (aM ad) τ1) hD hS hA [12, 13, 14] rfl
  refine va_calli (va_runV (As := (xs.map Sum.inl).map (cv (aM ad))) (rest := st.map (cv ad)) ⟨hx, hb, hml, hown, hts⟩ (hM hs1 l D d0 (aM ad) H.size) (cwV n hts hG.1 rfl rfl rfl hG.2 ⟨by show Fy + 1 ≤ R.frames; omega, by show 8 + (nLy + 11) + 27 * Fy ≤ R.locals; omega⟩) ⟨Pc_blind, cs_recv (by decide) hK hPc, fun U hU hW => ⟨rfl, by rw [hU], by rw [hU]; exact hPc, va_K.moved hW.alike hK, hDc.weaken (fun _ _ _ _ => trivial)⟩⟩ rfl (by simpa using hxs) hl.1 (by show ((xs.reverse.map Sum.inl ++ (Sum.inr 2 : AV) :: st : List AV)).map (cv ad) = _; rw [List.map_append, cv_inl, cv_inl, List.map_reverse]; rfl) (lv_room (by rw [lz_sum]; exact hlen)) d ⟨hnc, hns⟩) hS (fun q _ h => hFc q h) hFc (fun r u t H1 locs1 ht hvm hpost hB hz1 hk1 hS1 => ?_)
  obtain ⟨z, rfl, hrz, hsu, hpo⟩ := hpost
  obtain ⟨hP1, hK1, hD1⟩ := hB
  rw [ht] at hP1
  obtain ⟨hP2, hD2⟩ := va_join (wc := cs 1 d0 (aM ad) τ1) (wr := cs 0 d0 (aX ad) τ0) (w1 := cs 1 d0 (aM ad) u) hP hD [12, 13, 14] [0, 1, 2, 3, 4, 5, 6, 7, 8, 9, 10, 11] rfl rfl (by decide) (by decide) hk1 hFc hP1 hD1
  have hP3 : va_P D vwCl (cs 0 d0 (aX ad) τ0 ++ cs 1 d0 (aM ad) u) H1 := hP2
  have hD3 : va_D A (cs 0 d0 (aX ad) τ0 ++ cs 1 d0 (aM ad) u) := hD2
  exact kk z u hsu hrz hpo (mrg_sml hs0 hsu) H1 locs1 ls hl hP3 hD3 hS1
theorem x2_call1v {Po : St → Prop} (h : Cx 2 M cc nL F) (hM : CtV 1 y ccy nLy Fy xs τ1 Po) (hG : GoodIn lw_all (wsV "DedupBlocksLaw" idx RX1 y (ws_ y ccy nLy none)) ∧ y.cls = RX1 ∧ y.cls ≠ "java/lang/invoke/MethodHandle" ∧ y.cls ≠ "java/lang/invoke/VarHandle" ∧ (parseMethodDescriptor y.desc).map (fun d => d.parameters.length) = some n) (hxs : xs.length = n) (hF : Fy + 1 ≤ F) (hL : nLy ≤ 8) (d : decode cc pc = .ok (.invokevirtual idx, 3)) (hq : pc + 3 = q) (hlen : st.length ≤ 8) (hst : st0 = xs.reverse.map Sum.inl ++ .inr 2 :: st) (hs0 : sml τ0) (hs1 : sml τ1) (kk : ∀ (τ' : St), sml τ' → Po τ' → WX 2 M q vs st (mrg τ0 τ')) : WX 2 M pc vs st0 (mrg τ0 τ1) := by
  subst hq
  subst hst
  obtain ⟨p, l, e, R, s, m, args, below, meth, c, D, d0, A, ad, Q, nL', nc, ns⟩ := M
  obtain ⟨hx, hb, hml, hnL, hown, hts, hK, hfr, hlo, hA, hnc, hns⟩ := h
  intro hs H locs ls hl hP hD hS
  rw [cs2] at hP hD
  have hPc : va_P D vwCl (cs 1 d0 (aM ad) τ1) H := hP.sub [12, 13, 14] rfl
  have hDc : va_D A (cs 1 d0 (aM ad) τ1) := hD.sub [12, 13, 14] (by decide) rfl
  have hFc : ∀ q, va_A (cs 1 d0 (aM ad) τ1) H.size q → A q := va_free (wc := cs 1 d0 (aM ad) τ1) hD hS hA [12, 13, 14] rfl
  refine va_callv (va_runV (As := (xs.map Sum.inl).map (cv (aM ad))) (rest := st.map (cv ad)) ⟨hx, hb, hml, hown, hts⟩ (hM hs1 l D d0 (aM ad) H.size) (cwV n hts hG.1 rfl rfl rfl hG.2 ⟨by show Fy + 1 ≤ R.frames; omega, by show 8 + (nLy + 11) + 27 * Fy ≤ R.locals; omega⟩) ⟨Pc_blind, cs_recv (by decide) hK hPc, fun U hU hW => ⟨rfl, by rw [hU], by rw [hU]; exact hPc, va_K.moved hW.alike hK, hDc.weaken (fun _ _ _ _ => trivial)⟩⟩ rfl (by simpa using hxs) hl.1 (by show ((xs.reverse.map Sum.inl ++ (Sum.inr 2 : AV) :: st : List AV)).map (cv ad) = _; rw [List.map_append, cv_inl, cv_inl, List.map_reverse]; rfl) (lv_room (by rw [lz_sum]; exact hlen)) d ⟨hnc, hns⟩) hS (fun q _ h => hFc q h) hFc (fun u t H1 locs1 ht hvm hpost hB hz1 hk1 hS1 => ?_)
  obtain ⟨hsu, hpo⟩ := hpost
  obtain ⟨hP1, hK1, hD1⟩ := hB
  rw [ht] at hP1
  obtain ⟨hP2, hD2⟩ := va_join (wc := cs 1 d0 (aM ad) τ1) (wr := cs 0 d0 (aX ad) τ0) (w1 := cs 1 d0 (aM ad) u) hP hD [12, 13, 14] [0, 1, 2, 3, 4, 5, 6, 7, 8, 9, 10, 11] rfl rfl (by decide) (by decide) hk1 hFc hP1 hD1
  have hP3 : va_P D vwCl (cs 0 d0 (aX ad) τ0 ++ cs 1 d0 (aM ad) u) H1 := hP2
  have hD3 : va_D A (cs 0 d0 (aX ad) τ0 ++ cs 1 d0 (aM ad) u) := hD2
  exact kk u hsu hpo (mrg_sml hs0 hsu) H1 locs1 ls hl hP3 hD3 hS1
end XL
end
section
/-! the law: its loop -/
set_option maxRecDepth 100000
theorem twin_eq {f : Int → Int} {n r s : Int} (h : ((n < 0 ∨ 31 < n) ∧ r = -1) ∨ (0 ≤ n ∧ n ≤ 31 ∧ isTwin f n r)) (g : ((n < 0 ∨ 31 < n) ∧ s = -1) ∨ (0 ≤ n ∧ n ≤ 31 ∧ isTwin f n s)) : r = s := by
  rcases h with h | h
  · rcases g with g | g
    · omega
    · omega
  · rcases g with g | g
    · omega
    · exact isTwin_uniq h.2.2 g.2.2
set_option maxHeartbeats 4000000 in
theorem law_write {M : Mx} {L : Nat} {xs0 : Nat → Int32} {i : Int} {τ0 τ1 : St} (h : Cx 2 M cL_law 4 6) (hX : SX M L xs0) (hi : 0 ≤ i ∧ i + 3 < L) (hs0 : sml τ0) (hs1 : sml τ1) (hI : Iv τ0 (τ1 0)) (kk : ∀ σ0 σ1 : St, sml σ0 → sml σ1 → Iv σ0 (σ1 0) → WX 2 M 461 [.inr 0, .inr 1, .inr 2, .inl i] [] (mrg σ0 σ1)) : WX 2 M 108 [.inr 0, .inr 1, .inr 2, .inl i] [] (mrg τ0 τ1) := by
  have hok := Iv_ok hI
  refine x_aload_n (q := 109) h dL_law_108 rfl rfl rfl ?_
  refine x_aload_n (q := 110) h dL_law_109 rfl rfl rfl ?_
  refine x_iload_n (q := 111) h dL_law_110 rfl rfl rfl ?_
  refine x_iconst (q := 112) h dL_law_111 rfl ?_
  refine x_iadd (q := 113) h dL_law_112 rfl ?_
  refine x2_sld (q := 114) h hX dL_law_113 rfl (by omega) (fun v113 e113 r113 => ?_)
  refine x_aload_n (q := 115) h dL_law_114 rfl rfl rfl ?_
  refine x_iload_n (q := 116) h dL_law_115 rfl rfl rfl ?_
  refine x_iconst (q := 117) h dL_law_116 rfl ?_
  refine x_iadd (q := 118) h dL_law_117 rfl ?_
  refine x2_sld (q := 119) h hX dL_law_118 rfl (by omega) (fun v118 e118 r118 => ?_)
  refine x2_call0i (q := 122) (xs := [v113, v118]) (st := []) h (mX0_write v113 v118 (by omega) (by omega) hI) lkL_X0_write rfl (by decide) (by decide) dL_law_119 rfl (by simp) rfl (by assumption) (by assumption) (fun z119 τ0_119 s0_119 r119 p119 => ?_)
  refine x_aload_n (q := 123) h dL_law_122 rfl rfl rfl ?_
  refine x_aload_n (q := 124) h dL_law_123 rfl rfl rfl ?_
  refine x_iload_n (q := 125) h dL_law_124 rfl rfl rfl ?_
  refine x_iconst (q := 126) h dL_law_125 rfl ?_
  refine x_iadd (q := 127) h dL_law_126 rfl ?_
  refine x2_sld (q := 128) h hX dL_law_127 rfl (by omega) (fun v127 e127 r127 => ?_)
  refine x_aload_n (q := 129) h dL_law_128 rfl rfl rfl ?_
  refine x_iload_n (q := 130) h dL_law_129 rfl rfl rfl ?_
  refine x_iconst (q := 131) h dL_law_130 rfl ?_
  refine x_iadd (q := 132) h dL_law_131 rfl ?_
  refine x2_sld (q := 133) h hX dL_law_132 rfl (by omega) (fun v132 e132 r132 => ?_)
  have E0 : v113 = v127 := by rw [e113, e127]
  have E1 : v118 = v132 := by rw [e118, e132]
  subst E0
  subst E1
  refine x2_call1i (q := 136) (xs := [v113, v118]) (st := [.inl z119]) h (mX1_write v113 v118 (by omega) (by omega) hok) lkL_X1_write rfl (by decide) (by decide) dL_law_133 rfl (by simp) rfl (by assumption) (by assumption) (fun z133 τ1_133 s1_133 r133 p133 => ?_)
  refine x_icmp_eq (tgt := 461) (q := 139) h dL_law_136 (by decide) rfl (by omega) (by omega) (fun c136 => ?_) (fun c136 => ?_)
  · exact kk _ _ s0_119 s1_133 (Iv_congr p119.2 p133.2)
  · exact absurd (by rw [p119.1, p133.1]) c136
set_option maxHeartbeats 4000000 in
theorem law_read {M : Mx} {L : Nat} {xs0 : Nat → Int32} {i : Int} {τ0 τ1 : St} (h : Cx 2 M cL_law 4 6) (hX : SX M L xs0) (hi : 0 ≤ i ∧ i + 3 < L) (hs0 : sml τ0) (hs1 : sml τ1) (hI : Iv τ0 (τ1 0)) (kk : ∀ σ0 σ1 : St, sml σ0 → sml σ1 → Iv σ0 (σ1 0) → WX 2 M 461 [.inr 0, .inr 1, .inr 2, .inl i] [] (mrg σ0 σ1)) : WX 2 M 141 [.inr 0, .inr 1, .inr 2, .inl i] [] (mrg τ0 τ1) := by
  have hok := Iv_ok hI
  refine x_aload_n (q := 142) h dL_law_141 rfl rfl rfl ?_
  refine x_aload_n (q := 143) h dL_law_142 rfl rfl rfl ?_
  refine x_iload_n (q := 144) h dL_law_143 rfl rfl rfl ?_
  refine x_iconst (q := 145) h dL_law_144 rfl ?_
  refine x_iadd (q := 146) h dL_law_145 rfl ?_
  refine x2_sld (q := 147) h hX dL_law_146 rfl (by omega) (fun v146 e146 r146 => ?_)
  refine x2_call0i (q := 150) (xs := [v146]) (st := []) h (mX0_read v146 (by omega) hI) lkL_X0_read rfl (by decide) (by decide) dL_law_147 rfl (by simp) rfl (by assumption) (by assumption) (fun z147 τ0_147 s0_147 r147 p147 => ?_)
  obtain ⟨rfl, p147⟩ := p147
  refine x_aload_n (q := 151) h dL_law_150 rfl rfl rfl ?_
  refine x_aload_n (q := 152) h dL_law_151 rfl rfl rfl ?_
  refine x_iload_n (q := 153) h dL_law_152 rfl rfl rfl ?_
  refine x_iconst (q := 154) h dL_law_153 rfl ?_
  refine x_iadd (q := 155) h dL_law_154 rfl ?_
  refine x2_sld (q := 156) h hX dL_law_155 rfl (by omega) (fun v155 e155 r155 => ?_)
  have E0 : v146 = v155 := by rw [e146, e155]
  subst E0
  refine x2_call1i (q := 159) (xs := [v146]) (st := [.inl z147]) h (mX1_read v146 (by omega)) lkL_X1_read rfl (by decide) (by decide) dL_law_156 rfl (by simp) rfl (by assumption) (by assumption) (fun z156 τ1_156 s1_156 r156 p156 => ?_)
  obtain ⟨rfl, p156⟩ := p156
  refine x_icmp_eq (tgt := 461) (q := 162) h dL_law_159 (by decide) rfl (by omega) (by omega) (fun c159 => ?_) (fun c159 => ?_)
  · exact kk _ _ hs0 hs1 (hI)
  · exact absurd (by rw [p147, p156]) c159
set_option maxHeartbeats 4000000 in
theorem law_patch {M : Mx} {L : Nat} {xs0 : Nat → Int32} {i : Int} {τ0 τ1 : St} (h : Cx 2 M cL_law 4 6) (hX : SX M L xs0) (hi : 0 ≤ i ∧ i + 3 < L) (hs0 : sml τ0) (hs1 : sml τ1) (hI : Iv τ0 (τ1 0)) (kk : ∀ σ0 σ1 : St, sml σ0 → sml σ1 → Iv σ0 (σ1 0) → WX 2 M 461 [.inr 0, .inr 1, .inr 2, .inl i] [] (mrg σ0 σ1)) : WX 2 M 164 [.inr 0, .inr 1, .inr 2, .inl i] [] (mrg τ0 τ1) := by
  have hok := Iv_ok hI
  refine x_aload_n (q := 165) h dL_law_164 rfl rfl rfl ?_
  refine x_aload_n (q := 166) h dL_law_165 rfl rfl rfl ?_
  refine x_iload_n (q := 167) h dL_law_166 rfl rfl rfl ?_
  refine x_iconst (q := 168) h dL_law_167 rfl ?_
  refine x_iadd (q := 169) h dL_law_168 rfl ?_
  refine x2_sld (q := 170) h hX dL_law_169 rfl (by omega) (fun v169 e169 r169 => ?_)
  refine x_aload_n (q := 171) h dL_law_170 rfl rfl rfl ?_
  refine x_iload_n (q := 172) h dL_law_171 rfl rfl rfl ?_
  refine x_iconst (q := 173) h dL_law_172 rfl ?_
  refine x_iadd (q := 174) h dL_law_173 rfl ?_
  refine x2_sld (q := 175) h hX dL_law_174 rfl (by omega) (fun v174 e174 r174 => ?_)
  refine x_aload_n (q := 176) h dL_law_175 rfl rfl rfl ?_
  refine x_iload_n (q := 177) h dL_law_176 rfl rfl rfl ?_
  refine x_iconst (q := 178) h dL_law_177 rfl ?_
  refine x_iadd (q := 179) h dL_law_178 rfl ?_
  refine x2_sld (q := 180) h hX dL_law_179 rfl (by omega) (fun v179 e179 r179 => ?_)
  refine x2_call0i (q := 183) (xs := [v169, v174, v179]) (st := []) h (mX0_patch v169 v174 v179 (by omega) (by omega) (by omega) hI) lkL_X0_patch rfl (by decide) (by decide) dL_law_180 rfl (by simp) rfl (by assumption) (by assumption) (fun z180 τ0_180 s0_180 r180 p180 => ?_)
  refine x_aload_n (q := 184) h dL_law_183 rfl rfl rfl ?_
  refine x_aload_n (q := 185) h dL_law_184 rfl rfl rfl ?_
  refine x_iload_n (q := 186) h dL_law_185 rfl rfl rfl ?_
  refine x_iconst (q := 187) h dL_law_186 rfl ?_
  refine x_iadd (q := 188) h dL_law_187 rfl ?_
  refine x2_sld (q := 189) h hX dL_law_188 rfl (by omega) (fun v188 e188 r188 => ?_)
  refine x_aload_n (q := 190) h dL_law_189 rfl rfl rfl ?_
  refine x_iload_n (q := 191) h dL_law_190 rfl rfl rfl ?_
  refine x_iconst (q := 192) h dL_law_191 rfl ?_
  refine x_iadd (q := 193) h dL_law_192 rfl ?_
  refine x2_sld (q := 194) h hX dL_law_193 rfl (by omega) (fun v193 e193 r193 => ?_)
  refine x_aload_n (q := 195) h dL_law_194 rfl rfl rfl ?_
  refine x_iload_n (q := 196) h dL_law_195 rfl rfl rfl ?_
  refine x_iconst (q := 197) h dL_law_196 rfl ?_
  refine x_iadd (q := 198) h dL_law_197 rfl ?_
  refine x2_sld (q := 199) h hX dL_law_198 rfl (by omega) (fun v198 e198 r198 => ?_)
  have E0 : v169 = v188 := by rw [e169, e188]
  have E1 : v174 = v193 := by rw [e174, e193]
  have E2 : v179 = v198 := by rw [e179, e198]
  subst E0
  subst E1
  subst E2
  refine x2_call1i (q := 202) (xs := [v169, v174, v179]) (st := [.inl z180]) h (mX1_patch v169 v174 v179 (by omega) (by omega) (by omega) hok) lkL_X1_patch rfl (by decide) (by decide) dL_law_199 rfl (by simp) rfl (by assumption) (by assumption) (fun z199 τ1_199 s1_199 r199 p199 => ?_)
  refine x_icmp_eq (tgt := 461) (q := 205) h dL_law_202 (by decide) rfl (by omega) (by omega) (fun c202 => ?_) (fun c202 => ?_)
  · exact kk _ _ s0_180 s1_199 (Iv_congr p180.2 p199.2)
  · exact absurd (by rw [p180.1, p199.1]) c202
set_option maxHeartbeats 4000000 in
theorem law_spread {M : Mx} {L : Nat} {xs0 : Nat → Int32} {i : Int} {τ0 τ1 : St} (h : Cx 2 M cL_law 4 6) (hX : SX M L xs0) (hi : 0 ≤ i ∧ i + 3 < L) (hs0 : sml τ0) (hs1 : sml τ1) (hI : Iv τ0 (τ1 0)) (kk : ∀ σ0 σ1 : St, sml σ0 → sml σ1 → Iv σ0 (σ1 0) → WX 2 M 461 [.inr 0, .inr 1, .inr 2, .inl i] [] (mrg σ0 σ1)) : WX 2 M 207 [.inr 0, .inr 1, .inr 2, .inl i] [] (mrg τ0 τ1) := by
  have hok := Iv_ok hI
  refine x_aload_n (q := 208) h dL_law_207 rfl rfl rfl ?_
  refine x_aload_n (q := 209) h dL_law_208 rfl rfl rfl ?_
  refine x_iload_n (q := 210) h dL_law_209 rfl rfl rfl ?_
  refine x_iconst (q := 211) h dL_law_210 rfl ?_
  refine x_iadd (q := 212) h dL_law_211 rfl ?_
  refine x2_sld (q := 213) h hX dL_law_212 rfl (by omega) (fun v212 e212 r212 => ?_)
  refine x_aload_n (q := 214) h dL_law_213 rfl rfl rfl ?_
  refine x_iload_n (q := 215) h dL_law_214 rfl rfl rfl ?_
  refine x_iconst (q := 216) h dL_law_215 rfl ?_
  refine x_iadd (q := 217) h dL_law_216 rfl ?_
  refine x2_sld (q := 218) h hX dL_law_217 rfl (by omega) (fun v217 e217 r217 => ?_)
  refine x_aload_n (q := 219) h dL_law_218 rfl rfl rfl ?_
  refine x_iload_n (q := 220) h dL_law_219 rfl rfl rfl ?_
  refine x_iconst (q := 221) h dL_law_220 rfl ?_
  refine x_iadd (q := 222) h dL_law_221 rfl ?_
  refine x2_sld (q := 223) h hX dL_law_222 rfl (by omega) (fun v222 e222 r222 => ?_)
  refine x2_call0i (q := 226) (xs := [v212, v217, v222]) (st := []) h (mX0_spread v212 v217 v222 (by omega) (by omega) (by omega) hI) lkL_X0_spread rfl (by decide) (by decide) dL_law_223 rfl (by simp) rfl (by assumption) (by assumption) (fun z223 τ0_223 s0_223 r223 p223 => ?_)
  refine x_aload_n (q := 227) h dL_law_226 rfl rfl rfl ?_
  refine x_aload_n (q := 228) h dL_law_227 rfl rfl rfl ?_
  refine x_iload_n (q := 229) h dL_law_228 rfl rfl rfl ?_
  refine x_iconst (q := 230) h dL_law_229 rfl ?_
  refine x_iadd (q := 231) h dL_law_230 rfl ?_
  refine x2_sld (q := 232) h hX dL_law_231 rfl (by omega) (fun v231 e231 r231 => ?_)
  refine x_aload_n (q := 233) h dL_law_232 rfl rfl rfl ?_
  refine x_iload_n (q := 234) h dL_law_233 rfl rfl rfl ?_
  refine x_iconst (q := 235) h dL_law_234 rfl ?_
  refine x_iadd (q := 236) h dL_law_235 rfl ?_
  refine x2_sld (q := 237) h hX dL_law_236 rfl (by omega) (fun v236 e236 r236 => ?_)
  refine x_aload_n (q := 238) h dL_law_237 rfl rfl rfl ?_
  refine x_iload_n (q := 239) h dL_law_238 rfl rfl rfl ?_
  refine x_iconst (q := 240) h dL_law_239 rfl ?_
  refine x_iadd (q := 241) h dL_law_240 rfl ?_
  refine x2_sld (q := 242) h hX dL_law_241 rfl (by omega) (fun v241 e241 r241 => ?_)
  have E0 : v212 = v231 := by rw [e212, e231]
  have E1 : v217 = v236 := by rw [e217, e236]
  have E2 : v222 = v241 := by rw [e222, e241]
  subst E0
  subst E1
  subst E2
  refine x2_call1i (q := 245) (xs := [v212, v217, v222]) (st := [.inl z223]) h (mX1_spread v212 v217 v222 (by omega) (by omega) (by omega) hok (Iv_used p223.2).2) lkL_X1_spread rfl (by decide) (by decide) dL_law_242 rfl (by simp) rfl (by assumption) (by assumption) (fun z242 τ1_242 s1_242 r242 p242 => ?_)
  refine x_icmp_eq (tgt := 461) (q := 248) h dL_law_245 (by decide) rfl (by omega) (by omega) (fun c245 => ?_) (fun c245 => ?_)
  · exact kk _ _ s0_223 s1_242 (Iv_congr p223.2 p242.2)
  · exact absurd (by rw [p223.1, p242.1]) c245
set_option maxHeartbeats 4000000 in
theorem law_clone {M : Mx} {L : Nat} {xs0 : Nat → Int32} {i : Int} {τ0 τ1 : St} (h : Cx 2 M cL_law 4 6) (hX : SX M L xs0) (hi : 0 ≤ i ∧ i + 3 < L) (hs0 : sml τ0) (hs1 : sml τ1) (hI : Iv τ0 (τ1 0)) (kk : ∀ σ0 σ1 : St, sml σ0 → sml σ1 → Iv σ0 (σ1 0) → WX 2 M 461 [.inr 0, .inr 1, .inr 2, .inl i] [] (mrg σ0 σ1)) : WX 2 M 250 [.inr 0, .inr 1, .inr 2, .inl i] [] (mrg τ0 τ1) := by
  have hok := Iv_ok hI
  refine x_aload_n (q := 251) h dL_law_250 rfl rfl rfl ?_
  refine x_aload_n (q := 252) h dL_law_251 rfl rfl rfl ?_
  refine x_iload_n (q := 253) h dL_law_252 rfl rfl rfl ?_
  refine x_iconst (q := 254) h dL_law_253 rfl ?_
  refine x_iadd (q := 255) h dL_law_254 rfl ?_
  refine x2_sld (q := 256) h hX dL_law_255 rfl (by omega) (fun v255 e255 r255 => ?_)
  refine x_aload_n (q := 257) h dL_law_256 rfl rfl rfl ?_
  refine x_iload_n (q := 258) h dL_law_257 rfl rfl rfl ?_
  refine x_iconst (q := 259) h dL_law_258 rfl ?_
  refine x_iadd (q := 260) h dL_law_259 rfl ?_
  refine x2_sld (q := 261) h hX dL_law_260 rfl (by omega) (fun v260 e260 r260 => ?_)
  refine x2_call0i (q := 264) (xs := [v255, v260]) (st := []) h (mX0_clone v255 v260 (by omega) (by omega) hI) lkL_X0_clone rfl (by decide) (by decide) dL_law_261 rfl (by simp) rfl (by assumption) (by assumption) (fun z261 τ0_261 s0_261 r261 p261 => ?_)
  refine x_aload_n (q := 265) h dL_law_264 rfl rfl rfl ?_
  refine x_aload_n (q := 266) h dL_law_265 rfl rfl rfl ?_
  refine x_iload_n (q := 267) h dL_law_266 rfl rfl rfl ?_
  refine x_iconst (q := 268) h dL_law_267 rfl ?_
  refine x_iadd (q := 269) h dL_law_268 rfl ?_
  refine x2_sld (q := 270) h hX dL_law_269 rfl (by omega) (fun v269 e269 r269 => ?_)
  refine x_aload_n (q := 271) h dL_law_270 rfl rfl rfl ?_
  refine x_iload_n (q := 272) h dL_law_271 rfl rfl rfl ?_
  refine x_iconst (q := 273) h dL_law_272 rfl ?_
  refine x_iadd (q := 274) h dL_law_273 rfl ?_
  refine x2_sld (q := 275) h hX dL_law_274 rfl (by omega) (fun v274 e274 r274 => ?_)
  have E0 : v255 = v269 := by rw [e255, e269]
  have E1 : v260 = v274 := by rw [e260, e274]
  subst E0
  subst E1
  refine x2_call1i (q := 278) (xs := [v255, v260]) (st := [.inl z261]) h (mX1_clone v255 v260 (by omega) (by omega) hok (Iv_used p261.2).2) lkL_X1_clone rfl (by decide) (by decide) dL_law_275 rfl (by simp) rfl (by assumption) (by assumption) (fun z275 τ1_275 s1_275 r275 p275 => ?_)
  refine x_icmp_eq (tgt := 461) (q := 281) h dL_law_278 (by decide) rfl (by omega) (by omega) (fun c278 => ?_) (fun c278 => ?_)
  · exact kk _ _ s0_261 s1_275 (Iv_congr p261.2 p275.2)
  · exact absurd (by rw [p261.1, p275.1]) c278
set_option maxHeartbeats 4000000 in
theorem law_erase {M : Mx} {L : Nat} {xs0 : Nat → Int32} {i : Int} {τ0 τ1 : St} (h : Cx 2 M cL_law 4 6) (hX : SX M L xs0) (hi : 0 ≤ i ∧ i + 3 < L) (hs0 : sml τ0) (hs1 : sml τ1) (hI : Iv τ0 (τ1 0)) (kk : ∀ σ0 σ1 : St, sml σ0 → sml σ1 → Iv σ0 (σ1 0) → WX 2 M 461 [.inr 0, .inr 1, .inr 2, .inl i] [] (mrg σ0 σ1)) : WX 2 M 283 [.inr 0, .inr 1, .inr 2, .inl i] [] (mrg τ0 τ1) := by
  have hok := Iv_ok hI
  refine x_aload_n (q := 284) h dL_law_283 rfl rfl rfl ?_
  refine x_aload_n (q := 285) h dL_law_284 rfl rfl rfl ?_
  refine x_iload_n (q := 286) h dL_law_285 rfl rfl rfl ?_
  refine x_iconst (q := 287) h dL_law_286 rfl ?_
  refine x_iadd (q := 288) h dL_law_287 rfl ?_
  refine x2_sld (q := 289) h hX dL_law_288 rfl (by omega) (fun v288 e288 r288 => ?_)
  refine x2_call0i (q := 292) (xs := [v288]) (st := []) h (mX0_erase v288 (by omega) hI) lkL_X0_erase rfl (by decide) (by decide) dL_law_289 rfl (by simp) rfl (by assumption) (by assumption) (fun z289 τ0_289 s0_289 r289 p289 => ?_)
  refine x_aload_n (q := 293) h dL_law_292 rfl rfl rfl ?_
  refine x_aload_n (q := 294) h dL_law_293 rfl rfl rfl ?_
  refine x_iload_n (q := 295) h dL_law_294 rfl rfl rfl ?_
  refine x_iconst (q := 296) h dL_law_295 rfl ?_
  refine x_iadd (q := 297) h dL_law_296 rfl ?_
  refine x2_sld (q := 298) h hX dL_law_297 rfl (by omega) (fun v297 e297 r297 => ?_)
  have E0 : v288 = v297 := by rw [e288, e297]
  subst E0
  refine x2_call1i (q := 301) (xs := [v288]) (st := [.inl z289]) h (mX1_erase v288 (by omega)) lkL_X1_erase rfl (by decide) (by decide) dL_law_298 rfl (by simp) rfl (by assumption) (by assumption) (fun z298 τ1_298 s1_298 r298 p298 => ?_)
  refine x_icmp_eq (tgt := 461) (q := 304) h dL_law_301 (by decide) rfl (by omega) (by omega) (fun c301 => ?_) (fun c301 => ?_)
  · exact kk _ _ s0_289 s1_298 (Iv_congr p289.2 p298.2.1)
  · exact absurd (by rw [p289.1, p298.1]) c301
set_option maxHeartbeats 4000000 in
theorem law_holders {M : Mx} {L : Nat} {xs0 : Nat → Int32} {i : Int} {τ0 τ1 : St} (h : Cx 2 M cL_law 4 6) (hX : SX M L xs0) (hi : 0 ≤ i ∧ i + 3 < L) (hs0 : sml τ0) (hs1 : sml τ1) (hI : Iv τ0 (τ1 0)) (kk : ∀ σ0 σ1 : St, sml σ0 → sml σ1 → Iv σ0 (σ1 0) → WX 2 M 461 [.inr 0, .inr 1, .inr 2, .inl i] [] (mrg σ0 σ1)) : WX 2 M 306 [.inr 0, .inr 1, .inr 2, .inl i] [] (mrg τ0 τ1) := by
  have hok := Iv_ok hI
  refine x_aload_n (q := 307) h dL_law_306 rfl rfl rfl ?_
  refine x_aload_n (q := 308) h dL_law_307 rfl rfl rfl ?_
  refine x_iload_n (q := 309) h dL_law_308 rfl rfl rfl ?_
  refine x_iconst (q := 310) h dL_law_309 rfl ?_
  refine x_iadd (q := 311) h dL_law_310 rfl ?_
  refine x2_sld (q := 312) h hX dL_law_311 rfl (by omega) (fun v311 e311 r311 => ?_)
  refine x2_call0i (q := 315) (xs := [v311]) (st := []) h (mX0_holders v311 (by omega) hI) lkL_X0_holders rfl (by decide) (by decide) dL_law_312 rfl (by simp) rfl (by assumption) (by assumption) (fun z312 τ0_312 s0_312 r312 p312 => ?_)
  obtain ⟨rfl, p312⟩ := p312
  refine x_aload_n (q := 316) h dL_law_315 rfl rfl rfl ?_
  refine x_aload_n (q := 317) h dL_law_316 rfl rfl rfl ?_
  refine x_iload_n (q := 318) h dL_law_317 rfl rfl rfl ?_
  refine x_iconst (q := 319) h dL_law_318 rfl ?_
  refine x_iadd (q := 320) h dL_law_319 rfl ?_
  refine x2_sld (q := 321) h hX dL_law_320 rfl (by omega) (fun v320 e320 r320 => ?_)
  have E0 : v311 = v320 := by rw [e311, e320]
  subst E0
  refine x2_call1i (q := 324) (xs := [v311]) (st := [.inl z312]) h (mX1_holders v311 (by omega)) lkL_X1_holders rfl (by decide) (by decide) dL_law_321 rfl (by simp) rfl (by assumption) (by assumption) (fun z321 τ1_321 s1_321 r321 p321 => ?_)
  obtain ⟨rfl, p321⟩ := p321
  refine x_icmp_eq (tgt := 461) (q := 327) h dL_law_324 (by decide) rfl (by omega) (by omega) (fun c324 => ?_) (fun c324 => ?_)
  · exact kk _ _ hs0 hs1 (hI)
  · exact absurd (by rw [p312, p321]) c324
set_option maxHeartbeats 4000000 in
theorem law_distinct {M : Mx} {L : Nat} {xs0 : Nat → Int32} {i : Int} {τ0 τ1 : St} (h : Cx 2 M cL_law 4 6) (hX : SX M L xs0) (hi : 0 ≤ i ∧ i + 3 < L) (hs0 : sml τ0) (hs1 : sml τ1) (hI : Iv τ0 (τ1 0)) (kk : ∀ σ0 σ1 : St, sml σ0 → sml σ1 → Iv σ0 (σ1 0) → WX 2 M 461 [.inr 0, .inr 1, .inr 2, .inl i] [] (mrg σ0 σ1)) : WX 2 M 329 [.inr 0, .inr 1, .inr 2, .inl i] [] (mrg τ0 τ1) := by
  have hok := Iv_ok hI
  refine x_aload_n (q := 330) h dL_law_329 rfl rfl rfl ?_
  refine x2_call0i (q := 333) (xs := []) (st := []) h (mX0_distinct hI) lkL_X0_distinct rfl (by decide) (by decide) dL_law_330 rfl (by simp) rfl (by assumption) (by assumption) (fun z330 τ0_330 s0_330 r330 p330 => ?_)
  obtain ⟨rfl, p330⟩ := p330
  refine x_aload_n (q := 334) h dL_law_333 rfl rfl rfl ?_
  refine x2_call1i (q := 337) (xs := []) (st := [.inl z330]) h (mX1_distinct) lkL_X1_distinct rfl (by decide) (by decide) dL_law_334 rfl (by simp) rfl (by assumption) (by assumption) (fun z334 τ1_334 s1_334 r334 p334 => ?_)
  obtain ⟨rfl, p334⟩ := p334
  refine x_icmp_eq (tgt := 461) (q := 340) h dL_law_337 (by decide) rfl (by omega) (by omega) (fun c337 => ?_) (fun c337 => ?_)
  · exact kk _ _ hs0 hs1 (hI)
  · exact absurd (by rw [p330, p334]) c337
set_option maxHeartbeats 4000000 in
theorem law_used {M : Mx} {L : Nat} {xs0 : Nat → Int32} {i : Int} {τ0 τ1 : St} (h : Cx 2 M cL_law 4 6) (hX : SX M L xs0) (hi : 0 ≤ i ∧ i + 3 < L) (hs0 : sml τ0) (hs1 : sml τ1) (hI : Iv τ0 (τ1 0)) (kk : ∀ σ0 σ1 : St, sml σ0 → sml σ1 → Iv σ0 (σ1 0) → WX 2 M 461 [.inr 0, .inr 1, .inr 2, .inl i] [] (mrg σ0 σ1)) : WX 2 M 342 [.inr 0, .inr 1, .inr 2, .inl i] [] (mrg τ0 τ1) := by
  have hok := Iv_ok hI
  refine x_aload_n (q := 343) h dL_law_342 rfl rfl rfl ?_
  refine x2_call0i (q := 346) (xs := []) (st := []) h (mX0_used hI) lkL_X0_used rfl (by decide) (by decide) dL_law_343 rfl (by simp) rfl (by assumption) (by assumption) (fun z343 τ0_343 s0_343 r343 p343 => ?_)
  obtain ⟨rfl, p343⟩ := p343
  refine x_aload_n (q := 347) h dL_law_346 rfl rfl rfl ?_
  refine x2_call1i (q := 350) (xs := []) (st := [.inl z343]) h (mX1_used hok) lkL_X1_used rfl (by decide) (by decide) dL_law_347 rfl (by simp) rfl (by assumption) (by assumption) (fun z347 τ1_347 s1_347 r347 p347 => ?_)
  obtain ⟨rfl, p347⟩ := p347
  refine x_icmp_eq (tgt := 461) (q := 353) h dL_law_350 (by decide) rfl (by omega) (by omega) (fun c350 => ?_) (fun c350 => ?_)
  · exact kk _ _ hs0 hs1 (hI)
  · exact absurd (by rw [p343, p347]) c350
set_option maxHeartbeats 4000000 in
theorem law_saved {M : Mx} {L : Nat} {xs0 : Nat → Int32} {i : Int} {τ0 τ1 : St} (h : Cx 2 M cL_law 4 6) (hX : SX M L xs0) (hi : 0 ≤ i ∧ i + 3 < L) (hs0 : sml τ0) (hs1 : sml τ1) (hI : Iv τ0 (τ1 0)) (kk : ∀ σ0 σ1 : St, sml σ0 → sml σ1 → Iv σ0 (σ1 0) → WX 2 M 461 [.inr 0, .inr 1, .inr 2, .inl i] [] (mrg σ0 σ1)) : WX 2 M 355 [.inr 0, .inr 1, .inr 2, .inl i] [] (mrg τ0 τ1) := by
  have hok := Iv_ok hI
  refine x_aload_n (q := 356) h dL_law_355 rfl rfl rfl ?_
  refine x2_call0i (q := 359) (xs := []) (st := []) h (mX0_saved hI) lkL_X0_saved rfl (by decide) (by decide) dL_law_356 rfl (by simp) rfl (by assumption) (by assumption) (fun z356 τ0_356 s0_356 r356 p356 => ?_)
  obtain ⟨rfl, p356⟩ := p356
  refine x_aload_n (q := 360) h dL_law_359 rfl rfl rfl ?_
  refine x2_call1i (q := 363) (xs := []) (st := [.inl z356]) h (mX1_saved hok) lkL_X1_saved rfl (by decide) (by decide) dL_law_360 rfl (by simp) rfl (by assumption) (by assumption) (fun z360 τ1_360 s1_360 r360 p360 => ?_)
  obtain ⟨rfl, p360⟩ := p360
  refine x_icmp_eq (tgt := 461) (q := 366) h dL_law_363 (by decide) rfl (by omega) (by omega) (fun c363 => ?_) (fun c363 => ?_)
  · exact kk _ _ hs0 hs1 (hI)
  · exact absurd (by rw [p356, p360]) c363
set_option maxHeartbeats 4000000 in
theorem law_alone {M : Mx} {L : Nat} {xs0 : Nat → Int32} {i : Int} {τ0 τ1 : St} (h : Cx 2 M cL_law 4 6) (hX : SX M L xs0) (hi : 0 ≤ i ∧ i + 3 < L) (hs0 : sml τ0) (hs1 : sml τ1) (hI : Iv τ0 (τ1 0)) (kk : ∀ σ0 σ1 : St, sml σ0 → sml σ1 → Iv σ0 (σ1 0) → WX 2 M 461 [.inr 0, .inr 1, .inr 2, .inl i] [] (mrg σ0 σ1)) : WX 2 M 368 [.inr 0, .inr 1, .inr 2, .inl i] [] (mrg τ0 τ1) := by
  have hok := Iv_ok hI
  obtain ⟨a9, K9, hL9, hT9, hH9⟩ := id hI
  refine x_aload_n (q := 369) h dL_law_368 rfl rfl rfl ?_
  refine x_aload_n (q := 370) h dL_law_369 rfl rfl rfl ?_
  refine x_iload_n (q := 371) h dL_law_370 rfl rfl rfl ?_
  refine x_iconst (q := 372) h dL_law_371 rfl ?_
  refine x_iadd (q := 373) h dL_law_372 rfl ?_
  refine x2_sld (q := 374) h hX dL_law_373 rfl (by omega) (fun v373 e373 r373 => ?_)
  refine x2_call0i (q := 377) (xs := [v373]) (st := []) h (mX0_alone v373 (by omega) hL9 hT9 hH9) lkL_X0_alone rfl (by decide) (by decide) dL_law_374 rfl (by simp) rfl (by assumption) (by assumption) (fun z374 τ0_374 s0_374 r374 p374 => ?_)
  obtain ⟨rfl, p374⟩ := p374
  refine x_aload_n (q := 378) h dL_law_377 rfl rfl rfl ?_
  refine x_aload_n (q := 379) h dL_law_378 rfl rfl rfl ?_
  refine x_iload_n (q := 380) h dL_law_379 rfl rfl rfl ?_
  refine x_iconst (q := 381) h dL_law_380 rfl ?_
  refine x_iadd (q := 382) h dL_law_381 rfl ?_
  refine x2_sld (q := 383) h hX dL_law_382 rfl (by omega) (fun v382 e382 r382 => ?_)
  have E0 : v373 = v382 := by rw [e373, e382]
  subst E0
  refine x2_call1i (q := 386) (xs := [v373]) (st := [.inl z374]) h (mX1_alone v373 (by omega) hok) lkL_X1_alone rfl (by decide) (by decide) dL_law_383 rfl (by simp) rfl (by assumption) (by assumption) (fun z383 τ1_383 s1_383 r383 p383 => ?_)
  obtain ⟨rfl, p383⟩ := p383
  refine x_icmp_eq (tgt := 461) (q := 389) h dL_law_386 (by decide) rfl (by omega) (by omega) (fun c386 => ?_) (fun c386 => ?_)
  · exact kk _ _ hs0 hs1 (hI)
  · exact absurd (by rw [p374, p383]) c386
set_option maxHeartbeats 4000000 in
theorem law_aloneIn {M : Mx} {L : Nat} {xs0 : Nat → Int32} {i : Int} {τ0 τ1 : St} (h : Cx 2 M cL_law 4 6) (hX : SX M L xs0) (hi : 0 ≤ i ∧ i + 3 < L) (hs0 : sml τ0) (hs1 : sml τ1) (hI : Iv τ0 (τ1 0)) (kk : ∀ σ0 σ1 : St, sml σ0 → sml σ1 → Iv σ0 (σ1 0) → WX 2 M 461 [.inr 0, .inr 1, .inr 2, .inl i] [] (mrg σ0 σ1)) : WX 2 M 391 [.inr 0, .inr 1, .inr 2, .inl i] [] (mrg τ0 τ1) := by
  have hok := Iv_ok hI
  refine x_aload_n (q := 392) h dL_law_391 rfl rfl rfl ?_
  refine x_aload_n (q := 393) h dL_law_392 rfl rfl rfl ?_
  refine x_iload_n (q := 394) h dL_law_393 rfl rfl rfl ?_
  refine x_iconst (q := 395) h dL_law_394 rfl ?_
  refine x_iadd (q := 396) h dL_law_395 rfl ?_
  refine x2_sld (q := 397) h hX dL_law_396 rfl (by omega) (fun v396 e396 r396 => ?_)
  refine x2_call0i (q := 400) (xs := [v396]) (st := []) h (mX0_aloneIn v396 (by omega) hI) lkL_X0_aloneIn rfl (by decide) (by decide) dL_law_397 rfl (by simp) rfl (by assumption) (by assumption) (fun z397 τ0_397 s0_397 r397 p397 => ?_)
  obtain ⟨rfl, p397⟩ := p397
  refine x_aload_n (q := 401) h dL_law_400 rfl rfl rfl ?_
  refine x_aload_n (q := 402) h dL_law_401 rfl rfl rfl ?_
  refine x_iload_n (q := 403) h dL_law_402 rfl rfl rfl ?_
  refine x_iconst (q := 404) h dL_law_403 rfl ?_
  refine x_iadd (q := 405) h dL_law_404 rfl ?_
  refine x2_sld (q := 406) h hX dL_law_405 rfl (by omega) (fun v405 e405 r405 => ?_)
  have E0 : v396 = v405 := by rw [e396, e405]
  subst E0
  refine x2_call1i (q := 409) (xs := [v396]) (st := [.inl z397]) h (mX1_aloneIn v396 (by omega) hok) lkL_X1_aloneIn rfl (by decide) (by decide) dL_law_406 rfl (by simp) rfl (by assumption) (by assumption) (fun z406 τ1_406 s1_406 r406 p406 => ?_)
  refine x_icmp_eq (tgt := 461) (q := 412) h dL_law_409 (by decide) rfl (by omega) (by omega) (fun c409 => ?_) (fun c409 => ?_)
  · exact kk _ _ hs0 s1_406 (Iv_congr hI p406.2)
  · exact absurd (by rw [p397, p406.1]) c409
set_option maxHeartbeats 4000000 in
theorem law_twin {M : Mx} {L : Nat} {xs0 : Nat → Int32} {i : Int} {τ0 τ1 : St} (h : Cx 2 M cL_law 4 6) (hX : SX M L xs0) (hi : 0 ≤ i ∧ i + 3 < L) (hs0 : sml τ0) (hs1 : sml τ1) (hI : Iv τ0 (τ1 0)) (kk : ∀ σ0 σ1 : St, sml σ0 → sml σ1 → Iv σ0 (σ1 0) → WX 2 M 461 [.inr 0, .inr 1, .inr 2, .inl i] [] (mrg σ0 σ1)) : WX 2 M 414 [.inr 0, .inr 1, .inr 2, .inl i] [] (mrg τ0 τ1) := by
  have hok := Iv_ok hI
  refine x_aload_n (q := 415) h dL_law_414 rfl rfl rfl ?_
  refine x_aload_n (q := 416) h dL_law_415 rfl rfl rfl ?_
  refine x_iload_n (q := 417) h dL_law_416 rfl rfl rfl ?_
  refine x_iconst (q := 418) h dL_law_417 rfl ?_
  refine x_iadd (q := 419) h dL_law_418 rfl ?_
  refine x2_sld (q := 420) h hX dL_law_419 rfl (by omega) (fun v419 e419 r419 => ?_)
  refine x2_call0i (q := 423) (xs := [v419]) (st := []) h (mX0_twin v419 (by omega) hI) lkL_X0_twin rfl (by decide) (by decide) dL_law_420 rfl (by simp) rfl (by assumption) (by assumption) (fun z420 τ0_420 s0_420 r420 p420 => ?_)
  obtain ⟨rfl, p420⟩ := p420
  refine x_aload_n (q := 424) h dL_law_423 rfl rfl rfl ?_
  refine x_aload_n (q := 425) h dL_law_424 rfl rfl rfl ?_
  refine x_iload_n (q := 426) h dL_law_425 rfl rfl rfl ?_
  refine x_iconst (q := 427) h dL_law_426 rfl ?_
  refine x_iadd (q := 428) h dL_law_427 rfl ?_
  refine x2_sld (q := 429) h hX dL_law_428 rfl (by omega) (fun v428 e428 r428 => ?_)
  have E0 : v419 = v428 := by rw [e419, e428]
  subst E0
  refine x2_call1i (q := 432) (xs := [v419]) (st := [.inl z420]) h (mX1_twin v419 (by omega)) lkL_X1_twin rfl (by decide) (by decide) dL_law_429 rfl (by simp) rfl (by assumption) (by assumption) (fun z429 τ1_429 s1_429 r429 p429 => ?_)
  obtain ⟨rfl, p429⟩ := p429
  refine x_icmp_eq (tgt := 461) (q := 435) h dL_law_432 (by decide) rfl (by omega) (by omega) (fun c432 => ?_) (fun c432 => ?_)
  · exact kk _ _ hs0 hs1 (hI)
  · exact absurd (twin_eq p420 p429) c432
set_option maxHeartbeats 4000000 in
theorem law_favourite {M : Mx} {L : Nat} {xs0 : Nat → Int32} {i : Int} {τ0 τ1 : St} (h : Cx 2 M cL_law 4 6) (hX : SX M L xs0) (hi : 0 ≤ i ∧ i + 3 < L) (hs0 : sml τ0) (hs1 : sml τ1) (hI : Iv τ0 (τ1 0)) (kk : ∀ σ0 σ1 : St, sml σ0 → sml σ1 → Iv σ0 (σ1 0) → WX 2 M 461 [.inr 0, .inr 1, .inr 2, .inl i] [] (mrg σ0 σ1)) : WX 2 M 437 [.inr 0, .inr 1, .inr 2, .inl i] [] (mrg τ0 τ1) := by
  have hok := Iv_ok hI
  refine x_aload_n (q := 438) h dL_law_437 rfl rfl rfl ?_
  refine x2_call0i (q := 441) (xs := []) (st := []) h (mX0_favourite hI) lkL_X0_favourite rfl (by decide) (by decide) dL_law_438 rfl (by simp) rfl (by assumption) (by assumption) (fun z438 τ0_438 s0_438 r438 p438 => ?_)
  obtain ⟨rfl, p438⟩ := p438
  refine x_aload_n (q := 442) h dL_law_441 rfl rfl rfl ?_
  refine x2_call1i (q := 445) (xs := []) (st := [.inl z438]) h (mX1_favourite hok) lkL_X1_favourite rfl (by decide) (by decide) dL_law_442 rfl (by simp) rfl (by assumption) (by assumption) (fun z442 τ1_442 s1_442 r442 p442 => ?_)
  obtain ⟨rfl, p442⟩ := p442
  refine x_icmp_eq (tgt := 461) (q := 448) h dL_law_445 (by decide) rfl (by omega) (by omega) (fun c445 => ?_) (fun c445 => ?_)
  · exact kk _ _ hs0 hs1 (hI)
  · exact absurd (isFav_uniq p438 p442) c445
set_option maxHeartbeats 4000000 in
theorem law_tidy {M : Mx} {L : Nat} {xs0 : Nat → Int32} {i : Int} {τ0 τ1 : St} (h : Cx 2 M cL_law 4 6) (hX : SX M L xs0) (hi : 0 ≤ i ∧ i + 3 < L) (hs0 : sml τ0) (hs1 : sml τ1) (hI : Iv τ0 (τ1 0)) (kk : ∀ σ0 σ1 : St, sml σ0 → sml σ1 → Iv σ0 (σ1 0) → WX 2 M 461 [.inr 0, .inr 1, .inr 2, .inl i] [] (mrg σ0 σ1)) : WX 2 M 450 [.inr 0, .inr 1, .inr 2, .inl i] [] (mrg τ0 τ1) := by
  have hok := Iv_ok hI
  refine x_aload_n (q := 451) h dL_law_450 rfl rfl rfl ?_
  refine x2_call0v (q := 454) (xs := []) (st := []) h (mX0_tidy hI) lkL_X0_tidy rfl (by decide) (by decide) dL_law_451 rfl (by simp) rfl (by assumption) (by assumption) (fun τ0_451 s0_451 p451 => ?_)
  refine x_aload_n (q := 455) h dL_law_454 rfl rfl rfl ?_
  refine x2_call1v (q := 458) (xs := []) (st := []) h (mX1_tidy) lkL_X1_tidy rfl (by decide) (by decide) dL_law_455 rfl (by simp) rfl (by assumption) (by assumption) (fun τ1_455 s1_455 p455 => ?_)
  obtain rfl := p455
  refine x_goto (tgt := 461) h dL_law_458 (by decide) ?_
  exact kk _ _ s0_451 hs1 p451
set_option maxHeartbeats 8000000 in
theorem law_loop {M : Mx} {L : Nat} {xs0 : Nat → Int32} (hL : L ≤ 256) (h : Cx 2 M cL_law 4 6) (hX : SX M L xs0) (hend : ∀ (i : Int) (τ : St), WX 2 M 467 [.inr 0, .inr 1, .inr 2, .inl i] [] τ) : ∀ (k : Nat) (i : Int) (τ0 τ1 : St), 0 ≤ i → i ≤ L → (L : Int) - i < k → sml τ0 → sml τ1 → Iv τ0 (τ1 0) → WX 2 M 18 [.inr 0, .inr 1, .inr 2, .inl i] [] (mrg τ0 τ1) := by
  intro k
  induction k with
  | zero => intro i τ0 τ1 h0 hi hk; omega
  | succ k ih =>
    intro i τ0 τ1 h0 hiL hk hs0 hs1 hI
    refine x_iload_n (q := 19) h dL_law_18 rfl rfl rfl ?_
    refine x_aload_n (q := 20) h dL_law_19 rfl rfl rfl ?_
    refine x2_slen (q := 21) h hX dL_law_20 rfl ?_
    refine x_iconst (q := 22) h dL_law_21 rfl ?_
    refine x_isub (q := 23) h dL_law_22 rfl ?_
    refine x_icmp_gt (tgt := 467) (q := 26) h dL_law_23 (by decide) rfl (by omega) (by omega) (fun c23 => ?_) (fun c23 => ?_)
    · exact hend i _
    · have hnext : ∀ σ0 σ1 : St, sml σ0 → sml σ1 → Iv σ0 (σ1 0) → WX 2 M 461 [.inr 0, .inr 1, .inr 2, .inl i] [] (mrg σ0 σ1) := by
        intro σ0 σ1 b0 b1 bI
        refine x_iinc (q := 464) (vs' := [.inr 0, .inr 1, .inr 2, .inl (i + 4)]) h dL_law_461 (by decide) rfl rfl rfl ?_
        refine x_goto (tgt := 18) h dL_law_464 (by decide) ?_
        exact ih (i + 4) σ0 σ1 (by omega) (by omega) (by omega) b0 b1 bI
      refine x_aload_n (q := 27) h dL_law_26 rfl rfl rfl ?_
      refine x_iload_n (q := 28) h dL_law_27 rfl rfl rfl ?_
      refine x2_sld (q := 29) h hX dL_law_28 rfl (by omega) (fun v28 e28 r28 => ?_)
      refine x_bipush (q := 31) h dL_law_29 rfl (by decide) ?_
      obtain ⟨j, hj, ej⟩ := pk_andE (jI v28) (m := jI 15) 4 (by decide)
      refine x_iand (q := 32) (j : Int) h dL_law_31 (ej.trans (jI_nat j).symm) rfl ?_
      have hj16 : j = 0 ∨ j = 1 ∨ j = 2 ∨ j = 3 ∨ j = 4 ∨ j = 5 ∨ j = 6 ∨ j = 7 ∨ j = 8 ∨ j = 9 ∨ j = 10 ∨ j = 11 ∨ j = 12 ∨ j = 13 ∨ j = 14 ∨ j = 15 := by omega
      rcases hj16 with rfl | rfl | rfl | rfl | rfl | rfl | rfl | rfl | rfl | rfl | rfl | rfl | rfl | rfl | rfl | rfl
      · refine x2_switch (tgt := 108) (off := 76) h dL_law_32 (by decide) (by decide) (by decide) rfl (by decide) ?_
        exact law_write h hX (by omega) hs0 hs1 hI hnext
      · refine x2_switch (tgt := 141) (off := 109) h dL_law_32 (by decide) (by decide) (by decide) rfl (by decide) ?_
        exact law_read h hX (by omega) hs0 hs1 hI hnext
      · refine x2_switch (tgt := 164) (off := 132) h dL_law_32 (by decide) (by decide) (by decide) rfl (by decide) ?_
        exact law_patch h hX (by omega) hs0 hs1 hI hnext
      · refine x2_switch (tgt := 207) (off := 175) h dL_law_32 (by decide) (by decide) (by decide) rfl (by decide) ?_
        exact law_spread h hX (by omega) hs0 hs1 hI hnext
      · refine x2_switch (tgt := 250) (off := 218) h dL_law_32 (by decide) (by decide) (by decide) rfl (by decide) ?_
        exact law_clone h hX (by omega) hs0 hs1 hI hnext
      · refine x2_switch (tgt := 283) (off := 251) h dL_law_32 (by decide) (by decide) (by decide) rfl (by decide) ?_
        exact law_erase h hX (by omega) hs0 hs1 hI hnext
      · refine x2_switch (tgt := 306) (off := 274) h dL_law_32 (by decide) (by decide) (by decide) rfl (by decide) ?_
        exact law_holders h hX (by omega) hs0 hs1 hI hnext
      · refine x2_switch (tgt := 329) (off := 297) h dL_law_32 (by decide) (by decide) (by decide) rfl (by decide) ?_
        exact law_distinct h hX (by omega) hs0 hs1 hI hnext
      · refine x2_switch (tgt := 342) (off := 310) h dL_law_32 (by decide) (by decide) (by decide) rfl (by decide) ?_
        exact law_used h hX (by omega) hs0 hs1 hI hnext
      · refine x2_switch (tgt := 355) (off := 323) h dL_law_32 (by decide) (by decide) (by decide) rfl (by decide) ?_
        exact law_saved h hX (by omega) hs0 hs1 hI hnext
      · refine x2_switch (tgt := 368) (off := 336) h dL_law_32 (by decide) (by decide) (by decide) rfl (by decide) ?_
        exact law_alone h hX (by omega) hs0 hs1 hI hnext
      · refine x2_switch (tgt := 391) (off := 359) h dL_law_32 (by decide) (by decide) (by decide) rfl (by decide) ?_
        exact law_aloneIn h hX (by omega) hs0 hs1 hI hnext
      · refine x2_switch (tgt := 414) (off := 382) h dL_law_32 (by decide) (by decide) (by decide) rfl (by decide) ?_
        exact law_twin h hX (by omega) hs0 hs1 hI hnext
      · refine x2_switch (tgt := 437) (off := 405) h dL_law_32 (by decide) (by decide) (by decide) rfl (by decide) ?_
        exact law_favourite h hX (by omega) hs0 hs1 hI hnext
      · refine x2_switch (tgt := 450) (off := 418) h dL_law_32 (by decide) (by decide) (by decide) rfl (by decide) ?_
        exact law_tidy h hX (by omega) hs0 hs1 hI hnext
      · refine x2_dflt (tgt := 461) h dL_law_32 (by decide) (by decide) (by decide) ?_
        exact hnext τ0 τ1 hs0 hs1 hI
end
section
set_option maxRecDepth 100000
/-! THE CLAIM OUT OF ONE WALK OF THE LAW'S BODY. Your part is whole_start (and what it stands on); all else here is the same for every law, but numbers. -/
def R_law : String := "DedupBlocksLaw"
def lw_P (b : Addr) (xs : List Int32) (args : Array Value) (s : State) : Prop := args = #[.ref b] ∧ s.IntsAt b xs ∧ xs.length ≤ 256 ∧ (Jvm.Cond.and given_1 narrow_1).before args s = true
def lw_Q (_ : Array Value) (s : State) (o : Outcome) (t : State) : Prop := o = .returned (some (.int 1)) ∧ Framed s o t [] 600000 7290000
def lw_Z (below : List Frame) (a : Array Value) (s : State) : State → Prop := fun t => ∃ o, t.status = .running ∧ Ended t below o ∧ lw_Q a s o t
/-- the law's own end, with 1 on the stack, nothing written that was there before, its room as the claim has it -/
theorem lw_ret {p : Program} {l : Launch} {e : Env} {s : State} {m : MethodId} {below : List Frame} {meth : Method} {c : Code} {b : Nat} (hx : p.tables.exec = Jvm.exec) (hb : c.code = code) (hr : meth.sig.returnType = ret) (hlocks : meth.locks = false) {pc : Nat} {H : Heap} {ls : Array Slot} (hdg : decode code pc = .ok (.ireturn, 1)) : W p l e room_1 s m #[Value.ref b] below meth c H [] 600000 7290000 (lw_Z below #[Value.ref b] s) (F0 m pc ls [.int 1]) := by
  intro T hT X
  obtain ⟨fs, hret, hrun, hended, hW, hframe⟩ := X.leave (v := some (.int 1)) (hlocks := hlocks) (fun h => by rw [hr] at h; cases h)
  have hmeth' : T.vm.method? m = some meth := X.method'
  refine ⟨T.setFrames fs, ?_, .returned (some (.int 1)), hrun, hended, rfl, ⟨_, rfl⟩, hW, hframe⟩
  jvm_step X.here [X.here.top, hx, hb, hdg, hmeth', hr, ret, narrow_b1]
  (try refine ⟨rfl, ?_⟩); (try refine ⟨rfl, ?_⟩)
  first | (intro acts; rw [hret _ acts rfl rfl rfl]) | rw [hret _ _ rfl rfl rfl]
  exact Steps.refl _
/-- what holds at the law's entry: the machine, the code, the tables' words (any of lw_tbl by 'hts w (by decide +kernel)'), the script of L ints xs at the cell b, what the Statement gives of the start (any of its parts by flat_of_before) -/
def lw_At (p : Program) (s : State) (m : MethodId) (meth : Method) (c : Code) (b L : Nat) (xs : Nat → Int32) : Prop :=
  p.tables.exec = Jvm.exec ∧ c.code = code ∧ meth.sig.returnType = ret ∧ c.maxLocals = 4 ∧ s.vm.findClass R_law = some m.cls ∧ (∀ w ∈ lw_tbl, w.before #[Value.ref b] s = true) ∧ va_X b L xs s s.heap ∧ b < s.heap.size ∧ meth.locks = false ∧ (Jvm.Cond.and given_1 narrow_1).before #[Value.ref b] s = true
theorem nf0_ok : ∀ j, j < 14 → defaultValue (tyX0 j) = vp_V [.null, .null, .null, .null, .null, .null, .null, .null, .int (jI 0), .int (jI 0), .null, .null, .null, .int (jI 0)] j := by
  intro j hj
  rcases (show j = 0 ∨ j = 1 ∨ j = 2 ∨ j = 3 ∨ j = 4 ∨ j = 5 ∨ j = 6 ∨ j = 7 ∨ j = 8 ∨ j = 9 ∨ j = 10 ∨ j = 11 ∨ j = 12 ∨ j = 13 by omega) with rfl | rfl | rfl | rfl | rfl | rfl | rfl | rfl | rfl | rfl | rfl | rfl | rfl | rfl <;> first | rfl | (show Value.int 0 = Value.int (jI 0); rw [← jI_0])
theorem nf1_ok : ∀ j, j < 2 → defaultValue (tyX1 j) = vp_V [.null, .null] j := by
  intro j hj
  rcases (show j = 0 ∨ j = 1 by omega) with rfl | rfl <;> rfl
def adL (b : Nat) (adX adM : Nat → Nat) (j : Nat) : Nat := if j = 0 then b else if j = 1 then adX 0 else if j = 2 then adM 0 else if j < 30 then adX (j - 9) else adM (j - 29)
/-- the law's end: true -/
theorem x2_end {p : Program} {l : Launch} {e : Env} {s : State} {m : MethodId} {below : List Frame} {meth : Method} {c : Code} {D : va_G} {d0 : ClassId} {A : Nat → Prop} {ad : Nat → Nat} {b : Nat} (hx : p.tables.exec = Jvm.exec) (hb : c.code = code) (hr : meth.sig.returnType = ret) (hlocks : meth.locks = false) (hAq : ∀ q, A q → s.heap.size ≤ q) (vs : List AV) (τ : St) : WX 2 (p, l, e, room_1, s, m, #[Value.ref b], below, meth, c, D, d0, A, ad, lw_Z below #[Value.ref b] s, 4, 15, 446) 468 vs [.inl 1] τ := by
  intro hs H locs ls hl hP hD hS
  refine va_forget (fun q hq => hAq _ (hS.2.2 q hq)) ?_
  refine W.widen (k := 600000) (n := 7290000) (by decide) (by decide) ?_
  show W p l e room_1 s m #[Value.ref b] below meth c H [] 600000 7290000 (lw_Z below #[Value.ref b] s) (F0 m 468 ls [.int (jI 1)])
  rw [show jI 1 = 1 from by decide]
  exact lw_ret hx hb hr hlocks dL_law_468
set_option maxHeartbeats 8000000 in
/-- from the entry, for every script of at most 256 ints, the law comes to its end with true -/
theorem whole_start {p : Program} {e : Env} {s : State} {m : MethodId} {below : List Frame} {meth : Method} {c : Code} (l : Launch) {b L : Nat} {xs : Nat → Int32} (hL : L ≤ 256) (C0 : lw_At p s m meth c b L xs) : W p l e room_1 s m #[Value.ref b] below meth c s.heap [] 0 0 (lw_Z below #[Value.ref b] s) (entryFrame m ([Value.ref b] : List Value).toArray 4) := by
  obtain ⟨hx, hb, hr, hml, hown, hts0, hX, hbl, hlocks, hgv⟩ := id C0
  have hts : ∀ w ∈ lw_all, w.before #[Value.ref b] s = true := fun w h => hts0 w (lw_all_tbl h)
  have hA : ∀ q : Nat, s.heap.size ≤ q → (fun q : Nat => s.heap.size ≤ q) q := fun _ h => h
  have hbA : ¬ (fun q : Nat => s.heap.size ≤ q) b := Nat.not_le.mpr hbl
  obtain ⟨k0, iS0, hKn0⟩ := u_known (C := RX0) (T := TX0) (N := 14) (n := 14) hts0 (fun w h => lw_all_tbl (in_X0 w h)) (hts0 _ (lw_all_tbl q29))
  obtain ⟨k1, iS1, hKn1⟩ := u_known (C := RX1) (T := TX1) (N := 2) (n := 2) hts0 (fun w h => lw_all_tbl (in_X1 w h)) (hts0 _ (lw_all_tbl q212))
  obtain ⟨D, hKc⟩ : ∃ D : va_G, ∀ (k : Nat) (q : vw_C), vwCl[k]? = some q → u_Kn s q.1 q.2.1 q.2.2 (D.1 k) (D.2 k) := by
    refine ⟨(fun k => if k = 0 then k0 else k1, fun k => if k = 0 then iS0 else iS1), ?_⟩
    intro k q hq
    match k, hq with
    | 0, hq => cases hq; exact hKn0
    | 1, hq => cases hq; exact hKn1
    | k + 2, hq => simp [vwCl] at hq
  generalize hAe : (fun q : Nat => s.heap.size ≤ q) = A at hA hbA
  have hAq : ∀ q, A q → s.heap.size ≤ q := fun q h => by rw [← hAe] at h; exact h
  have hS : va_S A s.heap s.heap [] := va_S.rf
  have hK : va_K D vwCl [] s := ⟨hKc, fun k q h => by simp at h⟩
  have hP : va_P D vwCl [] s.heap := fun k q h => by simp at h
  have hD : va_D A [] := ⟨fun i j p q h => by simp at h, fun k q h => by simp at h⟩
  have hl := lv_entry ([.ref b]) (n := 4) (Nat.le_of_ble_eq_true rfl)
  rw [lg_entry_eq]
  generalize (lg_sl ([.ref b]) ++ List.replicate (4 - (lg_sl ([.ref b])).length) Slot.unset).toArray = ls at hl ⊢
  have hl : lv_has ls 4 [(0, .ref b)] := hl
  refine va_new (D := D) (ci := 0) (fs := [.null, .null, .null, .null, .null, .null, .null, .null, .int (jI 0), .int (jI 0), .null, .null, .null, .int (jI 0)]) (C := RX0) (T := TX0) (N := 14) hx hb hts in_X0 tyX0 tyX0_ok hown (hts _ q28) (hts _ q29) (hts _ q26) hK hP hD hS hA rfl nf0_ok (Nat.le_of_ble_eq_true rfl) (Nat.le_of_ble_eq_true rfl) dL_law_0 (fun qx H hP hD hS => ?_)
  have hP : va_P D vwCl [(qx, .inr (0, [.null, .null, .null, .null, .null, .null, .null, .null, .int (jI 0), .int (jI 0), .null, .null, .null, .int (jI 0)]))] H := hP
  have hD : va_D A [(qx, .inr (0, [.null, .null, .null, .null, .null, .null, .null, .null, .int (jI 0), .int (jI 0), .null, .null, .null, .int (jI 0)]))] := hD
  refine W.widen (k := 1) (n := 14) (Nat.le_of_ble_eq_true rfl) (Nat.le_of_ble_eq_true rfl) ?_
  refine lv_dup hx hb dL_law_3 rfl ?_
  have hFc := va_free (wc := [(qx, .inr (0, [.null, .null, .null, .null, .null, .null, .null, .null, .int (jI 0), .int (jI 0), .null, .null, .null, .int (jI 0)]))]) hD hS hA [0] rfl
  refine va_callv (va_runI (As := []) (rest := [.ref qx]) ⟨hx, hb, hml, hown, hts⟩ (mX0_init l D qx H.size) (cwI 0 hts (lw_meth q32) rfl rfl rfl (hts _ q26) (hts _ q30) (hts _ q31) rfl (by decide +kernel) ⟨Nat.le_of_ble_eq_true rfl, Nat.le_of_ble_eq_true rfl⟩) ⟨fun a U g mk q => by obtain ⟨q0, q1, qP, qK, qD⟩ := q; exact ⟨q0, q1, qP, va_K.moved (u := U) (U := U.calling g mk a) (Vm.Alike.refl U.vm) qK, qD⟩, fun U hU hW => ⟨rfl, by rw [hU], by rw [hU]; exact hP, va_K.moved hW.alike hK, hD.weaken (fun _ _ _ _ => trivial)⟩⟩ rfl rfl hl.1 rfl (lv_room (Nat.le_of_ble_eq_true rfl)) dL_law_4 ⟨Nat.le_of_ble_eq_true rfl, Nat.le_of_ble_eq_true rfl⟩) hS (fun q _ h => hFc q h) hFc (fun u t H1 locs ht hvm hw hB hz1 hk1 hS => ?_)
  obtain ⟨adX, d0, σ0⟩ := u
  obtain ⟨eX, hsX, hIX⟩ := hw
  have eX : adX 0 = qx := eX
  have hsX : sml σ0 := hsX
  have hIX : Iv σ0 (fun _ => 0) := hIX
  obtain ⟨hP1, hK1, hD1⟩ := hB
  rw [ht] at hP1
  have hK1 := va_K.moved hvm.symm hK1
  obtain ⟨hP, hD⟩ := va_join (wr := []) (w1 := cs 0 d0 adX σ0) hP hD [0] [] rfl rfl (by decide) (by decide) hk1 hFc hP1 hD1
  have hK : va_K D vwCl [(d0, .int)] s := hK1
  generalize H1 = H at hP hS ⊢
  have hP : va_P D vwCl (cs 0 d0 adX σ0) H := hP
  have hD : va_D A (cs 0 d0 adX σ0) := hD
  refine W.widen (k := 12) (n := 380) (Nat.le_of_ble_eq_true rfl) (Nat.le_of_ble_eq_true rfl) ?_
  refine lv_astore_n (lv' := [(1, .ref qx), (0, .ref b)]) hx hb dL_law_7 rfl hl (by decide) rfl (fun ls hl => ?_)
  refine va_new (D := D) (ci := 1) (fs := [.null, .null]) (C := RX1) (T := TX1) (N := 2) hx hb hts in_X1 tyX1 tyX1_ok hown (hts _ q211) (hts _ q212) (hts _ q27) hK hP hD hS hA rfl nf1_ok (Nat.le_of_ble_eq_true rfl) (Nat.le_of_ble_eq_true rfl) dL_law_8 (fun qm H hP hD hS => ?_)
  have hP : va_P D vwCl (cs 0 d0 adX σ0 ++ [(qm, .inr (1, [.null, .null]))]) H := hP
  have hD : va_D A (cs 0 d0 adX σ0 ++ [(qm, .inr (1, [.null, .null]))]) := hD
  refine W.widen (k := 13) (n := 382) (Nat.le_of_ble_eq_true rfl) (Nat.le_of_ble_eq_true rfl) ?_
  refine lv_dup hx hb dL_law_11 rfl ?_
  have hPc : va_P D vwCl [(qm, .inr (1, [.null, .null]))] H := hP.sub [12] rfl
  have hDc : va_D A [(qm, .inr (1, [.null, .null]))] := hD.sub [12] (by decide) rfl
  have hKc2 : va_K D vwCl [] s := hK.sub [] rfl
  have hFc := va_free (wc := [(qm, .inr (1, [.null, .null]))]) hD hS hA [12] rfl
  refine va_callv (va_runI (As := []) (rest := [.ref qm]) ⟨hx, hb, hml, hown, hts⟩ (mX1_init l D qm H.size) (cwI 0 hts (lw_meth q215) rfl rfl rfl (hts _ q27) (hts _ q213) (hts _ q214) rfl (by decide +kernel) ⟨Nat.le_of_ble_eq_true rfl, Nat.le_of_ble_eq_true rfl⟩) ⟨fun a U g mk q => by obtain ⟨q0, q1, qP, qK, qD⟩ := q; exact ⟨q0, q1, qP, va_K.moved (u := U) (U := U.calling g mk a) (Vm.Alike.refl U.vm) qK, qD⟩, fun U hU hW => ⟨rfl, by rw [hU], by rw [hU]; exact hPc, va_K.moved hW.alike hKc2, hDc.weaken (fun _ _ _ _ => trivial)⟩⟩ rfl rfl hl.1 rfl (lv_room (Nat.le_of_ble_eq_true rfl)) dL_law_12 ⟨Nat.le_of_ble_eq_true rfl, Nat.le_of_ble_eq_true rfl⟩) hS (fun q _ h => hFc q h) hFc (fun u t H1 locs ht hvm hw hB hz1 hk1 hS => ?_)
  obtain ⟨adM, d1, σ1⟩ := u
  obtain ⟨eM, hsM, hIM⟩ := hw
  have eM : adM 0 = qm := eM
  have hsM : sml σ1 := hsM
  have hIM : ∀ j : Int, σ1 0 j = 0 := hIM
  obtain ⟨hP1, hK1, hD1⟩ := hB
  rw [ht] at hP1
  have hK1 := va_K.moved hvm.symm hK1
  have ed : d1 = d0 := same_arr (va_K.app hK hK1) (i := 1) (j := 0) rfl rfl
  rw [ed] at hP1 hD1
  obtain ⟨hPj, hDj⟩ := va_join (wr := cs 0 d0 adX σ0) (w1 := cs 1 d0 adM σ1) hP hD [12] [0, 1, 2, 3, 4, 5, 6, 7, 8, 9, 10, 11] rfl rfl (by decide) (by decide) hk1 hFc hP1 hD1
  generalize H1 = H at hPj hS ⊢
  subst eX
  subst eM
  have hP : va_P D vwCl (cs 2 d0 (adL b adX adM) (mrg σ0 σ1)) H := hPj
  have hD : va_D A (cs 2 d0 (adL b adX adM) (mrg σ0 σ1)) := hDj
  refine W.widen (k := 15) (n := 446) (Nat.le_of_ble_eq_true rfl) (Nat.le_of_ble_eq_true rfl) ?_
  refine lv_astore_n (lv' := [(2, .ref (adM 0)), (1, .ref (adX 0)), (0, .ref b)]) hx hb dL_law_15 rfl hl (by decide) rfl (fun ls hl => ?_)
  refine lv_iconst (v := jI 0) hx hb dL_law_16 rfl ?_
  refine lv_istore_n (lv' := [(3, .int (jI 0)), (2, .ref (adM 0)), (1, .ref (adX 0)), (0, .ref b)]) hx hb dL_law_17 rfl hl (by decide) rfl (fun ls hl => ?_)
  have hl : lv_has ls 4 (lz 0 (([.inr 0, .inr 1, .inr 2, .inl 0] : List AV).map (cv (adL b adX adM)))) := lv_sub hl [3, 2, 1, 0] rfl
  have hC : Cx 2 (p, l, e, room_1, s, m, #[Value.ref b], below, meth, c, D, d0, A, adL b adX adM, lw_Z below #[Value.ref b] s, 4, 15, 446) cL_law 4 6 := ⟨hx, hb, hml, rfl, hown, hts, hK, by decide, by decide, hA, by decide, by decide⟩
  refine law_loop (xs0 := xs) hL hC ⟨hX, hbl, hbA, hL⟩ ?_ 257 0 σ0 σ1 (by omega) (by omega) (by omega) hsX hsM (Iv_congr hIX (fun j _ _ => hIM j)) (mrg_sml hsX hsM) H locs ls hl hP hD hS
  intro i τ
  refine x_iconst (q := 468) hC dL_law_467 rfl ?_
  exact x2_end hx hb hr hlocks hAq _ _
end
section
set_option maxRecDepth 100000
set_option maxHeartbeats 4000000 in
theorem lw_walk (l : Launch) (b : Addr) (xs : List Int32) : MetFree l x (headSpec (Jvm.Cond.code x code maxLocals ret :: tables_1) room_1) (lw_P b xs) (fun _ _ _ _ _ => True) lw_Q := by
  refine MetFree.of_bodyS (code := code) (maxLocals := maxLocals) (ret := ret) (by decide) ?_ ?_
  · intro args s m h hn
    obtain ⟨meth, c, h1, h2, h3, h4, h5, h6, -, -⟩ := Cond.code_spec hn (atoms_spec (ws := Jvm.Cond.code x code maxLocals ret :: tables_1) h _ List.mem_cons_self)
    exact ⟨meth, c, h1, h2, h3, h4, h5, h6⟩
  · intro p e s m args below meth c s₁ B hml0 hP _
    obtain ⟨rfl, hx, hbd, hgv⟩ := hP
    obtain ⟨scr, harrAt, hlist, hof, hsmall⟩ := hx
    obtain ⟨hcb, hkn, -, -⟩ := State.arrayAt?_spec harrAt
    have hown : s.vm.findClass R_law = some m.cls := findClass_of_methodNamed B.named
    have hts0 : ∀ c ∈ (Jvm.Cond.code x code maxLocals ret :: tables_1), c.before #[Value.ref b] s = true := atoms_spec (ws := Jvm.Cond.code x code maxLocals ret :: tables_1) B.pre
    have hts : ∀ w ∈ lw_tbl, w.before #[Value.ref b] s = true := k2_hts_sels lw_privs (fun w hw => hts0 w (List.mem_cons_of_mem _ hw)) lw_privs_ok
    have hml : c.maxLocals = 4 := B.maxLocals_eq (hts0 _ List.mem_cons_self)
    have X₀ : Stand p l e room_1 s m #[Value.ref b] below meth c s₁ [] 0 0 := Stand.of_body B
    have hh0 : s₁.heap = s.heap := by rw [B.state]; rfl
    have hsz : scr.slots.size = xs.length := by rw [← Array.length_toList, hlist, List.length_map]
    have hval : ∀ j : Nat, j < xs.length → scr.slots[j]? = some (.int (xs.getD j 0)) := fun j hj => by
      rw [← Array.getElem?_toList, hlist]
      simp [hj]
    have hbl : b < s.heap.size := (Array.getElem?_eq_some_iff.mp hcb).1
    have hX : va_X b xs.length (fun j => xs.getD j 0) s s.heap := ⟨scr, hcb, hof, hkn, hsz, hval⟩
    have K : W p l e room_1 s m #[Value.ref b] below meth c s₁.heap [] 0 0 (lw_Z below #[Value.ref b] s) (entryFrame m ([Value.ref b] : List Value).toArray 4) := by
      rw [hh0]
      exact whole_start l hbd ⟨B.exec, B.bytes, B.returns, hml, hown, hts, hX, hbl, B.notSynchronized, hgv⟩
    obtain ⟨t, a1, o, b1, b2, b3⟩ := K s₁ rfl X₀
    exact ⟨t, o, a1, b1, b2, b3⟩
theorem lw_pre_spec {args : Array Value} {s : State} (h : (Jvm.Cond.and given_1 narrow_1).before args s = true) (hr : rest_1_c.before args s = true) : ∃ (b : Addr) (xs : List Int32), lw_P b xs args s := by
  have hs := flat_of_before _ h
  have hq := flat_of_before _ hr
  have hc : (Cond.count 1).before args s = true := hs _ (by decide +kernel)
  have harr : (Cond.arrayOf (.arg 0) .int).before args s = true := hs _ (by decide +kernel)
  have hle : (Cond.le (.length (.arg 0)) (.int 256)).before args s = true := hs _ (by decide +kernel)
  have hlen : (Cond.isInt (.length (.arg 0))).before args s = true := hq _ (by decide +kernel)
  have hall : (Cond.all (.arg 0) (.isInt (.elem (.arg 0) (.index 0)))).before args s = true := hq _ (by decide +kernel)
  obtain ⟨b, xs, hb, hx⟩ := State.ints_of_pre rfl harr hlen hall
  have hsm : xs.length < 2 ^ 31 := hx.choose_spec.2.2.2
  have hev : (Term.length (.arg 0)).eval args s none [] s = some (.int xs.length.toInt32) := hx.length_eval hb
  have hv := Cond.le_ints hev (show (Term.int 256).eval args s none [] s = some (.int 256) from rfl)
  have hd : xs.length.toInt32 ≤ 256 := by
    simpa [Cond.before, Cond.holds, hv] using hle
  have hN : xs.length ≤ 256 := (Int32.ofNat_le_ofNat hsm (by decide)).mp (show Int32.ofNat xs.length ≤ Int32.ofNat 256 from hd)
  exact ⟨b, xs, Cond.one_arg hc (show args[0]? = some (.ref b) from hb), hx, hN, h⟩
theorem lw_comes (l : Launch) : Comes l x (Jvm.Cond.code x code maxLocals ret :: tables_1) room_1 (fun tb e args s => Calls_1 tb e args s ∧ rest_1 tb e args s ∧ Pre_1 tb e args s)
    (fun _ _ args s o t => lw_Q args s o t) := by
  intro p e ha hc hk s m args below hf hfit hheap happ hpre
  obtain ⟨b, xs, hP⟩ := lw_pre_spec hpre.2.2 hpre.2.1
  obtain ⟨k, o, h1, h2, h3, hQ⟩ := lw_walk l b xs p e ha hc hk s m args below hf ((Spec.applies_iff_loose hf).mp happ).1 hP trivial
  exact ⟨k, o, h1, h2, h3, hQ⟩
theorem lw_frame {s t : State} {o : Outcome} {args : Array Value} (h : Framed s o t [] 600000 7290000) :
    Framed s o t (fieldLocs frame_1_writes args s ++ arrayLocs frame_1_arrays args s ++ staticLocs frame_1_statics s) 600000 7290000 := h
theorem lw_limb (L : Cond) (hL : ∀ (args : Array Value) (s t : State), L.after args s (.returned (some (.int 1))) t = true) :
    ArmFor flags0 classFile x code maxLocals ret World_1 tables_1 room_1 Calls_1 rest_1 Pre_1
      (fun tb e a s o t => postC L tb e a s o t ∧ Framed s o t (fieldLocs frame_1_writes a s ++ arrayLocs frame_1_arrays a s ++ staticLocs frame_1_statics s) 600000 7290000) := by
  intro l _ _ _ p e ha hc hk s m args below hf hfit hheap happ hpre
  obtain ⟨k, o, h1, h2, h3, rfl, hF⟩ := lw_comes l p e ha hc hk s m args below hf hfit hheap happ hpre
  exact ⟨k, _, h1, h2, h3, hL args s _, lw_frame hF⟩
theorem i_vc : Claimed_1_1 ∧ Claimed_1_2 := ⟨lw_limb limb_1_1 (fun args s t => by simp [limb_1_1, Cond.after, Cond.holds, Cond.value]), lw_limb limb_1_2 (fun args s t => Cond.after_iff.mpr (by
  first | (rw [show limb_1_2 = Cond.eq .result (.int 1) from rfl, Cond.eq_ints (x := 1) (y := 1) rfl rfl]; simp; done) | (simp [limb_1_2, Cond.value, Term.eval]; done)))⟩
end
