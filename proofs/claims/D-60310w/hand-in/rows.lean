section
-- ===== PART A: goes FIRST, ahead of the names: the tables' words, and 'selects' of the private methods out of them =====
/-- a private method of a class that the tables say can be made, by its rows of tables_1 -/
def lw_okq (q : MethodName × Nat) : Prop := (q.1.cls ≠ "java/lang/invoke/MethodHandle" ∧ q.1.cls ≠ "java/lang/invoke/VarHandle") ∧ Cond.instantiable q.1.cls q.2 ∈ tables_1 ∧ Cond.privateMethod q.1 ∈ tables_1 ∧ Cond.instanceMethod q.1 ∈ tables_1
set_option maxRecDepth 100000
theorem lw_t1 {w : Cond} (h : w ∈ tables_1_1) : w ∈ tables_1 := List.mem_append_left _ h
theorem lw_t2 {w : Cond} (h : w ∈ tables_1_2) : w ∈ tables_1 := List.mem_append_right _ h
theorem lw_p0 : lw_okq (⟨"IncrementalScc", "isVertex", "(I)Z"⟩, 12) := ⟨⟨by decide +kernel, by decide +kernel⟩, lw_t1 (List.mem_of_getElem? (i := 4) rfl), lw_t1 (List.mem_of_getElem? (i := 55) rfl), lw_t1 (List.mem_of_getElem? (i := 56) rfl)⟩
theorem lw_p1 : lw_okq (⟨"IncrementalScc", "repairLine", "(II)I"⟩, 12) := ⟨⟨by decide +kernel, by decide +kernel⟩, lw_t1 (List.mem_of_getElem? (i := 4) rfl), lw_t1 (List.mem_of_getElem? (i := 59) rfl), lw_t1 (List.mem_of_getElem? (i := 60) rfl)⟩
theorem lw_p2 : lw_okq (⟨"IncrementalScc", "forwardUpTo", "(II)I"⟩, 12) := ⟨⟨by decide +kernel, by decide +kernel⟩, lw_t1 (List.mem_of_getElem? (i := 4) rfl), lw_t1 (List.mem_of_getElem? (i := 63) rfl), lw_t1 (List.mem_of_getElem? (i := 64) rfl)⟩
theorem lw_p3 : lw_okq (⟨"IncrementalScc", "targetsOf", "(I)I"⟩, 12) := ⟨⟨by decide +kernel, by decide +kernel⟩, lw_t1 (List.mem_of_getElem? (i := 4) rfl), lw_t1 (List.mem_of_getElem? (i := 67) rfl), lw_t1 (List.mem_of_getElem? (i := 68) rfl)⟩
theorem lw_p4 : lw_okq (⟨"IncrementalScc", "leadersOf", "(I)I"⟩, 12) := ⟨⟨by decide +kernel, by decide +kernel⟩, lw_t1 (List.mem_of_getElem? (i := 4) rfl), lw_t1 (List.mem_of_getElem? (i := 71) rfl), lw_t1 (List.mem_of_getElem? (i := 72) rfl)⟩
theorem lw_p5 : lw_okq (⟨"IncrementalScc", "backwardDownTo", "(II)I"⟩, 12) := ⟨⟨by decide +kernel, by decide +kernel⟩, lw_t1 (List.mem_of_getElem? (i := 4) rfl), lw_t1 (List.mem_of_getElem? (i := 75) rfl), lw_t1 (List.mem_of_getElem? (i := 76) rfl)⟩
theorem lw_p6 : lw_okq (⟨"IncrementalScc", "sourcesOf", "(I)I"⟩, 12) := ⟨⟨by decide +kernel, by decide +kernel⟩, lw_t1 (List.mem_of_getElem? (i := 4) rfl), lw_t1 (List.mem_of_getElem? (i := 79) rfl), lw_t1 (List.mem_of_getElem? (i := 80) rfl)⟩
theorem lw_p7 : lw_okq (⟨"IncrementalScc", "leadersBetween", "(II)I"⟩, 12) := ⟨⟨by decide +kernel, by decide +kernel⟩, lw_t1 (List.mem_of_getElem? (i := 4) rfl), lw_t1 (List.mem_of_getElem? (i := 83) rfl), lw_t1 (List.mem_of_getElem? (i := 84) rfl)⟩
theorem lw_p8 : lw_okq (⟨"IncrementalScc", "append", "(I)V"⟩, 12) := ⟨⟨by decide +kernel, by decide +kernel⟩, lw_t1 (List.mem_of_getElem? (i := 4) rfl), lw_t1 (List.mem_of_getElem? (i := 87) rfl), lw_t1 (List.mem_of_getElem? (i := 88) rfl)⟩
theorem lw_p9 : lw_okq (⟨"IncrementalScc", "bitsIn", "(I)I"⟩, 12) := ⟨⟨by decide +kernel, by decide +kernel⟩, lw_t1 (List.mem_of_getElem? (i := 4) rfl), lw_t1 (List.mem_of_getElem? (i := 91) rfl), lw_t1 (List.mem_of_getElem? (i := 92) rfl)⟩
theorem lw_p10 : lw_okq (⟨"IncrementalScc", "melt", "(I)I"⟩, 12) := ⟨⟨by decide +kernel, by decide +kernel⟩, lw_t1 (List.mem_of_getElem? (i := 4) rfl), lw_t1 (List.mem_of_getElem? (i := 95) rfl), lw_t1 (List.mem_of_getElem? (i := 96) rfl)⟩
theorem lw_p11 : lw_okq (⟨"IncrementalScc", "claim", "(I)I"⟩, 12) := ⟨⟨by decide +kernel, by decide +kernel⟩, lw_t1 (List.mem_of_getElem? (i := 4) rfl), lw_t1 (List.mem_of_getElem? (i := 99) rfl), lw_t1 (List.mem_of_getElem? (i := 100) rfl)⟩
theorem lw_p12 : lw_okq (⟨"IncrementalScc", "lowest", "(I)I"⟩, 12) := ⟨⟨by decide +kernel, by decide +kernel⟩, lw_t1 (List.mem_of_getElem? (i := 4) rfl), lw_t1 (List.mem_of_getElem? (i := 103) rfl), lw_t1 (List.mem_of_getElem? (i := 104) rfl)⟩
theorem lw_p13 : lw_okq (⟨"IncrementalScc", "adoptLine", "()V"⟩, 12) := ⟨⟨by decide +kernel, by decide +kernel⟩, lw_t1 (List.mem_of_getElem? (i := 4) rfl), lw_t1 (List.mem_of_getElem? (i := 107) rfl), lw_t1 (List.mem_of_getElem? (i := 108) rfl)⟩
theorem lw_p14 : lw_okq (⟨"IncrementalScc", "spreadWithin", "(II)I"⟩, 12) := ⟨⟨by decide +kernel, by decide +kernel⟩, lw_t1 (List.mem_of_getElem? (i := 4) rfl), lw_t1 (List.mem_of_getElem? (i := 115) rfl), lw_t1 (List.mem_of_getElem? (i := 116) rfl)⟩
theorem lw_p15 : lw_okq (⟨"IncrementalScc", "split", "(I)I"⟩, 12) := ⟨⟨by decide +kernel, by decide +kernel⟩, lw_t1 (List.mem_of_getElem? (i := 4) rfl), lw_t1 (List.mem_of_getElem? (i := 119) rfl), lw_t1 (List.mem_of_getElem? (i := 120) rfl)⟩
def lw_privs_1 : List (MethodName × Nat) := [(⟨"IncrementalScc", "isVertex", "(I)Z"⟩, 12), (⟨"IncrementalScc", "repairLine", "(II)I"⟩, 12), (⟨"IncrementalScc", "forwardUpTo", "(II)I"⟩, 12), (⟨"IncrementalScc", "targetsOf", "(I)I"⟩, 12), (⟨"IncrementalScc", "leadersOf", "(I)I"⟩, 12), (⟨"IncrementalScc", "backwardDownTo", "(II)I"⟩, 12), (⟨"IncrementalScc", "sourcesOf", "(I)I"⟩, 12), (⟨"IncrementalScc", "leadersBetween", "(II)I"⟩, 12), (⟨"IncrementalScc", "append", "(I)V"⟩, 12), (⟨"IncrementalScc", "bitsIn", "(I)I"⟩, 12), (⟨"IncrementalScc", "melt", "(I)I"⟩, 12), (⟨"IncrementalScc", "claim", "(I)I"⟩, 12), (⟨"IncrementalScc", "lowest", "(I)I"⟩, 12), (⟨"IncrementalScc", "adoptLine", "()V"⟩, 12), (⟨"IncrementalScc", "spreadWithin", "(II)I"⟩, 12), (⟨"IncrementalScc", "split", "(I)I"⟩, 12)]
theorem lw_r1 : ∀ q ∈ lw_privs_1, lw_okq q := List.forall_mem_cons.mpr ⟨lw_p0, List.forall_mem_cons.mpr ⟨lw_p1, List.forall_mem_cons.mpr ⟨lw_p2, List.forall_mem_cons.mpr ⟨lw_p3, List.forall_mem_cons.mpr ⟨lw_p4, List.forall_mem_cons.mpr ⟨lw_p5, List.forall_mem_cons.mpr ⟨lw_p6, List.forall_mem_cons.mpr ⟨lw_p7, List.forall_mem_cons.mpr ⟨lw_p8, List.forall_mem_cons.mpr ⟨lw_p9, List.forall_mem_cons.mpr ⟨lw_p10, List.forall_mem_cons.mpr ⟨lw_p11, List.forall_mem_cons.mpr ⟨lw_p12, List.forall_mem_cons.mpr ⟨lw_p13, List.forall_mem_cons.mpr ⟨lw_p14, List.forall_mem_cons.mpr ⟨lw_p15, fun _ h => absurd h List.not_mem_nil⟩⟩⟩⟩⟩⟩⟩⟩⟩⟩⟩⟩⟩⟩⟩⟩
theorem lw_p16 : lw_okq (⟨"IncrementalScc", "gatherWithin", "(II)I"⟩, 12) := ⟨⟨by decide +kernel, by decide +kernel⟩, lw_t1 (List.mem_of_getElem? (i := 4) rfl), lw_t1 (List.mem_of_getElem? (i := 123) rfl), lw_t1 (List.mem_of_getElem? (i := 124) rfl)⟩
theorem lw_p17 : lw_okq (⟨"IncrementalScc", "sourcePiece", "(II)I"⟩, 12) := ⟨⟨by decide +kernel, by decide +kernel⟩, lw_t1 (List.mem_of_getElem? (i := 4) rfl), lw_t1 (List.mem_of_getElem? (i := 127) rfl), lw_t1 (List.mem_of_getElem? (i := 128) rfl)⟩
theorem lw_p18 : lw_okq (⟨"IncrementalSccModel", "isVertex", "(I)Z"⟩, 4) := ⟨⟨by decide +kernel, by decide +kernel⟩, lw_t1 (List.mem_of_getElem? (i := 166) rfl), lw_t1 (List.mem_of_getElem? (i := 190) rfl), lw_t1 (List.mem_of_getElem? (i := 191) rfl)⟩
theorem lw_p19 : lw_okq (⟨"IncrementalSccModel", "findReach", "()V"⟩, 4) := ⟨⟨by decide +kernel, by decide +kernel⟩, lw_t1 (List.mem_of_getElem? (i := 166) rfl), lw_t1 (List.mem_of_getElem? (i := 198) rfl), lw_t1 (List.mem_of_getElem? (i := 199) rfl)⟩
theorem lw_p20 : lw_okq (⟨"IncrementalSccModel", "lengthen", "()Z"⟩, 4) := ⟨⟨by decide +kernel, by decide +kernel⟩, lw_t1 (List.mem_of_getElem? (i := 166) rfl), lw_t1 (List.mem_of_getElem? (i := 202) rfl), lw_t1 (List.mem_of_getElem? (i := 203) rfl)⟩
theorem lw_p21 : lw_okq (⟨"IncrementalSccModel", "leaderOf", "(I)I"⟩, 4) := ⟨⟨by decide +kernel, by decide +kernel⟩, lw_t1 (List.mem_of_getElem? (i := 166) rfl), lw_t1 (List.mem_of_getElem? (i := 206) rfl), lw_t1 (List.mem_of_getElem? (i := 207) rfl)⟩
theorem lw_p22 : lw_okq (⟨"IncrementalSccModel", "together", "(II)Z"⟩, 4) := ⟨⟨by decide +kernel, by decide +kernel⟩, lw_t1 (List.mem_of_getElem? (i := 166) rfl), lw_t1 (List.mem_of_getElem? (i := 210) rfl), lw_t1 (List.mem_of_getElem? (i := 211) rfl)⟩
theorem lw_p23 : lw_okq (⟨"IncrementalSccModel", "raise", "()Z"⟩, 4) := ⟨⟨by decide +kernel, by decide +kernel⟩, lw_t1 (List.mem_of_getElem? (i := 166) rfl), lw_t1 (List.mem_of_getElem? (i := 235) rfl), lw_t1 (List.mem_of_getElem? (i := 236) rfl)⟩
def lw_privs_2 : List (MethodName × Nat) := [(⟨"IncrementalScc", "gatherWithin", "(II)I"⟩, 12), (⟨"IncrementalScc", "sourcePiece", "(II)I"⟩, 12), (⟨"IncrementalSccModel", "isVertex", "(I)Z"⟩, 4), (⟨"IncrementalSccModel", "findReach", "()V"⟩, 4), (⟨"IncrementalSccModel", "lengthen", "()Z"⟩, 4), (⟨"IncrementalSccModel", "leaderOf", "(I)I"⟩, 4), (⟨"IncrementalSccModel", "together", "(II)Z"⟩, 4), (⟨"IncrementalSccModel", "raise", "()Z"⟩, 4)]
theorem lw_r2 : ∀ q ∈ lw_privs_2, lw_okq q := List.forall_mem_cons.mpr ⟨lw_p16, List.forall_mem_cons.mpr ⟨lw_p17, List.forall_mem_cons.mpr ⟨lw_p18, List.forall_mem_cons.mpr ⟨lw_p19, List.forall_mem_cons.mpr ⟨lw_p20, List.forall_mem_cons.mpr ⟨lw_p21, List.forall_mem_cons.mpr ⟨lw_p22, List.forall_mem_cons.mpr ⟨lw_p23, fun _ h => absurd h List.not_mem_nil⟩⟩⟩⟩⟩⟩⟩⟩
def lw_privs : List (MethodName × Nat) := lw_privs_1 ++ (lw_privs_2)
def lw_tbl : List Cond := k2_sels lw_privs ++ tables_1
theorem lw_privs_ok : ∀ q ∈ lw_privs, lw_okq q := by
  show ∀ q ∈ lw_privs_1 ++ (lw_privs_2), lw_okq q
  exact List.forall_mem_append.mpr ⟨lw_r1, lw_r2⟩
-- ===== ONE list of words for every method: the tables' words that hold all through a run =====
def lw_all : List Cond := lw_tbl.filter goodWord
/-- a word of the tables by its place: claim/WORDS.tsv -/
theorem lw_w {w : Cond} (i : Nat) (h : lw_tbl[i]? = some w) (g : goodWord w = true) : w ∈ lw_all := List.mem_filter.mpr ⟨List.mem_of_getElem? h, g⟩
theorem lw_all_tbl {w : Cond} (h : w ∈ lw_all) : w ∈ lw_tbl := (List.mem_filter.mp h).1
theorem lw_self : GoodIn lw_all lw_all := fun w h => ⟨h, good_of_word (List.mem_filter.mp h).2⟩
/-- a class's field words, by their places -/
theorem lw_in (ws : List Cond) (ps : List Nat) (hp : ws = ps.filterMap (fun i => lw_tbl[i]?)) (hg : ws.all goodWord = true) : ∀ w ∈ ws, w ∈ lw_all := by
  intro w h
  have h1 := List.all_eq_true.mp hg w h
  rw [hp] at h
  obtain ⟨i, -, hi⟩ := List.mem_filterMap.mp h
  exact lw_w i hi h1
/-- the words of a contract for the method y with code b, L locals, answer r -/
abbrev ws_ (y : MethodName) (b : ByteArray) (L : Nat) (r : Option FieldType) : List Cond := Cond.code y b L r :: lw_all
theorem lw_meth {y : MethodName} {b : ByteArray} {L : Nat} {r : Option FieldType} (h : Cond.code y b L r ∈ lw_all) : GoodIn lw_all (ws_ y b L r) := by
  intro w hw
  rcases List.mem_cons.mp hw with e | e
  · rw [e]
    exact lw_self _ h
  · exact lw_self _ e
theorem lw_app {a c : List Cond} (ha : ∀ w ∈ a, w ∈ lw_all) (hc : GoodIn lw_all c) : GoodIn lw_all (a ++ c) := by
  intro w hw
  rcases List.mem_append.mp hw with e | e
  · exact lw_self w (ha w e)
  · exact hc w e
/-- what a call through an object asks: cwV n hts (lw_V ..) -/
theorem lw_V {own : String} {idx : Nat} {C : String} {y : MethodName} {b : ByteArray} {L : Nat} {r : Option FieldType} (h1 : Cond.methodLink own idx y ∈ lw_all) (h2 : Cond.instanceMethod y ∈ lw_all) (h3 : Cond.selects C y y ∈ lw_all) (h4 : Cond.initialized C ∈ lw_all) (h5 : Cond.code y b L r ∈ lw_all) : GoodIn lw_all (wsV own idx C y (ws_ y b L r)) := by
  refine lw_app ?_ (lw_meth h5)
  intro w hw
  simp only [List.mem_cons, List.not_mem_nil, or_false] at hw
  rcases hw with e | e | e | e
  · rw [e]; exact h1
  · rw [e]; exact h2
  · rw [e]; exact h3
  · rw [e]; exact h4
/-- what a static call asks: va_cwS n hts (lw_S ..) -/
theorem lw_S {own : String} {idx : Nat} {y : MethodName} {b : ByteArray} {L : Nat} {r : Option FieldType} (h1 : Cond.methodLink own idx y ∈ lw_all) (h2 : Cond.static y ∈ lw_all) (h3 : Cond.initialized y.cls ∈ lw_all) (h4 : Cond.code y b L r ∈ lw_all) : GoodIn lw_all (va_wsS own idx y (ws_ y b L r)) := by
  refine lw_app ?_ (lw_meth h4)
  intro w hw
  simp only [List.mem_cons, List.not_mem_nil, or_false] at hw
  rcases hw with e | e | e
  · rw [e]; exact h1
  · rw [e]; exact h2
  · rw [e]; exact h3
/-- the words of a contract for a method WITH HANDLERS (hh: its table) -/
abbrev wsW_ (y : MethodName) (b : ByteArray) (L : Nat) (r : Option FieldType) (hh : List (Nat × Nat × Nat × Nat)) : List Cond := Cond.codeWith y b L r hh :: lw_all
theorem lw_methW {y : MethodName} {b : ByteArray} {L : Nat} {r : Option FieldType} {hh : List (Nat × Nat × Nat × Nat)} (h : Cond.codeWith y b L r hh ∈ lw_all) : GoodIn lw_all (wsW_ y b L r hh) := by
  intro w hw
  rcases List.mem_cons.mp hw with e | e
  · rw [e]
    exact lw_self _ h
  · exact lw_self _ e
/-- any list of words by their places (lw_in), good -/
theorem lw_good {ws : List Cond} (h : ∀ w ∈ ws, w ∈ lw_all) : GoodIn lw_all ws := fun w hw => lw_self w (h w hw)
/-- what a call of a method with handlers asks: vx_cwVW n hts (lw_VW ..), vx_cwSW n hts (lw_SW ..) -/
theorem lw_VW {own : String} {idx : Nat} {C : String} {y : MethodName} {b : ByteArray} {L : Nat} {r : Option FieldType} {hh : List (Nat × Nat × Nat × Nat)} (h1 : Cond.methodLink own idx y ∈ lw_all) (h2 : Cond.instanceMethod y ∈ lw_all) (h3 : Cond.selects C y y ∈ lw_all) (h4 : Cond.initialized C ∈ lw_all) (h5 : Cond.codeWith y b L r hh ∈ lw_all) : GoodIn lw_all (wsV own idx C y (wsW_ y b L r hh)) := by
  refine lw_app ?_ (lw_methW h5)
  intro w hw
  simp only [List.mem_cons, List.not_mem_nil, or_false] at hw
  rcases hw with e | e | e | e
  · rw [e]; exact h1
  · rw [e]; exact h2
  · rw [e]; exact h3
  · rw [e]; exact h4
theorem lw_SW {own : String} {idx : Nat} {y : MethodName} {b : ByteArray} {L : Nat} {r : Option FieldType} {hh : List (Nat × Nat × Nat × Nat)} (h1 : Cond.methodLink own idx y ∈ lw_all) (h2 : Cond.static y ∈ lw_all) (h3 : Cond.initialized y.cls ∈ lw_all) (h4 : Cond.codeWith y b L r hh ∈ lw_all) : GoodIn lw_all (va_wsS own idx y (wsW_ y b L r hh)) := by
  refine lw_app ?_ (lw_methW h4)
  intro w hw
  simp only [List.mem_cons, List.not_mem_nil, or_false] at hw
  rcases hw with e | e | e
  · rw [e]; exact h1
  · rw [e]; exact h2
  · rw [e]; exact h3
/-- a word by its place in its run of the tables -/
theorem lw_at {r : List Cond} (hr : ∀ w ∈ r, w ∈ lw_tbl) {w : Cond} (i : Nat) (h : r[i]? = some w) : w ∈ lw_tbl := hr w (List.mem_of_getElem? h)
theorem lw_g {w : Cond} (h : w ∈ lw_tbl) (g : goodWord w = true) : w ∈ lw_all := List.mem_filter.mpr ⟨h, g⟩
theorem lw_ms : ∀ w ∈ k2_sels lw_privs, w ∈ lw_tbl := fun w h => show w ∈ k2_sels lw_privs ++ tables_1 from List.mem_append_left _ h
theorem lw_m1 : ∀ w ∈ tables_1_1, w ∈ lw_tbl := fun w h => show w ∈ k2_sels lw_privs ++ tables_1 from List.mem_append_right (k2_sels lw_privs) (show w ∈ tables_1 from List.mem_append_left _ h)
theorem lw_m2 : ∀ w ∈ tables_1_2, w ∈ lw_tbl := fun w h => show w ∈ k2_sels lw_privs ++ tables_1 from List.mem_append_right (k2_sels lw_privs) (show w ∈ tables_1 from List.mem_append_right _ h)
theorem qs0 : (Cond.selects "IncrementalScc" ⟨"IncrementalScc", "isVertex", "(I)Z"⟩ ⟨"IncrementalScc", "isVertex", "(I)Z"⟩) ∈ lw_all := lw_g (lw_at lw_ms 0 rfl) rfl
theorem qs1 : (Cond.selects "IncrementalScc" ⟨"IncrementalScc", "repairLine", "(II)I"⟩ ⟨"IncrementalScc", "repairLine", "(II)I"⟩) ∈ lw_all := lw_g (lw_at lw_ms 1 rfl) rfl
theorem qs2 : (Cond.selects "IncrementalScc" ⟨"IncrementalScc", "forwardUpTo", "(II)I"⟩ ⟨"IncrementalScc", "forwardUpTo", "(II)I"⟩) ∈ lw_all := lw_g (lw_at lw_ms 2 rfl) rfl
theorem qs3 : (Cond.selects "IncrementalScc" ⟨"IncrementalScc", "targetsOf", "(I)I"⟩ ⟨"IncrementalScc", "targetsOf", "(I)I"⟩) ∈ lw_all := lw_g (lw_at lw_ms 3 rfl) rfl
theorem qs4 : (Cond.selects "IncrementalScc" ⟨"IncrementalScc", "leadersOf", "(I)I"⟩ ⟨"IncrementalScc", "leadersOf", "(I)I"⟩) ∈ lw_all := lw_g (lw_at lw_ms 4 rfl) rfl
theorem qs5 : (Cond.selects "IncrementalScc" ⟨"IncrementalScc", "backwardDownTo", "(II)I"⟩ ⟨"IncrementalScc", "backwardDownTo", "(II)I"⟩) ∈ lw_all := lw_g (lw_at lw_ms 5 rfl) rfl
theorem qs6 : (Cond.selects "IncrementalScc" ⟨"IncrementalScc", "sourcesOf", "(I)I"⟩ ⟨"IncrementalScc", "sourcesOf", "(I)I"⟩) ∈ lw_all := lw_g (lw_at lw_ms 6 rfl) rfl
theorem qs7 : (Cond.selects "IncrementalScc" ⟨"IncrementalScc", "leadersBetween", "(II)I"⟩ ⟨"IncrementalScc", "leadersBetween", "(II)I"⟩) ∈ lw_all := lw_g (lw_at lw_ms 7 rfl) rfl
theorem qs8 : (Cond.selects "IncrementalScc" ⟨"IncrementalScc", "append", "(I)V"⟩ ⟨"IncrementalScc", "append", "(I)V"⟩) ∈ lw_all := lw_g (lw_at lw_ms 8 rfl) rfl
theorem qs9 : (Cond.selects "IncrementalScc" ⟨"IncrementalScc", "bitsIn", "(I)I"⟩ ⟨"IncrementalScc", "bitsIn", "(I)I"⟩) ∈ lw_all := lw_g (lw_at lw_ms 9 rfl) rfl
theorem qs10 : (Cond.selects "IncrementalScc" ⟨"IncrementalScc", "melt", "(I)I"⟩ ⟨"IncrementalScc", "melt", "(I)I"⟩) ∈ lw_all := lw_g (lw_at lw_ms 10 rfl) rfl
theorem qs11 : (Cond.selects "IncrementalScc" ⟨"IncrementalScc", "claim", "(I)I"⟩ ⟨"IncrementalScc", "claim", "(I)I"⟩) ∈ lw_all := lw_g (lw_at lw_ms 11 rfl) rfl
theorem qs12 : (Cond.selects "IncrementalScc" ⟨"IncrementalScc", "lowest", "(I)I"⟩ ⟨"IncrementalScc", "lowest", "(I)I"⟩) ∈ lw_all := lw_g (lw_at lw_ms 12 rfl) rfl
theorem qs13 : (Cond.selects "IncrementalScc" ⟨"IncrementalScc", "adoptLine", "()V"⟩ ⟨"IncrementalScc", "adoptLine", "()V"⟩) ∈ lw_all := lw_g (lw_at lw_ms 13 rfl) rfl
theorem qs14 : (Cond.selects "IncrementalScc" ⟨"IncrementalScc", "spreadWithin", "(II)I"⟩ ⟨"IncrementalScc", "spreadWithin", "(II)I"⟩) ∈ lw_all := lw_g (lw_at lw_ms 14 rfl) rfl
theorem qs15 : (Cond.selects "IncrementalScc" ⟨"IncrementalScc", "split", "(I)I"⟩ ⟨"IncrementalScc", "split", "(I)I"⟩) ∈ lw_all := lw_g (lw_at lw_ms 15 rfl) rfl
theorem qs16 : (Cond.selects "IncrementalScc" ⟨"IncrementalScc", "gatherWithin", "(II)I"⟩ ⟨"IncrementalScc", "gatherWithin", "(II)I"⟩) ∈ lw_all := lw_g (lw_at lw_ms 16 rfl) rfl
theorem qs17 : (Cond.selects "IncrementalScc" ⟨"IncrementalScc", "sourcePiece", "(II)I"⟩ ⟨"IncrementalScc", "sourcePiece", "(II)I"⟩) ∈ lw_all := lw_g (lw_at lw_ms 17 rfl) rfl
theorem qs18 : (Cond.selects "IncrementalSccModel" ⟨"IncrementalSccModel", "isVertex", "(I)Z"⟩ ⟨"IncrementalSccModel", "isVertex", "(I)Z"⟩) ∈ lw_all := lw_g (lw_at lw_ms 18 rfl) rfl
theorem qs19 : (Cond.selects "IncrementalSccModel" ⟨"IncrementalSccModel", "findReach", "()V"⟩ ⟨"IncrementalSccModel", "findReach", "()V"⟩) ∈ lw_all := lw_g (lw_at lw_ms 19 rfl) rfl
theorem qs20 : (Cond.selects "IncrementalSccModel" ⟨"IncrementalSccModel", "lengthen", "()Z"⟩ ⟨"IncrementalSccModel", "lengthen", "()Z"⟩) ∈ lw_all := lw_g (lw_at lw_ms 20 rfl) rfl
theorem qs21 : (Cond.selects "IncrementalSccModel" ⟨"IncrementalSccModel", "leaderOf", "(I)I"⟩ ⟨"IncrementalSccModel", "leaderOf", "(I)I"⟩) ∈ lw_all := lw_g (lw_at lw_ms 21 rfl) rfl
theorem qs22 : (Cond.selects "IncrementalSccModel" ⟨"IncrementalSccModel", "together", "(II)Z"⟩ ⟨"IncrementalSccModel", "together", "(II)Z"⟩) ∈ lw_all := lw_g (lw_at lw_ms 22 rfl) rfl
theorem qs23 : (Cond.selects "IncrementalSccModel" ⟨"IncrementalSccModel", "raise", "()Z"⟩ ⟨"IncrementalSccModel", "raise", "()Z"⟩) ∈ lw_all := lw_g (lw_at lw_ms 23 rfl) rfl
end
section
/-! IncrementalScc -/
set_option maxRecDepth 100000
def RX1 : String := "IncrementalScc"
def TX1 : u_T := fun k => match k with
  | 0 => ("IncrementalScc", "vertexCount", "I", false)
  | 1 => ("IncrementalScc", "targets", "[I", true)
  | 2 => ("IncrementalScc", "sources", "[I", true)
  | 3 => ("IncrementalScc", "leaderOf", "[B", true)
  | 4 => ("IncrementalScc", "members", "[I", true)
  | 5 => ("IncrementalScc", "place", "[B", true)
  | 6 => ("IncrementalScc", "line", "[B", true)
  | 7 => ("IncrementalScc", "lineLength", "I", false)
  | 8 => ("IncrementalScc", "nextLine", "[B", true)
  | 9 => ("IncrementalScc", "nextLength", "I", false)
  | 10 => ("IncrementalScc", "heights", "[B", true)
  | _ => ("IncrementalScc", "pieces", "[I", true)
def tyX1 : Nat → FieldType := fun k => match k with
  | 0 => .int
  | 1 => .array .int
  | 2 => .array .int
  | 3 => .array .byte
  | 4 => .array .int
  | 5 => .array .byte
  | 6 => .array .byte
  | 7 => .int
  | 8 => .array .byte
  | 9 => .int
  | 10 => .array .byte
  | _ => .array .int
abbrev wsX10 : List Cond := u_ws RX1 TX1 12
theorem nmX1 : ∀ a, a < 12 → ∀ b, b < 12 → a ≠ b → (TX1 a).2.1 ≠ (TX1 b).2.1 := by decide +kernel
theorem tyX1_ok : ∀ k, k < 12 → parseFieldDescriptor (TX1 k).2.2.1 = some (tyX1 k) := by decide +kernel
abbrev cX1_init : ByteArray := prog_1_method_1_code
def yX1_init : MethodName := ⟨RX1, "<init>", "(I)V"⟩
theorem dX1_init_0 : decode cX1_init 0 = .ok (.aload_n 0, 1) := by decide +kernel
theorem dX1_init_1 : decode cX1_init 1 = .ok (.invokespecial 1, 3) := by decide +kernel
theorem dX1_init_4 : decode cX1_init 4 = .ok (.aload_n 0, 1) := by decide +kernel
theorem dX1_init_5 : decode cX1_init 5 = .ok (.bipush 16, 2) := by decide +kernel
theorem dX1_init_7 : decode cX1_init 7 = .ok (.newarray .int, 2) := by decide +kernel
theorem dX1_init_9 : decode cX1_init 9 = .ok (.putfield 7, 3) := by decide +kernel
theorem dX1_init_12 : decode cX1_init 12 = .ok (.aload_n 0, 1) := by decide +kernel
theorem dX1_init_13 : decode cX1_init 13 = .ok (.bipush 16, 2) := by decide +kernel
theorem dX1_init_15 : decode cX1_init 15 = .ok (.newarray .int, 2) := by decide +kernel
theorem dX1_init_17 : decode cX1_init 17 = .ok (.putfield 13, 3) := by decide +kernel
theorem dX1_init_20 : decode cX1_init 20 = .ok (.aload_n 0, 1) := by decide +kernel
theorem dX1_init_21 : decode cX1_init 21 = .ok (.bipush 16, 2) := by decide +kernel
theorem dX1_init_23 : decode cX1_init 23 = .ok (.newarray .byte, 2) := by decide +kernel
theorem dX1_init_25 : decode cX1_init 25 = .ok (.putfield 16, 3) := by decide +kernel
theorem dX1_init_28 : decode cX1_init 28 = .ok (.aload_n 0, 1) := by decide +kernel
theorem dX1_init_29 : decode cX1_init 29 = .ok (.bipush 16, 2) := by decide +kernel
theorem dX1_init_31 : decode cX1_init 31 = .ok (.newarray .int, 2) := by decide +kernel
theorem dX1_init_33 : decode cX1_init 33 = .ok (.putfield 20, 3) := by decide +kernel
theorem dX1_init_36 : decode cX1_init 36 = .ok (.aload_n 0, 1) := by decide +kernel
theorem dX1_init_37 : decode cX1_init 37 = .ok (.bipush 16, 2) := by decide +kernel
theorem dX1_init_39 : decode cX1_init 39 = .ok (.newarray .byte, 2) := by decide +kernel
theorem dX1_init_41 : decode cX1_init 41 = .ok (.putfield 23, 3) := by decide +kernel
theorem dX1_init_44 : decode cX1_init 44 = .ok (.aload_n 0, 1) := by decide +kernel
theorem dX1_init_45 : decode cX1_init 45 = .ok (.bipush 16, 2) := by decide +kernel
theorem dX1_init_47 : decode cX1_init 47 = .ok (.newarray .byte, 2) := by decide +kernel
theorem dX1_init_49 : decode cX1_init 49 = .ok (.putfield 26, 3) := by decide +kernel
theorem dX1_init_52 : decode cX1_init 52 = .ok (.aload_n 0, 1) := by decide +kernel
theorem dX1_init_53 : decode cX1_init 53 = .ok (.bipush 16, 2) := by decide +kernel
theorem dX1_init_55 : decode cX1_init 55 = .ok (.newarray .byte, 2) := by decide +kernel
theorem dX1_init_57 : decode cX1_init 57 = .ok (.putfield 29, 3) := by decide +kernel
theorem dX1_init_60 : decode cX1_init 60 = .ok (.aload_n 0, 1) := by decide +kernel
theorem dX1_init_61 : decode cX1_init 61 = .ok (.bipush 16, 2) := by decide +kernel
theorem dX1_init_63 : decode cX1_init 63 = .ok (.newarray .byte, 2) := by decide +kernel
theorem dX1_init_65 : decode cX1_init 65 = .ok (.putfield 32, 3) := by decide +kernel
theorem dX1_init_68 : decode cX1_init 68 = .ok (.aload_n 0, 1) := by decide +kernel
theorem dX1_init_69 : decode cX1_init 69 = .ok (.bipush 16, 2) := by decide +kernel
theorem dX1_init_71 : decode cX1_init 71 = .ok (.newarray .int, 2) := by decide +kernel
theorem dX1_init_73 : decode cX1_init 73 = .ok (.putfield 35, 3) := by decide +kernel
theorem dX1_init_76 : decode cX1_init 76 = .ok (.aload_n 0, 1) := by decide +kernel
theorem dX1_init_77 : decode cX1_init 77 = .ok (.iload_n 1, 1) := by decide +kernel
theorem dX1_init_78 : decode cX1_init 78 = .ok (.iconst 2, 1) := by decide +kernel
theorem dX1_init_79 : decode cX1_init 79 = .ok (.if_icmp .ge 7, 3) := by decide +kernel
theorem dX1_init_82 : decode cX1_init 82 = .ok (.iconst 2, 1) := by decide +kernel
theorem dX1_init_83 : decode cX1_init 83 = .ok (.goto 15, 3) := by decide +kernel
theorem dX1_init_86 : decode cX1_init 86 = .ok (.iload_n 1, 1) := by decide +kernel
theorem dX1_init_87 : decode cX1_init 87 = .ok (.bipush 16, 2) := by decide +kernel
theorem dX1_init_89 : decode cX1_init 89 = .ok (.if_icmp .le 8, 3) := by decide +kernel
theorem dX1_init_92 : decode cX1_init 92 = .ok (.bipush 16, 2) := by decide +kernel
theorem dX1_init_94 : decode cX1_init 94 = .ok (.goto 4, 3) := by decide +kernel
theorem dX1_init_97 : decode cX1_init 97 = .ok (.iload_n 1, 1) := by decide +kernel
theorem dX1_init_98 : decode cX1_init 98 = .ok (.putfield 38, 3) := by decide +kernel
theorem dX1_init_101 : decode cX1_init 101 = .ok (.iconst 0, 1) := by decide +kernel
theorem dX1_init_102 : decode cX1_init 102 = .ok (.istore_n 2, 1) := by decide +kernel
theorem dX1_init_103 : decode cX1_init 103 = .ok (.iload_n 2, 1) := by decide +kernel
theorem dX1_init_104 : decode cX1_init 104 = .ok (.aload_n 0, 1) := by decide +kernel
theorem dX1_init_105 : decode cX1_init 105 = .ok (.getfield 38, 3) := by decide +kernel
theorem dX1_init_108 : decode cX1_init 108 = .ok (.if_icmp .ge 42, 3) := by decide +kernel
theorem dX1_init_111 : decode cX1_init 111 = .ok (.aload_n 0, 1) := by decide +kernel
theorem dX1_init_112 : decode cX1_init 112 = .ok (.getfield 16, 3) := by decide +kernel
theorem dX1_init_115 : decode cX1_init 115 = .ok (.iload_n 2, 1) := by decide +kernel
theorem dX1_init_116 : decode cX1_init 116 = .ok (.iload_n 2, 1) := by decide +kernel
theorem dX1_init_117 : decode cX1_init 117 = .ok (.i2b, 1) := by decide +kernel
theorem dX1_init_118 : decode cX1_init 118 = .ok (.bastore, 1) := by decide +kernel
theorem dX1_init_119 : decode cX1_init 119 = .ok (.aload_n 0, 1) := by decide +kernel
theorem dX1_init_120 : decode cX1_init 120 = .ok (.getfield 20, 3) := by decide +kernel
theorem dX1_init_123 : decode cX1_init 123 = .ok (.iload_n 2, 1) := by decide +kernel
theorem dX1_init_124 : decode cX1_init 124 = .ok (.iconst 1, 1) := by decide +kernel
theorem dX1_init_125 : decode cX1_init 125 = .ok (.iload_n 2, 1) := by decide +kernel
theorem dX1_init_126 : decode cX1_init 126 = .ok (.ishl, 1) := by decide +kernel
theorem dX1_init_127 : decode cX1_init 127 = .ok (.iastore, 1) := by decide +kernel
theorem dX1_init_128 : decode cX1_init 128 = .ok (.aload_n 0, 1) := by decide +kernel
theorem dX1_init_129 : decode cX1_init 129 = .ok (.getfield 23, 3) := by decide +kernel
theorem dX1_init_132 : decode cX1_init 132 = .ok (.iload_n 2, 1) := by decide +kernel
theorem dX1_init_133 : decode cX1_init 133 = .ok (.iload_n 2, 1) := by decide +kernel
theorem dX1_init_134 : decode cX1_init 134 = .ok (.i2b, 1) := by decide +kernel
theorem dX1_init_135 : decode cX1_init 135 = .ok (.bastore, 1) := by decide +kernel
theorem dX1_init_136 : decode cX1_init 136 = .ok (.aload_n 0, 1) := by decide +kernel
theorem dX1_init_137 : decode cX1_init 137 = .ok (.getfield 26, 3) := by decide +kernel
theorem dX1_init_140 : decode cX1_init 140 = .ok (.iload_n 2, 1) := by decide +kernel
theorem dX1_init_141 : decode cX1_init 141 = .ok (.iload_n 2, 1) := by decide +kernel
theorem dX1_init_142 : decode cX1_init 142 = .ok (.i2b, 1) := by decide +kernel
theorem dX1_init_143 : decode cX1_init 143 = .ok (.bastore, 1) := by decide +kernel
theorem dX1_init_144 : decode cX1_init 144 = .ok (.iinc 2 1, 3) := by decide +kernel
theorem dX1_init_147 : decode cX1_init 147 = .ok (.goto (-44), 3) := by decide +kernel
theorem dX1_init_150 : decode cX1_init 150 = .ok (.aload_n 0, 1) := by decide +kernel
theorem dX1_init_151 : decode cX1_init 151 = .ok (.aload_n 0, 1) := by decide +kernel
theorem dX1_init_152 : decode cX1_init 152 = .ok (.getfield 38, 3) := by decide +kernel
theorem dX1_init_155 : decode cX1_init 155 = .ok (.putfield 42, 3) := by decide +kernel
theorem dX1_init_158 : decode cX1_init 158 = .ok (.return_, 1) := by decide +kernel
abbrev cX1_addEdge : ByteArray := prog_1_method_2_code
def yX1_addEdge : MethodName := ⟨RX1, "addEdge", "(II)I"⟩
theorem dX1_addEdge_0 : decode cX1_addEdge 0 = .ok (.aload_n 0, 1) := by decide +kernel
theorem dX1_addEdge_1 : decode cX1_addEdge 1 = .ok (.iload_n 1, 1) := by decide +kernel
theorem dX1_addEdge_2 : decode cX1_addEdge 2 = .ok (.invokevirtual 45, 3) := by decide +kernel
theorem dX1_addEdge_5 : decode cX1_addEdge 5 = .ok (.ifCond .eq 16, 3) := by decide +kernel
theorem dX1_addEdge_8 : decode cX1_addEdge 8 = .ok (.aload_n 0, 1) := by decide +kernel
theorem dX1_addEdge_9 : decode cX1_addEdge 9 = .ok (.iload_n 2, 1) := by decide +kernel
theorem dX1_addEdge_10 : decode cX1_addEdge 10 = .ok (.invokevirtual 45, 3) := by decide +kernel
theorem dX1_addEdge_13 : decode cX1_addEdge 13 = .ok (.ifCond .eq 8, 3) := by decide +kernel
theorem dX1_addEdge_16 : decode cX1_addEdge 16 = .ok (.iload_n 1, 1) := by decide +kernel
theorem dX1_addEdge_17 : decode cX1_addEdge 17 = .ok (.iload_n 2, 1) := by decide +kernel
theorem dX1_addEdge_18 : decode cX1_addEdge 18 = .ok (.if_icmp .ne 5, 3) := by decide +kernel
theorem dX1_addEdge_21 : decode cX1_addEdge 21 = .ok (.iconst (-1), 1) := by decide +kernel
theorem dX1_addEdge_22 : decode cX1_addEdge 22 = .ok (.ireturn, 1) := by decide +kernel
theorem dX1_addEdge_23 : decode cX1_addEdge 23 = .ok (.aload_n 0, 1) := by decide +kernel
theorem dX1_addEdge_24 : decode cX1_addEdge 24 = .ok (.getfield 7, 3) := by decide +kernel
theorem dX1_addEdge_27 : decode cX1_addEdge 27 = .ok (.iload_n 1, 1) := by decide +kernel
theorem dX1_addEdge_28 : decode cX1_addEdge 28 = .ok (.iaload, 1) := by decide +kernel
theorem dX1_addEdge_29 : decode cX1_addEdge 29 = .ok (.iload_n 2, 1) := by decide +kernel
theorem dX1_addEdge_30 : decode cX1_addEdge 30 = .ok (.ishr, 1) := by decide +kernel
theorem dX1_addEdge_31 : decode cX1_addEdge 31 = .ok (.iconst 1, 1) := by decide +kernel
theorem dX1_addEdge_32 : decode cX1_addEdge 32 = .ok (.iand, 1) := by decide +kernel
theorem dX1_addEdge_33 : decode cX1_addEdge 33 = .ok (.ifCond .eq 6, 3) := by decide +kernel
theorem dX1_addEdge_36 : decode cX1_addEdge 36 = .ok (.bipush (-2), 2) := by decide +kernel
theorem dX1_addEdge_38 : decode cX1_addEdge 38 = .ok (.ireturn, 1) := by decide +kernel
theorem dX1_addEdge_39 : decode cX1_addEdge 39 = .ok (.aload_n 0, 1) := by decide +kernel
theorem dX1_addEdge_40 : decode cX1_addEdge 40 = .ok (.getfield 7, 3) := by decide +kernel
theorem dX1_addEdge_43 : decode cX1_addEdge 43 = .ok (.iload_n 1, 1) := by decide +kernel
theorem dX1_addEdge_44 : decode cX1_addEdge 44 = .ok (.dup2, 1) := by decide +kernel
theorem dX1_addEdge_45 : decode cX1_addEdge 45 = .ok (.iaload, 1) := by decide +kernel
theorem dX1_addEdge_46 : decode cX1_addEdge 46 = .ok (.iconst 1, 1) := by decide +kernel
theorem dX1_addEdge_47 : decode cX1_addEdge 47 = .ok (.iload_n 2, 1) := by decide +kernel
theorem dX1_addEdge_48 : decode cX1_addEdge 48 = .ok (.ishl, 1) := by decide +kernel
theorem dX1_addEdge_49 : decode cX1_addEdge 49 = .ok (.ior, 1) := by decide +kernel
theorem dX1_addEdge_50 : decode cX1_addEdge 50 = .ok (.iastore, 1) := by decide +kernel
theorem dX1_addEdge_51 : decode cX1_addEdge 51 = .ok (.aload_n 0, 1) := by decide +kernel
theorem dX1_addEdge_52 : decode cX1_addEdge 52 = .ok (.getfield 13, 3) := by decide +kernel
theorem dX1_addEdge_55 : decode cX1_addEdge 55 = .ok (.iload_n 2, 1) := by decide +kernel
theorem dX1_addEdge_56 : decode cX1_addEdge 56 = .ok (.dup2, 1) := by decide +kernel
theorem dX1_addEdge_57 : decode cX1_addEdge 57 = .ok (.iaload, 1) := by decide +kernel
theorem dX1_addEdge_58 : decode cX1_addEdge 58 = .ok (.iconst 1, 1) := by decide +kernel
theorem dX1_addEdge_59 : decode cX1_addEdge 59 = .ok (.iload_n 1, 1) := by decide +kernel
theorem dX1_addEdge_60 : decode cX1_addEdge 60 = .ok (.ishl, 1) := by decide +kernel
theorem dX1_addEdge_61 : decode cX1_addEdge 61 = .ok (.ior, 1) := by decide +kernel
theorem dX1_addEdge_62 : decode cX1_addEdge 62 = .ok (.iastore, 1) := by decide +kernel
theorem dX1_addEdge_63 : decode cX1_addEdge 63 = .ok (.aload_n 0, 1) := by decide +kernel
theorem dX1_addEdge_64 : decode cX1_addEdge 64 = .ok (.getfield 16, 3) := by decide +kernel
theorem dX1_addEdge_67 : decode cX1_addEdge 67 = .ok (.iload_n 1, 1) := by decide +kernel
theorem dX1_addEdge_68 : decode cX1_addEdge 68 = .ok (.baload, 1) := by decide +kernel
theorem dX1_addEdge_69 : decode cX1_addEdge 69 = .ok (.istore_n 3, 1) := by decide +kernel
theorem dX1_addEdge_70 : decode cX1_addEdge 70 = .ok (.aload_n 0, 1) := by decide +kernel
theorem dX1_addEdge_71 : decode cX1_addEdge 71 = .ok (.getfield 16, 3) := by decide +kernel
theorem dX1_addEdge_74 : decode cX1_addEdge 74 = .ok (.iload_n 2, 1) := by decide +kernel
theorem dX1_addEdge_75 : decode cX1_addEdge 75 = .ok (.baload, 1) := by decide +kernel
theorem dX1_addEdge_76 : decode cX1_addEdge 76 = .ok (.istore 4, 2) := by decide +kernel
theorem dX1_addEdge_78 : decode cX1_addEdge 78 = .ok (.aload_n 0, 1) := by decide +kernel
theorem dX1_addEdge_79 : decode cX1_addEdge 79 = .ok (.getfield 23, 3) := by decide +kernel
theorem dX1_addEdge_82 : decode cX1_addEdge 82 = .ok (.iload_n 3, 1) := by decide +kernel
theorem dX1_addEdge_83 : decode cX1_addEdge 83 = .ok (.baload, 1) := by decide +kernel
theorem dX1_addEdge_84 : decode cX1_addEdge 84 = .ok (.aload_n 0, 1) := by decide +kernel
theorem dX1_addEdge_85 : decode cX1_addEdge 85 = .ok (.getfield 23, 3) := by decide +kernel
theorem dX1_addEdge_88 : decode cX1_addEdge 88 = .ok (.iload 4, 2) := by decide +kernel
theorem dX1_addEdge_90 : decode cX1_addEdge 90 = .ok (.baload, 1) := by decide +kernel
theorem dX1_addEdge_91 : decode cX1_addEdge 91 = .ok (.if_icmp .gt 5, 3) := by decide +kernel
theorem dX1_addEdge_94 : decode cX1_addEdge 94 = .ok (.iconst 0, 1) := by decide +kernel
theorem dX1_addEdge_95 : decode cX1_addEdge 95 = .ok (.ireturn, 1) := by decide +kernel
theorem dX1_addEdge_96 : decode cX1_addEdge 96 = .ok (.aload_n 0, 1) := by decide +kernel
theorem dX1_addEdge_97 : decode cX1_addEdge 97 = .ok (.iload_n 3, 1) := by decide +kernel
theorem dX1_addEdge_98 : decode cX1_addEdge 98 = .ok (.iload 4, 2) := by decide +kernel
theorem dX1_addEdge_100 : decode cX1_addEdge 100 = .ok (.invokevirtual 49, 3) := by decide +kernel
theorem dX1_addEdge_103 : decode cX1_addEdge 103 = .ok (.ireturn, 1) := by decide +kernel
abbrev cX1_isVertex : ByteArray := prog_1_method_12_code
def yX1_isVertex : MethodName := ⟨RX1, "isVertex", "(I)Z"⟩
theorem dX1_isVertex_0 : decode cX1_isVertex 0 = .ok (.iload_n 1, 1) := by decide +kernel
theorem dX1_isVertex_1 : decode cX1_isVertex 1 = .ok (.ifCond .lt 15, 3) := by decide +kernel
theorem dX1_isVertex_4 : decode cX1_isVertex 4 = .ok (.iload_n 1, 1) := by decide +kernel
theorem dX1_isVertex_5 : decode cX1_isVertex 5 = .ok (.aload_n 0, 1) := by decide +kernel
theorem dX1_isVertex_6 : decode cX1_isVertex 6 = .ok (.getfield 38, 3) := by decide +kernel
theorem dX1_isVertex_9 : decode cX1_isVertex 9 = .ok (.if_icmp .ge 7, 3) := by decide +kernel
theorem dX1_isVertex_12 : decode cX1_isVertex 12 = .ok (.iconst 1, 1) := by decide +kernel
theorem dX1_isVertex_13 : decode cX1_isVertex 13 = .ok (.goto 4, 3) := by decide +kernel
theorem dX1_isVertex_16 : decode cX1_isVertex 16 = .ok (.iconst 0, 1) := by decide +kernel
theorem dX1_isVertex_17 : decode cX1_isVertex 17 = .ok (.ireturn, 1) := by decide +kernel
abbrev cX1_repairLine : ByteArray := prog_1_method_22_code
def yX1_repairLine : MethodName := ⟨RX1, "repairLine", "(II)I"⟩
theorem dX1_repairLine_0 : decode cX1_repairLine 0 = .ok (.aload_n 0, 1) := by decide +kernel
theorem dX1_repairLine_1 : decode cX1_repairLine 1 = .ok (.getfield 23, 3) := by decide +kernel
theorem dX1_repairLine_4 : decode cX1_repairLine 4 = .ok (.iload_n 2, 1) := by decide +kernel
theorem dX1_repairLine_5 : decode cX1_repairLine 5 = .ok (.baload, 1) := by decide +kernel
theorem dX1_repairLine_6 : decode cX1_repairLine 6 = .ok (.istore_n 3, 1) := by decide +kernel
theorem dX1_repairLine_7 : decode cX1_repairLine 7 = .ok (.aload_n 0, 1) := by decide +kernel
theorem dX1_repairLine_8 : decode cX1_repairLine 8 = .ok (.getfield 23, 3) := by decide +kernel
theorem dX1_repairLine_11 : decode cX1_repairLine 11 = .ok (.iload_n 1, 1) := by decide +kernel
theorem dX1_repairLine_12 : decode cX1_repairLine 12 = .ok (.baload, 1) := by decide +kernel
theorem dX1_repairLine_13 : decode cX1_repairLine 13 = .ok (.istore 4, 2) := by decide +kernel
theorem dX1_repairLine_15 : decode cX1_repairLine 15 = .ok (.aload_n 0, 1) := by decide +kernel
theorem dX1_repairLine_16 : decode cX1_repairLine 16 = .ok (.iload_n 2, 1) := by decide +kernel
theorem dX1_repairLine_17 : decode cX1_repairLine 17 = .ok (.iload 4, 2) := by decide +kernel
theorem dX1_repairLine_19 : decode cX1_repairLine 19 = .ok (.invokevirtual 63, 3) := by decide +kernel
theorem dX1_repairLine_22 : decode cX1_repairLine 22 = .ok (.istore 5, 2) := by decide +kernel
theorem dX1_repairLine_24 : decode cX1_repairLine 24 = .ok (.iconst 0, 1) := by decide +kernel
theorem dX1_repairLine_25 : decode cX1_repairLine 25 = .ok (.istore 6, 2) := by decide +kernel
theorem dX1_repairLine_27 : decode cX1_repairLine 27 = .ok (.iload 5, 2) := by decide +kernel
theorem dX1_repairLine_29 : decode cX1_repairLine 29 = .ok (.iload_n 1, 1) := by decide +kernel
theorem dX1_repairLine_30 : decode cX1_repairLine 30 = .ok (.ishr, 1) := by decide +kernel
theorem dX1_repairLine_31 : decode cX1_repairLine 31 = .ok (.iconst 1, 1) := by decide +kernel
theorem dX1_repairLine_32 : decode cX1_repairLine 32 = .ok (.iand, 1) := by decide +kernel
theorem dX1_repairLine_33 : decode cX1_repairLine 33 = .ok (.ifCond .eq 26, 3) := by decide +kernel
theorem dX1_repairLine_36 : decode cX1_repairLine 36 = .ok (.aload_n 0, 1) := by decide +kernel
theorem dX1_repairLine_37 : decode cX1_repairLine 37 = .ok (.iload_n 1, 1) := by decide +kernel
theorem dX1_repairLine_38 : decode cX1_repairLine 38 = .ok (.iload_n 3, 1) := by decide +kernel
theorem dX1_repairLine_39 : decode cX1_repairLine 39 = .ok (.invokevirtual 75, 3) := by decide +kernel
theorem dX1_repairLine_42 : decode cX1_repairLine 42 = .ok (.istore 7, 2) := by decide +kernel
theorem dX1_repairLine_44 : decode cX1_repairLine 44 = .ok (.iload 5, 2) := by decide +kernel
theorem dX1_repairLine_46 : decode cX1_repairLine 46 = .ok (.iload 7, 2) := by decide +kernel
theorem dX1_repairLine_48 : decode cX1_repairLine 48 = .ok (.iand, 1) := by decide +kernel
theorem dX1_repairLine_49 : decode cX1_repairLine 49 = .ok (.aload_n 0, 1) := by decide +kernel
theorem dX1_repairLine_50 : decode cX1_repairLine 50 = .ok (.iload_n 3, 1) := by decide +kernel
theorem dX1_repairLine_51 : decode cX1_repairLine 51 = .ok (.iload 4, 2) := by decide +kernel
theorem dX1_repairLine_53 : decode cX1_repairLine 53 = .ok (.invokevirtual 78, 3) := by decide +kernel
theorem dX1_repairLine_56 : decode cX1_repairLine 56 = .ok (.iand, 1) := by decide +kernel
theorem dX1_repairLine_57 : decode cX1_repairLine 57 = .ok (.istore 6, 2) := by decide +kernel
theorem dX1_repairLine_59 : decode cX1_repairLine 59 = .ok (.aload_n 0, 1) := by decide +kernel
theorem dX1_repairLine_60 : decode cX1_repairLine 60 = .ok (.iconst 0, 1) := by decide +kernel
theorem dX1_repairLine_61 : decode cX1_repairLine 61 = .ok (.putfield 81, 3) := by decide +kernel
theorem dX1_repairLine_64 : decode cX1_repairLine 64 = .ok (.iconst 0, 1) := by decide +kernel
theorem dX1_repairLine_65 : decode cX1_repairLine 65 = .ok (.istore 7, 2) := by decide +kernel
theorem dX1_repairLine_67 : decode cX1_repairLine 67 = .ok (.iload 7, 2) := by decide +kernel
theorem dX1_repairLine_69 : decode cX1_repairLine 69 = .ok (.iload_n 3, 1) := by decide +kernel
theorem dX1_repairLine_70 : decode cX1_repairLine 70 = .ok (.if_icmp .ge 20, 3) := by decide +kernel
theorem dX1_repairLine_73 : decode cX1_repairLine 73 = .ok (.aload_n 0, 1) := by decide +kernel
theorem dX1_repairLine_74 : decode cX1_repairLine 74 = .ok (.aload_n 0, 1) := by decide +kernel
theorem dX1_repairLine_75 : decode cX1_repairLine 75 = .ok (.getfield 26, 3) := by decide +kernel
theorem dX1_repairLine_78 : decode cX1_repairLine 78 = .ok (.iload 7, 2) := by decide +kernel
theorem dX1_repairLine_80 : decode cX1_repairLine 80 = .ok (.baload, 1) := by decide +kernel
theorem dX1_repairLine_81 : decode cX1_repairLine 81 = .ok (.invokevirtual 84, 3) := by decide +kernel
theorem dX1_repairLine_84 : decode cX1_repairLine 84 = .ok (.iinc 7 1, 3) := by decide +kernel
theorem dX1_repairLine_87 : decode cX1_repairLine 87 = .ok (.goto (-20), 3) := by decide +kernel
theorem dX1_repairLine_90 : decode cX1_repairLine 90 = .ok (.iload_n 3, 1) := by decide +kernel
theorem dX1_repairLine_91 : decode cX1_repairLine 91 = .ok (.istore 7, 2) := by decide +kernel
theorem dX1_repairLine_93 : decode cX1_repairLine 93 = .ok (.iload 7, 2) := by decide +kernel
theorem dX1_repairLine_95 : decode cX1_repairLine 95 = .ok (.iload 4, 2) := by decide +kernel
theorem dX1_repairLine_97 : decode cX1_repairLine 97 = .ok (.if_icmp .gt 35, 3) := by decide +kernel
theorem dX1_repairLine_100 : decode cX1_repairLine 100 = .ok (.iload 5, 2) := by decide +kernel
theorem dX1_repairLine_102 : decode cX1_repairLine 102 = .ok (.aload_n 0, 1) := by decide +kernel
theorem dX1_repairLine_103 : decode cX1_repairLine 103 = .ok (.getfield 26, 3) := by decide +kernel
theorem dX1_repairLine_106 : decode cX1_repairLine 106 = .ok (.iload 7, 2) := by decide +kernel
theorem dX1_repairLine_108 : decode cX1_repairLine 108 = .ok (.baload, 1) := by decide +kernel
theorem dX1_repairLine_109 : decode cX1_repairLine 109 = .ok (.ishr, 1) := by decide +kernel
theorem dX1_repairLine_110 : decode cX1_repairLine 110 = .ok (.iconst 1, 1) := by decide +kernel
theorem dX1_repairLine_111 : decode cX1_repairLine 111 = .ok (.iand, 1) := by decide +kernel
theorem dX1_repairLine_112 : decode cX1_repairLine 112 = .ok (.ifCond .ne 14, 3) := by decide +kernel
theorem dX1_repairLine_115 : decode cX1_repairLine 115 = .ok (.aload_n 0, 1) := by decide +kernel
theorem dX1_repairLine_116 : decode cX1_repairLine 116 = .ok (.aload_n 0, 1) := by decide +kernel
theorem dX1_repairLine_117 : decode cX1_repairLine 117 = .ok (.getfield 26, 3) := by decide +kernel
theorem dX1_repairLine_120 : decode cX1_repairLine 120 = .ok (.iload 7, 2) := by decide +kernel
theorem dX1_repairLine_122 : decode cX1_repairLine 122 = .ok (.baload, 1) := by decide +kernel
theorem dX1_repairLine_123 : decode cX1_repairLine 123 = .ok (.invokevirtual 84, 3) := by decide +kernel
theorem dX1_repairLine_126 : decode cX1_repairLine 126 = .ok (.iinc 7 1, 3) := by decide +kernel
theorem dX1_repairLine_129 : decode cX1_repairLine 129 = .ok (.goto (-36), 3) := by decide +kernel
theorem dX1_repairLine_132 : decode cX1_repairLine 132 = .ok (.iconst 0, 1) := by decide +kernel
theorem dX1_repairLine_133 : decode cX1_repairLine 133 = .ok (.istore 7, 2) := by decide +kernel
theorem dX1_repairLine_135 : decode cX1_repairLine 135 = .ok (.iload 6, 2) := by decide +kernel
theorem dX1_repairLine_137 : decode cX1_repairLine 137 = .ok (.ifCond .eq 27, 3) := by decide +kernel
theorem dX1_repairLine_140 : decode cX1_repairLine 140 = .ok (.aload_n 0, 1) := by decide +kernel
theorem dX1_repairLine_141 : decode cX1_repairLine 141 = .ok (.iload 6, 2) := by decide +kernel
theorem dX1_repairLine_143 : decode cX1_repairLine 143 = .ok (.invokevirtual 60, 3) := by decide +kernel
theorem dX1_repairLine_146 : decode cX1_repairLine 146 = .ok (.iconst 1, 1) := by decide +kernel
theorem dX1_repairLine_147 : decode cX1_repairLine 147 = .ok (.isub, 1) := by decide +kernel
theorem dX1_repairLine_148 : decode cX1_repairLine 148 = .ok (.istore 7, 2) := by decide +kernel
theorem dX1_repairLine_150 : decode cX1_repairLine 150 = .ok (.aload_n 0, 1) := by decide +kernel
theorem dX1_repairLine_151 : decode cX1_repairLine 151 = .ok (.iload 6, 2) := by decide +kernel
theorem dX1_repairLine_153 : decode cX1_repairLine 153 = .ok (.invokevirtual 88, 3) := by decide +kernel
theorem dX1_repairLine_156 : decode cX1_repairLine 156 = .ok (.istore 8, 2) := by decide +kernel
theorem dX1_repairLine_158 : decode cX1_repairLine 158 = .ok (.aload_n 0, 1) := by decide +kernel
theorem dX1_repairLine_159 : decode cX1_repairLine 159 = .ok (.iload 8, 2) := by decide +kernel
theorem dX1_repairLine_161 : decode cX1_repairLine 161 = .ok (.invokevirtual 84, 3) := by decide +kernel
theorem dX1_repairLine_164 : decode cX1_repairLine 164 = .ok (.iload_n 3, 1) := by decide +kernel
theorem dX1_repairLine_165 : decode cX1_repairLine 165 = .ok (.istore 8, 2) := by decide +kernel
theorem dX1_repairLine_167 : decode cX1_repairLine 167 = .ok (.iload 8, 2) := by decide +kernel
theorem dX1_repairLine_169 : decode cX1_repairLine 169 = .ok (.iload 4, 2) := by decide +kernel
theorem dX1_repairLine_171 : decode cX1_repairLine 171 = .ok (.if_icmp .gt 44, 3) := by decide +kernel
theorem dX1_repairLine_174 : decode cX1_repairLine 174 = .ok (.iload 5, 2) := by decide +kernel
theorem dX1_repairLine_176 : decode cX1_repairLine 176 = .ok (.iload 6, 2) := by decide +kernel
theorem dX1_repairLine_178 : decode cX1_repairLine 178 = .ok (.iconst (-1), 1) := by decide +kernel
theorem dX1_repairLine_179 : decode cX1_repairLine 179 = .ok (.ixor, 1) := by decide +kernel
theorem dX1_repairLine_180 : decode cX1_repairLine 180 = .ok (.iand, 1) := by decide +kernel
theorem dX1_repairLine_181 : decode cX1_repairLine 181 = .ok (.istore 9, 2) := by decide +kernel
theorem dX1_repairLine_183 : decode cX1_repairLine 183 = .ok (.iload 9, 2) := by decide +kernel
theorem dX1_repairLine_185 : decode cX1_repairLine 185 = .ok (.aload_n 0, 1) := by decide +kernel
theorem dX1_repairLine_186 : decode cX1_repairLine 186 = .ok (.getfield 26, 3) := by decide +kernel
theorem dX1_repairLine_189 : decode cX1_repairLine 189 = .ok (.iload 8, 2) := by decide +kernel
theorem dX1_repairLine_191 : decode cX1_repairLine 191 = .ok (.baload, 1) := by decide +kernel
theorem dX1_repairLine_192 : decode cX1_repairLine 192 = .ok (.ishr, 1) := by decide +kernel
theorem dX1_repairLine_193 : decode cX1_repairLine 193 = .ok (.iconst 1, 1) := by decide +kernel
theorem dX1_repairLine_194 : decode cX1_repairLine 194 = .ok (.iand, 1) := by decide +kernel
theorem dX1_repairLine_195 : decode cX1_repairLine 195 = .ok (.ifCond .eq 14, 3) := by decide +kernel
theorem dX1_repairLine_198 : decode cX1_repairLine 198 = .ok (.aload_n 0, 1) := by decide +kernel
theorem dX1_repairLine_199 : decode cX1_repairLine 199 = .ok (.aload_n 0, 1) := by decide +kernel
theorem dX1_repairLine_200 : decode cX1_repairLine 200 = .ok (.getfield 26, 3) := by decide +kernel
theorem dX1_repairLine_203 : decode cX1_repairLine 203 = .ok (.iload 8, 2) := by decide +kernel
theorem dX1_repairLine_205 : decode cX1_repairLine 205 = .ok (.baload, 1) := by decide +kernel
theorem dX1_repairLine_206 : decode cX1_repairLine 206 = .ok (.invokevirtual 84, 3) := by decide +kernel
theorem dX1_repairLine_209 : decode cX1_repairLine 209 = .ok (.iinc 8 1, 3) := by decide +kernel
theorem dX1_repairLine_212 : decode cX1_repairLine 212 = .ok (.goto (-45), 3) := by decide +kernel
theorem dX1_repairLine_215 : decode cX1_repairLine 215 = .ok (.iload 4, 2) := by decide +kernel
theorem dX1_repairLine_217 : decode cX1_repairLine 217 = .ok (.iconst 1, 1) := by decide +kernel
theorem dX1_repairLine_218 : decode cX1_repairLine 218 = .ok (.iadd, 1) := by decide +kernel
theorem dX1_repairLine_219 : decode cX1_repairLine 219 = .ok (.istore 8, 2) := by decide +kernel
theorem dX1_repairLine_221 : decode cX1_repairLine 221 = .ok (.iload 8, 2) := by decide +kernel
theorem dX1_repairLine_223 : decode cX1_repairLine 223 = .ok (.aload_n 0, 1) := by decide +kernel
theorem dX1_repairLine_224 : decode cX1_repairLine 224 = .ok (.getfield 42, 3) := by decide +kernel
theorem dX1_repairLine_227 : decode cX1_repairLine 227 = .ok (.if_icmp .ge 20, 3) := by decide +kernel
theorem dX1_repairLine_230 : decode cX1_repairLine 230 = .ok (.aload_n 0, 1) := by decide +kernel
theorem dX1_repairLine_231 : decode cX1_repairLine 231 = .ok (.aload_n 0, 1) := by decide +kernel
theorem dX1_repairLine_232 : decode cX1_repairLine 232 = .ok (.getfield 26, 3) := by decide +kernel
theorem dX1_repairLine_235 : decode cX1_repairLine 235 = .ok (.iload 8, 2) := by decide +kernel
theorem dX1_repairLine_237 : decode cX1_repairLine 237 = .ok (.baload, 1) := by decide +kernel
theorem dX1_repairLine_238 : decode cX1_repairLine 238 = .ok (.invokevirtual 84, 3) := by decide +kernel
theorem dX1_repairLine_241 : decode cX1_repairLine 241 = .ok (.iinc 8 1, 3) := by decide +kernel
theorem dX1_repairLine_244 : decode cX1_repairLine 244 = .ok (.goto (-23), 3) := by decide +kernel
theorem dX1_repairLine_247 : decode cX1_repairLine 247 = .ok (.aload_n 0, 1) := by decide +kernel
theorem dX1_repairLine_248 : decode cX1_repairLine 248 = .ok (.invokevirtual 91, 3) := by decide +kernel
theorem dX1_repairLine_251 : decode cX1_repairLine 251 = .ok (.iload 7, 2) := by decide +kernel
theorem dX1_repairLine_253 : decode cX1_repairLine 253 = .ok (.ireturn, 1) := by decide +kernel
abbrev cX1_forwardUpTo : ByteArray := prog_1_method_20_code
def yX1_forwardUpTo : MethodName := ⟨RX1, "forwardUpTo", "(II)I"⟩
theorem dX1_forwardUpTo_0 : decode cX1_forwardUpTo 0 = .ok (.iconst 1, 1) := by decide +kernel
theorem dX1_forwardUpTo_1 : decode cX1_forwardUpTo 1 = .ok (.iload_n 1, 1) := by decide +kernel
theorem dX1_forwardUpTo_2 : decode cX1_forwardUpTo 2 = .ok (.ishl, 1) := by decide +kernel
theorem dX1_forwardUpTo_3 : decode cX1_forwardUpTo 3 = .ok (.istore_n 3, 1) := by decide +kernel
theorem dX1_forwardUpTo_4 : decode cX1_forwardUpTo 4 = .ok (.aload_n 0, 1) := by decide +kernel
theorem dX1_forwardUpTo_5 : decode cX1_forwardUpTo 5 = .ok (.getfield 23, 3) := by decide +kernel
theorem dX1_forwardUpTo_8 : decode cX1_forwardUpTo 8 = .ok (.iload_n 1, 1) := by decide +kernel
theorem dX1_forwardUpTo_9 : decode cX1_forwardUpTo 9 = .ok (.baload, 1) := by decide +kernel
theorem dX1_forwardUpTo_10 : decode cX1_forwardUpTo 10 = .ok (.istore 4, 2) := by decide +kernel
theorem dX1_forwardUpTo_12 : decode cX1_forwardUpTo 12 = .ok (.iload 4, 2) := by decide +kernel
theorem dX1_forwardUpTo_14 : decode cX1_forwardUpTo 14 = .ok (.iload_n 2, 1) := by decide +kernel
theorem dX1_forwardUpTo_15 : decode cX1_forwardUpTo 15 = .ok (.if_icmp .gt 45, 3) := by decide +kernel
theorem dX1_forwardUpTo_18 : decode cX1_forwardUpTo 18 = .ok (.aload_n 0, 1) := by decide +kernel
theorem dX1_forwardUpTo_19 : decode cX1_forwardUpTo 19 = .ok (.getfield 26, 3) := by decide +kernel
theorem dX1_forwardUpTo_22 : decode cX1_forwardUpTo 22 = .ok (.iload 4, 2) := by decide +kernel
theorem dX1_forwardUpTo_24 : decode cX1_forwardUpTo 24 = .ok (.baload, 1) := by decide +kernel
theorem dX1_forwardUpTo_25 : decode cX1_forwardUpTo 25 = .ok (.istore 5, 2) := by decide +kernel
theorem dX1_forwardUpTo_27 : decode cX1_forwardUpTo 27 = .ok (.iload_n 3, 1) := by decide +kernel
theorem dX1_forwardUpTo_28 : decode cX1_forwardUpTo 28 = .ok (.iload 5, 2) := by decide +kernel
theorem dX1_forwardUpTo_30 : decode cX1_forwardUpTo 30 = .ok (.ishr, 1) := by decide +kernel
theorem dX1_forwardUpTo_31 : decode cX1_forwardUpTo 31 = .ok (.iconst 1, 1) := by decide +kernel
theorem dX1_forwardUpTo_32 : decode cX1_forwardUpTo 32 = .ok (.iand, 1) := by decide +kernel
theorem dX1_forwardUpTo_33 : decode cX1_forwardUpTo 33 = .ok (.ifCond .eq 21, 3) := by decide +kernel
theorem dX1_forwardUpTo_36 : decode cX1_forwardUpTo 36 = .ok (.iload_n 3, 1) := by decide +kernel
theorem dX1_forwardUpTo_37 : decode cX1_forwardUpTo 37 = .ok (.aload_n 0, 1) := by decide +kernel
theorem dX1_forwardUpTo_38 : decode cX1_forwardUpTo 38 = .ok (.aload_n 0, 1) := by decide +kernel
theorem dX1_forwardUpTo_39 : decode cX1_forwardUpTo 39 = .ok (.aload_n 0, 1) := by decide +kernel
theorem dX1_forwardUpTo_40 : decode cX1_forwardUpTo 40 = .ok (.getfield 20, 3) := by decide +kernel
theorem dX1_forwardUpTo_43 : decode cX1_forwardUpTo 43 = .ok (.iload 5, 2) := by decide +kernel
theorem dX1_forwardUpTo_45 : decode cX1_forwardUpTo 45 = .ok (.iaload, 1) := by decide +kernel
theorem dX1_forwardUpTo_46 : decode cX1_forwardUpTo 46 = .ok (.invokevirtual 69, 3) := by decide +kernel
theorem dX1_forwardUpTo_49 : decode cX1_forwardUpTo 49 = .ok (.invokevirtual 72, 3) := by decide +kernel
theorem dX1_forwardUpTo_52 : decode cX1_forwardUpTo 52 = .ok (.ior, 1) := by decide +kernel
theorem dX1_forwardUpTo_53 : decode cX1_forwardUpTo 53 = .ok (.istore_n 3, 1) := by decide +kernel
theorem dX1_forwardUpTo_54 : decode cX1_forwardUpTo 54 = .ok (.iinc 4 1, 3) := by decide +kernel
theorem dX1_forwardUpTo_57 : decode cX1_forwardUpTo 57 = .ok (.goto (-45), 3) := by decide +kernel
theorem dX1_forwardUpTo_60 : decode cX1_forwardUpTo 60 = .ok (.iload_n 3, 1) := by decide +kernel
theorem dX1_forwardUpTo_61 : decode cX1_forwardUpTo 61 = .ok (.ireturn, 1) := by decide +kernel
abbrev cX1_targetsOf : ByteArray := prog_1_method_15_code
def yX1_targetsOf : MethodName := ⟨RX1, "targetsOf", "(I)I"⟩
theorem dX1_targetsOf_0 : decode cX1_targetsOf 0 = .ok (.iconst 0, 1) := by decide +kernel
theorem dX1_targetsOf_1 : decode cX1_targetsOf 1 = .ok (.istore_n 2, 1) := by decide +kernel
theorem dX1_targetsOf_2 : decode cX1_targetsOf 2 = .ok (.iconst 0, 1) := by decide +kernel
theorem dX1_targetsOf_3 : decode cX1_targetsOf 3 = .ok (.istore_n 3, 1) := by decide +kernel
theorem dX1_targetsOf_4 : decode cX1_targetsOf 4 = .ok (.iload_n 3, 1) := by decide +kernel
theorem dX1_targetsOf_5 : decode cX1_targetsOf 5 = .ok (.aload_n 0, 1) := by decide +kernel
theorem dX1_targetsOf_6 : decode cX1_targetsOf 6 = .ok (.getfield 38, 3) := by decide +kernel
theorem dX1_targetsOf_9 : decode cX1_targetsOf 9 = .ok (.if_icmp .ge 26, 3) := by decide +kernel
theorem dX1_targetsOf_12 : decode cX1_targetsOf 12 = .ok (.iload_n 1, 1) := by decide +kernel
theorem dX1_targetsOf_13 : decode cX1_targetsOf 13 = .ok (.iload_n 3, 1) := by decide +kernel
theorem dX1_targetsOf_14 : decode cX1_targetsOf 14 = .ok (.ishr, 1) := by decide +kernel
theorem dX1_targetsOf_15 : decode cX1_targetsOf 15 = .ok (.iconst 1, 1) := by decide +kernel
theorem dX1_targetsOf_16 : decode cX1_targetsOf 16 = .ok (.iand, 1) := by decide +kernel
theorem dX1_targetsOf_17 : decode cX1_targetsOf 17 = .ok (.ifCond .eq 12, 3) := by decide +kernel
theorem dX1_targetsOf_20 : decode cX1_targetsOf 20 = .ok (.iload_n 2, 1) := by decide +kernel
theorem dX1_targetsOf_21 : decode cX1_targetsOf 21 = .ok (.aload_n 0, 1) := by decide +kernel
theorem dX1_targetsOf_22 : decode cX1_targetsOf 22 = .ok (.getfield 7, 3) := by decide +kernel
theorem dX1_targetsOf_25 : decode cX1_targetsOf 25 = .ok (.iload_n 3, 1) := by decide +kernel
theorem dX1_targetsOf_26 : decode cX1_targetsOf 26 = .ok (.iaload, 1) := by decide +kernel
theorem dX1_targetsOf_27 : decode cX1_targetsOf 27 = .ok (.ior, 1) := by decide +kernel
theorem dX1_targetsOf_28 : decode cX1_targetsOf 28 = .ok (.istore_n 2, 1) := by decide +kernel
theorem dX1_targetsOf_29 : decode cX1_targetsOf 29 = .ok (.iinc 3 1, 3) := by decide +kernel
theorem dX1_targetsOf_32 : decode cX1_targetsOf 32 = .ok (.goto (-28), 3) := by decide +kernel
theorem dX1_targetsOf_35 : decode cX1_targetsOf 35 = .ok (.iload_n 2, 1) := by decide +kernel
theorem dX1_targetsOf_36 : decode cX1_targetsOf 36 = .ok (.ireturn, 1) := by decide +kernel
abbrev cX1_leadersOf : ByteArray := prog_1_method_19_code
def yX1_leadersOf : MethodName := ⟨RX1, "leadersOf", "(I)I"⟩
theorem dX1_leadersOf_0 : decode cX1_leadersOf 0 = .ok (.iconst 0, 1) := by decide +kernel
theorem dX1_leadersOf_1 : decode cX1_leadersOf 1 = .ok (.istore_n 2, 1) := by decide +kernel
theorem dX1_leadersOf_2 : decode cX1_leadersOf 2 = .ok (.iconst 0, 1) := by decide +kernel
theorem dX1_leadersOf_3 : decode cX1_leadersOf 3 = .ok (.istore_n 3, 1) := by decide +kernel
theorem dX1_leadersOf_4 : decode cX1_leadersOf 4 = .ok (.iload_n 3, 1) := by decide +kernel
theorem dX1_leadersOf_5 : decode cX1_leadersOf 5 = .ok (.aload_n 0, 1) := by decide +kernel
theorem dX1_leadersOf_6 : decode cX1_leadersOf 6 = .ok (.getfield 38, 3) := by decide +kernel
theorem dX1_leadersOf_9 : decode cX1_leadersOf 9 = .ok (.if_icmp .ge 28, 3) := by decide +kernel
theorem dX1_leadersOf_12 : decode cX1_leadersOf 12 = .ok (.iload_n 1, 1) := by decide +kernel
theorem dX1_leadersOf_13 : decode cX1_leadersOf 13 = .ok (.iload_n 3, 1) := by decide +kernel
theorem dX1_leadersOf_14 : decode cX1_leadersOf 14 = .ok (.ishr, 1) := by decide +kernel
theorem dX1_leadersOf_15 : decode cX1_leadersOf 15 = .ok (.iconst 1, 1) := by decide +kernel
theorem dX1_leadersOf_16 : decode cX1_leadersOf 16 = .ok (.iand, 1) := by decide +kernel
theorem dX1_leadersOf_17 : decode cX1_leadersOf 17 = .ok (.ifCond .eq 14, 3) := by decide +kernel
theorem dX1_leadersOf_20 : decode cX1_leadersOf 20 = .ok (.iload_n 2, 1) := by decide +kernel
theorem dX1_leadersOf_21 : decode cX1_leadersOf 21 = .ok (.iconst 1, 1) := by decide +kernel
theorem dX1_leadersOf_22 : decode cX1_leadersOf 22 = .ok (.aload_n 0, 1) := by decide +kernel
theorem dX1_leadersOf_23 : decode cX1_leadersOf 23 = .ok (.getfield 16, 3) := by decide +kernel
theorem dX1_leadersOf_26 : decode cX1_leadersOf 26 = .ok (.iload_n 3, 1) := by decide +kernel
theorem dX1_leadersOf_27 : decode cX1_leadersOf 27 = .ok (.baload, 1) := by decide +kernel
theorem dX1_leadersOf_28 : decode cX1_leadersOf 28 = .ok (.ishl, 1) := by decide +kernel
theorem dX1_leadersOf_29 : decode cX1_leadersOf 29 = .ok (.ior, 1) := by decide +kernel
theorem dX1_leadersOf_30 : decode cX1_leadersOf 30 = .ok (.istore_n 2, 1) := by decide +kernel
theorem dX1_leadersOf_31 : decode cX1_leadersOf 31 = .ok (.iinc 3 1, 3) := by decide +kernel
theorem dX1_leadersOf_34 : decode cX1_leadersOf 34 = .ok (.goto (-30), 3) := by decide +kernel
theorem dX1_leadersOf_37 : decode cX1_leadersOf 37 = .ok (.iload_n 2, 1) := by decide +kernel
theorem dX1_leadersOf_38 : decode cX1_leadersOf 38 = .ok (.ireturn, 1) := by decide +kernel
end
section
set_option maxRecDepth 100000
abbrev cX1_backwardDownTo : ByteArray := prog_1_method_21_code
def yX1_backwardDownTo : MethodName := ⟨RX1, "backwardDownTo", "(II)I"⟩
theorem dX1_backwardDownTo_0 : decode cX1_backwardDownTo 0 = .ok (.iconst 1, 1) := by decide +kernel
theorem dX1_backwardDownTo_1 : decode cX1_backwardDownTo 1 = .ok (.iload_n 1, 1) := by decide +kernel
theorem dX1_backwardDownTo_2 : decode cX1_backwardDownTo 2 = .ok (.ishl, 1) := by decide +kernel
theorem dX1_backwardDownTo_3 : decode cX1_backwardDownTo 3 = .ok (.istore_n 3, 1) := by decide +kernel
theorem dX1_backwardDownTo_4 : decode cX1_backwardDownTo 4 = .ok (.aload_n 0, 1) := by decide +kernel
theorem dX1_backwardDownTo_5 : decode cX1_backwardDownTo 5 = .ok (.getfield 23, 3) := by decide +kernel
theorem dX1_backwardDownTo_8 : decode cX1_backwardDownTo 8 = .ok (.iload_n 1, 1) := by decide +kernel
theorem dX1_backwardDownTo_9 : decode cX1_backwardDownTo 9 = .ok (.baload, 1) := by decide +kernel
theorem dX1_backwardDownTo_10 : decode cX1_backwardDownTo 10 = .ok (.istore 4, 2) := by decide +kernel
theorem dX1_backwardDownTo_12 : decode cX1_backwardDownTo 12 = .ok (.iload 4, 2) := by decide +kernel
theorem dX1_backwardDownTo_14 : decode cX1_backwardDownTo 14 = .ok (.iload_n 2, 1) := by decide +kernel
theorem dX1_backwardDownTo_15 : decode cX1_backwardDownTo 15 = .ok (.if_icmp .lt 45, 3) := by decide +kernel
theorem dX1_backwardDownTo_18 : decode cX1_backwardDownTo 18 = .ok (.aload_n 0, 1) := by decide +kernel
theorem dX1_backwardDownTo_19 : decode cX1_backwardDownTo 19 = .ok (.getfield 26, 3) := by decide +kernel
theorem dX1_backwardDownTo_22 : decode cX1_backwardDownTo 22 = .ok (.iload 4, 2) := by decide +kernel
theorem dX1_backwardDownTo_24 : decode cX1_backwardDownTo 24 = .ok (.baload, 1) := by decide +kernel
theorem dX1_backwardDownTo_25 : decode cX1_backwardDownTo 25 = .ok (.istore 5, 2) := by decide +kernel
theorem dX1_backwardDownTo_27 : decode cX1_backwardDownTo 27 = .ok (.iload_n 3, 1) := by decide +kernel
theorem dX1_backwardDownTo_28 : decode cX1_backwardDownTo 28 = .ok (.iload 5, 2) := by decide +kernel
theorem dX1_backwardDownTo_30 : decode cX1_backwardDownTo 30 = .ok (.ishr, 1) := by decide +kernel
theorem dX1_backwardDownTo_31 : decode cX1_backwardDownTo 31 = .ok (.iconst 1, 1) := by decide +kernel
theorem dX1_backwardDownTo_32 : decode cX1_backwardDownTo 32 = .ok (.iand, 1) := by decide +kernel
theorem dX1_backwardDownTo_33 : decode cX1_backwardDownTo 33 = .ok (.ifCond .eq 21, 3) := by decide +kernel
theorem dX1_backwardDownTo_36 : decode cX1_backwardDownTo 36 = .ok (.iload_n 3, 1) := by decide +kernel
theorem dX1_backwardDownTo_37 : decode cX1_backwardDownTo 37 = .ok (.aload_n 0, 1) := by decide +kernel
theorem dX1_backwardDownTo_38 : decode cX1_backwardDownTo 38 = .ok (.aload_n 0, 1) := by decide +kernel
theorem dX1_backwardDownTo_39 : decode cX1_backwardDownTo 39 = .ok (.aload_n 0, 1) := by decide +kernel
theorem dX1_backwardDownTo_40 : decode cX1_backwardDownTo 40 = .ok (.getfield 20, 3) := by decide +kernel
theorem dX1_backwardDownTo_43 : decode cX1_backwardDownTo 43 = .ok (.iload 5, 2) := by decide +kernel
theorem dX1_backwardDownTo_45 : decode cX1_backwardDownTo 45 = .ok (.iaload, 1) := by decide +kernel
theorem dX1_backwardDownTo_46 : decode cX1_backwardDownTo 46 = .ok (.invokevirtual 66, 3) := by decide +kernel
theorem dX1_backwardDownTo_49 : decode cX1_backwardDownTo 49 = .ok (.invokevirtual 72, 3) := by decide +kernel
theorem dX1_backwardDownTo_52 : decode cX1_backwardDownTo 52 = .ok (.ior, 1) := by decide +kernel
theorem dX1_backwardDownTo_53 : decode cX1_backwardDownTo 53 = .ok (.istore_n 3, 1) := by decide +kernel
theorem dX1_backwardDownTo_54 : decode cX1_backwardDownTo 54 = .ok (.iinc 4 (-1), 3) := by decide +kernel
theorem dX1_backwardDownTo_57 : decode cX1_backwardDownTo 57 = .ok (.goto (-45), 3) := by decide +kernel
theorem dX1_backwardDownTo_60 : decode cX1_backwardDownTo 60 = .ok (.iload_n 3, 1) := by decide +kernel
theorem dX1_backwardDownTo_61 : decode cX1_backwardDownTo 61 = .ok (.ireturn, 1) := by decide +kernel
abbrev cX1_sourcesOf : ByteArray := prog_1_method_16_code
def yX1_sourcesOf : MethodName := ⟨RX1, "sourcesOf", "(I)I"⟩
theorem dX1_sourcesOf_0 : decode cX1_sourcesOf 0 = .ok (.iconst 0, 1) := by decide +kernel
theorem dX1_sourcesOf_1 : decode cX1_sourcesOf 1 = .ok (.istore_n 2, 1) := by decide +kernel
theorem dX1_sourcesOf_2 : decode cX1_sourcesOf 2 = .ok (.iconst 0, 1) := by decide +kernel
theorem dX1_sourcesOf_3 : decode cX1_sourcesOf 3 = .ok (.istore_n 3, 1) := by decide +kernel
theorem dX1_sourcesOf_4 : decode cX1_sourcesOf 4 = .ok (.iload_n 3, 1) := by decide +kernel
theorem dX1_sourcesOf_5 : decode cX1_sourcesOf 5 = .ok (.aload_n 0, 1) := by decide +kernel
theorem dX1_sourcesOf_6 : decode cX1_sourcesOf 6 = .ok (.getfield 38, 3) := by decide +kernel
theorem dX1_sourcesOf_9 : decode cX1_sourcesOf 9 = .ok (.if_icmp .ge 26, 3) := by decide +kernel
theorem dX1_sourcesOf_12 : decode cX1_sourcesOf 12 = .ok (.iload_n 1, 1) := by decide +kernel
theorem dX1_sourcesOf_13 : decode cX1_sourcesOf 13 = .ok (.iload_n 3, 1) := by decide +kernel
theorem dX1_sourcesOf_14 : decode cX1_sourcesOf 14 = .ok (.ishr, 1) := by decide +kernel
theorem dX1_sourcesOf_15 : decode cX1_sourcesOf 15 = .ok (.iconst 1, 1) := by decide +kernel
theorem dX1_sourcesOf_16 : decode cX1_sourcesOf 16 = .ok (.iand, 1) := by decide +kernel
theorem dX1_sourcesOf_17 : decode cX1_sourcesOf 17 = .ok (.ifCond .eq 12, 3) := by decide +kernel
theorem dX1_sourcesOf_20 : decode cX1_sourcesOf 20 = .ok (.iload_n 2, 1) := by decide +kernel
theorem dX1_sourcesOf_21 : decode cX1_sourcesOf 21 = .ok (.aload_n 0, 1) := by decide +kernel
theorem dX1_sourcesOf_22 : decode cX1_sourcesOf 22 = .ok (.getfield 13, 3) := by decide +kernel
theorem dX1_sourcesOf_25 : decode cX1_sourcesOf 25 = .ok (.iload_n 3, 1) := by decide +kernel
theorem dX1_sourcesOf_26 : decode cX1_sourcesOf 26 = .ok (.iaload, 1) := by decide +kernel
theorem dX1_sourcesOf_27 : decode cX1_sourcesOf 27 = .ok (.ior, 1) := by decide +kernel
theorem dX1_sourcesOf_28 : decode cX1_sourcesOf 28 = .ok (.istore_n 2, 1) := by decide +kernel
theorem dX1_sourcesOf_29 : decode cX1_sourcesOf 29 = .ok (.iinc 3 1, 3) := by decide +kernel
theorem dX1_sourcesOf_32 : decode cX1_sourcesOf 32 = .ok (.goto (-28), 3) := by decide +kernel
theorem dX1_sourcesOf_35 : decode cX1_sourcesOf 35 = .ok (.iload_n 2, 1) := by decide +kernel
theorem dX1_sourcesOf_36 : decode cX1_sourcesOf 36 = .ok (.ireturn, 1) := by decide +kernel
abbrev cX1_leadersBetween : ByteArray := prog_1_method_23_code
def yX1_leadersBetween : MethodName := ⟨RX1, "leadersBetween", "(II)I"⟩
theorem dX1_leadersBetween_0 : decode cX1_leadersBetween 0 = .ok (.iconst 0, 1) := by decide +kernel
theorem dX1_leadersBetween_1 : decode cX1_leadersBetween 1 = .ok (.istore_n 3, 1) := by decide +kernel
theorem dX1_leadersBetween_2 : decode cX1_leadersBetween 2 = .ok (.iload_n 1, 1) := by decide +kernel
theorem dX1_leadersBetween_3 : decode cX1_leadersBetween 3 = .ok (.istore 4, 2) := by decide +kernel
theorem dX1_leadersBetween_5 : decode cX1_leadersBetween 5 = .ok (.iload 4, 2) := by decide +kernel
theorem dX1_leadersBetween_7 : decode cX1_leadersBetween 7 = .ok (.iload_n 2, 1) := by decide +kernel
theorem dX1_leadersBetween_8 : decode cX1_leadersBetween 8 = .ok (.if_icmp .gt 21, 3) := by decide +kernel
theorem dX1_leadersBetween_11 : decode cX1_leadersBetween 11 = .ok (.iload_n 3, 1) := by decide +kernel
theorem dX1_leadersBetween_12 : decode cX1_leadersBetween 12 = .ok (.iconst 1, 1) := by decide +kernel
theorem dX1_leadersBetween_13 : decode cX1_leadersBetween 13 = .ok (.aload_n 0, 1) := by decide +kernel
theorem dX1_leadersBetween_14 : decode cX1_leadersBetween 14 = .ok (.getfield 26, 3) := by decide +kernel
theorem dX1_leadersBetween_17 : decode cX1_leadersBetween 17 = .ok (.iload 4, 2) := by decide +kernel
theorem dX1_leadersBetween_19 : decode cX1_leadersBetween 19 = .ok (.baload, 1) := by decide +kernel
theorem dX1_leadersBetween_20 : decode cX1_leadersBetween 20 = .ok (.ishl, 1) := by decide +kernel
theorem dX1_leadersBetween_21 : decode cX1_leadersBetween 21 = .ok (.ior, 1) := by decide +kernel
theorem dX1_leadersBetween_22 : decode cX1_leadersBetween 22 = .ok (.istore_n 3, 1) := by decide +kernel
theorem dX1_leadersBetween_23 : decode cX1_leadersBetween 23 = .ok (.iinc 4 1, 3) := by decide +kernel
theorem dX1_leadersBetween_26 : decode cX1_leadersBetween 26 = .ok (.goto (-21), 3) := by decide +kernel
theorem dX1_leadersBetween_29 : decode cX1_leadersBetween 29 = .ok (.iload_n 3, 1) := by decide +kernel
theorem dX1_leadersBetween_30 : decode cX1_leadersBetween 30 = .ok (.ireturn, 1) := by decide +kernel
abbrev cX1_append : ByteArray := prog_1_method_26_code
def yX1_append : MethodName := ⟨RX1, "append", "(I)V"⟩
theorem dX1_append_0 : decode cX1_append 0 = .ok (.aload_n 0, 1) := by decide +kernel
theorem dX1_append_1 : decode cX1_append 1 = .ok (.getfield 29, 3) := by decide +kernel
theorem dX1_append_4 : decode cX1_append 4 = .ok (.aload_n 0, 1) := by decide +kernel
theorem dX1_append_5 : decode cX1_append 5 = .ok (.getfield 81, 3) := by decide +kernel
theorem dX1_append_8 : decode cX1_append 8 = .ok (.iload_n 1, 1) := by decide +kernel
theorem dX1_append_9 : decode cX1_append 9 = .ok (.i2b, 1) := by decide +kernel
theorem dX1_append_10 : decode cX1_append 10 = .ok (.bastore, 1) := by decide +kernel
theorem dX1_append_11 : decode cX1_append 11 = .ok (.aload_n 0, 1) := by decide +kernel
theorem dX1_append_12 : decode cX1_append 12 = .ok (.dup, 1) := by decide +kernel
theorem dX1_append_13 : decode cX1_append 13 = .ok (.getfield 81, 3) := by decide +kernel
theorem dX1_append_16 : decode cX1_append 16 = .ok (.iconst 1, 1) := by decide +kernel
theorem dX1_append_17 : decode cX1_append 17 = .ok (.iadd, 1) := by decide +kernel
theorem dX1_append_18 : decode cX1_append 18 = .ok (.putfield 81, 3) := by decide +kernel
theorem dX1_append_21 : decode cX1_append 21 = .ok (.return_, 1) := by decide +kernel
abbrev cX1_bitsIn : ByteArray := prog_1_method_13_code
def yX1_bitsIn : MethodName := ⟨RX1, "bitsIn", "(I)I"⟩
theorem dX1_bitsIn_0 : decode cX1_bitsIn 0 = .ok (.iconst 0, 1) := by decide +kernel
theorem dX1_bitsIn_1 : decode cX1_bitsIn 1 = .ok (.istore_n 2, 1) := by decide +kernel
theorem dX1_bitsIn_2 : decode cX1_bitsIn 2 = .ok (.iconst 0, 1) := by decide +kernel
theorem dX1_bitsIn_3 : decode cX1_bitsIn 3 = .ok (.istore_n 3, 1) := by decide +kernel
theorem dX1_bitsIn_4 : decode cX1_bitsIn 4 = .ok (.iload_n 3, 1) := by decide +kernel
theorem dX1_bitsIn_5 : decode cX1_bitsIn 5 = .ok (.bipush 16, 2) := by decide +kernel
theorem dX1_bitsIn_7 : decode cX1_bitsIn 7 = .ok (.if_icmp .ge 17, 3) := by decide +kernel
theorem dX1_bitsIn_10 : decode cX1_bitsIn 10 = .ok (.iload_n 2, 1) := by decide +kernel
theorem dX1_bitsIn_11 : decode cX1_bitsIn 11 = .ok (.iload_n 1, 1) := by decide +kernel
theorem dX1_bitsIn_12 : decode cX1_bitsIn 12 = .ok (.iload_n 3, 1) := by decide +kernel
theorem dX1_bitsIn_13 : decode cX1_bitsIn 13 = .ok (.ishr, 1) := by decide +kernel
theorem dX1_bitsIn_14 : decode cX1_bitsIn 14 = .ok (.iconst 1, 1) := by decide +kernel
theorem dX1_bitsIn_15 : decode cX1_bitsIn 15 = .ok (.iand, 1) := by decide +kernel
theorem dX1_bitsIn_16 : decode cX1_bitsIn 16 = .ok (.iadd, 1) := by decide +kernel
theorem dX1_bitsIn_17 : decode cX1_bitsIn 17 = .ok (.istore_n 2, 1) := by decide +kernel
theorem dX1_bitsIn_18 : decode cX1_bitsIn 18 = .ok (.iinc 3 1, 3) := by decide +kernel
theorem dX1_bitsIn_21 : decode cX1_bitsIn 21 = .ok (.goto (-17), 3) := by decide +kernel
theorem dX1_bitsIn_24 : decode cX1_bitsIn 24 = .ok (.iload_n 2, 1) := by decide +kernel
theorem dX1_bitsIn_25 : decode cX1_bitsIn 25 = .ok (.ireturn, 1) := by decide +kernel
abbrev cX1_melt : ByteArray := prog_1_method_24_code
def yX1_melt : MethodName := ⟨RX1, "melt", "(I)I"⟩
theorem dX1_melt_0 : decode cX1_melt 0 = .ok (.iconst 0, 1) := by decide +kernel
theorem dX1_melt_1 : decode cX1_melt 1 = .ok (.istore_n 2, 1) := by decide +kernel
theorem dX1_melt_2 : decode cX1_melt 2 = .ok (.iconst 0, 1) := by decide +kernel
theorem dX1_melt_3 : decode cX1_melt 3 = .ok (.istore_n 3, 1) := by decide +kernel
theorem dX1_melt_4 : decode cX1_melt 4 = .ok (.iload_n 3, 1) := by decide +kernel
theorem dX1_melt_5 : decode cX1_melt 5 = .ok (.aload_n 0, 1) := by decide +kernel
theorem dX1_melt_6 : decode cX1_melt 6 = .ok (.getfield 38, 3) := by decide +kernel
theorem dX1_melt_9 : decode cX1_melt 9 = .ok (.if_icmp .ge 36, 3) := by decide +kernel
theorem dX1_melt_12 : decode cX1_melt 12 = .ok (.iload_n 1, 1) := by decide +kernel
theorem dX1_melt_13 : decode cX1_melt 13 = .ok (.iload_n 3, 1) := by decide +kernel
theorem dX1_melt_14 : decode cX1_melt 14 = .ok (.ishr, 1) := by decide +kernel
theorem dX1_melt_15 : decode cX1_melt 15 = .ok (.iconst 1, 1) := by decide +kernel
theorem dX1_melt_16 : decode cX1_melt 16 = .ok (.iand, 1) := by decide +kernel
theorem dX1_melt_17 : decode cX1_melt 17 = .ok (.ifCond .ne 6, 3) := by decide +kernel
theorem dX1_melt_20 : decode cX1_melt 20 = .ok (.goto 19, 3) := by decide +kernel
theorem dX1_melt_23 : decode cX1_melt 23 = .ok (.iload_n 2, 1) := by decide +kernel
theorem dX1_melt_24 : decode cX1_melt 24 = .ok (.aload_n 0, 1) := by decide +kernel
theorem dX1_melt_25 : decode cX1_melt 25 = .ok (.getfield 20, 3) := by decide +kernel
theorem dX1_melt_28 : decode cX1_melt 28 = .ok (.iload_n 3, 1) := by decide +kernel
theorem dX1_melt_29 : decode cX1_melt 29 = .ok (.iaload, 1) := by decide +kernel
theorem dX1_melt_30 : decode cX1_melt 30 = .ok (.ior, 1) := by decide +kernel
theorem dX1_melt_31 : decode cX1_melt 31 = .ok (.istore_n 2, 1) := by decide +kernel
theorem dX1_melt_32 : decode cX1_melt 32 = .ok (.aload_n 0, 1) := by decide +kernel
theorem dX1_melt_33 : decode cX1_melt 33 = .ok (.getfield 20, 3) := by decide +kernel
theorem dX1_melt_36 : decode cX1_melt 36 = .ok (.iload_n 3, 1) := by decide +kernel
theorem dX1_melt_37 : decode cX1_melt 37 = .ok (.iconst 0, 1) := by decide +kernel
theorem dX1_melt_38 : decode cX1_melt 38 = .ok (.iastore, 1) := by decide +kernel
theorem dX1_melt_39 : decode cX1_melt 39 = .ok (.iinc 3 1, 3) := by decide +kernel
theorem dX1_melt_42 : decode cX1_melt 42 = .ok (.goto (-38), 3) := by decide +kernel
theorem dX1_melt_45 : decode cX1_melt 45 = .ok (.aload_n 0, 1) := by decide +kernel
theorem dX1_melt_46 : decode cX1_melt 46 = .ok (.iload_n 2, 1) := by decide +kernel
theorem dX1_melt_47 : decode cX1_melt 47 = .ok (.invokevirtual 94, 3) := by decide +kernel
theorem dX1_melt_50 : decode cX1_melt 50 = .ok (.ireturn, 1) := by decide +kernel
abbrev cX1_claim : ByteArray := prog_1_method_25_code
def yX1_claim : MethodName := ⟨RX1, "claim", "(I)I"⟩
theorem dX1_claim_0 : decode cX1_claim 0 = .ok (.aload_n 0, 1) := by decide +kernel
theorem dX1_claim_1 : decode cX1_claim 1 = .ok (.iload_n 1, 1) := by decide +kernel
theorem dX1_claim_2 : decode cX1_claim 2 = .ok (.invokevirtual 97, 3) := by decide +kernel
theorem dX1_claim_5 : decode cX1_claim 5 = .ok (.istore_n 2, 1) := by decide +kernel
theorem dX1_claim_6 : decode cX1_claim 6 = .ok (.aload_n 0, 1) := by decide +kernel
theorem dX1_claim_7 : decode cX1_claim 7 = .ok (.getfield 20, 3) := by decide +kernel
theorem dX1_claim_10 : decode cX1_claim 10 = .ok (.iload_n 2, 1) := by decide +kernel
theorem dX1_claim_11 : decode cX1_claim 11 = .ok (.iload_n 1, 1) := by decide +kernel
theorem dX1_claim_12 : decode cX1_claim 12 = .ok (.iastore, 1) := by decide +kernel
theorem dX1_claim_13 : decode cX1_claim 13 = .ok (.iconst 0, 1) := by decide +kernel
theorem dX1_claim_14 : decode cX1_claim 14 = .ok (.istore_n 3, 1) := by decide +kernel
theorem dX1_claim_15 : decode cX1_claim 15 = .ok (.iload_n 3, 1) := by decide +kernel
theorem dX1_claim_16 : decode cX1_claim 16 = .ok (.aload_n 0, 1) := by decide +kernel
theorem dX1_claim_17 : decode cX1_claim 17 = .ok (.getfield 38, 3) := by decide +kernel
theorem dX1_claim_20 : decode cX1_claim 20 = .ok (.if_icmp .ge 25, 3) := by decide +kernel
theorem dX1_claim_23 : decode cX1_claim 23 = .ok (.iload_n 1, 1) := by decide +kernel
theorem dX1_claim_24 : decode cX1_claim 24 = .ok (.iload_n 3, 1) := by decide +kernel
theorem dX1_claim_25 : decode cX1_claim 25 = .ok (.ishr, 1) := by decide +kernel
theorem dX1_claim_26 : decode cX1_claim 26 = .ok (.iconst 1, 1) := by decide +kernel
theorem dX1_claim_27 : decode cX1_claim 27 = .ok (.iand, 1) := by decide +kernel
theorem dX1_claim_28 : decode cX1_claim 28 = .ok (.ifCond .eq 11, 3) := by decide +kernel
theorem dX1_claim_31 : decode cX1_claim 31 = .ok (.aload_n 0, 1) := by decide +kernel
theorem dX1_claim_32 : decode cX1_claim 32 = .ok (.getfield 16, 3) := by decide +kernel
theorem dX1_claim_35 : decode cX1_claim 35 = .ok (.iload_n 3, 1) := by decide +kernel
theorem dX1_claim_36 : decode cX1_claim 36 = .ok (.iload_n 2, 1) := by decide +kernel
theorem dX1_claim_37 : decode cX1_claim 37 = .ok (.i2b, 1) := by decide +kernel
theorem dX1_claim_38 : decode cX1_claim 38 = .ok (.bastore, 1) := by decide +kernel
theorem dX1_claim_39 : decode cX1_claim 39 = .ok (.iinc 3 1, 3) := by decide +kernel
theorem dX1_claim_42 : decode cX1_claim 42 = .ok (.goto (-27), 3) := by decide +kernel
theorem dX1_claim_45 : decode cX1_claim 45 = .ok (.iload_n 2, 1) := by decide +kernel
theorem dX1_claim_46 : decode cX1_claim 46 = .ok (.ireturn, 1) := by decide +kernel
abbrev cX1_lowest : ByteArray := prog_1_method_14_code
def yX1_lowest : MethodName := ⟨RX1, "lowest", "(I)I"⟩
theorem dX1_lowest_0 : decode cX1_lowest 0 = .ok (.iconst 0, 1) := by decide +kernel
theorem dX1_lowest_1 : decode cX1_lowest 1 = .ok (.istore_n 2, 1) := by decide +kernel
theorem dX1_lowest_2 : decode cX1_lowest 2 = .ok (.iload_n 2, 1) := by decide +kernel
theorem dX1_lowest_3 : decode cX1_lowest 3 = .ok (.bipush 15, 2) := by decide +kernel
theorem dX1_lowest_5 : decode cX1_lowest 5 = .ok (.if_icmp .ge 17, 3) := by decide +kernel
theorem dX1_lowest_8 : decode cX1_lowest 8 = .ok (.iload_n 1, 1) := by decide +kernel
theorem dX1_lowest_9 : decode cX1_lowest 9 = .ok (.iload_n 2, 1) := by decide +kernel
theorem dX1_lowest_10 : decode cX1_lowest 10 = .ok (.ishr, 1) := by decide +kernel
theorem dX1_lowest_11 : decode cX1_lowest 11 = .ok (.iconst 1, 1) := by decide +kernel
theorem dX1_lowest_12 : decode cX1_lowest 12 = .ok (.iand, 1) := by decide +kernel
theorem dX1_lowest_13 : decode cX1_lowest 13 = .ok (.ifCond .ne 9, 3) := by decide +kernel
theorem dX1_lowest_16 : decode cX1_lowest 16 = .ok (.iinc 2 1, 3) := by decide +kernel
theorem dX1_lowest_19 : decode cX1_lowest 19 = .ok (.goto (-17), 3) := by decide +kernel
theorem dX1_lowest_22 : decode cX1_lowest 22 = .ok (.iload_n 2, 1) := by decide +kernel
theorem dX1_lowest_23 : decode cX1_lowest 23 = .ok (.ireturn, 1) := by decide +kernel
abbrev cX1_adoptLine : ByteArray := prog_1_method_27_code
def yX1_adoptLine : MethodName := ⟨RX1, "adoptLine", "()V"⟩
theorem dX1_adoptLine_0 : decode cX1_adoptLine 0 = .ok (.aload_n 0, 1) := by decide +kernel
theorem dX1_adoptLine_1 : decode cX1_adoptLine 1 = .ok (.aload_n 0, 1) := by decide +kernel
theorem dX1_adoptLine_2 : decode cX1_adoptLine 2 = .ok (.getfield 81, 3) := by decide +kernel
theorem dX1_adoptLine_5 : decode cX1_adoptLine 5 = .ok (.putfield 42, 3) := by decide +kernel
theorem dX1_adoptLine_8 : decode cX1_adoptLine 8 = .ok (.iconst 0, 1) := by decide +kernel
theorem dX1_adoptLine_9 : decode cX1_adoptLine 9 = .ok (.istore_n 1, 1) := by decide +kernel
theorem dX1_adoptLine_10 : decode cX1_adoptLine 10 = .ok (.iload_n 1, 1) := by decide +kernel
theorem dX1_adoptLine_11 : decode cX1_adoptLine 11 = .ok (.aload_n 0, 1) := by decide +kernel
theorem dX1_adoptLine_12 : decode cX1_adoptLine 12 = .ok (.getfield 42, 3) := by decide +kernel
theorem dX1_adoptLine_15 : decode cX1_adoptLine 15 = .ok (.if_icmp .ge 34, 3) := by decide +kernel
theorem dX1_adoptLine_18 : decode cX1_adoptLine 18 = .ok (.aload_n 0, 1) := by decide +kernel
theorem dX1_adoptLine_19 : decode cX1_adoptLine 19 = .ok (.getfield 26, 3) := by decide +kernel
theorem dX1_adoptLine_22 : decode cX1_adoptLine 22 = .ok (.iload_n 1, 1) := by decide +kernel
theorem dX1_adoptLine_23 : decode cX1_adoptLine 23 = .ok (.aload_n 0, 1) := by decide +kernel
theorem dX1_adoptLine_24 : decode cX1_adoptLine 24 = .ok (.getfield 29, 3) := by decide +kernel
theorem dX1_adoptLine_27 : decode cX1_adoptLine 27 = .ok (.iload_n 1, 1) := by decide +kernel
theorem dX1_adoptLine_28 : decode cX1_adoptLine 28 = .ok (.baload, 1) := by decide +kernel
theorem dX1_adoptLine_29 : decode cX1_adoptLine 29 = .ok (.bastore, 1) := by decide +kernel
theorem dX1_adoptLine_30 : decode cX1_adoptLine 30 = .ok (.aload_n 0, 1) := by decide +kernel
theorem dX1_adoptLine_31 : decode cX1_adoptLine 31 = .ok (.getfield 23, 3) := by decide +kernel
theorem dX1_adoptLine_34 : decode cX1_adoptLine 34 = .ok (.aload_n 0, 1) := by decide +kernel
theorem dX1_adoptLine_35 : decode cX1_adoptLine 35 = .ok (.getfield 26, 3) := by decide +kernel
theorem dX1_adoptLine_38 : decode cX1_adoptLine 38 = .ok (.iload_n 1, 1) := by decide +kernel
theorem dX1_adoptLine_39 : decode cX1_adoptLine 39 = .ok (.baload, 1) := by decide +kernel
theorem dX1_adoptLine_40 : decode cX1_adoptLine 40 = .ok (.iload_n 1, 1) := by decide +kernel
theorem dX1_adoptLine_41 : decode cX1_adoptLine 41 = .ok (.i2b, 1) := by decide +kernel
theorem dX1_adoptLine_42 : decode cX1_adoptLine 42 = .ok (.bastore, 1) := by decide +kernel
theorem dX1_adoptLine_43 : decode cX1_adoptLine 43 = .ok (.iinc 1 1, 3) := by decide +kernel
theorem dX1_adoptLine_46 : decode cX1_adoptLine 46 = .ok (.goto (-36), 3) := by decide +kernel
theorem dX1_adoptLine_49 : decode cX1_adoptLine 49 = .ok (.return_, 1) := by decide +kernel
abbrev cX1_removeEdge : ByteArray := prog_1_method_3_code
def yX1_removeEdge : MethodName := ⟨RX1, "removeEdge", "(II)I"⟩
theorem dX1_removeEdge_0 : decode cX1_removeEdge 0 = .ok (.aload_n 0, 1) := by decide +kernel
theorem dX1_removeEdge_1 : decode cX1_removeEdge 1 = .ok (.iload_n 1, 1) := by decide +kernel
theorem dX1_removeEdge_2 : decode cX1_removeEdge 2 = .ok (.invokevirtual 45, 3) := by decide +kernel
theorem dX1_removeEdge_5 : decode cX1_removeEdge 5 = .ok (.ifCond .eq 16, 3) := by decide +kernel
theorem dX1_removeEdge_8 : decode cX1_removeEdge 8 = .ok (.aload_n 0, 1) := by decide +kernel
theorem dX1_removeEdge_9 : decode cX1_removeEdge 9 = .ok (.iload_n 2, 1) := by decide +kernel
theorem dX1_removeEdge_10 : decode cX1_removeEdge 10 = .ok (.invokevirtual 45, 3) := by decide +kernel
theorem dX1_removeEdge_13 : decode cX1_removeEdge 13 = .ok (.ifCond .eq 8, 3) := by decide +kernel
theorem dX1_removeEdge_16 : decode cX1_removeEdge 16 = .ok (.iload_n 1, 1) := by decide +kernel
theorem dX1_removeEdge_17 : decode cX1_removeEdge 17 = .ok (.iload_n 2, 1) := by decide +kernel
theorem dX1_removeEdge_18 : decode cX1_removeEdge 18 = .ok (.if_icmp .ne 5, 3) := by decide +kernel
theorem dX1_removeEdge_21 : decode cX1_removeEdge 21 = .ok (.iconst (-1), 1) := by decide +kernel
theorem dX1_removeEdge_22 : decode cX1_removeEdge 22 = .ok (.ireturn, 1) := by decide +kernel
theorem dX1_removeEdge_23 : decode cX1_removeEdge 23 = .ok (.aload_n 0, 1) := by decide +kernel
theorem dX1_removeEdge_24 : decode cX1_removeEdge 24 = .ok (.getfield 7, 3) := by decide +kernel
theorem dX1_removeEdge_27 : decode cX1_removeEdge 27 = .ok (.iload_n 1, 1) := by decide +kernel
theorem dX1_removeEdge_28 : decode cX1_removeEdge 28 = .ok (.iaload, 1) := by decide +kernel
theorem dX1_removeEdge_29 : decode cX1_removeEdge 29 = .ok (.iload_n 2, 1) := by decide +kernel
theorem dX1_removeEdge_30 : decode cX1_removeEdge 30 = .ok (.ishr, 1) := by decide +kernel
theorem dX1_removeEdge_31 : decode cX1_removeEdge 31 = .ok (.iconst 1, 1) := by decide +kernel
theorem dX1_removeEdge_32 : decode cX1_removeEdge 32 = .ok (.iand, 1) := by decide +kernel
theorem dX1_removeEdge_33 : decode cX1_removeEdge 33 = .ok (.ifCond .ne 6, 3) := by decide +kernel
theorem dX1_removeEdge_36 : decode cX1_removeEdge 36 = .ok (.bipush (-2), 2) := by decide +kernel
theorem dX1_removeEdge_38 : decode cX1_removeEdge 38 = .ok (.ireturn, 1) := by decide +kernel
theorem dX1_removeEdge_39 : decode cX1_removeEdge 39 = .ok (.aload_n 0, 1) := by decide +kernel
theorem dX1_removeEdge_40 : decode cX1_removeEdge 40 = .ok (.getfield 7, 3) := by decide +kernel
theorem dX1_removeEdge_43 : decode cX1_removeEdge 43 = .ok (.iload_n 1, 1) := by decide +kernel
theorem dX1_removeEdge_44 : decode cX1_removeEdge 44 = .ok (.dup2, 1) := by decide +kernel
theorem dX1_removeEdge_45 : decode cX1_removeEdge 45 = .ok (.iaload, 1) := by decide +kernel
theorem dX1_removeEdge_46 : decode cX1_removeEdge 46 = .ok (.iconst 1, 1) := by decide +kernel
theorem dX1_removeEdge_47 : decode cX1_removeEdge 47 = .ok (.iload_n 2, 1) := by decide +kernel
theorem dX1_removeEdge_48 : decode cX1_removeEdge 48 = .ok (.ishl, 1) := by decide +kernel
theorem dX1_removeEdge_49 : decode cX1_removeEdge 49 = .ok (.iconst (-1), 1) := by decide +kernel
theorem dX1_removeEdge_50 : decode cX1_removeEdge 50 = .ok (.ixor, 1) := by decide +kernel
theorem dX1_removeEdge_51 : decode cX1_removeEdge 51 = .ok (.iand, 1) := by decide +kernel
theorem dX1_removeEdge_52 : decode cX1_removeEdge 52 = .ok (.iastore, 1) := by decide +kernel
theorem dX1_removeEdge_53 : decode cX1_removeEdge 53 = .ok (.aload_n 0, 1) := by decide +kernel
theorem dX1_removeEdge_54 : decode cX1_removeEdge 54 = .ok (.getfield 13, 3) := by decide +kernel
theorem dX1_removeEdge_57 : decode cX1_removeEdge 57 = .ok (.iload_n 2, 1) := by decide +kernel
theorem dX1_removeEdge_58 : decode cX1_removeEdge 58 = .ok (.dup2, 1) := by decide +kernel
theorem dX1_removeEdge_59 : decode cX1_removeEdge 59 = .ok (.iaload, 1) := by decide +kernel
theorem dX1_removeEdge_60 : decode cX1_removeEdge 60 = .ok (.iconst 1, 1) := by decide +kernel
theorem dX1_removeEdge_61 : decode cX1_removeEdge 61 = .ok (.iload_n 1, 1) := by decide +kernel
theorem dX1_removeEdge_62 : decode cX1_removeEdge 62 = .ok (.ishl, 1) := by decide +kernel
theorem dX1_removeEdge_63 : decode cX1_removeEdge 63 = .ok (.iconst (-1), 1) := by decide +kernel
theorem dX1_removeEdge_64 : decode cX1_removeEdge 64 = .ok (.ixor, 1) := by decide +kernel
theorem dX1_removeEdge_65 : decode cX1_removeEdge 65 = .ok (.iand, 1) := by decide +kernel
theorem dX1_removeEdge_66 : decode cX1_removeEdge 66 = .ok (.iastore, 1) := by decide +kernel
theorem dX1_removeEdge_67 : decode cX1_removeEdge 67 = .ok (.aload_n 0, 1) := by decide +kernel
theorem dX1_removeEdge_68 : decode cX1_removeEdge 68 = .ok (.getfield 16, 3) := by decide +kernel
theorem dX1_removeEdge_71 : decode cX1_removeEdge 71 = .ok (.iload_n 1, 1) := by decide +kernel
theorem dX1_removeEdge_72 : decode cX1_removeEdge 72 = .ok (.baload, 1) := by decide +kernel
theorem dX1_removeEdge_73 : decode cX1_removeEdge 73 = .ok (.istore_n 3, 1) := by decide +kernel
theorem dX1_removeEdge_74 : decode cX1_removeEdge 74 = .ok (.iload_n 3, 1) := by decide +kernel
theorem dX1_removeEdge_75 : decode cX1_removeEdge 75 = .ok (.aload_n 0, 1) := by decide +kernel
theorem dX1_removeEdge_76 : decode cX1_removeEdge 76 = .ok (.getfield 16, 3) := by decide +kernel
theorem dX1_removeEdge_79 : decode cX1_removeEdge 79 = .ok (.iload_n 2, 1) := by decide +kernel
theorem dX1_removeEdge_80 : decode cX1_removeEdge 80 = .ok (.baload, 1) := by decide +kernel
theorem dX1_removeEdge_81 : decode cX1_removeEdge 81 = .ok (.if_icmp .eq 5, 3) := by decide +kernel
theorem dX1_removeEdge_84 : decode cX1_removeEdge 84 = .ok (.iconst 0, 1) := by decide +kernel
theorem dX1_removeEdge_85 : decode cX1_removeEdge 85 = .ok (.ireturn, 1) := by decide +kernel
theorem dX1_removeEdge_86 : decode cX1_removeEdge 86 = .ok (.aload_n 0, 1) := by decide +kernel
theorem dX1_removeEdge_87 : decode cX1_removeEdge 87 = .ok (.iconst 1, 1) := by decide +kernel
theorem dX1_removeEdge_88 : decode cX1_removeEdge 88 = .ok (.iload_n 1, 1) := by decide +kernel
theorem dX1_removeEdge_89 : decode cX1_removeEdge 89 = .ok (.ishl, 1) := by decide +kernel
theorem dX1_removeEdge_90 : decode cX1_removeEdge 90 = .ok (.aload_n 0, 1) := by decide +kernel
theorem dX1_removeEdge_91 : decode cX1_removeEdge 91 = .ok (.getfield 20, 3) := by decide +kernel
theorem dX1_removeEdge_94 : decode cX1_removeEdge 94 = .ok (.iload_n 3, 1) := by decide +kernel
theorem dX1_removeEdge_95 : decode cX1_removeEdge 95 = .ok (.iaload, 1) := by decide +kernel
theorem dX1_removeEdge_96 : decode cX1_removeEdge 96 = .ok (.invokevirtual 53, 3) := by decide +kernel
theorem dX1_removeEdge_99 : decode cX1_removeEdge 99 = .ok (.istore 4, 2) := by decide +kernel
theorem dX1_removeEdge_101 : decode cX1_removeEdge 101 = .ok (.iload 4, 2) := by decide +kernel
theorem dX1_removeEdge_103 : decode cX1_removeEdge 103 = .ok (.iload_n 2, 1) := by decide +kernel
theorem dX1_removeEdge_104 : decode cX1_removeEdge 104 = .ok (.ishr, 1) := by decide +kernel
theorem dX1_removeEdge_105 : decode cX1_removeEdge 105 = .ok (.iconst 1, 1) := by decide +kernel
theorem dX1_removeEdge_106 : decode cX1_removeEdge 106 = .ok (.iand, 1) := by decide +kernel
theorem dX1_removeEdge_107 : decode cX1_removeEdge 107 = .ok (.ifCond .eq 5, 3) := by decide +kernel
theorem dX1_removeEdge_110 : decode cX1_removeEdge 110 = .ok (.iconst 0, 1) := by decide +kernel
theorem dX1_removeEdge_111 : decode cX1_removeEdge 111 = .ok (.ireturn, 1) := by decide +kernel
theorem dX1_removeEdge_112 : decode cX1_removeEdge 112 = .ok (.aload_n 0, 1) := by decide +kernel
theorem dX1_removeEdge_113 : decode cX1_removeEdge 113 = .ok (.iload_n 3, 1) := by decide +kernel
theorem dX1_removeEdge_114 : decode cX1_removeEdge 114 = .ok (.invokevirtual 56, 3) := by decide +kernel
theorem dX1_removeEdge_117 : decode cX1_removeEdge 117 = .ok (.ireturn, 1) := by decide +kernel
abbrev cX1_spreadWithin : ByteArray := prog_1_method_17_code
def yX1_spreadWithin : MethodName := ⟨RX1, "spreadWithin", "(II)I"⟩
theorem dX1_spreadWithin_0 : decode cX1_spreadWithin 0 = .ok (.iload_n 1, 1) := by decide +kernel
theorem dX1_spreadWithin_1 : decode cX1_spreadWithin 1 = .ok (.istore_n 3, 1) := by decide +kernel
theorem dX1_spreadWithin_2 : decode cX1_spreadWithin 2 = .ok (.iload_n 1, 1) := by decide +kernel
theorem dX1_spreadWithin_3 : decode cX1_spreadWithin 3 = .ok (.istore 4, 2) := by decide +kernel
theorem dX1_spreadWithin_5 : decode cX1_spreadWithin 5 = .ok (.iconst 0, 1) := by decide +kernel
theorem dX1_spreadWithin_6 : decode cX1_spreadWithin 6 = .ok (.istore 5, 2) := by decide +kernel
theorem dX1_spreadWithin_8 : decode cX1_spreadWithin 8 = .ok (.iload 5, 2) := by decide +kernel
theorem dX1_spreadWithin_10 : decode cX1_spreadWithin 10 = .ok (.bipush 16, 2) := by decide +kernel
theorem dX1_spreadWithin_12 : decode cX1_spreadWithin 12 = .ok (.if_icmp .ge 33, 3) := by decide +kernel
theorem dX1_spreadWithin_15 : decode cX1_spreadWithin 15 = .ok (.iload 4, 2) := by decide +kernel
theorem dX1_spreadWithin_17 : decode cX1_spreadWithin 17 = .ok (.ifCond .eq 28, 3) := by decide +kernel
theorem dX1_spreadWithin_20 : decode cX1_spreadWithin 20 = .ok (.aload_n 0, 1) := by decide +kernel
theorem dX1_spreadWithin_21 : decode cX1_spreadWithin 21 = .ok (.iload 4, 2) := by decide +kernel
theorem dX1_spreadWithin_23 : decode cX1_spreadWithin 23 = .ok (.invokevirtual 69, 3) := by decide +kernel
theorem dX1_spreadWithin_26 : decode cX1_spreadWithin 26 = .ok (.iload_n 2, 1) := by decide +kernel
theorem dX1_spreadWithin_27 : decode cX1_spreadWithin 27 = .ok (.iand, 1) := by decide +kernel
theorem dX1_spreadWithin_28 : decode cX1_spreadWithin 28 = .ok (.iload_n 3, 1) := by decide +kernel
theorem dX1_spreadWithin_29 : decode cX1_spreadWithin 29 = .ok (.iconst (-1), 1) := by decide +kernel
theorem dX1_spreadWithin_30 : decode cX1_spreadWithin 30 = .ok (.ixor, 1) := by decide +kernel
theorem dX1_spreadWithin_31 : decode cX1_spreadWithin 31 = .ok (.iand, 1) := by decide +kernel
theorem dX1_spreadWithin_32 : decode cX1_spreadWithin 32 = .ok (.istore 4, 2) := by decide +kernel
theorem dX1_spreadWithin_34 : decode cX1_spreadWithin 34 = .ok (.iload_n 3, 1) := by decide +kernel
theorem dX1_spreadWithin_35 : decode cX1_spreadWithin 35 = .ok (.iload 4, 2) := by decide +kernel
theorem dX1_spreadWithin_37 : decode cX1_spreadWithin 37 = .ok (.ior, 1) := by decide +kernel
theorem dX1_spreadWithin_38 : decode cX1_spreadWithin 38 = .ok (.istore_n 3, 1) := by decide +kernel
theorem dX1_spreadWithin_39 : decode cX1_spreadWithin 39 = .ok (.iinc 5 1, 3) := by decide +kernel
theorem dX1_spreadWithin_42 : decode cX1_spreadWithin 42 = .ok (.goto (-34), 3) := by decide +kernel
theorem dX1_spreadWithin_45 : decode cX1_spreadWithin 45 = .ok (.iload_n 3, 1) := by decide +kernel
theorem dX1_spreadWithin_46 : decode cX1_spreadWithin 46 = .ok (.ireturn, 1) := by decide +kernel
end
section
set_option maxRecDepth 100000
abbrev cX1_split : ByteArray := prog_1_method_28_code
def yX1_split : MethodName := ⟨RX1, "split", "(I)I"⟩
theorem dX1_split_0 : decode cX1_split 0 = .ok (.aload_n 0, 1) := by decide +kernel
theorem dX1_split_1 : decode cX1_split 1 = .ok (.getfield 23, 3) := by decide +kernel
theorem dX1_split_4 : decode cX1_split 4 = .ok (.iload_n 1, 1) := by decide +kernel
theorem dX1_split_5 : decode cX1_split 5 = .ok (.baload, 1) := by decide +kernel
theorem dX1_split_6 : decode cX1_split 6 = .ok (.istore_n 2, 1) := by decide +kernel
theorem dX1_split_7 : decode cX1_split 7 = .ok (.aload_n 0, 1) := by decide +kernel
theorem dX1_split_8 : decode cX1_split 8 = .ok (.getfield 20, 3) := by decide +kernel
theorem dX1_split_11 : decode cX1_split 11 = .ok (.iload_n 1, 1) := by decide +kernel
theorem dX1_split_12 : decode cX1_split 12 = .ok (.iaload, 1) := by decide +kernel
theorem dX1_split_13 : decode cX1_split 13 = .ok (.istore_n 3, 1) := by decide +kernel
theorem dX1_split_14 : decode cX1_split 14 = .ok (.iconst 0, 1) := by decide +kernel
theorem dX1_split_15 : decode cX1_split 15 = .ok (.istore 4, 2) := by decide +kernel
theorem dX1_split_17 : decode cX1_split 17 = .ok (.iconst 0, 1) := by decide +kernel
theorem dX1_split_18 : decode cX1_split 18 = .ok (.istore 5, 2) := by decide +kernel
theorem dX1_split_20 : decode cX1_split 20 = .ok (.iload 5, 2) := by decide +kernel
theorem dX1_split_22 : decode cX1_split 22 = .ok (.bipush 16, 2) := by decide +kernel
theorem dX1_split_24 : decode cX1_split 24 = .ok (.if_icmp .ge 58, 3) := by decide +kernel
theorem dX1_split_27 : decode cX1_split 27 = .ok (.iload_n 3, 1) := by decide +kernel
theorem dX1_split_28 : decode cX1_split 28 = .ok (.ifCond .eq 54, 3) := by decide +kernel
theorem dX1_split_31 : decode cX1_split 31 = .ok (.iconst 1, 1) := by decide +kernel
theorem dX1_split_32 : decode cX1_split 32 = .ok (.aload_n 0, 1) := by decide +kernel
theorem dX1_split_33 : decode cX1_split 33 = .ok (.iload_n 3, 1) := by decide +kernel
theorem dX1_split_34 : decode cX1_split 34 = .ok (.invokevirtual 97, 3) := by decide +kernel
theorem dX1_split_37 : decode cX1_split 37 = .ok (.ishl, 1) := by decide +kernel
theorem dX1_split_38 : decode cX1_split 38 = .ok (.istore 6, 2) := by decide +kernel
theorem dX1_split_40 : decode cX1_split 40 = .ok (.aload_n 0, 1) := by decide +kernel
theorem dX1_split_41 : decode cX1_split 41 = .ok (.iload 6, 2) := by decide +kernel
theorem dX1_split_43 : decode cX1_split 43 = .ok (.iload_n 3, 1) := by decide +kernel
theorem dX1_split_44 : decode cX1_split 44 = .ok (.invokevirtual 53, 3) := by decide +kernel
theorem dX1_split_47 : decode cX1_split 47 = .ok (.aload_n 0, 1) := by decide +kernel
theorem dX1_split_48 : decode cX1_split 48 = .ok (.iload 6, 2) := by decide +kernel
theorem dX1_split_50 : decode cX1_split 50 = .ok (.iload_n 3, 1) := by decide +kernel
theorem dX1_split_51 : decode cX1_split 51 = .ok (.invokevirtual 100, 3) := by decide +kernel
theorem dX1_split_54 : decode cX1_split 54 = .ok (.iand, 1) := by decide +kernel
theorem dX1_split_55 : decode cX1_split 55 = .ok (.istore 7, 2) := by decide +kernel
theorem dX1_split_57 : decode cX1_split 57 = .ok (.aload_n 0, 1) := by decide +kernel
theorem dX1_split_58 : decode cX1_split 58 = .ok (.getfield 35, 3) := by decide +kernel
theorem dX1_split_61 : decode cX1_split 61 = .ok (.iload 4, 2) := by decide +kernel
theorem dX1_split_63 : decode cX1_split 63 = .ok (.iload 7, 2) := by decide +kernel
theorem dX1_split_65 : decode cX1_split 65 = .ok (.iastore, 1) := by decide +kernel
theorem dX1_split_66 : decode cX1_split 66 = .ok (.iinc 4 1, 3) := by decide +kernel
theorem dX1_split_69 : decode cX1_split 69 = .ok (.iload_n 3, 1) := by decide +kernel
theorem dX1_split_70 : decode cX1_split 70 = .ok (.iload 7, 2) := by decide +kernel
theorem dX1_split_72 : decode cX1_split 72 = .ok (.iconst (-1), 1) := by decide +kernel
theorem dX1_split_73 : decode cX1_split 73 = .ok (.ixor, 1) := by decide +kernel
theorem dX1_split_74 : decode cX1_split 74 = .ok (.iand, 1) := by decide +kernel
theorem dX1_split_75 : decode cX1_split 75 = .ok (.istore_n 3, 1) := by decide +kernel
theorem dX1_split_76 : decode cX1_split 76 = .ok (.iinc 5 1, 3) := by decide +kernel
theorem dX1_split_79 : decode cX1_split 79 = .ok (.goto (-59), 3) := by decide +kernel
theorem dX1_split_82 : decode cX1_split 82 = .ok (.aload_n 0, 1) := by decide +kernel
theorem dX1_split_83 : decode cX1_split 83 = .ok (.getfield 20, 3) := by decide +kernel
theorem dX1_split_86 : decode cX1_split 86 = .ok (.iload_n 1, 1) := by decide +kernel
theorem dX1_split_87 : decode cX1_split 87 = .ok (.iaload, 1) := by decide +kernel
theorem dX1_split_88 : decode cX1_split 88 = .ok (.istore 5, 2) := by decide +kernel
theorem dX1_split_90 : decode cX1_split 90 = .ok (.aload_n 0, 1) := by decide +kernel
theorem dX1_split_91 : decode cX1_split 91 = .ok (.getfield 20, 3) := by decide +kernel
theorem dX1_split_94 : decode cX1_split 94 = .ok (.iload_n 1, 1) := by decide +kernel
theorem dX1_split_95 : decode cX1_split 95 = .ok (.iconst 0, 1) := by decide +kernel
theorem dX1_split_96 : decode cX1_split 96 = .ok (.iastore, 1) := by decide +kernel
theorem dX1_split_97 : decode cX1_split 97 = .ok (.aload_n 0, 1) := by decide +kernel
theorem dX1_split_98 : decode cX1_split 98 = .ok (.iconst 0, 1) := by decide +kernel
theorem dX1_split_99 : decode cX1_split 99 = .ok (.putfield 81, 3) := by decide +kernel
theorem dX1_split_102 : decode cX1_split 102 = .ok (.iconst 0, 1) := by decide +kernel
theorem dX1_split_103 : decode cX1_split 103 = .ok (.istore 6, 2) := by decide +kernel
theorem dX1_split_105 : decode cX1_split 105 = .ok (.iload 6, 2) := by decide +kernel
theorem dX1_split_107 : decode cX1_split 107 = .ok (.iload_n 2, 1) := by decide +kernel
theorem dX1_split_108 : decode cX1_split 108 = .ok (.if_icmp .ge 20, 3) := by decide +kernel
theorem dX1_split_111 : decode cX1_split 111 = .ok (.aload_n 0, 1) := by decide +kernel
theorem dX1_split_112 : decode cX1_split 112 = .ok (.aload_n 0, 1) := by decide +kernel
theorem dX1_split_113 : decode cX1_split 113 = .ok (.getfield 26, 3) := by decide +kernel
theorem dX1_split_116 : decode cX1_split 116 = .ok (.iload 6, 2) := by decide +kernel
theorem dX1_split_118 : decode cX1_split 118 = .ok (.baload, 1) := by decide +kernel
theorem dX1_split_119 : decode cX1_split 119 = .ok (.invokevirtual 84, 3) := by decide +kernel
theorem dX1_split_122 : decode cX1_split 122 = .ok (.iinc 6 1, 3) := by decide +kernel
theorem dX1_split_125 : decode cX1_split 125 = .ok (.goto (-20), 3) := by decide +kernel
theorem dX1_split_128 : decode cX1_split 128 = .ok (.iload 5, 2) := by decide +kernel
theorem dX1_split_130 : decode cX1_split 130 = .ok (.istore 6, 2) := by decide +kernel
theorem dX1_split_132 : decode cX1_split 132 = .ok (.iconst 0, 1) := by decide +kernel
theorem dX1_split_133 : decode cX1_split 133 = .ok (.istore 7, 2) := by decide +kernel
theorem dX1_split_135 : decode cX1_split 135 = .ok (.iload 7, 2) := by decide +kernel
theorem dX1_split_137 : decode cX1_split 137 = .ok (.iload 4, 2) := by decide +kernel
theorem dX1_split_139 : decode cX1_split 139 = .ok (.if_icmp .ge 42, 3) := by decide +kernel
theorem dX1_split_142 : decode cX1_split 142 = .ok (.aload_n 0, 1) := by decide +kernel
theorem dX1_split_143 : decode cX1_split 143 = .ok (.iload 4, 2) := by decide +kernel
theorem dX1_split_145 : decode cX1_split 145 = .ok (.iload 6, 2) := by decide +kernel
theorem dX1_split_147 : decode cX1_split 147 = .ok (.invokevirtual 103, 3) := by decide +kernel
theorem dX1_split_150 : decode cX1_split 150 = .ok (.istore 8, 2) := by decide +kernel
theorem dX1_split_152 : decode cX1_split 152 = .ok (.iload 6, 2) := by decide +kernel
theorem dX1_split_154 : decode cX1_split 154 = .ok (.iload 8, 2) := by decide +kernel
theorem dX1_split_156 : decode cX1_split 156 = .ok (.iconst (-1), 1) := by decide +kernel
theorem dX1_split_157 : decode cX1_split 157 = .ok (.ixor, 1) := by decide +kernel
theorem dX1_split_158 : decode cX1_split 158 = .ok (.iand, 1) := by decide +kernel
theorem dX1_split_159 : decode cX1_split 159 = .ok (.istore 6, 2) := by decide +kernel
theorem dX1_split_161 : decode cX1_split 161 = .ok (.aload_n 0, 1) := by decide +kernel
theorem dX1_split_162 : decode cX1_split 162 = .ok (.iload 8, 2) := by decide +kernel
theorem dX1_split_164 : decode cX1_split 164 = .ok (.invokevirtual 94, 3) := by decide +kernel
theorem dX1_split_167 : decode cX1_split 167 = .ok (.istore 9, 2) := by decide +kernel
theorem dX1_split_169 : decode cX1_split 169 = .ok (.aload_n 0, 1) := by decide +kernel
theorem dX1_split_170 : decode cX1_split 170 = .ok (.iload 9, 2) := by decide +kernel
theorem dX1_split_172 : decode cX1_split 172 = .ok (.invokevirtual 84, 3) := by decide +kernel
theorem dX1_split_175 : decode cX1_split 175 = .ok (.iinc 7 1, 3) := by decide +kernel
theorem dX1_split_178 : decode cX1_split 178 = .ok (.goto (-43), 3) := by decide +kernel
theorem dX1_split_181 : decode cX1_split 181 = .ok (.iload_n 2, 1) := by decide +kernel
theorem dX1_split_182 : decode cX1_split 182 = .ok (.iconst 1, 1) := by decide +kernel
theorem dX1_split_183 : decode cX1_split 183 = .ok (.iadd, 1) := by decide +kernel
theorem dX1_split_184 : decode cX1_split 184 = .ok (.istore 7, 2) := by decide +kernel
theorem dX1_split_186 : decode cX1_split 186 = .ok (.iload 7, 2) := by decide +kernel
theorem dX1_split_188 : decode cX1_split 188 = .ok (.aload_n 0, 1) := by decide +kernel
theorem dX1_split_189 : decode cX1_split 189 = .ok (.getfield 42, 3) := by decide +kernel
theorem dX1_split_192 : decode cX1_split 192 = .ok (.if_icmp .ge 20, 3) := by decide +kernel
theorem dX1_split_195 : decode cX1_split 195 = .ok (.aload_n 0, 1) := by decide +kernel
theorem dX1_split_196 : decode cX1_split 196 = .ok (.aload_n 0, 1) := by decide +kernel
theorem dX1_split_197 : decode cX1_split 197 = .ok (.getfield 26, 3) := by decide +kernel
theorem dX1_split_200 : decode cX1_split 200 = .ok (.iload 7, 2) := by decide +kernel
theorem dX1_split_202 : decode cX1_split 202 = .ok (.baload, 1) := by decide +kernel
theorem dX1_split_203 : decode cX1_split 203 = .ok (.invokevirtual 84, 3) := by decide +kernel
theorem dX1_split_206 : decode cX1_split 206 = .ok (.iinc 7 1, 3) := by decide +kernel
theorem dX1_split_209 : decode cX1_split 209 = .ok (.goto (-23), 3) := by decide +kernel
theorem dX1_split_212 : decode cX1_split 212 = .ok (.aload_n 0, 1) := by decide +kernel
theorem dX1_split_213 : decode cX1_split 213 = .ok (.invokevirtual 91, 3) := by decide +kernel
theorem dX1_split_216 : decode cX1_split 216 = .ok (.iload 4, 2) := by decide +kernel
theorem dX1_split_218 : decode cX1_split 218 = .ok (.iconst 1, 1) := by decide +kernel
theorem dX1_split_219 : decode cX1_split 219 = .ok (.isub, 1) := by decide +kernel
theorem dX1_split_220 : decode cX1_split 220 = .ok (.ireturn, 1) := by decide +kernel
abbrev cX1_gatherWithin : ByteArray := prog_1_method_18_code
def yX1_gatherWithin : MethodName := ⟨RX1, "gatherWithin", "(II)I"⟩
theorem dX1_gatherWithin_0 : decode cX1_gatherWithin 0 = .ok (.iload_n 1, 1) := by decide +kernel
theorem dX1_gatherWithin_1 : decode cX1_gatherWithin 1 = .ok (.istore_n 3, 1) := by decide +kernel
theorem dX1_gatherWithin_2 : decode cX1_gatherWithin 2 = .ok (.iload_n 1, 1) := by decide +kernel
theorem dX1_gatherWithin_3 : decode cX1_gatherWithin 3 = .ok (.istore 4, 2) := by decide +kernel
theorem dX1_gatherWithin_5 : decode cX1_gatherWithin 5 = .ok (.iconst 0, 1) := by decide +kernel
theorem dX1_gatherWithin_6 : decode cX1_gatherWithin 6 = .ok (.istore 5, 2) := by decide +kernel
theorem dX1_gatherWithin_8 : decode cX1_gatherWithin 8 = .ok (.iload 5, 2) := by decide +kernel
theorem dX1_gatherWithin_10 : decode cX1_gatherWithin 10 = .ok (.bipush 16, 2) := by decide +kernel
theorem dX1_gatherWithin_12 : decode cX1_gatherWithin 12 = .ok (.if_icmp .ge 33, 3) := by decide +kernel
theorem dX1_gatherWithin_15 : decode cX1_gatherWithin 15 = .ok (.iload 4, 2) := by decide +kernel
theorem dX1_gatherWithin_17 : decode cX1_gatherWithin 17 = .ok (.ifCond .eq 28, 3) := by decide +kernel
theorem dX1_gatherWithin_20 : decode cX1_gatherWithin 20 = .ok (.aload_n 0, 1) := by decide +kernel
theorem dX1_gatherWithin_21 : decode cX1_gatherWithin 21 = .ok (.iload 4, 2) := by decide +kernel
theorem dX1_gatherWithin_23 : decode cX1_gatherWithin 23 = .ok (.invokevirtual 66, 3) := by decide +kernel
theorem dX1_gatherWithin_26 : decode cX1_gatherWithin 26 = .ok (.iload_n 2, 1) := by decide +kernel
theorem dX1_gatherWithin_27 : decode cX1_gatherWithin 27 = .ok (.iand, 1) := by decide +kernel
theorem dX1_gatherWithin_28 : decode cX1_gatherWithin 28 = .ok (.iload_n 3, 1) := by decide +kernel
theorem dX1_gatherWithin_29 : decode cX1_gatherWithin 29 = .ok (.iconst (-1), 1) := by decide +kernel
theorem dX1_gatherWithin_30 : decode cX1_gatherWithin 30 = .ok (.ixor, 1) := by decide +kernel
theorem dX1_gatherWithin_31 : decode cX1_gatherWithin 31 = .ok (.iand, 1) := by decide +kernel
theorem dX1_gatherWithin_32 : decode cX1_gatherWithin 32 = .ok (.istore 4, 2) := by decide +kernel
theorem dX1_gatherWithin_34 : decode cX1_gatherWithin 34 = .ok (.iload_n 3, 1) := by decide +kernel
theorem dX1_gatherWithin_35 : decode cX1_gatherWithin 35 = .ok (.iload 4, 2) := by decide +kernel
theorem dX1_gatherWithin_37 : decode cX1_gatherWithin 37 = .ok (.ior, 1) := by decide +kernel
theorem dX1_gatherWithin_38 : decode cX1_gatherWithin 38 = .ok (.istore_n 3, 1) := by decide +kernel
theorem dX1_gatherWithin_39 : decode cX1_gatherWithin 39 = .ok (.iinc 5 1, 3) := by decide +kernel
theorem dX1_gatherWithin_42 : decode cX1_gatherWithin 42 = .ok (.goto (-34), 3) := by decide +kernel
theorem dX1_gatherWithin_45 : decode cX1_gatherWithin 45 = .ok (.iload_n 3, 1) := by decide +kernel
theorem dX1_gatherWithin_46 : decode cX1_gatherWithin 46 = .ok (.ireturn, 1) := by decide +kernel
abbrev cX1_sourcePiece : ByteArray := prog_1_method_29_code
def yX1_sourcePiece : MethodName := ⟨RX1, "sourcePiece", "(II)I"⟩
theorem dX1_sourcePiece_0 : decode cX1_sourcePiece 0 = .ok (.iconst 0, 1) := by decide +kernel
theorem dX1_sourcePiece_1 : decode cX1_sourcePiece 1 = .ok (.istore_n 3, 1) := by decide +kernel
theorem dX1_sourcePiece_2 : decode cX1_sourcePiece 2 = .ok (.iload_n 3, 1) := by decide +kernel
theorem dX1_sourcePiece_3 : decode cX1_sourcePiece 3 = .ok (.iload_n 1, 1) := by decide +kernel
theorem dX1_sourcePiece_4 : decode cX1_sourcePiece 4 = .ok (.if_icmp .ge 50, 3) := by decide +kernel
theorem dX1_sourcePiece_7 : decode cX1_sourcePiece 7 = .ok (.aload_n 0, 1) := by decide +kernel
theorem dX1_sourcePiece_8 : decode cX1_sourcePiece 8 = .ok (.getfield 35, 3) := by decide +kernel
theorem dX1_sourcePiece_11 : decode cX1_sourcePiece 11 = .ok (.iload_n 3, 1) := by decide +kernel
theorem dX1_sourcePiece_12 : decode cX1_sourcePiece 12 = .ok (.iaload, 1) := by decide +kernel
theorem dX1_sourcePiece_13 : decode cX1_sourcePiece 13 = .ok (.istore 4, 2) := by decide +kernel
theorem dX1_sourcePiece_15 : decode cX1_sourcePiece 15 = .ok (.iload 4, 2) := by decide +kernel
theorem dX1_sourcePiece_17 : decode cX1_sourcePiece 17 = .ok (.iload_n 2, 1) := by decide +kernel
theorem dX1_sourcePiece_18 : decode cX1_sourcePiece 18 = .ok (.iand, 1) := by decide +kernel
theorem dX1_sourcePiece_19 : decode cX1_sourcePiece 19 = .ok (.ifCond .ne 6, 3) := by decide +kernel
theorem dX1_sourcePiece_22 : decode cX1_sourcePiece 22 = .ok (.goto 26, 3) := by decide +kernel
theorem dX1_sourcePiece_25 : decode cX1_sourcePiece 25 = .ok (.aload_n 0, 1) := by decide +kernel
theorem dX1_sourcePiece_26 : decode cX1_sourcePiece 26 = .ok (.iload 4, 2) := by decide +kernel
theorem dX1_sourcePiece_28 : decode cX1_sourcePiece 28 = .ok (.invokevirtual 66, 3) := by decide +kernel
theorem dX1_sourcePiece_31 : decode cX1_sourcePiece 31 = .ok (.iload_n 2, 1) := by decide +kernel
theorem dX1_sourcePiece_32 : decode cX1_sourcePiece 32 = .ok (.iand, 1) := by decide +kernel
theorem dX1_sourcePiece_33 : decode cX1_sourcePiece 33 = .ok (.iload 4, 2) := by decide +kernel
theorem dX1_sourcePiece_35 : decode cX1_sourcePiece 35 = .ok (.iconst (-1), 1) := by decide +kernel
theorem dX1_sourcePiece_36 : decode cX1_sourcePiece 36 = .ok (.ixor, 1) := by decide +kernel
theorem dX1_sourcePiece_37 : decode cX1_sourcePiece 37 = .ok (.iand, 1) := by decide +kernel
theorem dX1_sourcePiece_38 : decode cX1_sourcePiece 38 = .ok (.istore 5, 2) := by decide +kernel
theorem dX1_sourcePiece_40 : decode cX1_sourcePiece 40 = .ok (.iload 5, 2) := by decide +kernel
theorem dX1_sourcePiece_42 : decode cX1_sourcePiece 42 = .ok (.ifCond .ne 6, 3) := by decide +kernel
theorem dX1_sourcePiece_45 : decode cX1_sourcePiece 45 = .ok (.iload 4, 2) := by decide +kernel
theorem dX1_sourcePiece_47 : decode cX1_sourcePiece 47 = .ok (.ireturn, 1) := by decide +kernel
theorem dX1_sourcePiece_48 : decode cX1_sourcePiece 48 = .ok (.iinc 3 1, 3) := by decide +kernel
theorem dX1_sourcePiece_51 : decode cX1_sourcePiece 51 = .ok (.goto (-49), 3) := by decide +kernel
theorem dX1_sourcePiece_54 : decode cX1_sourcePiece 54 = .ok (.iconst 0, 1) := by decide +kernel
theorem dX1_sourcePiece_55 : decode cX1_sourcePiece 55 = .ok (.ireturn, 1) := by decide +kernel
abbrev cX1_components : ByteArray := prog_1_method_4_code
def yX1_components : MethodName := ⟨RX1, "components", "()I"⟩
theorem dX1_components_0 : decode cX1_components 0 = .ok (.aload_n 0, 1) := by decide +kernel
theorem dX1_components_1 : decode cX1_components 1 = .ok (.getfield 42, 3) := by decide +kernel
theorem dX1_components_4 : decode cX1_components 4 = .ok (.ireturn, 1) := by decide +kernel
abbrev cX1_leader : ByteArray := prog_1_method_5_code
def yX1_leader : MethodName := ⟨RX1, "leader", "(I)I"⟩
theorem dX1_leader_0 : decode cX1_leader 0 = .ok (.aload_n 0, 1) := by decide +kernel
theorem dX1_leader_1 : decode cX1_leader 1 = .ok (.iload_n 1, 1) := by decide +kernel
theorem dX1_leader_2 : decode cX1_leader 2 = .ok (.invokevirtual 45, 3) := by decide +kernel
theorem dX1_leader_5 : decode cX1_leader 5 = .ok (.ifCond .eq 12, 3) := by decide +kernel
theorem dX1_leader_8 : decode cX1_leader 8 = .ok (.aload_n 0, 1) := by decide +kernel
theorem dX1_leader_9 : decode cX1_leader 9 = .ok (.getfield 16, 3) := by decide +kernel
theorem dX1_leader_12 : decode cX1_leader 12 = .ok (.iload_n 1, 1) := by decide +kernel
theorem dX1_leader_13 : decode cX1_leader 13 = .ok (.baload, 1) := by decide +kernel
theorem dX1_leader_14 : decode cX1_leader 14 = .ok (.goto 4, 3) := by decide +kernel
theorem dX1_leader_17 : decode cX1_leader 17 = .ok (.iconst (-1), 1) := by decide +kernel
theorem dX1_leader_18 : decode cX1_leader 18 = .ok (.ireturn, 1) := by decide +kernel
abbrev cX1_componentSize : ByteArray := prog_1_method_6_code
def yX1_componentSize : MethodName := ⟨RX1, "componentSize", "(I)I"⟩
theorem dX1_componentSize_0 : decode cX1_componentSize 0 = .ok (.aload_n 0, 1) := by decide +kernel
theorem dX1_componentSize_1 : decode cX1_componentSize 1 = .ok (.iload_n 1, 1) := by decide +kernel
theorem dX1_componentSize_2 : decode cX1_componentSize 2 = .ok (.invokevirtual 45, 3) := by decide +kernel
theorem dX1_componentSize_5 : decode cX1_componentSize 5 = .ok (.ifCond .ne 5, 3) := by decide +kernel
theorem dX1_componentSize_8 : decode cX1_componentSize 8 = .ok (.iconst (-1), 1) := by decide +kernel
theorem dX1_componentSize_9 : decode cX1_componentSize 9 = .ok (.ireturn, 1) := by decide +kernel
theorem dX1_componentSize_10 : decode cX1_componentSize 10 = .ok (.aload_n 0, 1) := by decide +kernel
theorem dX1_componentSize_11 : decode cX1_componentSize 11 = .ok (.getfield 16, 3) := by decide +kernel
theorem dX1_componentSize_14 : decode cX1_componentSize 14 = .ok (.iload_n 1, 1) := by decide +kernel
theorem dX1_componentSize_15 : decode cX1_componentSize 15 = .ok (.baload, 1) := by decide +kernel
theorem dX1_componentSize_16 : decode cX1_componentSize 16 = .ok (.istore_n 2, 1) := by decide +kernel
theorem dX1_componentSize_17 : decode cX1_componentSize 17 = .ok (.aload_n 0, 1) := by decide +kernel
theorem dX1_componentSize_18 : decode cX1_componentSize 18 = .ok (.aload_n 0, 1) := by decide +kernel
theorem dX1_componentSize_19 : decode cX1_componentSize 19 = .ok (.getfield 20, 3) := by decide +kernel
theorem dX1_componentSize_22 : decode cX1_componentSize 22 = .ok (.iload_n 2, 1) := by decide +kernel
theorem dX1_componentSize_23 : decode cX1_componentSize 23 = .ok (.iaload, 1) := by decide +kernel
theorem dX1_componentSize_24 : decode cX1_componentSize 24 = .ok (.invokevirtual 60, 3) := by decide +kernel
theorem dX1_componentSize_27 : decode cX1_componentSize 27 = .ok (.ireturn, 1) := by decide +kernel
abbrev cX1_reaches : ByteArray := prog_1_method_7_code
def yX1_reaches : MethodName := ⟨RX1, "reaches", "(II)Z"⟩
theorem dX1_reaches_0 : decode cX1_reaches 0 = .ok (.aload_n 0, 1) := by decide +kernel
theorem dX1_reaches_1 : decode cX1_reaches 1 = .ok (.iload_n 1, 1) := by decide +kernel
theorem dX1_reaches_2 : decode cX1_reaches 2 = .ok (.invokevirtual 45, 3) := by decide +kernel
theorem dX1_reaches_5 : decode cX1_reaches 5 = .ok (.ifCond .eq 11, 3) := by decide +kernel
theorem dX1_reaches_8 : decode cX1_reaches 8 = .ok (.aload_n 0, 1) := by decide +kernel
theorem dX1_reaches_9 : decode cX1_reaches 9 = .ok (.iload_n 2, 1) := by decide +kernel
theorem dX1_reaches_10 : decode cX1_reaches 10 = .ok (.invokevirtual 45, 3) := by decide +kernel
theorem dX1_reaches_13 : decode cX1_reaches 13 = .ok (.ifCond .ne 5, 3) := by decide +kernel
theorem dX1_reaches_16 : decode cX1_reaches 16 = .ok (.iconst 0, 1) := by decide +kernel
theorem dX1_reaches_17 : decode cX1_reaches 17 = .ok (.ireturn, 1) := by decide +kernel
theorem dX1_reaches_18 : decode cX1_reaches 18 = .ok (.aload_n 0, 1) := by decide +kernel
theorem dX1_reaches_19 : decode cX1_reaches 19 = .ok (.getfield 16, 3) := by decide +kernel
theorem dX1_reaches_22 : decode cX1_reaches 22 = .ok (.iload_n 1, 1) := by decide +kernel
theorem dX1_reaches_23 : decode cX1_reaches 23 = .ok (.baload, 1) := by decide +kernel
theorem dX1_reaches_24 : decode cX1_reaches 24 = .ok (.istore_n 3, 1) := by decide +kernel
theorem dX1_reaches_25 : decode cX1_reaches 25 = .ok (.aload_n 0, 1) := by decide +kernel
theorem dX1_reaches_26 : decode cX1_reaches 26 = .ok (.getfield 16, 3) := by decide +kernel
theorem dX1_reaches_29 : decode cX1_reaches 29 = .ok (.iload_n 2, 1) := by decide +kernel
theorem dX1_reaches_30 : decode cX1_reaches 30 = .ok (.baload, 1) := by decide +kernel
theorem dX1_reaches_31 : decode cX1_reaches 31 = .ok (.istore 4, 2) := by decide +kernel
theorem dX1_reaches_33 : decode cX1_reaches 33 = .ok (.aload_n 0, 1) := by decide +kernel
theorem dX1_reaches_34 : decode cX1_reaches 34 = .ok (.getfield 23, 3) := by decide +kernel
theorem dX1_reaches_37 : decode cX1_reaches 37 = .ok (.iload_n 3, 1) := by decide +kernel
theorem dX1_reaches_38 : decode cX1_reaches 38 = .ok (.baload, 1) := by decide +kernel
theorem dX1_reaches_39 : decode cX1_reaches 39 = .ok (.aload_n 0, 1) := by decide +kernel
theorem dX1_reaches_40 : decode cX1_reaches 40 = .ok (.getfield 23, 3) := by decide +kernel
theorem dX1_reaches_43 : decode cX1_reaches 43 = .ok (.iload 4, 2) := by decide +kernel
theorem dX1_reaches_45 : decode cX1_reaches 45 = .ok (.baload, 1) := by decide +kernel
theorem dX1_reaches_46 : decode cX1_reaches 46 = .ok (.if_icmp .le 5, 3) := by decide +kernel
theorem dX1_reaches_49 : decode cX1_reaches 49 = .ok (.iconst 0, 1) := by decide +kernel
theorem dX1_reaches_50 : decode cX1_reaches 50 = .ok (.ireturn, 1) := by decide +kernel
theorem dX1_reaches_51 : decode cX1_reaches 51 = .ok (.aload_n 0, 1) := by decide +kernel
theorem dX1_reaches_52 : decode cX1_reaches 52 = .ok (.iload_n 3, 1) := by decide +kernel
theorem dX1_reaches_53 : decode cX1_reaches 53 = .ok (.aload_n 0, 1) := by decide +kernel
theorem dX1_reaches_54 : decode cX1_reaches 54 = .ok (.getfield 23, 3) := by decide +kernel
theorem dX1_reaches_57 : decode cX1_reaches 57 = .ok (.iload 4, 2) := by decide +kernel
theorem dX1_reaches_59 : decode cX1_reaches 59 = .ok (.baload, 1) := by decide +kernel
theorem dX1_reaches_60 : decode cX1_reaches 60 = .ok (.invokevirtual 63, 3) := by decide +kernel
theorem dX1_reaches_63 : decode cX1_reaches 63 = .ok (.istore 5, 2) := by decide +kernel
theorem dX1_reaches_65 : decode cX1_reaches 65 = .ok (.iload 5, 2) := by decide +kernel
theorem dX1_reaches_67 : decode cX1_reaches 67 = .ok (.iload 4, 2) := by decide +kernel
theorem dX1_reaches_69 : decode cX1_reaches 69 = .ok (.ishr, 1) := by decide +kernel
theorem dX1_reaches_70 : decode cX1_reaches 70 = .ok (.iconst 1, 1) := by decide +kernel
theorem dX1_reaches_71 : decode cX1_reaches 71 = .ok (.iand, 1) := by decide +kernel
theorem dX1_reaches_72 : decode cX1_reaches 72 = .ok (.ifCond .eq 7, 3) := by decide +kernel
theorem dX1_reaches_75 : decode cX1_reaches 75 = .ok (.iconst 1, 1) := by decide +kernel
theorem dX1_reaches_76 : decode cX1_reaches 76 = .ok (.goto 4, 3) := by decide +kernel
theorem dX1_reaches_79 : decode cX1_reaches 79 = .ok (.iconst 0, 1) := by decide +kernel
theorem dX1_reaches_80 : decode cX1_reaches 80 = .ok (.ireturn, 1) := by decide +kernel
abbrev cX1_height : ByteArray := prog_1_method_8_code
def yX1_height : MethodName := ⟨RX1, "height", "(I)I"⟩
theorem dX1_height_0 : decode cX1_height 0 = .ok (.aload_n 0, 1) := by decide +kernel
theorem dX1_height_1 : decode cX1_height 1 = .ok (.iload_n 1, 1) := by decide +kernel
theorem dX1_height_2 : decode cX1_height 2 = .ok (.invokevirtual 45, 3) := by decide +kernel
theorem dX1_height_5 : decode cX1_height 5 = .ok (.ifCond .ne 5, 3) := by decide +kernel
theorem dX1_height_8 : decode cX1_height 8 = .ok (.iconst (-1), 1) := by decide +kernel
theorem dX1_height_9 : decode cX1_height 9 = .ok (.ireturn, 1) := by decide +kernel
theorem dX1_height_10 : decode cX1_height 10 = .ok (.iconst 0, 1) := by decide +kernel
theorem dX1_height_11 : decode cX1_height 11 = .ok (.istore_n 2, 1) := by decide +kernel
theorem dX1_height_12 : decode cX1_height 12 = .ok (.iload_n 2, 1) := by decide +kernel
theorem dX1_height_13 : decode cX1_height 13 = .ok (.aload_n 0, 1) := by decide +kernel
theorem dX1_height_14 : decode cX1_height 14 = .ok (.getfield 42, 3) := by decide +kernel
theorem dX1_height_17 : decode cX1_height 17 = .ok (.if_icmp .ge 110, 3) := by decide +kernel
theorem dX1_height_20 : decode cX1_height 20 = .ok (.aload_n 0, 1) := by decide +kernel
theorem dX1_height_21 : decode cX1_height 21 = .ok (.getfield 26, 3) := by decide +kernel
theorem dX1_height_24 : decode cX1_height 24 = .ok (.iload_n 2, 1) := by decide +kernel
theorem dX1_height_25 : decode cX1_height 25 = .ok (.baload, 1) := by decide +kernel
theorem dX1_height_26 : decode cX1_height 26 = .ok (.istore_n 3, 1) := by decide +kernel
theorem dX1_height_27 : decode cX1_height 27 = .ok (.aload_n 0, 1) := by decide +kernel
theorem dX1_height_28 : decode cX1_height 28 = .ok (.aload_n 0, 1) := by decide +kernel
theorem dX1_height_29 : decode cX1_height 29 = .ok (.getfield 20, 3) := by decide +kernel
theorem dX1_height_32 : decode cX1_height 32 = .ok (.iload_n 3, 1) := by decide +kernel
theorem dX1_height_33 : decode cX1_height 33 = .ok (.iaload, 1) := by decide +kernel
theorem dX1_height_34 : decode cX1_height 34 = .ok (.invokevirtual 66, 3) := by decide +kernel
theorem dX1_height_37 : decode cX1_height 37 = .ok (.aload_n 0, 1) := by decide +kernel
theorem dX1_height_38 : decode cX1_height 38 = .ok (.getfield 20, 3) := by decide +kernel
theorem dX1_height_41 : decode cX1_height 41 = .ok (.iload_n 3, 1) := by decide +kernel
theorem dX1_height_42 : decode cX1_height 42 = .ok (.iaload, 1) := by decide +kernel
theorem dX1_height_43 : decode cX1_height 43 = .ok (.iconst (-1), 1) := by decide +kernel
theorem dX1_height_44 : decode cX1_height 44 = .ok (.ixor, 1) := by decide +kernel
theorem dX1_height_45 : decode cX1_height 45 = .ok (.iand, 1) := by decide +kernel
theorem dX1_height_46 : decode cX1_height 46 = .ok (.istore 4, 2) := by decide +kernel
theorem dX1_height_48 : decode cX1_height 48 = .ok (.iconst 0, 1) := by decide +kernel
theorem dX1_height_49 : decode cX1_height 49 = .ok (.istore 5, 2) := by decide +kernel
theorem dX1_height_51 : decode cX1_height 51 = .ok (.iconst 0, 1) := by decide +kernel
theorem dX1_height_52 : decode cX1_height 52 = .ok (.istore 6, 2) := by decide +kernel
theorem dX1_height_54 : decode cX1_height 54 = .ok (.iload 6, 2) := by decide +kernel
theorem dX1_height_56 : decode cX1_height 56 = .ok (.aload_n 0, 1) := by decide +kernel
theorem dX1_height_57 : decode cX1_height 57 = .ok (.getfield 38, 3) := by decide +kernel
theorem dX1_height_60 : decode cX1_height 60 = .ok (.if_icmp .ge 52, 3) := by decide +kernel
theorem dX1_height_63 : decode cX1_height 63 = .ok (.iload 4, 2) := by decide +kernel
theorem dX1_height_65 : decode cX1_height 65 = .ok (.iload 6, 2) := by decide +kernel
theorem dX1_height_67 : decode cX1_height 67 = .ok (.ishr, 1) := by decide +kernel
theorem dX1_height_68 : decode cX1_height 68 = .ok (.iconst 1, 1) := by decide +kernel
theorem dX1_height_69 : decode cX1_height 69 = .ok (.iand, 1) := by decide +kernel
theorem dX1_height_70 : decode cX1_height 70 = .ok (.ifCond .eq 36, 3) := by decide +kernel
theorem dX1_height_73 : decode cX1_height 73 = .ok (.aload_n 0, 1) := by decide +kernel
theorem dX1_height_74 : decode cX1_height 74 = .ok (.getfield 32, 3) := by decide +kernel
theorem dX1_height_77 : decode cX1_height 77 = .ok (.aload_n 0, 1) := by decide +kernel
theorem dX1_height_78 : decode cX1_height 78 = .ok (.getfield 16, 3) := by decide +kernel
theorem dX1_height_81 : decode cX1_height 81 = .ok (.iload 6, 2) := by decide +kernel
theorem dX1_height_83 : decode cX1_height 83 = .ok (.baload, 1) := by decide +kernel
theorem dX1_height_84 : decode cX1_height 84 = .ok (.baload, 1) := by decide +kernel
theorem dX1_height_85 : decode cX1_height 85 = .ok (.iload 5, 2) := by decide +kernel
theorem dX1_height_87 : decode cX1_height 87 = .ok (.if_icmp .lt 19, 3) := by decide +kernel
theorem dX1_height_90 : decode cX1_height 90 = .ok (.aload_n 0, 1) := by decide +kernel
theorem dX1_height_91 : decode cX1_height 91 = .ok (.getfield 32, 3) := by decide +kernel
theorem dX1_height_94 : decode cX1_height 94 = .ok (.aload_n 0, 1) := by decide +kernel
theorem dX1_height_95 : decode cX1_height 95 = .ok (.getfield 16, 3) := by decide +kernel
theorem dX1_height_98 : decode cX1_height 98 = .ok (.iload 6, 2) := by decide +kernel
theorem dX1_height_100 : decode cX1_height 100 = .ok (.baload, 1) := by decide +kernel
theorem dX1_height_101 : decode cX1_height 101 = .ok (.baload, 1) := by decide +kernel
theorem dX1_height_102 : decode cX1_height 102 = .ok (.iconst 1, 1) := by decide +kernel
theorem dX1_height_103 : decode cX1_height 103 = .ok (.iadd, 1) := by decide +kernel
theorem dX1_height_104 : decode cX1_height 104 = .ok (.istore 5, 2) := by decide +kernel
theorem dX1_height_106 : decode cX1_height 106 = .ok (.iinc 6 1, 3) := by decide +kernel
theorem dX1_height_109 : decode cX1_height 109 = .ok (.goto (-55), 3) := by decide +kernel
theorem dX1_height_112 : decode cX1_height 112 = .ok (.aload_n 0, 1) := by decide +kernel
theorem dX1_height_113 : decode cX1_height 113 = .ok (.getfield 32, 3) := by decide +kernel
theorem dX1_height_116 : decode cX1_height 116 = .ok (.iload_n 3, 1) := by decide +kernel
theorem dX1_height_117 : decode cX1_height 117 = .ok (.iload 5, 2) := by decide +kernel
theorem dX1_height_119 : decode cX1_height 119 = .ok (.i2b, 1) := by decide +kernel
theorem dX1_height_120 : decode cX1_height 120 = .ok (.bastore, 1) := by decide +kernel
theorem dX1_height_121 : decode cX1_height 121 = .ok (.iinc 2 1, 3) := by decide +kernel
theorem dX1_height_124 : decode cX1_height 124 = .ok (.goto (-112), 3) := by decide +kernel
theorem dX1_height_127 : decode cX1_height 127 = .ok (.aload_n 0, 1) := by decide +kernel
theorem dX1_height_128 : decode cX1_height 128 = .ok (.getfield 32, 3) := by decide +kernel
theorem dX1_height_131 : decode cX1_height 131 = .ok (.aload_n 0, 1) := by decide +kernel
theorem dX1_height_132 : decode cX1_height 132 = .ok (.getfield 16, 3) := by decide +kernel
theorem dX1_height_135 : decode cX1_height 135 = .ok (.iload_n 1, 1) := by decide +kernel
theorem dX1_height_136 : decode cX1_height 136 = .ok (.baload, 1) := by decide +kernel
theorem dX1_height_137 : decode cX1_height 137 = .ok (.baload, 1) := by decide +kernel
theorem dX1_height_138 : decode cX1_height 138 = .ok (.ireturn, 1) := by decide +kernel
abbrev cX1_cycle : ByteArray := prog_1_method_9_code
def yX1_cycle : MethodName := ⟨RX1, "cycle", "(I)I"⟩
theorem dX1_cycle_0 : decode cX1_cycle 0 = .ok (.aload_n 0, 1) := by decide +kernel
theorem dX1_cycle_1 : decode cX1_cycle 1 = .ok (.iload_n 1, 1) := by decide +kernel
theorem dX1_cycle_2 : decode cX1_cycle 2 = .ok (.invokevirtual 45, 3) := by decide +kernel
theorem dX1_cycle_5 : decode cX1_cycle 5 = .ok (.ifCond .ne 5, 3) := by decide +kernel
theorem dX1_cycle_8 : decode cX1_cycle 8 = .ok (.iconst (-1), 1) := by decide +kernel
theorem dX1_cycle_9 : decode cX1_cycle 9 = .ok (.ireturn, 1) := by decide +kernel
theorem dX1_cycle_10 : decode cX1_cycle 10 = .ok (.aload_n 0, 1) := by decide +kernel
theorem dX1_cycle_11 : decode cX1_cycle 11 = .ok (.getfield 20, 3) := by decide +kernel
theorem dX1_cycle_14 : decode cX1_cycle 14 = .ok (.aload_n 0, 1) := by decide +kernel
theorem dX1_cycle_15 : decode cX1_cycle 15 = .ok (.getfield 16, 3) := by decide +kernel
theorem dX1_cycle_18 : decode cX1_cycle 18 = .ok (.iload_n 1, 1) := by decide +kernel
theorem dX1_cycle_19 : decode cX1_cycle 19 = .ok (.baload, 1) := by decide +kernel
theorem dX1_cycle_20 : decode cX1_cycle 20 = .ok (.iaload, 1) := by decide +kernel
theorem dX1_cycle_21 : decode cX1_cycle 21 = .ok (.istore_n 2, 1) := by decide +kernel
theorem dX1_cycle_22 : decode cX1_cycle 22 = .ok (.aload_n 0, 1) := by decide +kernel
theorem dX1_cycle_23 : decode cX1_cycle 23 = .ok (.getfield 7, 3) := by decide +kernel
theorem dX1_cycle_26 : decode cX1_cycle 26 = .ok (.iload_n 1, 1) := by decide +kernel
theorem dX1_cycle_27 : decode cX1_cycle 27 = .ok (.iaload, 1) := by decide +kernel
theorem dX1_cycle_28 : decode cX1_cycle 28 = .ok (.iload_n 2, 1) := by decide +kernel
theorem dX1_cycle_29 : decode cX1_cycle 29 = .ok (.iand, 1) := by decide +kernel
theorem dX1_cycle_30 : decode cX1_cycle 30 = .ok (.istore_n 3, 1) := by decide +kernel
theorem dX1_cycle_31 : decode cX1_cycle 31 = .ok (.iload_n 3, 1) := by decide +kernel
theorem dX1_cycle_32 : decode cX1_cycle 32 = .ok (.istore 4, 2) := by decide +kernel
theorem dX1_cycle_34 : decode cX1_cycle 34 = .ok (.iconst 1, 1) := by decide +kernel
theorem dX1_cycle_35 : decode cX1_cycle 35 = .ok (.istore 5, 2) := by decide +kernel
theorem dX1_cycle_37 : decode cX1_cycle 37 = .ok (.iload 5, 2) := by decide +kernel
theorem dX1_cycle_39 : decode cX1_cycle 39 = .ok (.bipush 16, 2) := by decide +kernel
theorem dX1_cycle_41 : decode cX1_cycle 41 = .ok (.if_icmp .gt 44, 3) := by decide +kernel
theorem dX1_cycle_44 : decode cX1_cycle 44 = .ok (.iload_n 3, 1) := by decide +kernel
theorem dX1_cycle_45 : decode cX1_cycle 45 = .ok (.ifCond .eq 40, 3) := by decide +kernel
theorem dX1_cycle_48 : decode cX1_cycle 48 = .ok (.iload 4, 2) := by decide +kernel
theorem dX1_cycle_50 : decode cX1_cycle 50 = .ok (.iload_n 1, 1) := by decide +kernel
theorem dX1_cycle_51 : decode cX1_cycle 51 = .ok (.ishr, 1) := by decide +kernel
theorem dX1_cycle_52 : decode cX1_cycle 52 = .ok (.iconst 1, 1) := by decide +kernel
theorem dX1_cycle_53 : decode cX1_cycle 53 = .ok (.iand, 1) := by decide +kernel
theorem dX1_cycle_54 : decode cX1_cycle 54 = .ok (.ifCond .eq 6, 3) := by decide +kernel
theorem dX1_cycle_57 : decode cX1_cycle 57 = .ok (.iload 5, 2) := by decide +kernel
theorem dX1_cycle_59 : decode cX1_cycle 59 = .ok (.ireturn, 1) := by decide +kernel
theorem dX1_cycle_60 : decode cX1_cycle 60 = .ok (.aload_n 0, 1) := by decide +kernel
theorem dX1_cycle_61 : decode cX1_cycle 61 = .ok (.iload_n 3, 1) := by decide +kernel
theorem dX1_cycle_62 : decode cX1_cycle 62 = .ok (.invokevirtual 69, 3) := by decide +kernel
theorem dX1_cycle_65 : decode cX1_cycle 65 = .ok (.iload_n 2, 1) := by decide +kernel
theorem dX1_cycle_66 : decode cX1_cycle 66 = .ok (.iand, 1) := by decide +kernel
theorem dX1_cycle_67 : decode cX1_cycle 67 = .ok (.iload 4, 2) := by decide +kernel
theorem dX1_cycle_69 : decode cX1_cycle 69 = .ok (.iconst (-1), 1) := by decide +kernel
theorem dX1_cycle_70 : decode cX1_cycle 70 = .ok (.ixor, 1) := by decide +kernel
theorem dX1_cycle_71 : decode cX1_cycle 71 = .ok (.iand, 1) := by decide +kernel
theorem dX1_cycle_72 : decode cX1_cycle 72 = .ok (.istore_n 3, 1) := by decide +kernel
theorem dX1_cycle_73 : decode cX1_cycle 73 = .ok (.iload 4, 2) := by decide +kernel
theorem dX1_cycle_75 : decode cX1_cycle 75 = .ok (.iload_n 3, 1) := by decide +kernel
theorem dX1_cycle_76 : decode cX1_cycle 76 = .ok (.ior, 1) := by decide +kernel
theorem dX1_cycle_77 : decode cX1_cycle 77 = .ok (.istore 4, 2) := by decide +kernel
theorem dX1_cycle_79 : decode cX1_cycle 79 = .ok (.iinc 5 1, 3) := by decide +kernel
theorem dX1_cycle_82 : decode cX1_cycle 82 = .ok (.goto (-45), 3) := by decide +kernel
theorem dX1_cycle_85 : decode cX1_cycle 85 = .ok (.bipush (-2), 2) := by decide +kernel
theorem dX1_cycle_87 : decode cX1_cycle 87 = .ok (.ireturn, 1) := by decide +kernel
end
section
set_option maxRecDepth 100000
abbrev cX1_outerEdges : ByteArray := prog_1_method_10_code
def yX1_outerEdges : MethodName := ⟨RX1, "outerEdges", "()I"⟩
theorem dX1_outerEdges_0 : decode cX1_outerEdges 0 = .ok (.iconst 0, 1) := by decide +kernel
theorem dX1_outerEdges_1 : decode cX1_outerEdges 1 = .ok (.istore_n 1, 1) := by decide +kernel
theorem dX1_outerEdges_2 : decode cX1_outerEdges 2 = .ok (.iconst 0, 1) := by decide +kernel
theorem dX1_outerEdges_3 : decode cX1_outerEdges 3 = .ok (.istore_n 2, 1) := by decide +kernel
theorem dX1_outerEdges_4 : decode cX1_outerEdges 4 = .ok (.iload_n 2, 1) := by decide +kernel
theorem dX1_outerEdges_5 : decode cX1_outerEdges 5 = .ok (.aload_n 0, 1) := by decide +kernel
theorem dX1_outerEdges_6 : decode cX1_outerEdges 6 = .ok (.getfield 38, 3) := by decide +kernel
theorem dX1_outerEdges_9 : decode cX1_outerEdges 9 = .ok (.if_icmp .ge 36, 3) := by decide +kernel
theorem dX1_outerEdges_12 : decode cX1_outerEdges 12 = .ok (.iload_n 1, 1) := by decide +kernel
theorem dX1_outerEdges_13 : decode cX1_outerEdges 13 = .ok (.aload_n 0, 1) := by decide +kernel
theorem dX1_outerEdges_14 : decode cX1_outerEdges 14 = .ok (.aload_n 0, 1) := by decide +kernel
theorem dX1_outerEdges_15 : decode cX1_outerEdges 15 = .ok (.getfield 7, 3) := by decide +kernel
theorem dX1_outerEdges_18 : decode cX1_outerEdges 18 = .ok (.iload_n 2, 1) := by decide +kernel
theorem dX1_outerEdges_19 : decode cX1_outerEdges 19 = .ok (.iaload, 1) := by decide +kernel
theorem dX1_outerEdges_20 : decode cX1_outerEdges 20 = .ok (.aload_n 0, 1) := by decide +kernel
theorem dX1_outerEdges_21 : decode cX1_outerEdges 21 = .ok (.getfield 20, 3) := by decide +kernel
theorem dX1_outerEdges_24 : decode cX1_outerEdges 24 = .ok (.aload_n 0, 1) := by decide +kernel
theorem dX1_outerEdges_25 : decode cX1_outerEdges 25 = .ok (.getfield 16, 3) := by decide +kernel
theorem dX1_outerEdges_28 : decode cX1_outerEdges 28 = .ok (.iload_n 2, 1) := by decide +kernel
theorem dX1_outerEdges_29 : decode cX1_outerEdges 29 = .ok (.baload, 1) := by decide +kernel
theorem dX1_outerEdges_30 : decode cX1_outerEdges 30 = .ok (.iaload, 1) := by decide +kernel
theorem dX1_outerEdges_31 : decode cX1_outerEdges 31 = .ok (.iconst (-1), 1) := by decide +kernel
theorem dX1_outerEdges_32 : decode cX1_outerEdges 32 = .ok (.ixor, 1) := by decide +kernel
theorem dX1_outerEdges_33 : decode cX1_outerEdges 33 = .ok (.iand, 1) := by decide +kernel
theorem dX1_outerEdges_34 : decode cX1_outerEdges 34 = .ok (.invokevirtual 60, 3) := by decide +kernel
theorem dX1_outerEdges_37 : decode cX1_outerEdges 37 = .ok (.iadd, 1) := by decide +kernel
theorem dX1_outerEdges_38 : decode cX1_outerEdges 38 = .ok (.istore_n 1, 1) := by decide +kernel
theorem dX1_outerEdges_39 : decode cX1_outerEdges 39 = .ok (.iinc 2 1, 3) := by decide +kernel
theorem dX1_outerEdges_42 : decode cX1_outerEdges 42 = .ok (.goto (-38), 3) := by decide +kernel
theorem dX1_outerEdges_45 : decode cX1_outerEdges 45 = .ok (.iload_n 1, 1) := by decide +kernel
theorem dX1_outerEdges_46 : decode cX1_outerEdges 46 = .ok (.ireturn, 1) := by decide +kernel
abbrev cX1_inOneLine : ByteArray := prog_1_method_11_code
def yX1_inOneLine : MethodName := ⟨RX1, "inOneLine", "()Z"⟩
theorem dX1_inOneLine_0 : decode cX1_inOneLine 0 = .ok (.iconst 0, 1) := by decide +kernel
theorem dX1_inOneLine_1 : decode cX1_inOneLine 1 = .ok (.istore_n 1, 1) := by decide +kernel
theorem dX1_inOneLine_2 : decode cX1_inOneLine 2 = .ok (.iload_n 1, 1) := by decide +kernel
theorem dX1_inOneLine_3 : decode cX1_inOneLine 3 = .ok (.iconst 1, 1) := by decide +kernel
theorem dX1_inOneLine_4 : decode cX1_inOneLine 4 = .ok (.iadd, 1) := by decide +kernel
theorem dX1_inOneLine_5 : decode cX1_inOneLine 5 = .ok (.aload_n 0, 1) := by decide +kernel
theorem dX1_inOneLine_6 : decode cX1_inOneLine 6 = .ok (.getfield 42, 3) := by decide +kernel
theorem dX1_inOneLine_9 : decode cX1_inOneLine 9 = .ok (.if_icmp .ge 47, 3) := by decide +kernel
theorem dX1_inOneLine_12 : decode cX1_inOneLine 12 = .ok (.aload_n 0, 1) := by decide +kernel
theorem dX1_inOneLine_13 : decode cX1_inOneLine 13 = .ok (.getfield 26, 3) := by decide +kernel
theorem dX1_inOneLine_16 : decode cX1_inOneLine 16 = .ok (.iload_n 1, 1) := by decide +kernel
theorem dX1_inOneLine_17 : decode cX1_inOneLine 17 = .ok (.iconst 1, 1) := by decide +kernel
theorem dX1_inOneLine_18 : decode cX1_inOneLine 18 = .ok (.iadd, 1) := by decide +kernel
theorem dX1_inOneLine_19 : decode cX1_inOneLine 19 = .ok (.baload, 1) := by decide +kernel
theorem dX1_inOneLine_20 : decode cX1_inOneLine 20 = .ok (.istore_n 2, 1) := by decide +kernel
theorem dX1_inOneLine_21 : decode cX1_inOneLine 21 = .ok (.aload_n 0, 1) := by decide +kernel
theorem dX1_inOneLine_22 : decode cX1_inOneLine 22 = .ok (.aload_n 0, 1) := by decide +kernel
theorem dX1_inOneLine_23 : decode cX1_inOneLine 23 = .ok (.getfield 20, 3) := by decide +kernel
theorem dX1_inOneLine_26 : decode cX1_inOneLine 26 = .ok (.aload_n 0, 1) := by decide +kernel
theorem dX1_inOneLine_27 : decode cX1_inOneLine 27 = .ok (.getfield 26, 3) := by decide +kernel
theorem dX1_inOneLine_30 : decode cX1_inOneLine 30 = .ok (.iload_n 1, 1) := by decide +kernel
theorem dX1_inOneLine_31 : decode cX1_inOneLine 31 = .ok (.baload, 1) := by decide +kernel
theorem dX1_inOneLine_32 : decode cX1_inOneLine 32 = .ok (.iaload, 1) := by decide +kernel
theorem dX1_inOneLine_33 : decode cX1_inOneLine 33 = .ok (.invokevirtual 69, 3) := by decide +kernel
theorem dX1_inOneLine_36 : decode cX1_inOneLine 36 = .ok (.istore_n 3, 1) := by decide +kernel
theorem dX1_inOneLine_37 : decode cX1_inOneLine 37 = .ok (.iload_n 3, 1) := by decide +kernel
theorem dX1_inOneLine_38 : decode cX1_inOneLine 38 = .ok (.aload_n 0, 1) := by decide +kernel
theorem dX1_inOneLine_39 : decode cX1_inOneLine 39 = .ok (.getfield 20, 3) := by decide +kernel
theorem dX1_inOneLine_42 : decode cX1_inOneLine 42 = .ok (.iload_n 2, 1) := by decide +kernel
theorem dX1_inOneLine_43 : decode cX1_inOneLine 43 = .ok (.iaload, 1) := by decide +kernel
theorem dX1_inOneLine_44 : decode cX1_inOneLine 44 = .ok (.iand, 1) := by decide +kernel
theorem dX1_inOneLine_45 : decode cX1_inOneLine 45 = .ok (.ifCond .ne 5, 3) := by decide +kernel
theorem dX1_inOneLine_48 : decode cX1_inOneLine 48 = .ok (.iconst 0, 1) := by decide +kernel
theorem dX1_inOneLine_49 : decode cX1_inOneLine 49 = .ok (.ireturn, 1) := by decide +kernel
theorem dX1_inOneLine_50 : decode cX1_inOneLine 50 = .ok (.iinc 1 1, 3) := by decide +kernel
theorem dX1_inOneLine_53 : decode cX1_inOneLine 53 = .ok (.goto (-51), 3) := by decide +kernel
theorem dX1_inOneLine_56 : decode cX1_inOneLine 56 = .ok (.iconst 1, 1) := by decide +kernel
theorem dX1_inOneLine_57 : decode cX1_inOneLine 57 = .ok (.ireturn, 1) := by decide +kernel
end
section
set_option maxRecDepth 100000
theorem q25 : (Jvm.Cond.initialized "IncrementalScc") ∈ lw_all := lw_g (lw_at lw_m1 1 rfl) rfl
theorem q28 : (Jvm.Cond.instantiable "IncrementalScc" (12 : Nat)) ∈ lw_all := lw_g (lw_at lw_m1 4 rfl) rfl
theorem q30 : (Jvm.Cond.instanceMethod ({ cls := "IncrementalScc", name := "<init>", desc := "(I)V" } : Jvm.MethodName)) ∈ lw_all := lw_g (lw_at lw_m1 6 rfl) rfl
theorem q31 : (Jvm.Cond.code ({ cls := "IncrementalScc", name := "<init>", desc := "(I)V" } : Jvm.MethodName) prog_1_method_1_code (3 : Nat) (Option.none : Option Jvm.ClassFile.FieldType)) ∈ lw_all := lw_g (lw_at lw_m1 7 rfl) rfl
theorem q32 : (Jvm.Cond.methodLink "IncrementalScc" (1 : Nat) ({ cls := "java/lang/Object", name := "<init>", desc := "()V" } : Jvm.MethodName)) ∈ lw_all := lw_g (lw_at lw_m1 8 rfl) rfl
theorem q35 : (Jvm.Cond.fieldLink "IncrementalScc" (38 : Nat) "IncrementalScc" "vertexCount" "I") ∈ lw_all := lw_g (lw_at lw_m1 11 rfl) rfl
theorem q36 : (Jvm.Cond.fieldLink "IncrementalScc" (7 : Nat) "IncrementalScc" "targets" "[I") ∈ lw_all := lw_g (lw_at lw_m1 12 rfl) rfl
theorem q37 : (Jvm.Cond.fieldLink "IncrementalScc" (13 : Nat) "IncrementalScc" "sources" "[I") ∈ lw_all := lw_g (lw_at lw_m1 13 rfl) rfl
theorem q38 : (Jvm.Cond.fieldLink "IncrementalScc" (16 : Nat) "IncrementalScc" "leaderOf" "[B") ∈ lw_all := lw_g (lw_at lw_m1 14 rfl) rfl
theorem q39 : (Jvm.Cond.fieldLink "IncrementalScc" (20 : Nat) "IncrementalScc" "members" "[I") ∈ lw_all := lw_g (lw_at lw_m1 15 rfl) rfl
theorem q40 : (Jvm.Cond.fieldLink "IncrementalScc" (23 : Nat) "IncrementalScc" "place" "[B") ∈ lw_all := lw_g (lw_at lw_m1 16 rfl) rfl
theorem q41 : (Jvm.Cond.fieldLink "IncrementalScc" (26 : Nat) "IncrementalScc" "line" "[B") ∈ lw_all := lw_g (lw_at lw_m1 17 rfl) rfl
theorem q42 : (Jvm.Cond.fieldLink "IncrementalScc" (42 : Nat) "IncrementalScc" "lineLength" "I") ∈ lw_all := lw_g (lw_at lw_m1 18 rfl) rfl
theorem q43 : (Jvm.Cond.fieldLink "IncrementalScc" (29 : Nat) "IncrementalScc" "nextLine" "[B") ∈ lw_all := lw_g (lw_at lw_m1 19 rfl) rfl
theorem q44 : (Jvm.Cond.fieldLink "IncrementalScc" (81 : Nat) "IncrementalScc" "nextLength" "I") ∈ lw_all := lw_g (lw_at lw_m1 20 rfl) rfl
theorem q45 : (Jvm.Cond.fieldLink "IncrementalScc" (32 : Nat) "IncrementalScc" "heights" "[B") ∈ lw_all := lw_g (lw_at lw_m1 21 rfl) rfl
theorem q46 : (Jvm.Cond.fieldLink "IncrementalScc" (35 : Nat) "IncrementalScc" "pieces" "[I") ∈ lw_all := lw_g (lw_at lw_m1 22 rfl) rfl
theorem q47 : (Jvm.Cond.lays "IncrementalScc" "IncrementalScc" "vertexCount" "I") ∈ lw_all := lw_g (lw_at lw_m1 23 rfl) rfl
theorem q48 : (Jvm.Cond.soleField "IncrementalScc" "vertexCount") ∈ lw_all := lw_g (lw_at lw_m1 24 rfl) rfl
theorem q49 : (Jvm.Cond.laysFinal "IncrementalScc" "IncrementalScc" "targets" "[I") ∈ lw_all := lw_g (lw_at lw_m1 25 rfl) rfl
theorem q50 : (Jvm.Cond.soleField "IncrementalScc" "targets") ∈ lw_all := lw_g (lw_at lw_m1 26 rfl) rfl
theorem q51 : (Jvm.Cond.laysFinal "IncrementalScc" "IncrementalScc" "sources" "[I") ∈ lw_all := lw_g (lw_at lw_m1 27 rfl) rfl
theorem q52 : (Jvm.Cond.soleField "IncrementalScc" "sources") ∈ lw_all := lw_g (lw_at lw_m1 28 rfl) rfl
theorem q53 : (Jvm.Cond.laysFinal "IncrementalScc" "IncrementalScc" "leaderOf" "[B") ∈ lw_all := lw_g (lw_at lw_m1 29 rfl) rfl
theorem q54 : (Jvm.Cond.soleField "IncrementalScc" "leaderOf") ∈ lw_all := lw_g (lw_at lw_m1 30 rfl) rfl
theorem q55 : (Jvm.Cond.laysFinal "IncrementalScc" "IncrementalScc" "members" "[I") ∈ lw_all := lw_g (lw_at lw_m1 31 rfl) rfl
theorem q56 : (Jvm.Cond.soleField "IncrementalScc" "members") ∈ lw_all := lw_g (lw_at lw_m1 32 rfl) rfl
theorem q57 : (Jvm.Cond.laysFinal "IncrementalScc" "IncrementalScc" "place" "[B") ∈ lw_all := lw_g (lw_at lw_m1 33 rfl) rfl
theorem q58 : (Jvm.Cond.soleField "IncrementalScc" "place") ∈ lw_all := lw_g (lw_at lw_m1 34 rfl) rfl
theorem q59 : (Jvm.Cond.laysFinal "IncrementalScc" "IncrementalScc" "line" "[B") ∈ lw_all := lw_g (lw_at lw_m1 35 rfl) rfl
theorem q60 : (Jvm.Cond.soleField "IncrementalScc" "line") ∈ lw_all := lw_g (lw_at lw_m1 36 rfl) rfl
theorem q61 : (Jvm.Cond.lays "IncrementalScc" "IncrementalScc" "lineLength" "I") ∈ lw_all := lw_g (lw_at lw_m1 37 rfl) rfl
theorem q62 : (Jvm.Cond.soleField "IncrementalScc" "lineLength") ∈ lw_all := lw_g (lw_at lw_m1 38 rfl) rfl
theorem q63 : (Jvm.Cond.laysFinal "IncrementalScc" "IncrementalScc" "nextLine" "[B") ∈ lw_all := lw_g (lw_at lw_m1 39 rfl) rfl
theorem q64 : (Jvm.Cond.soleField "IncrementalScc" "nextLine") ∈ lw_all := lw_g (lw_at lw_m1 40 rfl) rfl
theorem q65 : (Jvm.Cond.lays "IncrementalScc" "IncrementalScc" "nextLength" "I") ∈ lw_all := lw_g (lw_at lw_m1 41 rfl) rfl
theorem q66 : (Jvm.Cond.soleField "IncrementalScc" "nextLength") ∈ lw_all := lw_g (lw_at lw_m1 42 rfl) rfl
theorem q67 : (Jvm.Cond.laysFinal "IncrementalScc" "IncrementalScc" "heights" "[B") ∈ lw_all := lw_g (lw_at lw_m1 43 rfl) rfl
theorem q68 : (Jvm.Cond.soleField "IncrementalScc" "heights") ∈ lw_all := lw_g (lw_at lw_m1 44 rfl) rfl
theorem q69 : (Jvm.Cond.laysFinal "IncrementalScc" "IncrementalScc" "pieces" "[I") ∈ lw_all := lw_g (lw_at lw_m1 45 rfl) rfl
theorem q70 : (Jvm.Cond.soleField "IncrementalScc" "pieces") ∈ lw_all := lw_g (lw_at lw_m1 46 rfl) rfl
theorem q71 : (Jvm.Cond.superclass "IncrementalScc" "java/lang/Object") ∈ lw_all := lw_g (lw_at lw_m1 47 rfl) rfl
theorem q75 : (Jvm.Cond.instanceMethod ({ cls := "IncrementalScc", name := "addEdge", desc := "(II)I" } : Jvm.MethodName)) ∈ lw_all := lw_g (lw_at lw_m1 51 rfl) rfl
theorem q76 : (Jvm.Cond.selects "IncrementalScc" ({ cls := "IncrementalScc", name := "addEdge", desc := "(II)I" } : Jvm.MethodName) ({ cls := "IncrementalScc", name := "addEdge", desc := "(II)I" } : Jvm.MethodName)) ∈ lw_all := lw_g (lw_at lw_m1 52 rfl) rfl
theorem q77 : (Jvm.Cond.code ({ cls := "IncrementalScc", name := "addEdge", desc := "(II)I" } : Jvm.MethodName) prog_1_method_2_code (5 : Nat) (Option.some Jvm.ClassFile.FieldType.int)) ∈ lw_all := lw_g (lw_at lw_m1 53 rfl) rfl
theorem q78 : (Jvm.Cond.methodLink "IncrementalScc" (45 : Nat) ({ cls := "IncrementalScc", name := "isVertex", desc := "(I)Z" } : Jvm.MethodName)) ∈ lw_all := lw_g (lw_at lw_m1 54 rfl) rfl
theorem q79 : (Jvm.Cond.privateMethod ({ cls := "IncrementalScc", name := "isVertex", desc := "(I)Z" } : Jvm.MethodName)) ∈ lw_tbl := lw_at lw_m1 55 rfl
theorem q80 : (Jvm.Cond.instanceMethod ({ cls := "IncrementalScc", name := "isVertex", desc := "(I)Z" } : Jvm.MethodName)) ∈ lw_all := lw_g (lw_at lw_m1 56 rfl) rfl
theorem q81 : (Jvm.Cond.code ({ cls := "IncrementalScc", name := "isVertex", desc := "(I)Z" } : Jvm.MethodName) prog_1_method_12_code (2 : Nat) (Option.some Jvm.ClassFile.FieldType.boolean)) ∈ lw_all := lw_g (lw_at lw_m1 57 rfl) rfl
theorem q82 : (Jvm.Cond.methodLink "IncrementalScc" (49 : Nat) ({ cls := "IncrementalScc", name := "repairLine", desc := "(II)I" } : Jvm.MethodName)) ∈ lw_all := lw_g (lw_at lw_m1 58 rfl) rfl
theorem q83 : (Jvm.Cond.privateMethod ({ cls := "IncrementalScc", name := "repairLine", desc := "(II)I" } : Jvm.MethodName)) ∈ lw_tbl := lw_at lw_m1 59 rfl
theorem q84 : (Jvm.Cond.instanceMethod ({ cls := "IncrementalScc", name := "repairLine", desc := "(II)I" } : Jvm.MethodName)) ∈ lw_all := lw_g (lw_at lw_m1 60 rfl) rfl
theorem q85 : (Jvm.Cond.code ({ cls := "IncrementalScc", name := "repairLine", desc := "(II)I" } : Jvm.MethodName) prog_1_method_22_code (10 : Nat) (Option.some Jvm.ClassFile.FieldType.int)) ∈ lw_all := lw_g (lw_at lw_m1 61 rfl) rfl
theorem q86 : (Jvm.Cond.methodLink "IncrementalScc" (63 : Nat) ({ cls := "IncrementalScc", name := "forwardUpTo", desc := "(II)I" } : Jvm.MethodName)) ∈ lw_all := lw_g (lw_at lw_m1 62 rfl) rfl
theorem q87 : (Jvm.Cond.privateMethod ({ cls := "IncrementalScc", name := "forwardUpTo", desc := "(II)I" } : Jvm.MethodName)) ∈ lw_tbl := lw_at lw_m1 63 rfl
theorem q88 : (Jvm.Cond.instanceMethod ({ cls := "IncrementalScc", name := "forwardUpTo", desc := "(II)I" } : Jvm.MethodName)) ∈ lw_all := lw_g (lw_at lw_m1 64 rfl) rfl
theorem q89 : (Jvm.Cond.code ({ cls := "IncrementalScc", name := "forwardUpTo", desc := "(II)I" } : Jvm.MethodName) prog_1_method_20_code (6 : Nat) (Option.some Jvm.ClassFile.FieldType.int)) ∈ lw_all := lw_g (lw_at lw_m1 65 rfl) rfl
theorem q90 : (Jvm.Cond.methodLink "IncrementalScc" (69 : Nat) ({ cls := "IncrementalScc", name := "targetsOf", desc := "(I)I" } : Jvm.MethodName)) ∈ lw_all := lw_g (lw_at lw_m1 66 rfl) rfl
theorem q91 : (Jvm.Cond.privateMethod ({ cls := "IncrementalScc", name := "targetsOf", desc := "(I)I" } : Jvm.MethodName)) ∈ lw_tbl := lw_at lw_m1 67 rfl
theorem q92 : (Jvm.Cond.instanceMethod ({ cls := "IncrementalScc", name := "targetsOf", desc := "(I)I" } : Jvm.MethodName)) ∈ lw_all := lw_g (lw_at lw_m1 68 rfl) rfl
theorem q93 : (Jvm.Cond.code ({ cls := "IncrementalScc", name := "targetsOf", desc := "(I)I" } : Jvm.MethodName) prog_1_method_15_code (4 : Nat) (Option.some Jvm.ClassFile.FieldType.int)) ∈ lw_all := lw_g (lw_at lw_m1 69 rfl) rfl
theorem q94 : (Jvm.Cond.methodLink "IncrementalScc" (72 : Nat) ({ cls := "IncrementalScc", name := "leadersOf", desc := "(I)I" } : Jvm.MethodName)) ∈ lw_all := lw_g (lw_at lw_m1 70 rfl) rfl
theorem q95 : (Jvm.Cond.privateMethod ({ cls := "IncrementalScc", name := "leadersOf", desc := "(I)I" } : Jvm.MethodName)) ∈ lw_tbl := lw_at lw_m1 71 rfl
theorem q96 : (Jvm.Cond.instanceMethod ({ cls := "IncrementalScc", name := "leadersOf", desc := "(I)I" } : Jvm.MethodName)) ∈ lw_all := lw_g (lw_at lw_m1 72 rfl) rfl
theorem q97 : (Jvm.Cond.code ({ cls := "IncrementalScc", name := "leadersOf", desc := "(I)I" } : Jvm.MethodName) prog_1_method_19_code (4 : Nat) (Option.some Jvm.ClassFile.FieldType.int)) ∈ lw_all := lw_g (lw_at lw_m1 73 rfl) rfl
theorem q98 : (Jvm.Cond.methodLink "IncrementalScc" (75 : Nat) ({ cls := "IncrementalScc", name := "backwardDownTo", desc := "(II)I" } : Jvm.MethodName)) ∈ lw_all := lw_g (lw_at lw_m1 74 rfl) rfl
theorem q99 : (Jvm.Cond.privateMethod ({ cls := "IncrementalScc", name := "backwardDownTo", desc := "(II)I" } : Jvm.MethodName)) ∈ lw_tbl := lw_at lw_m1 75 rfl
theorem q100 : (Jvm.Cond.instanceMethod ({ cls := "IncrementalScc", name := "backwardDownTo", desc := "(II)I" } : Jvm.MethodName)) ∈ lw_all := lw_g (lw_at lw_m1 76 rfl) rfl
theorem q101 : (Jvm.Cond.code ({ cls := "IncrementalScc", name := "backwardDownTo", desc := "(II)I" } : Jvm.MethodName) prog_1_method_21_code (6 : Nat) (Option.some Jvm.ClassFile.FieldType.int)) ∈ lw_all := lw_g (lw_at lw_m1 77 rfl) rfl
theorem q102 : (Jvm.Cond.methodLink "IncrementalScc" (66 : Nat) ({ cls := "IncrementalScc", name := "sourcesOf", desc := "(I)I" } : Jvm.MethodName)) ∈ lw_all := lw_g (lw_at lw_m1 78 rfl) rfl
theorem q103 : (Jvm.Cond.privateMethod ({ cls := "IncrementalScc", name := "sourcesOf", desc := "(I)I" } : Jvm.MethodName)) ∈ lw_tbl := lw_at lw_m1 79 rfl
theorem q104 : (Jvm.Cond.instanceMethod ({ cls := "IncrementalScc", name := "sourcesOf", desc := "(I)I" } : Jvm.MethodName)) ∈ lw_all := lw_g (lw_at lw_m1 80 rfl) rfl
theorem q105 : (Jvm.Cond.code ({ cls := "IncrementalScc", name := "sourcesOf", desc := "(I)I" } : Jvm.MethodName) prog_1_method_16_code (4 : Nat) (Option.some Jvm.ClassFile.FieldType.int)) ∈ lw_all := lw_g (lw_at lw_m1 81 rfl) rfl
theorem q106 : (Jvm.Cond.methodLink "IncrementalScc" (78 : Nat) ({ cls := "IncrementalScc", name := "leadersBetween", desc := "(II)I" } : Jvm.MethodName)) ∈ lw_all := lw_g (lw_at lw_m1 82 rfl) rfl
theorem q107 : (Jvm.Cond.privateMethod ({ cls := "IncrementalScc", name := "leadersBetween", desc := "(II)I" } : Jvm.MethodName)) ∈ lw_tbl := lw_at lw_m1 83 rfl
theorem q108 : (Jvm.Cond.instanceMethod ({ cls := "IncrementalScc", name := "leadersBetween", desc := "(II)I" } : Jvm.MethodName)) ∈ lw_all := lw_g (lw_at lw_m1 84 rfl) rfl
theorem q109 : (Jvm.Cond.code ({ cls := "IncrementalScc", name := "leadersBetween", desc := "(II)I" } : Jvm.MethodName) prog_1_method_23_code (5 : Nat) (Option.some Jvm.ClassFile.FieldType.int)) ∈ lw_all := lw_g (lw_at lw_m1 85 rfl) rfl
theorem q110 : (Jvm.Cond.methodLink "IncrementalScc" (84 : Nat) ({ cls := "IncrementalScc", name := "append", desc := "(I)V" } : Jvm.MethodName)) ∈ lw_all := lw_g (lw_at lw_m1 86 rfl) rfl
theorem q111 : (Jvm.Cond.privateMethod ({ cls := "IncrementalScc", name := "append", desc := "(I)V" } : Jvm.MethodName)) ∈ lw_tbl := lw_at lw_m1 87 rfl
theorem q112 : (Jvm.Cond.instanceMethod ({ cls := "IncrementalScc", name := "append", desc := "(I)V" } : Jvm.MethodName)) ∈ lw_all := lw_g (lw_at lw_m1 88 rfl) rfl
theorem q113 : (Jvm.Cond.code ({ cls := "IncrementalScc", name := "append", desc := "(I)V" } : Jvm.MethodName) prog_1_method_26_code (2 : Nat) (Option.none : Option Jvm.ClassFile.FieldType)) ∈ lw_all := lw_g (lw_at lw_m1 89 rfl) rfl
theorem q114 : (Jvm.Cond.methodLink "IncrementalScc" (60 : Nat) ({ cls := "IncrementalScc", name := "bitsIn", desc := "(I)I" } : Jvm.MethodName)) ∈ lw_all := lw_g (lw_at lw_m1 90 rfl) rfl
theorem q115 : (Jvm.Cond.privateMethod ({ cls := "IncrementalScc", name := "bitsIn", desc := "(I)I" } : Jvm.MethodName)) ∈ lw_tbl := lw_at lw_m1 91 rfl
theorem q116 : (Jvm.Cond.instanceMethod ({ cls := "IncrementalScc", name := "bitsIn", desc := "(I)I" } : Jvm.MethodName)) ∈ lw_all := lw_g (lw_at lw_m1 92 rfl) rfl
theorem q117 : (Jvm.Cond.code ({ cls := "IncrementalScc", name := "bitsIn", desc := "(I)I" } : Jvm.MethodName) prog_1_method_13_code (4 : Nat) (Option.some Jvm.ClassFile.FieldType.int)) ∈ lw_all := lw_g (lw_at lw_m1 93 rfl) rfl
theorem q118 : (Jvm.Cond.methodLink "IncrementalScc" (88 : Nat) ({ cls := "IncrementalScc", name := "melt", desc := "(I)I" } : Jvm.MethodName)) ∈ lw_all := lw_g (lw_at lw_m1 94 rfl) rfl
theorem q119 : (Jvm.Cond.privateMethod ({ cls := "IncrementalScc", name := "melt", desc := "(I)I" } : Jvm.MethodName)) ∈ lw_tbl := lw_at lw_m1 95 rfl
theorem q120 : (Jvm.Cond.instanceMethod ({ cls := "IncrementalScc", name := "melt", desc := "(I)I" } : Jvm.MethodName)) ∈ lw_all := lw_g (lw_at lw_m1 96 rfl) rfl
theorem q121 : (Jvm.Cond.code ({ cls := "IncrementalScc", name := "melt", desc := "(I)I" } : Jvm.MethodName) prog_1_method_24_code (4 : Nat) (Option.some Jvm.ClassFile.FieldType.int)) ∈ lw_all := lw_g (lw_at lw_m1 97 rfl) rfl
theorem q122 : (Jvm.Cond.methodLink "IncrementalScc" (94 : Nat) ({ cls := "IncrementalScc", name := "claim", desc := "(I)I" } : Jvm.MethodName)) ∈ lw_all := lw_g (lw_at lw_m1 98 rfl) rfl
theorem q123 : (Jvm.Cond.privateMethod ({ cls := "IncrementalScc", name := "claim", desc := "(I)I" } : Jvm.MethodName)) ∈ lw_tbl := lw_at lw_m1 99 rfl
theorem q124 : (Jvm.Cond.instanceMethod ({ cls := "IncrementalScc", name := "claim", desc := "(I)I" } : Jvm.MethodName)) ∈ lw_all := lw_g (lw_at lw_m1 100 rfl) rfl
theorem q125 : (Jvm.Cond.code ({ cls := "IncrementalScc", name := "claim", desc := "(I)I" } : Jvm.MethodName) prog_1_method_25_code (4 : Nat) (Option.some Jvm.ClassFile.FieldType.int)) ∈ lw_all := lw_g (lw_at lw_m1 101 rfl) rfl
theorem q126 : (Jvm.Cond.methodLink "IncrementalScc" (97 : Nat) ({ cls := "IncrementalScc", name := "lowest", desc := "(I)I" } : Jvm.MethodName)) ∈ lw_all := lw_g (lw_at lw_m1 102 rfl) rfl
theorem q127 : (Jvm.Cond.privateMethod ({ cls := "IncrementalScc", name := "lowest", desc := "(I)I" } : Jvm.MethodName)) ∈ lw_tbl := lw_at lw_m1 103 rfl
theorem q128 : (Jvm.Cond.instanceMethod ({ cls := "IncrementalScc", name := "lowest", desc := "(I)I" } : Jvm.MethodName)) ∈ lw_all := lw_g (lw_at lw_m1 104 rfl) rfl
theorem q129 : (Jvm.Cond.code ({ cls := "IncrementalScc", name := "lowest", desc := "(I)I" } : Jvm.MethodName) prog_1_method_14_code (3 : Nat) (Option.some Jvm.ClassFile.FieldType.int)) ∈ lw_all := lw_g (lw_at lw_m1 105 rfl) rfl
theorem q130 : (Jvm.Cond.methodLink "IncrementalScc" (91 : Nat) ({ cls := "IncrementalScc", name := "adoptLine", desc := "()V" } : Jvm.MethodName)) ∈ lw_all := lw_g (lw_at lw_m1 106 rfl) rfl
theorem q131 : (Jvm.Cond.privateMethod ({ cls := "IncrementalScc", name := "adoptLine", desc := "()V" } : Jvm.MethodName)) ∈ lw_tbl := lw_at lw_m1 107 rfl
theorem q132 : (Jvm.Cond.instanceMethod ({ cls := "IncrementalScc", name := "adoptLine", desc := "()V" } : Jvm.MethodName)) ∈ lw_all := lw_g (lw_at lw_m1 108 rfl) rfl
theorem q133 : (Jvm.Cond.code ({ cls := "IncrementalScc", name := "adoptLine", desc := "()V" } : Jvm.MethodName) prog_1_method_27_code (2 : Nat) (Option.none : Option Jvm.ClassFile.FieldType)) ∈ lw_all := lw_g (lw_at lw_m1 109 rfl) rfl
theorem q135 : (Jvm.Cond.instanceMethod ({ cls := "IncrementalScc", name := "removeEdge", desc := "(II)I" } : Jvm.MethodName)) ∈ lw_all := lw_g (lw_at lw_m1 111 rfl) rfl
theorem q136 : (Jvm.Cond.selects "IncrementalScc" ({ cls := "IncrementalScc", name := "removeEdge", desc := "(II)I" } : Jvm.MethodName) ({ cls := "IncrementalScc", name := "removeEdge", desc := "(II)I" } : Jvm.MethodName)) ∈ lw_all := lw_g (lw_at lw_m1 112 rfl) rfl
theorem q137 : (Jvm.Cond.code ({ cls := "IncrementalScc", name := "removeEdge", desc := "(II)I" } : Jvm.MethodName) prog_1_method_3_code (5 : Nat) (Option.some Jvm.ClassFile.FieldType.int)) ∈ lw_all := lw_g (lw_at lw_m1 113 rfl) rfl
theorem q138 : (Jvm.Cond.methodLink "IncrementalScc" (53 : Nat) ({ cls := "IncrementalScc", name := "spreadWithin", desc := "(II)I" } : Jvm.MethodName)) ∈ lw_all := lw_g (lw_at lw_m1 114 rfl) rfl
theorem q139 : (Jvm.Cond.privateMethod ({ cls := "IncrementalScc", name := "spreadWithin", desc := "(II)I" } : Jvm.MethodName)) ∈ lw_tbl := lw_at lw_m1 115 rfl
theorem q140 : (Jvm.Cond.instanceMethod ({ cls := "IncrementalScc", name := "spreadWithin", desc := "(II)I" } : Jvm.MethodName)) ∈ lw_all := lw_g (lw_at lw_m1 116 rfl) rfl
theorem q141 : (Jvm.Cond.code ({ cls := "IncrementalScc", name := "spreadWithin", desc := "(II)I" } : Jvm.MethodName) prog_1_method_17_code (6 : Nat) (Option.some Jvm.ClassFile.FieldType.int)) ∈ lw_all := lw_g (lw_at lw_m1 117 rfl) rfl
theorem q142 : (Jvm.Cond.methodLink "IncrementalScc" (56 : Nat) ({ cls := "IncrementalScc", name := "split", desc := "(I)I" } : Jvm.MethodName)) ∈ lw_all := lw_g (lw_at lw_m1 118 rfl) rfl
theorem q143 : (Jvm.Cond.privateMethod ({ cls := "IncrementalScc", name := "split", desc := "(I)I" } : Jvm.MethodName)) ∈ lw_tbl := lw_at lw_m1 119 rfl
theorem q144 : (Jvm.Cond.instanceMethod ({ cls := "IncrementalScc", name := "split", desc := "(I)I" } : Jvm.MethodName)) ∈ lw_all := lw_g (lw_at lw_m1 120 rfl) rfl
theorem q145 : (Jvm.Cond.code ({ cls := "IncrementalScc", name := "split", desc := "(I)I" } : Jvm.MethodName) prog_1_method_28_code (10 : Nat) (Option.some Jvm.ClassFile.FieldType.int)) ∈ lw_all := lw_g (lw_at lw_m1 121 rfl) rfl
theorem q146 : (Jvm.Cond.methodLink "IncrementalScc" (100 : Nat) ({ cls := "IncrementalScc", name := "gatherWithin", desc := "(II)I" } : Jvm.MethodName)) ∈ lw_all := lw_g (lw_at lw_m1 122 rfl) rfl
theorem q147 : (Jvm.Cond.privateMethod ({ cls := "IncrementalScc", name := "gatherWithin", desc := "(II)I" } : Jvm.MethodName)) ∈ lw_tbl := lw_at lw_m1 123 rfl
theorem q148 : (Jvm.Cond.instanceMethod ({ cls := "IncrementalScc", name := "gatherWithin", desc := "(II)I" } : Jvm.MethodName)) ∈ lw_all := lw_g (lw_at lw_m1 124 rfl) rfl
theorem q149 : (Jvm.Cond.code ({ cls := "IncrementalScc", name := "gatherWithin", desc := "(II)I" } : Jvm.MethodName) prog_1_method_18_code (6 : Nat) (Option.some Jvm.ClassFile.FieldType.int)) ∈ lw_all := lw_g (lw_at lw_m1 125 rfl) rfl
theorem q150 : (Jvm.Cond.methodLink "IncrementalScc" (103 : Nat) ({ cls := "IncrementalScc", name := "sourcePiece", desc := "(II)I" } : Jvm.MethodName)) ∈ lw_all := lw_g (lw_at lw_m1 126 rfl) rfl
theorem q151 : (Jvm.Cond.privateMethod ({ cls := "IncrementalScc", name := "sourcePiece", desc := "(II)I" } : Jvm.MethodName)) ∈ lw_tbl := lw_at lw_m1 127 rfl
theorem q152 : (Jvm.Cond.instanceMethod ({ cls := "IncrementalScc", name := "sourcePiece", desc := "(II)I" } : Jvm.MethodName)) ∈ lw_all := lw_g (lw_at lw_m1 128 rfl) rfl
theorem q153 : (Jvm.Cond.code ({ cls := "IncrementalScc", name := "sourcePiece", desc := "(II)I" } : Jvm.MethodName) prog_1_method_29_code (6 : Nat) (Option.some Jvm.ClassFile.FieldType.int)) ∈ lw_all := lw_g (lw_at lw_m1 129 rfl) rfl
theorem q155 : (Jvm.Cond.instanceMethod ({ cls := "IncrementalScc", name := "components", desc := "()I" } : Jvm.MethodName)) ∈ lw_all := lw_g (lw_at lw_m1 131 rfl) rfl
theorem q156 : (Jvm.Cond.selects "IncrementalScc" ({ cls := "IncrementalScc", name := "components", desc := "()I" } : Jvm.MethodName) ({ cls := "IncrementalScc", name := "components", desc := "()I" } : Jvm.MethodName)) ∈ lw_all := lw_g (lw_at lw_m1 132 rfl) rfl
theorem q157 : (Jvm.Cond.code ({ cls := "IncrementalScc", name := "components", desc := "()I" } : Jvm.MethodName) prog_1_method_4_code (1 : Nat) (Option.some Jvm.ClassFile.FieldType.int)) ∈ lw_all := lw_g (lw_at lw_m1 133 rfl) rfl
theorem q159 : (Jvm.Cond.instanceMethod ({ cls := "IncrementalScc", name := "leader", desc := "(I)I" } : Jvm.MethodName)) ∈ lw_all := lw_g (lw_at lw_m1 135 rfl) rfl
theorem q160 : (Jvm.Cond.selects "IncrementalScc" ({ cls := "IncrementalScc", name := "leader", desc := "(I)I" } : Jvm.MethodName) ({ cls := "IncrementalScc", name := "leader", desc := "(I)I" } : Jvm.MethodName)) ∈ lw_all := lw_g (lw_at lw_m1 136 rfl) rfl
theorem q161 : (Jvm.Cond.code ({ cls := "IncrementalScc", name := "leader", desc := "(I)I" } : Jvm.MethodName) prog_1_method_5_code (2 : Nat) (Option.some Jvm.ClassFile.FieldType.int)) ∈ lw_all := lw_g (lw_at lw_m1 137 rfl) rfl
theorem q163 : (Jvm.Cond.instanceMethod ({ cls := "IncrementalScc", name := "componentSize", desc := "(I)I" } : Jvm.MethodName)) ∈ lw_all := lw_g (lw_at lw_m1 139 rfl) rfl
theorem q164 : (Jvm.Cond.selects "IncrementalScc" ({ cls := "IncrementalScc", name := "componentSize", desc := "(I)I" } : Jvm.MethodName) ({ cls := "IncrementalScc", name := "componentSize", desc := "(I)I" } : Jvm.MethodName)) ∈ lw_all := lw_g (lw_at lw_m1 140 rfl) rfl
theorem q165 : (Jvm.Cond.code ({ cls := "IncrementalScc", name := "componentSize", desc := "(I)I" } : Jvm.MethodName) prog_1_method_6_code (3 : Nat) (Option.some Jvm.ClassFile.FieldType.int)) ∈ lw_all := lw_g (lw_at lw_m1 141 rfl) rfl
theorem q167 : (Jvm.Cond.instanceMethod ({ cls := "IncrementalScc", name := "reaches", desc := "(II)Z" } : Jvm.MethodName)) ∈ lw_all := lw_g (lw_at lw_m1 143 rfl) rfl
theorem q168 : (Jvm.Cond.selects "IncrementalScc" ({ cls := "IncrementalScc", name := "reaches", desc := "(II)Z" } : Jvm.MethodName) ({ cls := "IncrementalScc", name := "reaches", desc := "(II)Z" } : Jvm.MethodName)) ∈ lw_all := lw_g (lw_at lw_m1 144 rfl) rfl
theorem q169 : (Jvm.Cond.code ({ cls := "IncrementalScc", name := "reaches", desc := "(II)Z" } : Jvm.MethodName) prog_1_method_7_code (6 : Nat) (Option.some Jvm.ClassFile.FieldType.boolean)) ∈ lw_all := lw_g (lw_at lw_m1 145 rfl) rfl
theorem q171 : (Jvm.Cond.instanceMethod ({ cls := "IncrementalScc", name := "height", desc := "(I)I" } : Jvm.MethodName)) ∈ lw_all := lw_g (lw_at lw_m1 147 rfl) rfl
theorem q172 : (Jvm.Cond.selects "IncrementalScc" ({ cls := "IncrementalScc", name := "height", desc := "(I)I" } : Jvm.MethodName) ({ cls := "IncrementalScc", name := "height", desc := "(I)I" } : Jvm.MethodName)) ∈ lw_all := lw_g (lw_at lw_m1 148 rfl) rfl
theorem q173 : (Jvm.Cond.code ({ cls := "IncrementalScc", name := "height", desc := "(I)I" } : Jvm.MethodName) prog_1_method_8_code (7 : Nat) (Option.some Jvm.ClassFile.FieldType.int)) ∈ lw_all := lw_g (lw_at lw_m1 149 rfl) rfl
theorem q175 : (Jvm.Cond.instanceMethod ({ cls := "IncrementalScc", name := "cycle", desc := "(I)I" } : Jvm.MethodName)) ∈ lw_all := lw_g (lw_at lw_m1 151 rfl) rfl
theorem q176 : (Jvm.Cond.selects "IncrementalScc" ({ cls := "IncrementalScc", name := "cycle", desc := "(I)I" } : Jvm.MethodName) ({ cls := "IncrementalScc", name := "cycle", desc := "(I)I" } : Jvm.MethodName)) ∈ lw_all := lw_g (lw_at lw_m1 152 rfl) rfl
theorem q177 : (Jvm.Cond.code ({ cls := "IncrementalScc", name := "cycle", desc := "(I)I" } : Jvm.MethodName) prog_1_method_9_code (6 : Nat) (Option.some Jvm.ClassFile.FieldType.int)) ∈ lw_all := lw_g (lw_at lw_m1 153 rfl) rfl
theorem q179 : (Jvm.Cond.instanceMethod ({ cls := "IncrementalScc", name := "outerEdges", desc := "()I" } : Jvm.MethodName)) ∈ lw_all := lw_g (lw_at lw_m1 155 rfl) rfl
theorem q180 : (Jvm.Cond.selects "IncrementalScc" ({ cls := "IncrementalScc", name := "outerEdges", desc := "()I" } : Jvm.MethodName) ({ cls := "IncrementalScc", name := "outerEdges", desc := "()I" } : Jvm.MethodName)) ∈ lw_all := lw_g (lw_at lw_m1 156 rfl) rfl
theorem q181 : (Jvm.Cond.code ({ cls := "IncrementalScc", name := "outerEdges", desc := "()I" } : Jvm.MethodName) prog_1_method_10_code (3 : Nat) (Option.some Jvm.ClassFile.FieldType.int)) ∈ lw_all := lw_g (lw_at lw_m1 157 rfl) rfl
theorem q183 : (Jvm.Cond.instanceMethod ({ cls := "IncrementalScc", name := "inOneLine", desc := "()Z" } : Jvm.MethodName)) ∈ lw_all := lw_g (lw_at lw_m1 159 rfl) rfl
theorem q184 : (Jvm.Cond.selects "IncrementalScc" ({ cls := "IncrementalScc", name := "inOneLine", desc := "()Z" } : Jvm.MethodName) ({ cls := "IncrementalScc", name := "inOneLine", desc := "()Z" } : Jvm.MethodName)) ∈ lw_all := lw_g (lw_at lw_m1 160 rfl) rfl
theorem q185 : (Jvm.Cond.code ({ cls := "IncrementalScc", name := "inOneLine", desc := "()Z" } : Jvm.MethodName) prog_1_method_11_code (4 : Nat) (Option.some Jvm.ClassFile.FieldType.boolean)) ∈ lw_all := lw_g (lw_at lw_m1 161 rfl) rfl
theorem in_X1 : ∀ w ∈ wsX10, w ∈ lw_all := lw_in wsX10 [47, 49, 51, 53, 55, 57, 59, 61, 63, 65, 67, 69] (by decide +kernel) (by decide +kernel)
end
section
/-! IncrementalSccModel -/
set_option maxRecDepth 100000
def RX2 : String := "IncrementalSccModel"
def TX2 : u_T := fun k => match k with
  | 0 => ("IncrementalSccModel", "n", "I", false)
  | 1 => ("IncrementalSccModel", "edge", "[Z", false)
  | 2 => ("IncrementalSccModel", "reach", "[Z", false)
  | _ => ("IncrementalSccModel", "high", "[I", false)
def tyX2 : Nat → FieldType := fun k => match k with
  | 0 => .int
  | 1 => .array .boolean
  | 2 => .array .boolean
  | _ => .array .int
abbrev wsX20 : List Cond := u_ws RX2 TX2 4
theorem nmX2 : ∀ a, a < 4 → ∀ b, b < 4 → a ≠ b → (TX2 a).2.1 ≠ (TX2 b).2.1 := by decide +kernel
theorem tyX2_ok : ∀ k, k < 4 → parseFieldDescriptor (TX2 k).2.2.1 = some (tyX2 k) := by decide +kernel
abbrev cX2_init : ByteArray := prog_3_method_1_code
def yX2_init : MethodName := ⟨RX2, "<init>", "(I)V"⟩
theorem dX2_init_0 : decode cX2_init 0 = .ok (.aload_n 0, 1) := by decide +kernel
theorem dX2_init_1 : decode cX2_init 1 = .ok (.invokespecial 1, 3) := by decide +kernel
theorem dX2_init_4 : decode cX2_init 4 = .ok (.aload_n 0, 1) := by decide +kernel
theorem dX2_init_5 : decode cX2_init 5 = .ok (.sipush 256, 3) := by decide +kernel
theorem dX2_init_8 : decode cX2_init 8 = .ok (.newarray .boolean, 2) := by decide +kernel
theorem dX2_init_10 : decode cX2_init 10 = .ok (.putfield 7, 3) := by decide +kernel
theorem dX2_init_13 : decode cX2_init 13 = .ok (.aload_n 0, 1) := by decide +kernel
theorem dX2_init_14 : decode cX2_init 14 = .ok (.sipush 256, 3) := by decide +kernel
theorem dX2_init_17 : decode cX2_init 17 = .ok (.newarray .boolean, 2) := by decide +kernel
theorem dX2_init_19 : decode cX2_init 19 = .ok (.putfield 13, 3) := by decide +kernel
theorem dX2_init_22 : decode cX2_init 22 = .ok (.aload_n 0, 1) := by decide +kernel
theorem dX2_init_23 : decode cX2_init 23 = .ok (.bipush 16, 2) := by decide +kernel
theorem dX2_init_25 : decode cX2_init 25 = .ok (.newarray .int, 2) := by decide +kernel
theorem dX2_init_27 : decode cX2_init 27 = .ok (.putfield 16, 3) := by decide +kernel
theorem dX2_init_30 : decode cX2_init 30 = .ok (.aload_n 0, 1) := by decide +kernel
theorem dX2_init_31 : decode cX2_init 31 = .ok (.iload_n 1, 1) := by decide +kernel
theorem dX2_init_32 : decode cX2_init 32 = .ok (.iconst 2, 1) := by decide +kernel
theorem dX2_init_33 : decode cX2_init 33 = .ok (.if_icmp .ge 7, 3) := by decide +kernel
theorem dX2_init_36 : decode cX2_init 36 = .ok (.iconst 2, 1) := by decide +kernel
theorem dX2_init_37 : decode cX2_init 37 = .ok (.goto 15, 3) := by decide +kernel
theorem dX2_init_40 : decode cX2_init 40 = .ok (.iload_n 1, 1) := by decide +kernel
theorem dX2_init_41 : decode cX2_init 41 = .ok (.bipush 16, 2) := by decide +kernel
theorem dX2_init_43 : decode cX2_init 43 = .ok (.if_icmp .le 8, 3) := by decide +kernel
theorem dX2_init_46 : decode cX2_init 46 = .ok (.bipush 16, 2) := by decide +kernel
theorem dX2_init_48 : decode cX2_init 48 = .ok (.goto 4, 3) := by decide +kernel
theorem dX2_init_51 : decode cX2_init 51 = .ok (.iload_n 1, 1) := by decide +kernel
theorem dX2_init_52 : decode cX2_init 52 = .ok (.putfield 20, 3) := by decide +kernel
theorem dX2_init_55 : decode cX2_init 55 = .ok (.return_, 1) := by decide +kernel
abbrev cX2_addEdge : ByteArray := prog_3_method_7_code
def yX2_addEdge : MethodName := ⟨RX2, "addEdge", "(II)I"⟩
theorem dX2_addEdge_0 : decode cX2_addEdge 0 = .ok (.aload_n 0, 1) := by decide +kernel
theorem dX2_addEdge_1 : decode cX2_addEdge 1 = .ok (.iload_n 1, 1) := by decide +kernel
theorem dX2_addEdge_2 : decode cX2_addEdge 2 = .ok (.invokevirtual 32, 3) := by decide +kernel
theorem dX2_addEdge_5 : decode cX2_addEdge 5 = .ok (.ifCond .eq 16, 3) := by decide +kernel
theorem dX2_addEdge_8 : decode cX2_addEdge 8 = .ok (.aload_n 0, 1) := by decide +kernel
theorem dX2_addEdge_9 : decode cX2_addEdge 9 = .ok (.iload_n 2, 1) := by decide +kernel
theorem dX2_addEdge_10 : decode cX2_addEdge 10 = .ok (.invokevirtual 32, 3) := by decide +kernel
theorem dX2_addEdge_13 : decode cX2_addEdge 13 = .ok (.ifCond .eq 8, 3) := by decide +kernel
theorem dX2_addEdge_16 : decode cX2_addEdge 16 = .ok (.iload_n 1, 1) := by decide +kernel
theorem dX2_addEdge_17 : decode cX2_addEdge 17 = .ok (.iload_n 2, 1) := by decide +kernel
theorem dX2_addEdge_18 : decode cX2_addEdge 18 = .ok (.if_icmp .ne 5, 3) := by decide +kernel
theorem dX2_addEdge_21 : decode cX2_addEdge 21 = .ok (.iconst (-1), 1) := by decide +kernel
theorem dX2_addEdge_22 : decode cX2_addEdge 22 = .ok (.ireturn, 1) := by decide +kernel
theorem dX2_addEdge_23 : decode cX2_addEdge 23 = .ok (.aload_n 0, 1) := by decide +kernel
theorem dX2_addEdge_24 : decode cX2_addEdge 24 = .ok (.getfield 7, 3) := by decide +kernel
theorem dX2_addEdge_27 : decode cX2_addEdge 27 = .ok (.bipush 16, 2) := by decide +kernel
theorem dX2_addEdge_29 : decode cX2_addEdge 29 = .ok (.iload_n 1, 1) := by decide +kernel
theorem dX2_addEdge_30 : decode cX2_addEdge 30 = .ok (.imul, 1) := by decide +kernel
theorem dX2_addEdge_31 : decode cX2_addEdge 31 = .ok (.iload_n 2, 1) := by decide +kernel
theorem dX2_addEdge_32 : decode cX2_addEdge 32 = .ok (.iadd, 1) := by decide +kernel
theorem dX2_addEdge_33 : decode cX2_addEdge 33 = .ok (.baload, 1) := by decide +kernel
theorem dX2_addEdge_34 : decode cX2_addEdge 34 = .ok (.ifCond .eq 6, 3) := by decide +kernel
theorem dX2_addEdge_37 : decode cX2_addEdge 37 = .ok (.bipush (-2), 2) := by decide +kernel
theorem dX2_addEdge_39 : decode cX2_addEdge 39 = .ok (.ireturn, 1) := by decide +kernel
theorem dX2_addEdge_40 : decode cX2_addEdge 40 = .ok (.aload_n 0, 1) := by decide +kernel
theorem dX2_addEdge_41 : decode cX2_addEdge 41 = .ok (.invokevirtual 36, 3) := by decide +kernel
theorem dX2_addEdge_44 : decode cX2_addEdge 44 = .ok (.istore_n 3, 1) := by decide +kernel
theorem dX2_addEdge_45 : decode cX2_addEdge 45 = .ok (.aload_n 0, 1) := by decide +kernel
theorem dX2_addEdge_46 : decode cX2_addEdge 46 = .ok (.getfield 7, 3) := by decide +kernel
theorem dX2_addEdge_49 : decode cX2_addEdge 49 = .ok (.bipush 16, 2) := by decide +kernel
theorem dX2_addEdge_51 : decode cX2_addEdge 51 = .ok (.iload_n 1, 1) := by decide +kernel
theorem dX2_addEdge_52 : decode cX2_addEdge 52 = .ok (.imul, 1) := by decide +kernel
theorem dX2_addEdge_53 : decode cX2_addEdge 53 = .ok (.iload_n 2, 1) := by decide +kernel
theorem dX2_addEdge_54 : decode cX2_addEdge 54 = .ok (.iadd, 1) := by decide +kernel
theorem dX2_addEdge_55 : decode cX2_addEdge 55 = .ok (.iconst 1, 1) := by decide +kernel
theorem dX2_addEdge_56 : decode cX2_addEdge 56 = .ok (.bastore, 1) := by decide +kernel
theorem dX2_addEdge_57 : decode cX2_addEdge 57 = .ok (.aload_n 0, 1) := by decide +kernel
theorem dX2_addEdge_58 : decode cX2_addEdge 58 = .ok (.invokevirtual 36, 3) := by decide +kernel
theorem dX2_addEdge_61 : decode cX2_addEdge 61 = .ok (.istore 4, 2) := by decide +kernel
theorem dX2_addEdge_63 : decode cX2_addEdge 63 = .ok (.iload_n 3, 1) := by decide +kernel
theorem dX2_addEdge_64 : decode cX2_addEdge 64 = .ok (.iload 4, 2) := by decide +kernel
theorem dX2_addEdge_66 : decode cX2_addEdge 66 = .ok (.isub, 1) := by decide +kernel
theorem dX2_addEdge_67 : decode cX2_addEdge 67 = .ok (.ireturn, 1) := by decide +kernel
abbrev cX2_isVertex : ByteArray := prog_3_method_2_code
def yX2_isVertex : MethodName := ⟨RX2, "isVertex", "(I)Z"⟩
theorem dX2_isVertex_0 : decode cX2_isVertex 0 = .ok (.iload_n 1, 1) := by decide +kernel
theorem dX2_isVertex_1 : decode cX2_isVertex 1 = .ok (.ifCond .lt 15, 3) := by decide +kernel
theorem dX2_isVertex_4 : decode cX2_isVertex 4 = .ok (.iload_n 1, 1) := by decide +kernel
theorem dX2_isVertex_5 : decode cX2_isVertex 5 = .ok (.aload_n 0, 1) := by decide +kernel
theorem dX2_isVertex_6 : decode cX2_isVertex 6 = .ok (.getfield 20, 3) := by decide +kernel
theorem dX2_isVertex_9 : decode cX2_isVertex 9 = .ok (.if_icmp .ge 7, 3) := by decide +kernel
theorem dX2_isVertex_12 : decode cX2_isVertex 12 = .ok (.iconst 1, 1) := by decide +kernel
theorem dX2_isVertex_13 : decode cX2_isVertex 13 = .ok (.goto 4, 3) := by decide +kernel
theorem dX2_isVertex_16 : decode cX2_isVertex 16 = .ok (.iconst 0, 1) := by decide +kernel
theorem dX2_isVertex_17 : decode cX2_isVertex 17 = .ok (.ireturn, 1) := by decide +kernel
abbrev cX2_components : ByteArray := prog_3_method_9_code
def yX2_components : MethodName := ⟨RX2, "components", "()I"⟩
theorem dX2_components_0 : decode cX2_components 0 = .ok (.aload_n 0, 1) := by decide +kernel
theorem dX2_components_1 : decode cX2_components 1 = .ok (.invokevirtual 40, 3) := by decide +kernel
theorem dX2_components_4 : decode cX2_components 4 = .ok (.iconst 0, 1) := by decide +kernel
theorem dX2_components_5 : decode cX2_components 5 = .ok (.istore_n 1, 1) := by decide +kernel
theorem dX2_components_6 : decode cX2_components 6 = .ok (.iconst 0, 1) := by decide +kernel
theorem dX2_components_7 : decode cX2_components 7 = .ok (.istore_n 2, 1) := by decide +kernel
theorem dX2_components_8 : decode cX2_components 8 = .ok (.iload_n 2, 1) := by decide +kernel
theorem dX2_components_9 : decode cX2_components 9 = .ok (.aload_n 0, 1) := by decide +kernel
theorem dX2_components_10 : decode cX2_components 10 = .ok (.getfield 20, 3) := by decide +kernel
theorem dX2_components_13 : decode cX2_components 13 = .ok (.if_icmp .ge 23, 3) := by decide +kernel
theorem dX2_components_16 : decode cX2_components 16 = .ok (.aload_n 0, 1) := by decide +kernel
theorem dX2_components_17 : decode cX2_components 17 = .ok (.iload_n 2, 1) := by decide +kernel
theorem dX2_components_18 : decode cX2_components 18 = .ok (.invokevirtual 43, 3) := by decide +kernel
theorem dX2_components_21 : decode cX2_components 21 = .ok (.istore_n 3, 1) := by decide +kernel
theorem dX2_components_22 : decode cX2_components 22 = .ok (.iload_n 3, 1) := by decide +kernel
theorem dX2_components_23 : decode cX2_components 23 = .ok (.iload_n 2, 1) := by decide +kernel
theorem dX2_components_24 : decode cX2_components 24 = .ok (.if_icmp .ne 6, 3) := by decide +kernel
theorem dX2_components_27 : decode cX2_components 27 = .ok (.iinc 1 1, 3) := by decide +kernel
theorem dX2_components_30 : decode cX2_components 30 = .ok (.iinc 2 1, 3) := by decide +kernel
theorem dX2_components_33 : decode cX2_components 33 = .ok (.goto (-25), 3) := by decide +kernel
theorem dX2_components_36 : decode cX2_components 36 = .ok (.iload_n 1, 1) := by decide +kernel
theorem dX2_components_37 : decode cX2_components 37 = .ok (.ireturn, 1) := by decide +kernel
abbrev cX2_findReach : ByteArray := prog_3_method_4_code
def yX2_findReach : MethodName := ⟨RX2, "findReach", "()V"⟩
theorem dX2_findReach_0 : decode cX2_findReach 0 = .ok (.iconst 0, 1) := by decide +kernel
theorem dX2_findReach_1 : decode cX2_findReach 1 = .ok (.istore_n 1, 1) := by decide +kernel
theorem dX2_findReach_2 : decode cX2_findReach 2 = .ok (.iload_n 1, 1) := by decide +kernel
theorem dX2_findReach_3 : decode cX2_findReach 3 = .ok (.sipush 256, 3) := by decide +kernel
theorem dX2_findReach_6 : decode cX2_findReach 6 = .ok (.if_icmp .ge 30, 3) := by decide +kernel
theorem dX2_findReach_9 : decode cX2_findReach 9 = .ok (.aload_n 0, 1) := by decide +kernel
theorem dX2_findReach_10 : decode cX2_findReach 10 = .ok (.getfield 13, 3) := by decide +kernel
theorem dX2_findReach_13 : decode cX2_findReach 13 = .ok (.iload_n 1, 1) := by decide +kernel
theorem dX2_findReach_14 : decode cX2_findReach 14 = .ok (.iload_n 1, 1) := by decide +kernel
theorem dX2_findReach_15 : decode cX2_findReach 15 = .ok (.iconst 4, 1) := by decide +kernel
theorem dX2_findReach_16 : decode cX2_findReach 16 = .ok (.ishr, 1) := by decide +kernel
theorem dX2_findReach_17 : decode cX2_findReach 17 = .ok (.iload_n 1, 1) := by decide +kernel
theorem dX2_findReach_18 : decode cX2_findReach 18 = .ok (.bipush 15, 2) := by decide +kernel
theorem dX2_findReach_20 : decode cX2_findReach 20 = .ok (.iand, 1) := by decide +kernel
theorem dX2_findReach_21 : decode cX2_findReach 21 = .ok (.if_icmp .ne 7, 3) := by decide +kernel
theorem dX2_findReach_24 : decode cX2_findReach 24 = .ok (.iconst 1, 1) := by decide +kernel
theorem dX2_findReach_25 : decode cX2_findReach 25 = .ok (.goto 4, 3) := by decide +kernel
theorem dX2_findReach_28 : decode cX2_findReach 28 = .ok (.iconst 0, 1) := by decide +kernel
theorem dX2_findReach_29 : decode cX2_findReach 29 = .ok (.bastore, 1) := by decide +kernel
theorem dX2_findReach_30 : decode cX2_findReach 30 = .ok (.iinc 1 1, 3) := by decide +kernel
theorem dX2_findReach_33 : decode cX2_findReach 33 = .ok (.goto (-31), 3) := by decide +kernel
theorem dX2_findReach_36 : decode cX2_findReach 36 = .ok (.iconst 1, 1) := by decide +kernel
theorem dX2_findReach_37 : decode cX2_findReach 37 = .ok (.istore_n 1, 1) := by decide +kernel
theorem dX2_findReach_38 : decode cX2_findReach 38 = .ok (.iconst 0, 1) := by decide +kernel
theorem dX2_findReach_39 : decode cX2_findReach 39 = .ok (.istore_n 2, 1) := by decide +kernel
theorem dX2_findReach_40 : decode cX2_findReach 40 = .ok (.iload_n 2, 1) := by decide +kernel
theorem dX2_findReach_41 : decode cX2_findReach 41 = .ok (.bipush 17, 2) := by decide +kernel
theorem dX2_findReach_43 : decode cX2_findReach 43 = .ok (.if_icmp .ge 18, 3) := by decide +kernel
theorem dX2_findReach_46 : decode cX2_findReach 46 = .ok (.iload_n 1, 1) := by decide +kernel
theorem dX2_findReach_47 : decode cX2_findReach 47 = .ok (.ifCond .eq 14, 3) := by decide +kernel
theorem dX2_findReach_50 : decode cX2_findReach 50 = .ok (.aload_n 0, 1) := by decide +kernel
theorem dX2_findReach_51 : decode cX2_findReach 51 = .ok (.invokevirtual 24, 3) := by decide +kernel
theorem dX2_findReach_54 : decode cX2_findReach 54 = .ok (.istore_n 1, 1) := by decide +kernel
theorem dX2_findReach_55 : decode cX2_findReach 55 = .ok (.iinc 2 1, 3) := by decide +kernel
theorem dX2_findReach_58 : decode cX2_findReach 58 = .ok (.goto (-18), 3) := by decide +kernel
theorem dX2_findReach_61 : decode cX2_findReach 61 = .ok (.return_, 1) := by decide +kernel
abbrev cX2_lengthen : ByteArray := prog_3_method_3_code
def yX2_lengthen : MethodName := ⟨RX2, "lengthen", "()Z"⟩
theorem dX2_lengthen_0 : decode cX2_lengthen 0 = .ok (.iconst 0, 1) := by decide +kernel
theorem dX2_lengthen_1 : decode cX2_lengthen 1 = .ok (.istore_n 1, 1) := by decide +kernel
theorem dX2_lengthen_2 : decode cX2_lengthen 2 = .ok (.iconst 0, 1) := by decide +kernel
theorem dX2_lengthen_3 : decode cX2_lengthen 3 = .ok (.istore_n 2, 1) := by decide +kernel
theorem dX2_lengthen_4 : decode cX2_lengthen 4 = .ok (.iload_n 2, 1) := by decide +kernel
theorem dX2_lengthen_5 : decode cX2_lengthen 5 = .ok (.sipush 256, 3) := by decide +kernel
theorem dX2_lengthen_8 : decode cX2_lengthen 8 = .ok (.if_icmp .ge 92, 3) := by decide +kernel
theorem dX2_lengthen_11 : decode cX2_lengthen 11 = .ok (.iload_n 2, 1) := by decide +kernel
theorem dX2_lengthen_12 : decode cX2_lengthen 12 = .ok (.iconst 4, 1) := by decide +kernel
theorem dX2_lengthen_13 : decode cX2_lengthen 13 = .ok (.ishr, 1) := by decide +kernel
theorem dX2_lengthen_14 : decode cX2_lengthen 14 = .ok (.istore_n 3, 1) := by decide +kernel
theorem dX2_lengthen_15 : decode cX2_lengthen 15 = .ok (.iload_n 2, 1) := by decide +kernel
theorem dX2_lengthen_16 : decode cX2_lengthen 16 = .ok (.bipush 15, 2) := by decide +kernel
theorem dX2_lengthen_18 : decode cX2_lengthen 18 = .ok (.iand, 1) := by decide +kernel
theorem dX2_lengthen_19 : decode cX2_lengthen 19 = .ok (.istore 4, 2) := by decide +kernel
theorem dX2_lengthen_21 : decode cX2_lengthen 21 = .ok (.iconst 0, 1) := by decide +kernel
theorem dX2_lengthen_22 : decode cX2_lengthen 22 = .ok (.istore 5, 2) := by decide +kernel
theorem dX2_lengthen_24 : decode cX2_lengthen 24 = .ok (.iload 5, 2) := by decide +kernel
theorem dX2_lengthen_26 : decode cX2_lengthen 26 = .ok (.aload_n 0, 1) := by decide +kernel
theorem dX2_lengthen_27 : decode cX2_lengthen 27 = .ok (.getfield 20, 3) := by decide +kernel
theorem dX2_lengthen_30 : decode cX2_lengthen 30 = .ok (.if_icmp .ge 64, 3) := by decide +kernel
theorem dX2_lengthen_33 : decode cX2_lengthen 33 = .ok (.aload_n 0, 1) := by decide +kernel
theorem dX2_lengthen_34 : decode cX2_lengthen 34 = .ok (.getfield 13, 3) := by decide +kernel
theorem dX2_lengthen_37 : decode cX2_lengthen 37 = .ok (.iload_n 2, 1) := by decide +kernel
theorem dX2_lengthen_38 : decode cX2_lengthen 38 = .ok (.baload, 1) := by decide +kernel
theorem dX2_lengthen_39 : decode cX2_lengthen 39 = .ok (.ifCond .eq 49, 3) := by decide +kernel
theorem dX2_lengthen_42 : decode cX2_lengthen 42 = .ok (.aload_n 0, 1) := by decide +kernel
theorem dX2_lengthen_43 : decode cX2_lengthen 43 = .ok (.getfield 7, 3) := by decide +kernel
theorem dX2_lengthen_46 : decode cX2_lengthen 46 = .ok (.bipush 16, 2) := by decide +kernel
theorem dX2_lengthen_48 : decode cX2_lengthen 48 = .ok (.iload 4, 2) := by decide +kernel
theorem dX2_lengthen_50 : decode cX2_lengthen 50 = .ok (.imul, 1) := by decide +kernel
theorem dX2_lengthen_51 : decode cX2_lengthen 51 = .ok (.iload 5, 2) := by decide +kernel
theorem dX2_lengthen_53 : decode cX2_lengthen 53 = .ok (.iadd, 1) := by decide +kernel
theorem dX2_lengthen_54 : decode cX2_lengthen 54 = .ok (.baload, 1) := by decide +kernel
theorem dX2_lengthen_55 : decode cX2_lengthen 55 = .ok (.ifCond .eq 33, 3) := by decide +kernel
theorem dX2_lengthen_58 : decode cX2_lengthen 58 = .ok (.aload_n 0, 1) := by decide +kernel
theorem dX2_lengthen_59 : decode cX2_lengthen 59 = .ok (.getfield 13, 3) := by decide +kernel
theorem dX2_lengthen_62 : decode cX2_lengthen 62 = .ok (.bipush 16, 2) := by decide +kernel
theorem dX2_lengthen_64 : decode cX2_lengthen 64 = .ok (.iload_n 3, 1) := by decide +kernel
theorem dX2_lengthen_65 : decode cX2_lengthen 65 = .ok (.imul, 1) := by decide +kernel
theorem dX2_lengthen_66 : decode cX2_lengthen 66 = .ok (.iload 5, 2) := by decide +kernel
theorem dX2_lengthen_68 : decode cX2_lengthen 68 = .ok (.iadd, 1) := by decide +kernel
theorem dX2_lengthen_69 : decode cX2_lengthen 69 = .ok (.baload, 1) := by decide +kernel
theorem dX2_lengthen_70 : decode cX2_lengthen 70 = .ok (.ifCond .ne 18, 3) := by decide +kernel
theorem dX2_lengthen_73 : decode cX2_lengthen 73 = .ok (.aload_n 0, 1) := by decide +kernel
theorem dX2_lengthen_74 : decode cX2_lengthen 74 = .ok (.getfield 13, 3) := by decide +kernel
theorem dX2_lengthen_77 : decode cX2_lengthen 77 = .ok (.bipush 16, 2) := by decide +kernel
theorem dX2_lengthen_79 : decode cX2_lengthen 79 = .ok (.iload_n 3, 1) := by decide +kernel
theorem dX2_lengthen_80 : decode cX2_lengthen 80 = .ok (.imul, 1) := by decide +kernel
theorem dX2_lengthen_81 : decode cX2_lengthen 81 = .ok (.iload 5, 2) := by decide +kernel
theorem dX2_lengthen_83 : decode cX2_lengthen 83 = .ok (.iadd, 1) := by decide +kernel
theorem dX2_lengthen_84 : decode cX2_lengthen 84 = .ok (.iconst 1, 1) := by decide +kernel
theorem dX2_lengthen_85 : decode cX2_lengthen 85 = .ok (.bastore, 1) := by decide +kernel
theorem dX2_lengthen_86 : decode cX2_lengthen 86 = .ok (.iconst 1, 1) := by decide +kernel
theorem dX2_lengthen_87 : decode cX2_lengthen 87 = .ok (.istore_n 1, 1) := by decide +kernel
theorem dX2_lengthen_88 : decode cX2_lengthen 88 = .ok (.iinc 5 1, 3) := by decide +kernel
theorem dX2_lengthen_91 : decode cX2_lengthen 91 = .ok (.goto (-67), 3) := by decide +kernel
theorem dX2_lengthen_94 : decode cX2_lengthen 94 = .ok (.iinc 2 1, 3) := by decide +kernel
theorem dX2_lengthen_97 : decode cX2_lengthen 97 = .ok (.goto (-93), 3) := by decide +kernel
theorem dX2_lengthen_100 : decode cX2_lengthen 100 = .ok (.iload_n 1, 1) := by decide +kernel
theorem dX2_lengthen_101 : decode cX2_lengthen 101 = .ok (.ireturn, 1) := by decide +kernel
abbrev cX2_leaderOf : ByteArray := prog_3_method_6_code
def yX2_leaderOf : MethodName := ⟨RX2, "leaderOf", "(I)I"⟩
theorem dX2_leaderOf_0 : decode cX2_leaderOf 0 = .ok (.iconst 0, 1) := by decide +kernel
theorem dX2_leaderOf_1 : decode cX2_leaderOf 1 = .ok (.istore_n 2, 1) := by decide +kernel
theorem dX2_leaderOf_2 : decode cX2_leaderOf 2 = .ok (.iload_n 2, 1) := by decide +kernel
theorem dX2_leaderOf_3 : decode cX2_leaderOf 3 = .ok (.iload_n 1, 1) := by decide +kernel
theorem dX2_leaderOf_4 : decode cX2_leaderOf 4 = .ok (.if_icmp .ge 20, 3) := by decide +kernel
theorem dX2_leaderOf_7 : decode cX2_leaderOf 7 = .ok (.aload_n 0, 1) := by decide +kernel
theorem dX2_leaderOf_8 : decode cX2_leaderOf 8 = .ok (.iload_n 1, 1) := by decide +kernel
theorem dX2_leaderOf_9 : decode cX2_leaderOf 9 = .ok (.iload_n 2, 1) := by decide +kernel
theorem dX2_leaderOf_10 : decode cX2_leaderOf 10 = .ok (.invokevirtual 28, 3) := by decide +kernel
theorem dX2_leaderOf_13 : decode cX2_leaderOf 13 = .ok (.ifCond .eq 5, 3) := by decide +kernel
theorem dX2_leaderOf_16 : decode cX2_leaderOf 16 = .ok (.iload_n 2, 1) := by decide +kernel
theorem dX2_leaderOf_17 : decode cX2_leaderOf 17 = .ok (.ireturn, 1) := by decide +kernel
theorem dX2_leaderOf_18 : decode cX2_leaderOf 18 = .ok (.iinc 2 1, 3) := by decide +kernel
theorem dX2_leaderOf_21 : decode cX2_leaderOf 21 = .ok (.goto (-19), 3) := by decide +kernel
theorem dX2_leaderOf_24 : decode cX2_leaderOf 24 = .ok (.iload_n 1, 1) := by decide +kernel
theorem dX2_leaderOf_25 : decode cX2_leaderOf 25 = .ok (.ireturn, 1) := by decide +kernel
abbrev cX2_together : ByteArray := prog_3_method_5_code
def yX2_together : MethodName := ⟨RX2, "together", "(II)Z"⟩
theorem dX2_together_0 : decode cX2_together 0 = .ok (.aload_n 0, 1) := by decide +kernel
theorem dX2_together_1 : decode cX2_together 1 = .ok (.getfield 13, 3) := by decide +kernel
theorem dX2_together_4 : decode cX2_together 4 = .ok (.bipush 16, 2) := by decide +kernel
theorem dX2_together_6 : decode cX2_together 6 = .ok (.iload_n 1, 1) := by decide +kernel
theorem dX2_together_7 : decode cX2_together 7 = .ok (.imul, 1) := by decide +kernel
theorem dX2_together_8 : decode cX2_together 8 = .ok (.iload_n 2, 1) := by decide +kernel
theorem dX2_together_9 : decode cX2_together 9 = .ok (.iadd, 1) := by decide +kernel
theorem dX2_together_10 : decode cX2_together 10 = .ok (.baload, 1) := by decide +kernel
theorem dX2_together_11 : decode cX2_together 11 = .ok (.ifCond .eq 21, 3) := by decide +kernel
theorem dX2_together_14 : decode cX2_together 14 = .ok (.aload_n 0, 1) := by decide +kernel
theorem dX2_together_15 : decode cX2_together 15 = .ok (.getfield 13, 3) := by decide +kernel
theorem dX2_together_18 : decode cX2_together 18 = .ok (.bipush 16, 2) := by decide +kernel
theorem dX2_together_20 : decode cX2_together 20 = .ok (.iload_n 2, 1) := by decide +kernel
theorem dX2_together_21 : decode cX2_together 21 = .ok (.imul, 1) := by decide +kernel
theorem dX2_together_22 : decode cX2_together 22 = .ok (.iload_n 1, 1) := by decide +kernel
theorem dX2_together_23 : decode cX2_together 23 = .ok (.iadd, 1) := by decide +kernel
theorem dX2_together_24 : decode cX2_together 24 = .ok (.baload, 1) := by decide +kernel
theorem dX2_together_25 : decode cX2_together 25 = .ok (.ifCond .eq 7, 3) := by decide +kernel
theorem dX2_together_28 : decode cX2_together 28 = .ok (.iconst 1, 1) := by decide +kernel
theorem dX2_together_29 : decode cX2_together 29 = .ok (.goto 4, 3) := by decide +kernel
theorem dX2_together_32 : decode cX2_together 32 = .ok (.iconst 0, 1) := by decide +kernel
theorem dX2_together_33 : decode cX2_together 33 = .ok (.ireturn, 1) := by decide +kernel
abbrev cX2_removeEdge : ByteArray := prog_3_method_8_code
def yX2_removeEdge : MethodName := ⟨RX2, "removeEdge", "(II)I"⟩
theorem dX2_removeEdge_0 : decode cX2_removeEdge 0 = .ok (.aload_n 0, 1) := by decide +kernel
theorem dX2_removeEdge_1 : decode cX2_removeEdge 1 = .ok (.iload_n 1, 1) := by decide +kernel
theorem dX2_removeEdge_2 : decode cX2_removeEdge 2 = .ok (.invokevirtual 32, 3) := by decide +kernel
theorem dX2_removeEdge_5 : decode cX2_removeEdge 5 = .ok (.ifCond .eq 16, 3) := by decide +kernel
theorem dX2_removeEdge_8 : decode cX2_removeEdge 8 = .ok (.aload_n 0, 1) := by decide +kernel
theorem dX2_removeEdge_9 : decode cX2_removeEdge 9 = .ok (.iload_n 2, 1) := by decide +kernel
theorem dX2_removeEdge_10 : decode cX2_removeEdge 10 = .ok (.invokevirtual 32, 3) := by decide +kernel
theorem dX2_removeEdge_13 : decode cX2_removeEdge 13 = .ok (.ifCond .eq 8, 3) := by decide +kernel
theorem dX2_removeEdge_16 : decode cX2_removeEdge 16 = .ok (.iload_n 1, 1) := by decide +kernel
theorem dX2_removeEdge_17 : decode cX2_removeEdge 17 = .ok (.iload_n 2, 1) := by decide +kernel
theorem dX2_removeEdge_18 : decode cX2_removeEdge 18 = .ok (.if_icmp .ne 5, 3) := by decide +kernel
theorem dX2_removeEdge_21 : decode cX2_removeEdge 21 = .ok (.iconst (-1), 1) := by decide +kernel
theorem dX2_removeEdge_22 : decode cX2_removeEdge 22 = .ok (.ireturn, 1) := by decide +kernel
theorem dX2_removeEdge_23 : decode cX2_removeEdge 23 = .ok (.aload_n 0, 1) := by decide +kernel
theorem dX2_removeEdge_24 : decode cX2_removeEdge 24 = .ok (.getfield 7, 3) := by decide +kernel
theorem dX2_removeEdge_27 : decode cX2_removeEdge 27 = .ok (.bipush 16, 2) := by decide +kernel
theorem dX2_removeEdge_29 : decode cX2_removeEdge 29 = .ok (.iload_n 1, 1) := by decide +kernel
theorem dX2_removeEdge_30 : decode cX2_removeEdge 30 = .ok (.imul, 1) := by decide +kernel
theorem dX2_removeEdge_31 : decode cX2_removeEdge 31 = .ok (.iload_n 2, 1) := by decide +kernel
theorem dX2_removeEdge_32 : decode cX2_removeEdge 32 = .ok (.iadd, 1) := by decide +kernel
theorem dX2_removeEdge_33 : decode cX2_removeEdge 33 = .ok (.baload, 1) := by decide +kernel
theorem dX2_removeEdge_34 : decode cX2_removeEdge 34 = .ok (.ifCond .ne 6, 3) := by decide +kernel
theorem dX2_removeEdge_37 : decode cX2_removeEdge 37 = .ok (.bipush (-2), 2) := by decide +kernel
theorem dX2_removeEdge_39 : decode cX2_removeEdge 39 = .ok (.ireturn, 1) := by decide +kernel
theorem dX2_removeEdge_40 : decode cX2_removeEdge 40 = .ok (.aload_n 0, 1) := by decide +kernel
theorem dX2_removeEdge_41 : decode cX2_removeEdge 41 = .ok (.invokevirtual 36, 3) := by decide +kernel
theorem dX2_removeEdge_44 : decode cX2_removeEdge 44 = .ok (.istore_n 3, 1) := by decide +kernel
theorem dX2_removeEdge_45 : decode cX2_removeEdge 45 = .ok (.aload_n 0, 1) := by decide +kernel
theorem dX2_removeEdge_46 : decode cX2_removeEdge 46 = .ok (.getfield 7, 3) := by decide +kernel
theorem dX2_removeEdge_49 : decode cX2_removeEdge 49 = .ok (.bipush 16, 2) := by decide +kernel
theorem dX2_removeEdge_51 : decode cX2_removeEdge 51 = .ok (.iload_n 1, 1) := by decide +kernel
theorem dX2_removeEdge_52 : decode cX2_removeEdge 52 = .ok (.imul, 1) := by decide +kernel
theorem dX2_removeEdge_53 : decode cX2_removeEdge 53 = .ok (.iload_n 2, 1) := by decide +kernel
theorem dX2_removeEdge_54 : decode cX2_removeEdge 54 = .ok (.iadd, 1) := by decide +kernel
theorem dX2_removeEdge_55 : decode cX2_removeEdge 55 = .ok (.iconst 0, 1) := by decide +kernel
theorem dX2_removeEdge_56 : decode cX2_removeEdge 56 = .ok (.bastore, 1) := by decide +kernel
theorem dX2_removeEdge_57 : decode cX2_removeEdge 57 = .ok (.aload_n 0, 1) := by decide +kernel
theorem dX2_removeEdge_58 : decode cX2_removeEdge 58 = .ok (.invokevirtual 36, 3) := by decide +kernel
theorem dX2_removeEdge_61 : decode cX2_removeEdge 61 = .ok (.istore 4, 2) := by decide +kernel
theorem dX2_removeEdge_63 : decode cX2_removeEdge 63 = .ok (.iload 4, 2) := by decide +kernel
theorem dX2_removeEdge_65 : decode cX2_removeEdge 65 = .ok (.iload_n 3, 1) := by decide +kernel
theorem dX2_removeEdge_66 : decode cX2_removeEdge 66 = .ok (.isub, 1) := by decide +kernel
theorem dX2_removeEdge_67 : decode cX2_removeEdge 67 = .ok (.ireturn, 1) := by decide +kernel
abbrev cX2_leader : ByteArray := prog_3_method_10_code
def yX2_leader : MethodName := ⟨RX2, "leader", "(I)I"⟩
theorem dX2_leader_0 : decode cX2_leader 0 = .ok (.aload_n 0, 1) := by decide +kernel
theorem dX2_leader_1 : decode cX2_leader 1 = .ok (.iload_n 1, 1) := by decide +kernel
theorem dX2_leader_2 : decode cX2_leader 2 = .ok (.invokevirtual 32, 3) := by decide +kernel
theorem dX2_leader_5 : decode cX2_leader 5 = .ok (.ifCond .ne 5, 3) := by decide +kernel
theorem dX2_leader_8 : decode cX2_leader 8 = .ok (.iconst (-1), 1) := by decide +kernel
theorem dX2_leader_9 : decode cX2_leader 9 = .ok (.ireturn, 1) := by decide +kernel
theorem dX2_leader_10 : decode cX2_leader 10 = .ok (.aload_n 0, 1) := by decide +kernel
theorem dX2_leader_11 : decode cX2_leader 11 = .ok (.invokevirtual 40, 3) := by decide +kernel
theorem dX2_leader_14 : decode cX2_leader 14 = .ok (.aload_n 0, 1) := by decide +kernel
theorem dX2_leader_15 : decode cX2_leader 15 = .ok (.iload_n 1, 1) := by decide +kernel
theorem dX2_leader_16 : decode cX2_leader 16 = .ok (.invokevirtual 43, 3) := by decide +kernel
theorem dX2_leader_19 : decode cX2_leader 19 = .ok (.ireturn, 1) := by decide +kernel
abbrev cX2_componentSize : ByteArray := prog_3_method_11_code
def yX2_componentSize : MethodName := ⟨RX2, "componentSize", "(I)I"⟩
theorem dX2_componentSize_0 : decode cX2_componentSize 0 = .ok (.aload_n 0, 1) := by decide +kernel
theorem dX2_componentSize_1 : decode cX2_componentSize 1 = .ok (.iload_n 1, 1) := by decide +kernel
theorem dX2_componentSize_2 : decode cX2_componentSize 2 = .ok (.invokevirtual 32, 3) := by decide +kernel
theorem dX2_componentSize_5 : decode cX2_componentSize 5 = .ok (.ifCond .ne 5, 3) := by decide +kernel
theorem dX2_componentSize_8 : decode cX2_componentSize 8 = .ok (.iconst (-1), 1) := by decide +kernel
theorem dX2_componentSize_9 : decode cX2_componentSize 9 = .ok (.ireturn, 1) := by decide +kernel
theorem dX2_componentSize_10 : decode cX2_componentSize 10 = .ok (.aload_n 0, 1) := by decide +kernel
theorem dX2_componentSize_11 : decode cX2_componentSize 11 = .ok (.invokevirtual 40, 3) := by decide +kernel
theorem dX2_componentSize_14 : decode cX2_componentSize 14 = .ok (.iconst 0, 1) := by decide +kernel
theorem dX2_componentSize_15 : decode cX2_componentSize 15 = .ok (.istore_n 2, 1) := by decide +kernel
theorem dX2_componentSize_16 : decode cX2_componentSize 16 = .ok (.iconst 0, 1) := by decide +kernel
theorem dX2_componentSize_17 : decode cX2_componentSize 17 = .ok (.istore_n 3, 1) := by decide +kernel
theorem dX2_componentSize_18 : decode cX2_componentSize 18 = .ok (.iload_n 3, 1) := by decide +kernel
theorem dX2_componentSize_19 : decode cX2_componentSize 19 = .ok (.aload_n 0, 1) := by decide +kernel
theorem dX2_componentSize_20 : decode cX2_componentSize 20 = .ok (.getfield 20, 3) := by decide +kernel
theorem dX2_componentSize_23 : decode cX2_componentSize 23 = .ok (.if_icmp .ge 21, 3) := by decide +kernel
theorem dX2_componentSize_26 : decode cX2_componentSize 26 = .ok (.aload_n 0, 1) := by decide +kernel
theorem dX2_componentSize_27 : decode cX2_componentSize 27 = .ok (.iload_n 1, 1) := by decide +kernel
theorem dX2_componentSize_28 : decode cX2_componentSize 28 = .ok (.iload_n 3, 1) := by decide +kernel
theorem dX2_componentSize_29 : decode cX2_componentSize 29 = .ok (.invokevirtual 28, 3) := by decide +kernel
theorem dX2_componentSize_32 : decode cX2_componentSize 32 = .ok (.ifCond .eq 6, 3) := by decide +kernel
theorem dX2_componentSize_35 : decode cX2_componentSize 35 = .ok (.iinc 2 1, 3) := by decide +kernel
theorem dX2_componentSize_38 : decode cX2_componentSize 38 = .ok (.iinc 3 1, 3) := by decide +kernel
theorem dX2_componentSize_41 : decode cX2_componentSize 41 = .ok (.goto (-23), 3) := by decide +kernel
theorem dX2_componentSize_44 : decode cX2_componentSize 44 = .ok (.iload_n 2, 1) := by decide +kernel
theorem dX2_componentSize_45 : decode cX2_componentSize 45 = .ok (.ireturn, 1) := by decide +kernel
end
section
set_option maxRecDepth 100000
abbrev cX2_reaches : ByteArray := prog_3_method_12_code
def yX2_reaches : MethodName := ⟨RX2, "reaches", "(II)Z"⟩
theorem dX2_reaches_0 : decode cX2_reaches 0 = .ok (.aload_n 0, 1) := by decide +kernel
theorem dX2_reaches_1 : decode cX2_reaches 1 = .ok (.iload_n 1, 1) := by decide +kernel
theorem dX2_reaches_2 : decode cX2_reaches 2 = .ok (.invokevirtual 32, 3) := by decide +kernel
theorem dX2_reaches_5 : decode cX2_reaches 5 = .ok (.ifCond .eq 11, 3) := by decide +kernel
theorem dX2_reaches_8 : decode cX2_reaches 8 = .ok (.aload_n 0, 1) := by decide +kernel
theorem dX2_reaches_9 : decode cX2_reaches 9 = .ok (.iload_n 2, 1) := by decide +kernel
theorem dX2_reaches_10 : decode cX2_reaches 10 = .ok (.invokevirtual 32, 3) := by decide +kernel
theorem dX2_reaches_13 : decode cX2_reaches 13 = .ok (.ifCond .ne 5, 3) := by decide +kernel
theorem dX2_reaches_16 : decode cX2_reaches 16 = .ok (.iconst 0, 1) := by decide +kernel
theorem dX2_reaches_17 : decode cX2_reaches 17 = .ok (.ireturn, 1) := by decide +kernel
theorem dX2_reaches_18 : decode cX2_reaches 18 = .ok (.aload_n 0, 1) := by decide +kernel
theorem dX2_reaches_19 : decode cX2_reaches 19 = .ok (.invokevirtual 40, 3) := by decide +kernel
theorem dX2_reaches_22 : decode cX2_reaches 22 = .ok (.aload_n 0, 1) := by decide +kernel
theorem dX2_reaches_23 : decode cX2_reaches 23 = .ok (.getfield 13, 3) := by decide +kernel
theorem dX2_reaches_26 : decode cX2_reaches 26 = .ok (.bipush 16, 2) := by decide +kernel
theorem dX2_reaches_28 : decode cX2_reaches 28 = .ok (.iload_n 1, 1) := by decide +kernel
theorem dX2_reaches_29 : decode cX2_reaches 29 = .ok (.imul, 1) := by decide +kernel
theorem dX2_reaches_30 : decode cX2_reaches 30 = .ok (.iload_n 2, 1) := by decide +kernel
theorem dX2_reaches_31 : decode cX2_reaches 31 = .ok (.iadd, 1) := by decide +kernel
theorem dX2_reaches_32 : decode cX2_reaches 32 = .ok (.baload, 1) := by decide +kernel
theorem dX2_reaches_33 : decode cX2_reaches 33 = .ok (.ireturn, 1) := by decide +kernel
abbrev cX2_height : ByteArray := prog_3_method_14_code
def yX2_height : MethodName := ⟨RX2, "height", "(I)I"⟩
theorem dX2_height_0 : decode cX2_height 0 = .ok (.aload_n 0, 1) := by decide +kernel
theorem dX2_height_1 : decode cX2_height 1 = .ok (.iload_n 1, 1) := by decide +kernel
theorem dX2_height_2 : decode cX2_height 2 = .ok (.invokevirtual 32, 3) := by decide +kernel
theorem dX2_height_5 : decode cX2_height 5 = .ok (.ifCond .ne 5, 3) := by decide +kernel
theorem dX2_height_8 : decode cX2_height 8 = .ok (.iconst (-1), 1) := by decide +kernel
theorem dX2_height_9 : decode cX2_height 9 = .ok (.ireturn, 1) := by decide +kernel
theorem dX2_height_10 : decode cX2_height 10 = .ok (.aload_n 0, 1) := by decide +kernel
theorem dX2_height_11 : decode cX2_height 11 = .ok (.invokevirtual 40, 3) := by decide +kernel
theorem dX2_height_14 : decode cX2_height 14 = .ok (.iconst 0, 1) := by decide +kernel
theorem dX2_height_15 : decode cX2_height 15 = .ok (.istore_n 2, 1) := by decide +kernel
theorem dX2_height_16 : decode cX2_height 16 = .ok (.iload_n 2, 1) := by decide +kernel
theorem dX2_height_17 : decode cX2_height 17 = .ok (.aload_n 0, 1) := by decide +kernel
theorem dX2_height_18 : decode cX2_height 18 = .ok (.getfield 20, 3) := by decide +kernel
theorem dX2_height_21 : decode cX2_height 21 = .ok (.if_icmp .ge 16, 3) := by decide +kernel
theorem dX2_height_24 : decode cX2_height 24 = .ok (.aload_n 0, 1) := by decide +kernel
theorem dX2_height_25 : decode cX2_height 25 = .ok (.getfield 16, 3) := by decide +kernel
theorem dX2_height_28 : decode cX2_height 28 = .ok (.iload_n 2, 1) := by decide +kernel
theorem dX2_height_29 : decode cX2_height 29 = .ok (.iconst 0, 1) := by decide +kernel
theorem dX2_height_30 : decode cX2_height 30 = .ok (.iastore, 1) := by decide +kernel
theorem dX2_height_31 : decode cX2_height 31 = .ok (.iinc 2 1, 3) := by decide +kernel
theorem dX2_height_34 : decode cX2_height 34 = .ok (.goto (-18), 3) := by decide +kernel
theorem dX2_height_37 : decode cX2_height 37 = .ok (.iconst 1, 1) := by decide +kernel
theorem dX2_height_38 : decode cX2_height 38 = .ok (.istore_n 2, 1) := by decide +kernel
theorem dX2_height_39 : decode cX2_height 39 = .ok (.iconst 0, 1) := by decide +kernel
theorem dX2_height_40 : decode cX2_height 40 = .ok (.istore_n 3, 1) := by decide +kernel
theorem dX2_height_41 : decode cX2_height 41 = .ok (.iload_n 3, 1) := by decide +kernel
theorem dX2_height_42 : decode cX2_height 42 = .ok (.bipush 40, 2) := by decide +kernel
theorem dX2_height_44 : decode cX2_height 44 = .ok (.if_icmp .ge 18, 3) := by decide +kernel
theorem dX2_height_47 : decode cX2_height 47 = .ok (.iload_n 2, 1) := by decide +kernel
theorem dX2_height_48 : decode cX2_height 48 = .ok (.ifCond .eq 14, 3) := by decide +kernel
theorem dX2_height_51 : decode cX2_height 51 = .ok (.aload_n 0, 1) := by decide +kernel
theorem dX2_height_52 : decode cX2_height 52 = .ok (.invokevirtual 47, 3) := by decide +kernel
theorem dX2_height_55 : decode cX2_height 55 = .ok (.istore_n 2, 1) := by decide +kernel
theorem dX2_height_56 : decode cX2_height 56 = .ok (.iinc 3 1, 3) := by decide +kernel
theorem dX2_height_59 : decode cX2_height 59 = .ok (.goto (-18), 3) := by decide +kernel
theorem dX2_height_62 : decode cX2_height 62 = .ok (.aload_n 0, 1) := by decide +kernel
theorem dX2_height_63 : decode cX2_height 63 = .ok (.getfield 16, 3) := by decide +kernel
theorem dX2_height_66 : decode cX2_height 66 = .ok (.iload_n 1, 1) := by decide +kernel
theorem dX2_height_67 : decode cX2_height 67 = .ok (.iaload, 1) := by decide +kernel
theorem dX2_height_68 : decode cX2_height 68 = .ok (.ireturn, 1) := by decide +kernel
abbrev cX2_raise : ByteArray := prog_3_method_13_code
def yX2_raise : MethodName := ⟨RX2, "raise", "()Z"⟩
theorem dX2_raise_0 : decode cX2_raise 0 = .ok (.iconst 0, 1) := by decide +kernel
theorem dX2_raise_1 : decode cX2_raise 1 = .ok (.istore_n 1, 1) := by decide +kernel
theorem dX2_raise_2 : decode cX2_raise 2 = .ok (.iconst 0, 1) := by decide +kernel
theorem dX2_raise_3 : decode cX2_raise 3 = .ok (.istore_n 2, 1) := by decide +kernel
theorem dX2_raise_4 : decode cX2_raise 4 = .ok (.iload_n 2, 1) := by decide +kernel
theorem dX2_raise_5 : decode cX2_raise 5 = .ok (.aload_n 0, 1) := by decide +kernel
theorem dX2_raise_6 : decode cX2_raise 6 = .ok (.getfield 20, 3) := by decide +kernel
theorem dX2_raise_9 : decode cX2_raise 9 = .ok (.if_icmp .ge 128, 3) := by decide +kernel
theorem dX2_raise_12 : decode cX2_raise 12 = .ok (.iconst 0, 1) := by decide +kernel
theorem dX2_raise_13 : decode cX2_raise 13 = .ok (.istore_n 3, 1) := by decide +kernel
theorem dX2_raise_14 : decode cX2_raise 14 = .ok (.iload_n 3, 1) := by decide +kernel
theorem dX2_raise_15 : decode cX2_raise 15 = .ok (.aload_n 0, 1) := by decide +kernel
theorem dX2_raise_16 : decode cX2_raise 16 = .ok (.getfield 20, 3) := by decide +kernel
theorem dX2_raise_19 : decode cX2_raise 19 = .ok (.if_icmp .ge 112, 3) := by decide +kernel
theorem dX2_raise_22 : decode cX2_raise 22 = .ok (.aload_n 0, 1) := by decide +kernel
theorem dX2_raise_23 : decode cX2_raise 23 = .ok (.getfield 16, 3) := by decide +kernel
theorem dX2_raise_26 : decode cX2_raise 26 = .ok (.iload_n 3, 1) := by decide +kernel
theorem dX2_raise_27 : decode cX2_raise 27 = .ok (.iaload, 1) := by decide +kernel
theorem dX2_raise_28 : decode cX2_raise 28 = .ok (.istore 4, 2) := by decide +kernel
theorem dX2_raise_30 : decode cX2_raise 30 = .ok (.aload_n 0, 1) := by decide +kernel
theorem dX2_raise_31 : decode cX2_raise 31 = .ok (.iload_n 2, 1) := by decide +kernel
theorem dX2_raise_32 : decode cX2_raise 32 = .ok (.iload_n 3, 1) := by decide +kernel
theorem dX2_raise_33 : decode cX2_raise 33 = .ok (.invokevirtual 28, 3) := by decide +kernel
theorem dX2_raise_36 : decode cX2_raise 36 = .ok (.ifCond .eq 22, 3) := by decide +kernel
theorem dX2_raise_39 : decode cX2_raise 39 = .ok (.aload_n 0, 1) := by decide +kernel
theorem dX2_raise_40 : decode cX2_raise 40 = .ok (.getfield 16, 3) := by decide +kernel
theorem dX2_raise_43 : decode cX2_raise 43 = .ok (.iload_n 2, 1) := by decide +kernel
theorem dX2_raise_44 : decode cX2_raise 44 = .ok (.iaload, 1) := by decide +kernel
theorem dX2_raise_45 : decode cX2_raise 45 = .ok (.iload 4, 2) := by decide +kernel
theorem dX2_raise_47 : decode cX2_raise 47 = .ok (.if_icmp .le 11, 3) := by decide +kernel
theorem dX2_raise_50 : decode cX2_raise 50 = .ok (.aload_n 0, 1) := by decide +kernel
theorem dX2_raise_51 : decode cX2_raise 51 = .ok (.getfield 16, 3) := by decide +kernel
theorem dX2_raise_54 : decode cX2_raise 54 = .ok (.iload_n 2, 1) := by decide +kernel
theorem dX2_raise_55 : decode cX2_raise 55 = .ok (.iaload, 1) := by decide +kernel
theorem dX2_raise_56 : decode cX2_raise 56 = .ok (.istore 4, 2) := by decide +kernel
theorem dX2_raise_58 : decode cX2_raise 58 = .ok (.aload_n 0, 1) := by decide +kernel
theorem dX2_raise_59 : decode cX2_raise 59 = .ok (.getfield 7, 3) := by decide +kernel
theorem dX2_raise_62 : decode cX2_raise 62 = .ok (.bipush 16, 2) := by decide +kernel
theorem dX2_raise_64 : decode cX2_raise 64 = .ok (.iload_n 2, 1) := by decide +kernel
theorem dX2_raise_65 : decode cX2_raise 65 = .ok (.imul, 1) := by decide +kernel
theorem dX2_raise_66 : decode cX2_raise 66 = .ok (.iload_n 3, 1) := by decide +kernel
theorem dX2_raise_67 : decode cX2_raise 67 = .ok (.iadd, 1) := by decide +kernel
theorem dX2_raise_68 : decode cX2_raise 68 = .ok (.baload, 1) := by decide +kernel
theorem dX2_raise_69 : decode cX2_raise 69 = .ok (.ifCond .eq 35, 3) := by decide +kernel
theorem dX2_raise_72 : decode cX2_raise 72 = .ok (.aload_n 0, 1) := by decide +kernel
theorem dX2_raise_73 : decode cX2_raise 73 = .ok (.iload_n 2, 1) := by decide +kernel
theorem dX2_raise_74 : decode cX2_raise 74 = .ok (.iload_n 3, 1) := by decide +kernel
theorem dX2_raise_75 : decode cX2_raise 75 = .ok (.invokevirtual 28, 3) := by decide +kernel
theorem dX2_raise_78 : decode cX2_raise 78 = .ok (.ifCond .ne 26, 3) := by decide +kernel
theorem dX2_raise_81 : decode cX2_raise 81 = .ok (.aload_n 0, 1) := by decide +kernel
theorem dX2_raise_82 : decode cX2_raise 82 = .ok (.getfield 16, 3) := by decide +kernel
theorem dX2_raise_85 : decode cX2_raise 85 = .ok (.iload_n 2, 1) := by decide +kernel
theorem dX2_raise_86 : decode cX2_raise 86 = .ok (.iaload, 1) := by decide +kernel
theorem dX2_raise_87 : decode cX2_raise 87 = .ok (.iconst 1, 1) := by decide +kernel
theorem dX2_raise_88 : decode cX2_raise 88 = .ok (.iadd, 1) := by decide +kernel
theorem dX2_raise_89 : decode cX2_raise 89 = .ok (.iload 4, 2) := by decide +kernel
theorem dX2_raise_91 : decode cX2_raise 91 = .ok (.if_icmp .le 13, 3) := by decide +kernel
theorem dX2_raise_94 : decode cX2_raise 94 = .ok (.aload_n 0, 1) := by decide +kernel
theorem dX2_raise_95 : decode cX2_raise 95 = .ok (.getfield 16, 3) := by decide +kernel
theorem dX2_raise_98 : decode cX2_raise 98 = .ok (.iload_n 2, 1) := by decide +kernel
theorem dX2_raise_99 : decode cX2_raise 99 = .ok (.iaload, 1) := by decide +kernel
theorem dX2_raise_100 : decode cX2_raise 100 = .ok (.iconst 1, 1) := by decide +kernel
theorem dX2_raise_101 : decode cX2_raise 101 = .ok (.iadd, 1) := by decide +kernel
theorem dX2_raise_102 : decode cX2_raise 102 = .ok (.istore 4, 2) := by decide +kernel
theorem dX2_raise_104 : decode cX2_raise 104 = .ok (.iload 4, 2) := by decide +kernel
theorem dX2_raise_106 : decode cX2_raise 106 = .ok (.aload_n 0, 1) := by decide +kernel
theorem dX2_raise_107 : decode cX2_raise 107 = .ok (.getfield 16, 3) := by decide +kernel
theorem dX2_raise_110 : decode cX2_raise 110 = .ok (.iload_n 3, 1) := by decide +kernel
theorem dX2_raise_111 : decode cX2_raise 111 = .ok (.iaload, 1) := by decide +kernel
theorem dX2_raise_112 : decode cX2_raise 112 = .ok (.if_icmp .le 13, 3) := by decide +kernel
theorem dX2_raise_115 : decode cX2_raise 115 = .ok (.aload_n 0, 1) := by decide +kernel
theorem dX2_raise_116 : decode cX2_raise 116 = .ok (.getfield 16, 3) := by decide +kernel
theorem dX2_raise_119 : decode cX2_raise 119 = .ok (.iload_n 3, 1) := by decide +kernel
theorem dX2_raise_120 : decode cX2_raise 120 = .ok (.iload 4, 2) := by decide +kernel
theorem dX2_raise_122 : decode cX2_raise 122 = .ok (.iastore, 1) := by decide +kernel
theorem dX2_raise_123 : decode cX2_raise 123 = .ok (.iconst 1, 1) := by decide +kernel
theorem dX2_raise_124 : decode cX2_raise 124 = .ok (.istore_n 1, 1) := by decide +kernel
theorem dX2_raise_125 : decode cX2_raise 125 = .ok (.iinc 3 1, 3) := by decide +kernel
theorem dX2_raise_128 : decode cX2_raise 128 = .ok (.goto (-114), 3) := by decide +kernel
theorem dX2_raise_131 : decode cX2_raise 131 = .ok (.iinc 2 1, 3) := by decide +kernel
theorem dX2_raise_134 : decode cX2_raise 134 = .ok (.goto (-130), 3) := by decide +kernel
theorem dX2_raise_137 : decode cX2_raise 137 = .ok (.iload_n 1, 1) := by decide +kernel
theorem dX2_raise_138 : decode cX2_raise 138 = .ok (.ireturn, 1) := by decide +kernel
abbrev cX2_cycle : ByteArray := prog_3_method_15_code
def yX2_cycle : MethodName := ⟨RX2, "cycle", "(I)I"⟩
theorem dX2_cycle_0 : decode cX2_cycle 0 = .ok (.aload_n 0, 1) := by decide +kernel
theorem dX2_cycle_1 : decode cX2_cycle 1 = .ok (.iload_n 1, 1) := by decide +kernel
theorem dX2_cycle_2 : decode cX2_cycle 2 = .ok (.invokevirtual 32, 3) := by decide +kernel
theorem dX2_cycle_5 : decode cX2_cycle 5 = .ok (.ifCond .ne 5, 3) := by decide +kernel
theorem dX2_cycle_8 : decode cX2_cycle 8 = .ok (.iconst (-1), 1) := by decide +kernel
theorem dX2_cycle_9 : decode cX2_cycle 9 = .ok (.ireturn, 1) := by decide +kernel
theorem dX2_cycle_10 : decode cX2_cycle 10 = .ok (.iconst 1, 1) := by decide +kernel
theorem dX2_cycle_11 : decode cX2_cycle 11 = .ok (.iload_n 1, 1) := by decide +kernel
theorem dX2_cycle_12 : decode cX2_cycle 12 = .ok (.ishl, 1) := by decide +kernel
theorem dX2_cycle_13 : decode cX2_cycle 13 = .ok (.istore_n 2, 1) := by decide +kernel
theorem dX2_cycle_14 : decode cX2_cycle 14 = .ok (.iconst 1, 1) := by decide +kernel
theorem dX2_cycle_15 : decode cX2_cycle 15 = .ok (.istore_n 3, 1) := by decide +kernel
theorem dX2_cycle_16 : decode cX2_cycle 16 = .ok (.iload_n 3, 1) := by decide +kernel
theorem dX2_cycle_17 : decode cX2_cycle 17 = .ok (.aload_n 0, 1) := by decide +kernel
theorem dX2_cycle_18 : decode cX2_cycle 18 = .ok (.getfield 20, 3) := by decide +kernel
theorem dX2_cycle_21 : decode cX2_cycle 21 = .ok (.if_icmp .gt 77, 3) := by decide +kernel
theorem dX2_cycle_24 : decode cX2_cycle 24 = .ok (.iconst 0, 1) := by decide +kernel
theorem dX2_cycle_25 : decode cX2_cycle 25 = .ok (.istore 4, 2) := by decide +kernel
theorem dX2_cycle_27 : decode cX2_cycle 27 = .ok (.iconst 0, 1) := by decide +kernel
theorem dX2_cycle_28 : decode cX2_cycle 28 = .ok (.istore 5, 2) := by decide +kernel
theorem dX2_cycle_30 : decode cX2_cycle 30 = .ok (.iload 5, 2) := by decide +kernel
theorem dX2_cycle_32 : decode cX2_cycle 32 = .ok (.sipush 256, 3) := by decide +kernel
theorem dX2_cycle_35 : decode cX2_cycle 35 = .ok (.if_icmp .ge 43, 3) := by decide +kernel
theorem dX2_cycle_38 : decode cX2_cycle 38 = .ok (.aload_n 0, 1) := by decide +kernel
theorem dX2_cycle_39 : decode cX2_cycle 39 = .ok (.getfield 7, 3) := by decide +kernel
theorem dX2_cycle_42 : decode cX2_cycle 42 = .ok (.iload 5, 2) := by decide +kernel
theorem dX2_cycle_44 : decode cX2_cycle 44 = .ok (.baload, 1) := by decide +kernel
theorem dX2_cycle_45 : decode cX2_cycle 45 = .ok (.ifCond .eq 27, 3) := by decide +kernel
theorem dX2_cycle_48 : decode cX2_cycle 48 = .ok (.iload_n 2, 1) := by decide +kernel
theorem dX2_cycle_49 : decode cX2_cycle 49 = .ok (.iload 5, 2) := by decide +kernel
theorem dX2_cycle_51 : decode cX2_cycle 51 = .ok (.iconst 4, 1) := by decide +kernel
theorem dX2_cycle_52 : decode cX2_cycle 52 = .ok (.ishr, 1) := by decide +kernel
theorem dX2_cycle_53 : decode cX2_cycle 53 = .ok (.ishr, 1) := by decide +kernel
theorem dX2_cycle_54 : decode cX2_cycle 54 = .ok (.iconst 1, 1) := by decide +kernel
theorem dX2_cycle_55 : decode cX2_cycle 55 = .ok (.iand, 1) := by decide +kernel
theorem dX2_cycle_56 : decode cX2_cycle 56 = .ok (.iconst 1, 1) := by decide +kernel
theorem dX2_cycle_57 : decode cX2_cycle 57 = .ok (.if_icmp .ne 15, 3) := by decide +kernel
theorem dX2_cycle_60 : decode cX2_cycle 60 = .ok (.iload 4, 2) := by decide +kernel
theorem dX2_cycle_62 : decode cX2_cycle 62 = .ok (.iconst 1, 1) := by decide +kernel
theorem dX2_cycle_63 : decode cX2_cycle 63 = .ok (.iload 5, 2) := by decide +kernel
theorem dX2_cycle_65 : decode cX2_cycle 65 = .ok (.bipush 15, 2) := by decide +kernel
theorem dX2_cycle_67 : decode cX2_cycle 67 = .ok (.iand, 1) := by decide +kernel
theorem dX2_cycle_68 : decode cX2_cycle 68 = .ok (.ishl, 1) := by decide +kernel
theorem dX2_cycle_69 : decode cX2_cycle 69 = .ok (.ior, 1) := by decide +kernel
theorem dX2_cycle_70 : decode cX2_cycle 70 = .ok (.istore 4, 2) := by decide +kernel
theorem dX2_cycle_72 : decode cX2_cycle 72 = .ok (.iinc 5 1, 3) := by decide +kernel
theorem dX2_cycle_75 : decode cX2_cycle 75 = .ok (.goto (-45), 3) := by decide +kernel
theorem dX2_cycle_78 : decode cX2_cycle 78 = .ok (.iload 4, 2) := by decide +kernel
theorem dX2_cycle_80 : decode cX2_cycle 80 = .ok (.istore_n 2, 1) := by decide +kernel
theorem dX2_cycle_81 : decode cX2_cycle 81 = .ok (.iload_n 2, 1) := by decide +kernel
theorem dX2_cycle_82 : decode cX2_cycle 82 = .ok (.iload_n 1, 1) := by decide +kernel
theorem dX2_cycle_83 : decode cX2_cycle 83 = .ok (.ishr, 1) := by decide +kernel
theorem dX2_cycle_84 : decode cX2_cycle 84 = .ok (.iconst 1, 1) := by decide +kernel
theorem dX2_cycle_85 : decode cX2_cycle 85 = .ok (.iand, 1) := by decide +kernel
theorem dX2_cycle_86 : decode cX2_cycle 86 = .ok (.iconst 1, 1) := by decide +kernel
theorem dX2_cycle_87 : decode cX2_cycle 87 = .ok (.if_icmp .ne 5, 3) := by decide +kernel
theorem dX2_cycle_90 : decode cX2_cycle 90 = .ok (.iload_n 3, 1) := by decide +kernel
theorem dX2_cycle_91 : decode cX2_cycle 91 = .ok (.ireturn, 1) := by decide +kernel
theorem dX2_cycle_92 : decode cX2_cycle 92 = .ok (.iinc 3 1, 3) := by decide +kernel
theorem dX2_cycle_95 : decode cX2_cycle 95 = .ok (.goto (-79), 3) := by decide +kernel
theorem dX2_cycle_98 : decode cX2_cycle 98 = .ok (.bipush (-2), 2) := by decide +kernel
theorem dX2_cycle_100 : decode cX2_cycle 100 = .ok (.ireturn, 1) := by decide +kernel
abbrev cX2_outerEdges : ByteArray := prog_3_method_16_code
def yX2_outerEdges : MethodName := ⟨RX2, "outerEdges", "()I"⟩
theorem dX2_outerEdges_0 : decode cX2_outerEdges 0 = .ok (.aload_n 0, 1) := by decide +kernel
theorem dX2_outerEdges_1 : decode cX2_outerEdges 1 = .ok (.invokevirtual 40, 3) := by decide +kernel
theorem dX2_outerEdges_4 : decode cX2_outerEdges 4 = .ok (.iconst 0, 1) := by decide +kernel
theorem dX2_outerEdges_5 : decode cX2_outerEdges 5 = .ok (.istore_n 1, 1) := by decide +kernel
theorem dX2_outerEdges_6 : decode cX2_outerEdges 6 = .ok (.iconst 0, 1) := by decide +kernel
theorem dX2_outerEdges_7 : decode cX2_outerEdges 7 = .ok (.istore_n 2, 1) := by decide +kernel
theorem dX2_outerEdges_8 : decode cX2_outerEdges 8 = .ok (.iload_n 2, 1) := by decide +kernel
theorem dX2_outerEdges_9 : decode cX2_outerEdges 9 = .ok (.sipush 256, 3) := by decide +kernel
theorem dX2_outerEdges_12 : decode cX2_outerEdges 12 = .ok (.if_icmp .ge 35, 3) := by decide +kernel
theorem dX2_outerEdges_15 : decode cX2_outerEdges 15 = .ok (.aload_n 0, 1) := by decide +kernel
theorem dX2_outerEdges_16 : decode cX2_outerEdges 16 = .ok (.getfield 7, 3) := by decide +kernel
theorem dX2_outerEdges_19 : decode cX2_outerEdges 19 = .ok (.iload_n 2, 1) := by decide +kernel
theorem dX2_outerEdges_20 : decode cX2_outerEdges 20 = .ok (.baload, 1) := by decide +kernel
theorem dX2_outerEdges_21 : decode cX2_outerEdges 21 = .ok (.ifCond .eq 20, 3) := by decide +kernel
theorem dX2_outerEdges_24 : decode cX2_outerEdges 24 = .ok (.aload_n 0, 1) := by decide +kernel
theorem dX2_outerEdges_25 : decode cX2_outerEdges 25 = .ok (.iload_n 2, 1) := by decide +kernel
theorem dX2_outerEdges_26 : decode cX2_outerEdges 26 = .ok (.iconst 4, 1) := by decide +kernel
theorem dX2_outerEdges_27 : decode cX2_outerEdges 27 = .ok (.ishr, 1) := by decide +kernel
theorem dX2_outerEdges_28 : decode cX2_outerEdges 28 = .ok (.iload_n 2, 1) := by decide +kernel
theorem dX2_outerEdges_29 : decode cX2_outerEdges 29 = .ok (.bipush 15, 2) := by decide +kernel
theorem dX2_outerEdges_31 : decode cX2_outerEdges 31 = .ok (.iand, 1) := by decide +kernel
theorem dX2_outerEdges_32 : decode cX2_outerEdges 32 = .ok (.invokevirtual 28, 3) := by decide +kernel
theorem dX2_outerEdges_35 : decode cX2_outerEdges 35 = .ok (.ifCond .ne 6, 3) := by decide +kernel
theorem dX2_outerEdges_38 : decode cX2_outerEdges 38 = .ok (.iinc 1 1, 3) := by decide +kernel
theorem dX2_outerEdges_41 : decode cX2_outerEdges 41 = .ok (.iinc 2 1, 3) := by decide +kernel
theorem dX2_outerEdges_44 : decode cX2_outerEdges 44 = .ok (.goto (-36), 3) := by decide +kernel
theorem dX2_outerEdges_47 : decode cX2_outerEdges 47 = .ok (.iload_n 1, 1) := by decide +kernel
theorem dX2_outerEdges_48 : decode cX2_outerEdges 48 = .ok (.ireturn, 1) := by decide +kernel
abbrev cX2_inOneLine : ByteArray := prog_3_method_17_code
def yX2_inOneLine : MethodName := ⟨RX2, "inOneLine", "()Z"⟩
theorem dX2_inOneLine_0 : decode cX2_inOneLine 0 = .ok (.aload_n 0, 1) := by decide +kernel
theorem dX2_inOneLine_1 : decode cX2_inOneLine 1 = .ok (.invokevirtual 40, 3) := by decide +kernel
theorem dX2_inOneLine_4 : decode cX2_inOneLine 4 = .ok (.iconst 0, 1) := by decide +kernel
theorem dX2_inOneLine_5 : decode cX2_inOneLine 5 = .ok (.istore_n 1, 1) := by decide +kernel
theorem dX2_inOneLine_6 : decode cX2_inOneLine 6 = .ok (.iload_n 1, 1) := by decide +kernel
theorem dX2_inOneLine_7 : decode cX2_inOneLine 7 = .ok (.aload_n 0, 1) := by decide +kernel
theorem dX2_inOneLine_8 : decode cX2_inOneLine 8 = .ok (.getfield 20, 3) := by decide +kernel
theorem dX2_inOneLine_11 : decode cX2_inOneLine 11 = .ok (.if_icmp .ge 55, 3) := by decide +kernel
theorem dX2_inOneLine_14 : decode cX2_inOneLine 14 = .ok (.iconst 0, 1) := by decide +kernel
theorem dX2_inOneLine_15 : decode cX2_inOneLine 15 = .ok (.istore_n 2, 1) := by decide +kernel
theorem dX2_inOneLine_16 : decode cX2_inOneLine 16 = .ok (.iload_n 2, 1) := by decide +kernel
theorem dX2_inOneLine_17 : decode cX2_inOneLine 17 = .ok (.aload_n 0, 1) := by decide +kernel
theorem dX2_inOneLine_18 : decode cX2_inOneLine 18 = .ok (.getfield 20, 3) := by decide +kernel
theorem dX2_inOneLine_21 : decode cX2_inOneLine 21 = .ok (.if_icmp .ge 39, 3) := by decide +kernel
theorem dX2_inOneLine_24 : decode cX2_inOneLine 24 = .ok (.aload_n 0, 1) := by decide +kernel
theorem dX2_inOneLine_25 : decode cX2_inOneLine 25 = .ok (.getfield 13, 3) := by decide +kernel
theorem dX2_inOneLine_28 : decode cX2_inOneLine 28 = .ok (.bipush 16, 2) := by decide +kernel
theorem dX2_inOneLine_30 : decode cX2_inOneLine 30 = .ok (.iload_n 1, 1) := by decide +kernel
theorem dX2_inOneLine_31 : decode cX2_inOneLine 31 = .ok (.imul, 1) := by decide +kernel
theorem dX2_inOneLine_32 : decode cX2_inOneLine 32 = .ok (.iload_n 2, 1) := by decide +kernel
theorem dX2_inOneLine_33 : decode cX2_inOneLine 33 = .ok (.iadd, 1) := by decide +kernel
theorem dX2_inOneLine_34 : decode cX2_inOneLine 34 = .ok (.baload, 1) := by decide +kernel
theorem dX2_inOneLine_35 : decode cX2_inOneLine 35 = .ok (.ifCond .ne 19, 3) := by decide +kernel
theorem dX2_inOneLine_38 : decode cX2_inOneLine 38 = .ok (.aload_n 0, 1) := by decide +kernel
theorem dX2_inOneLine_39 : decode cX2_inOneLine 39 = .ok (.getfield 13, 3) := by decide +kernel
theorem dX2_inOneLine_42 : decode cX2_inOneLine 42 = .ok (.bipush 16, 2) := by decide +kernel
theorem dX2_inOneLine_44 : decode cX2_inOneLine 44 = .ok (.iload_n 2, 1) := by decide +kernel
theorem dX2_inOneLine_45 : decode cX2_inOneLine 45 = .ok (.imul, 1) := by decide +kernel
theorem dX2_inOneLine_46 : decode cX2_inOneLine 46 = .ok (.iload_n 1, 1) := by decide +kernel
theorem dX2_inOneLine_47 : decode cX2_inOneLine 47 = .ok (.iadd, 1) := by decide +kernel
theorem dX2_inOneLine_48 : decode cX2_inOneLine 48 = .ok (.baload, 1) := by decide +kernel
theorem dX2_inOneLine_49 : decode cX2_inOneLine 49 = .ok (.ifCond .ne 5, 3) := by decide +kernel
theorem dX2_inOneLine_52 : decode cX2_inOneLine 52 = .ok (.iconst 0, 1) := by decide +kernel
theorem dX2_inOneLine_53 : decode cX2_inOneLine 53 = .ok (.ireturn, 1) := by decide +kernel
theorem dX2_inOneLine_54 : decode cX2_inOneLine 54 = .ok (.iinc 2 1, 3) := by decide +kernel
theorem dX2_inOneLine_57 : decode cX2_inOneLine 57 = .ok (.goto (-41), 3) := by decide +kernel
theorem dX2_inOneLine_60 : decode cX2_inOneLine 60 = .ok (.iinc 1 1, 3) := by decide +kernel
theorem dX2_inOneLine_63 : decode cX2_inOneLine 63 = .ok (.goto (-57), 3) := by decide +kernel
theorem dX2_inOneLine_66 : decode cX2_inOneLine 66 = .ok (.iconst 1, 1) := by decide +kernel
theorem dX2_inOneLine_67 : decode cX2_inOneLine 67 = .ok (.ireturn, 1) := by decide +kernel
end
section
set_option maxRecDepth 100000
theorem q26 : (Jvm.Cond.initialized "IncrementalSccModel") ∈ lw_all := lw_g (lw_at lw_m1 2 rfl) rfl
theorem q190 : (Jvm.Cond.instantiable "IncrementalSccModel" (4 : Nat)) ∈ lw_all := lw_g (lw_at lw_m1 166 rfl) rfl
theorem q192 : (Jvm.Cond.instanceMethod ({ cls := "IncrementalSccModel", name := "<init>", desc := "(I)V" } : Jvm.MethodName)) ∈ lw_all := lw_g (lw_at lw_m1 168 rfl) rfl
theorem q193 : (Jvm.Cond.code ({ cls := "IncrementalSccModel", name := "<init>", desc := "(I)V" } : Jvm.MethodName) prog_3_method_1_code (2 : Nat) (Option.none : Option Jvm.ClassFile.FieldType)) ∈ lw_all := lw_g (lw_at lw_m1 169 rfl) rfl
theorem q194 : (Jvm.Cond.methodLink "IncrementalSccModel" (1 : Nat) ({ cls := "java/lang/Object", name := "<init>", desc := "()V" } : Jvm.MethodName)) ∈ lw_all := lw_g (lw_at lw_m1 170 rfl) rfl
theorem q195 : (Jvm.Cond.fieldLink "IncrementalSccModel" (20 : Nat) "IncrementalSccModel" "n" "I") ∈ lw_all := lw_g (lw_at lw_m1 171 rfl) rfl
theorem q196 : (Jvm.Cond.fieldLink "IncrementalSccModel" (7 : Nat) "IncrementalSccModel" "edge" "[Z") ∈ lw_all := lw_g (lw_at lw_m1 172 rfl) rfl
theorem q197 : (Jvm.Cond.fieldLink "IncrementalSccModel" (13 : Nat) "IncrementalSccModel" "reach" "[Z") ∈ lw_all := lw_g (lw_at lw_m1 173 rfl) rfl
theorem q198 : (Jvm.Cond.fieldLink "IncrementalSccModel" (16 : Nat) "IncrementalSccModel" "high" "[I") ∈ lw_all := lw_g (lw_at lw_m1 174 rfl) rfl
theorem q199 : (Jvm.Cond.lays "IncrementalSccModel" "IncrementalSccModel" "n" "I") ∈ lw_all := lw_g (lw_at lw_m1 175 rfl) rfl
theorem q200 : (Jvm.Cond.soleField "IncrementalSccModel" "n") ∈ lw_all := lw_g (lw_at lw_m1 176 rfl) rfl
theorem q201 : (Jvm.Cond.lays "IncrementalSccModel" "IncrementalSccModel" "edge" "[Z") ∈ lw_all := lw_g (lw_at lw_m1 177 rfl) rfl
theorem q202 : (Jvm.Cond.soleField "IncrementalSccModel" "edge") ∈ lw_all := lw_g (lw_at lw_m1 178 rfl) rfl
theorem q203 : (Jvm.Cond.lays "IncrementalSccModel" "IncrementalSccModel" "reach" "[Z") ∈ lw_all := lw_g (lw_at lw_m1 179 rfl) rfl
theorem q204 : (Jvm.Cond.soleField "IncrementalSccModel" "reach") ∈ lw_all := lw_g (lw_at lw_m1 180 rfl) rfl
theorem q205 : (Jvm.Cond.lays "IncrementalSccModel" "IncrementalSccModel" "high" "[I") ∈ lw_all := lw_g (lw_at lw_m1 181 rfl) rfl
theorem q206 : (Jvm.Cond.soleField "IncrementalSccModel" "high") ∈ lw_all := lw_g (lw_at lw_m1 182 rfl) rfl
theorem q207 : (Jvm.Cond.superclass "IncrementalSccModel" "java/lang/Object") ∈ lw_all := lw_g (lw_at lw_m1 183 rfl) rfl
theorem q210 : (Jvm.Cond.instanceMethod ({ cls := "IncrementalSccModel", name := "addEdge", desc := "(II)I" } : Jvm.MethodName)) ∈ lw_all := lw_g (lw_at lw_m1 186 rfl) rfl
theorem q211 : (Jvm.Cond.selects "IncrementalSccModel" ({ cls := "IncrementalSccModel", name := "addEdge", desc := "(II)I" } : Jvm.MethodName) ({ cls := "IncrementalSccModel", name := "addEdge", desc := "(II)I" } : Jvm.MethodName)) ∈ lw_all := lw_g (lw_at lw_m1 187 rfl) rfl
theorem q212 : (Jvm.Cond.code ({ cls := "IncrementalSccModel", name := "addEdge", desc := "(II)I" } : Jvm.MethodName) prog_3_method_7_code (5 : Nat) (Option.some Jvm.ClassFile.FieldType.int)) ∈ lw_all := lw_g (lw_at lw_m1 188 rfl) rfl
theorem q213 : (Jvm.Cond.methodLink "IncrementalSccModel" (32 : Nat) ({ cls := "IncrementalSccModel", name := "isVertex", desc := "(I)Z" } : Jvm.MethodName)) ∈ lw_all := lw_g (lw_at lw_m1 189 rfl) rfl
theorem q214 : (Jvm.Cond.privateMethod ({ cls := "IncrementalSccModel", name := "isVertex", desc := "(I)Z" } : Jvm.MethodName)) ∈ lw_tbl := lw_at lw_m1 190 rfl
theorem q215 : (Jvm.Cond.instanceMethod ({ cls := "IncrementalSccModel", name := "isVertex", desc := "(I)Z" } : Jvm.MethodName)) ∈ lw_all := lw_g (lw_at lw_m1 191 rfl) rfl
theorem q216 : (Jvm.Cond.code ({ cls := "IncrementalSccModel", name := "isVertex", desc := "(I)Z" } : Jvm.MethodName) prog_3_method_2_code (2 : Nat) (Option.some Jvm.ClassFile.FieldType.boolean)) ∈ lw_all := lw_g (lw_at lw_m1 192 rfl) rfl
theorem q217 : (Jvm.Cond.methodLink "IncrementalSccModel" (36 : Nat) ({ cls := "IncrementalSccModel", name := "components", desc := "()I" } : Jvm.MethodName)) ∈ lw_all := lw_g (lw_at lw_m1 193 rfl) rfl
theorem q218 : (Jvm.Cond.instanceMethod ({ cls := "IncrementalSccModel", name := "components", desc := "()I" } : Jvm.MethodName)) ∈ lw_all := lw_g (lw_at lw_m1 194 rfl) rfl
theorem q219 : (Jvm.Cond.selects "IncrementalSccModel" ({ cls := "IncrementalSccModel", name := "components", desc := "()I" } : Jvm.MethodName) ({ cls := "IncrementalSccModel", name := "components", desc := "()I" } : Jvm.MethodName)) ∈ lw_all := lw_g (lw_at lw_m1 195 rfl) rfl
theorem q220 : (Jvm.Cond.code ({ cls := "IncrementalSccModel", name := "components", desc := "()I" } : Jvm.MethodName) prog_3_method_9_code (4 : Nat) (Option.some Jvm.ClassFile.FieldType.int)) ∈ lw_all := lw_g (lw_at lw_m1 196 rfl) rfl
theorem q221 : (Jvm.Cond.methodLink "IncrementalSccModel" (40 : Nat) ({ cls := "IncrementalSccModel", name := "findReach", desc := "()V" } : Jvm.MethodName)) ∈ lw_all := lw_g (lw_at lw_m1 197 rfl) rfl
theorem q222 : (Jvm.Cond.privateMethod ({ cls := "IncrementalSccModel", name := "findReach", desc := "()V" } : Jvm.MethodName)) ∈ lw_tbl := lw_at lw_m1 198 rfl
theorem q223 : (Jvm.Cond.instanceMethod ({ cls := "IncrementalSccModel", name := "findReach", desc := "()V" } : Jvm.MethodName)) ∈ lw_all := lw_g (lw_at lw_m1 199 rfl) rfl
theorem q224 : (Jvm.Cond.code ({ cls := "IncrementalSccModel", name := "findReach", desc := "()V" } : Jvm.MethodName) prog_3_method_4_code (3 : Nat) (Option.none : Option Jvm.ClassFile.FieldType)) ∈ lw_all := lw_g (lw_at lw_m1 200 rfl) rfl
theorem q225 : (Jvm.Cond.methodLink "IncrementalSccModel" (24 : Nat) ({ cls := "IncrementalSccModel", name := "lengthen", desc := "()Z" } : Jvm.MethodName)) ∈ lw_all := lw_g (lw_at lw_m1 201 rfl) rfl
theorem q226 : (Jvm.Cond.privateMethod ({ cls := "IncrementalSccModel", name := "lengthen", desc := "()Z" } : Jvm.MethodName)) ∈ lw_tbl := lw_at lw_m1 202 rfl
theorem q227 : (Jvm.Cond.instanceMethod ({ cls := "IncrementalSccModel", name := "lengthen", desc := "()Z" } : Jvm.MethodName)) ∈ lw_all := lw_g (lw_at lw_m1 203 rfl) rfl
theorem q228 : (Jvm.Cond.code ({ cls := "IncrementalSccModel", name := "lengthen", desc := "()Z" } : Jvm.MethodName) prog_3_method_3_code (6 : Nat) (Option.some Jvm.ClassFile.FieldType.boolean)) ∈ lw_all := lw_g (lw_at lw_m1 204 rfl) rfl
theorem q229 : (Jvm.Cond.methodLink "IncrementalSccModel" (43 : Nat) ({ cls := "IncrementalSccModel", name := "leaderOf", desc := "(I)I" } : Jvm.MethodName)) ∈ lw_all := lw_g (lw_at lw_m1 205 rfl) rfl
theorem q230 : (Jvm.Cond.privateMethod ({ cls := "IncrementalSccModel", name := "leaderOf", desc := "(I)I" } : Jvm.MethodName)) ∈ lw_tbl := lw_at lw_m1 206 rfl
theorem q231 : (Jvm.Cond.instanceMethod ({ cls := "IncrementalSccModel", name := "leaderOf", desc := "(I)I" } : Jvm.MethodName)) ∈ lw_all := lw_g (lw_at lw_m1 207 rfl) rfl
theorem q232 : (Jvm.Cond.code ({ cls := "IncrementalSccModel", name := "leaderOf", desc := "(I)I" } : Jvm.MethodName) prog_3_method_6_code (3 : Nat) (Option.some Jvm.ClassFile.FieldType.int)) ∈ lw_all := lw_g (lw_at lw_m1 208 rfl) rfl
theorem q233 : (Jvm.Cond.methodLink "IncrementalSccModel" (28 : Nat) ({ cls := "IncrementalSccModel", name := "together", desc := "(II)Z" } : Jvm.MethodName)) ∈ lw_all := lw_g (lw_at lw_m1 209 rfl) rfl
theorem q234 : (Jvm.Cond.privateMethod ({ cls := "IncrementalSccModel", name := "together", desc := "(II)Z" } : Jvm.MethodName)) ∈ lw_tbl := lw_at lw_m1 210 rfl
theorem q235 : (Jvm.Cond.instanceMethod ({ cls := "IncrementalSccModel", name := "together", desc := "(II)Z" } : Jvm.MethodName)) ∈ lw_all := lw_g (lw_at lw_m1 211 rfl) rfl
theorem q236 : (Jvm.Cond.code ({ cls := "IncrementalSccModel", name := "together", desc := "(II)Z" } : Jvm.MethodName) prog_3_method_5_code (3 : Nat) (Option.some Jvm.ClassFile.FieldType.boolean)) ∈ lw_all := lw_g (lw_at lw_m1 212 rfl) rfl
theorem q238 : (Jvm.Cond.instanceMethod ({ cls := "IncrementalSccModel", name := "removeEdge", desc := "(II)I" } : Jvm.MethodName)) ∈ lw_all := lw_g (lw_at lw_m1 214 rfl) rfl
theorem q239 : (Jvm.Cond.selects "IncrementalSccModel" ({ cls := "IncrementalSccModel", name := "removeEdge", desc := "(II)I" } : Jvm.MethodName) ({ cls := "IncrementalSccModel", name := "removeEdge", desc := "(II)I" } : Jvm.MethodName)) ∈ lw_all := lw_g (lw_at lw_m1 215 rfl) rfl
theorem q240 : (Jvm.Cond.code ({ cls := "IncrementalSccModel", name := "removeEdge", desc := "(II)I" } : Jvm.MethodName) prog_3_method_8_code (5 : Nat) (Option.some Jvm.ClassFile.FieldType.int)) ∈ lw_all := lw_g (lw_at lw_m1 216 rfl) rfl
theorem q243 : (Jvm.Cond.instanceMethod ({ cls := "IncrementalSccModel", name := "leader", desc := "(I)I" } : Jvm.MethodName)) ∈ lw_all := lw_g (lw_at lw_m1 219 rfl) rfl
theorem q244 : (Jvm.Cond.selects "IncrementalSccModel" ({ cls := "IncrementalSccModel", name := "leader", desc := "(I)I" } : Jvm.MethodName) ({ cls := "IncrementalSccModel", name := "leader", desc := "(I)I" } : Jvm.MethodName)) ∈ lw_all := lw_g (lw_at lw_m1 220 rfl) rfl
theorem q245 : (Jvm.Cond.code ({ cls := "IncrementalSccModel", name := "leader", desc := "(I)I" } : Jvm.MethodName) prog_3_method_10_code (2 : Nat) (Option.some Jvm.ClassFile.FieldType.int)) ∈ lw_all := lw_g (lw_at lw_m1 221 rfl) rfl
theorem q247 : (Jvm.Cond.instanceMethod ({ cls := "IncrementalSccModel", name := "componentSize", desc := "(I)I" } : Jvm.MethodName)) ∈ lw_all := lw_g (lw_at lw_m1 223 rfl) rfl
theorem q248 : (Jvm.Cond.selects "IncrementalSccModel" ({ cls := "IncrementalSccModel", name := "componentSize", desc := "(I)I" } : Jvm.MethodName) ({ cls := "IncrementalSccModel", name := "componentSize", desc := "(I)I" } : Jvm.MethodName)) ∈ lw_all := lw_g (lw_at lw_m1 224 rfl) rfl
theorem q249 : (Jvm.Cond.code ({ cls := "IncrementalSccModel", name := "componentSize", desc := "(I)I" } : Jvm.MethodName) prog_3_method_11_code (4 : Nat) (Option.some Jvm.ClassFile.FieldType.int)) ∈ lw_all := lw_g (lw_at lw_m1 225 rfl) rfl
theorem q251 : (Jvm.Cond.instanceMethod ({ cls := "IncrementalSccModel", name := "reaches", desc := "(II)Z" } : Jvm.MethodName)) ∈ lw_all := lw_g (lw_at lw_m1 227 rfl) rfl
theorem q252 : (Jvm.Cond.selects "IncrementalSccModel" ({ cls := "IncrementalSccModel", name := "reaches", desc := "(II)Z" } : Jvm.MethodName) ({ cls := "IncrementalSccModel", name := "reaches", desc := "(II)Z" } : Jvm.MethodName)) ∈ lw_all := lw_g (lw_at lw_m1 228 rfl) rfl
theorem q253 : (Jvm.Cond.code ({ cls := "IncrementalSccModel", name := "reaches", desc := "(II)Z" } : Jvm.MethodName) prog_3_method_12_code (3 : Nat) (Option.some Jvm.ClassFile.FieldType.boolean)) ∈ lw_all := lw_g (lw_at lw_m1 229 rfl) rfl
theorem q255 : (Jvm.Cond.instanceMethod ({ cls := "IncrementalSccModel", name := "height", desc := "(I)I" } : Jvm.MethodName)) ∈ lw_all := lw_g (lw_at lw_m1 231 rfl) rfl
theorem q256 : (Jvm.Cond.selects "IncrementalSccModel" ({ cls := "IncrementalSccModel", name := "height", desc := "(I)I" } : Jvm.MethodName) ({ cls := "IncrementalSccModel", name := "height", desc := "(I)I" } : Jvm.MethodName)) ∈ lw_all := lw_g (lw_at lw_m1 232 rfl) rfl
theorem q257 : (Jvm.Cond.code ({ cls := "IncrementalSccModel", name := "height", desc := "(I)I" } : Jvm.MethodName) prog_3_method_14_code (4 : Nat) (Option.some Jvm.ClassFile.FieldType.int)) ∈ lw_all := lw_g (lw_at lw_m1 233 rfl) rfl
theorem q258 : (Jvm.Cond.methodLink "IncrementalSccModel" (47 : Nat) ({ cls := "IncrementalSccModel", name := "raise", desc := "()Z" } : Jvm.MethodName)) ∈ lw_all := lw_g (lw_at lw_m1 234 rfl) rfl
theorem q259 : (Jvm.Cond.privateMethod ({ cls := "IncrementalSccModel", name := "raise", desc := "()Z" } : Jvm.MethodName)) ∈ lw_tbl := lw_at lw_m1 235 rfl
theorem q260 : (Jvm.Cond.instanceMethod ({ cls := "IncrementalSccModel", name := "raise", desc := "()Z" } : Jvm.MethodName)) ∈ lw_all := lw_g (lw_at lw_m1 236 rfl) rfl
theorem q261 : (Jvm.Cond.code ({ cls := "IncrementalSccModel", name := "raise", desc := "()Z" } : Jvm.MethodName) prog_3_method_13_code (5 : Nat) (Option.some Jvm.ClassFile.FieldType.boolean)) ∈ lw_all := lw_g (lw_at lw_m1 237 rfl) rfl
theorem q263 : (Jvm.Cond.instanceMethod ({ cls := "IncrementalSccModel", name := "cycle", desc := "(I)I" } : Jvm.MethodName)) ∈ lw_all := lw_g (lw_at lw_m1 239 rfl) rfl
theorem q264 : (Jvm.Cond.selects "IncrementalSccModel" ({ cls := "IncrementalSccModel", name := "cycle", desc := "(I)I" } : Jvm.MethodName) ({ cls := "IncrementalSccModel", name := "cycle", desc := "(I)I" } : Jvm.MethodName)) ∈ lw_all := lw_g (lw_at lw_m2 0 rfl) rfl
theorem q265 : (Jvm.Cond.code ({ cls := "IncrementalSccModel", name := "cycle", desc := "(I)I" } : Jvm.MethodName) prog_3_method_15_code (6 : Nat) (Option.some Jvm.ClassFile.FieldType.int)) ∈ lw_all := lw_g (lw_at lw_m2 1 rfl) rfl
theorem q267 : (Jvm.Cond.instanceMethod ({ cls := "IncrementalSccModel", name := "outerEdges", desc := "()I" } : Jvm.MethodName)) ∈ lw_all := lw_g (lw_at lw_m2 3 rfl) rfl
theorem q268 : (Jvm.Cond.selects "IncrementalSccModel" ({ cls := "IncrementalSccModel", name := "outerEdges", desc := "()I" } : Jvm.MethodName) ({ cls := "IncrementalSccModel", name := "outerEdges", desc := "()I" } : Jvm.MethodName)) ∈ lw_all := lw_g (lw_at lw_m2 4 rfl) rfl
theorem q269 : (Jvm.Cond.code ({ cls := "IncrementalSccModel", name := "outerEdges", desc := "()I" } : Jvm.MethodName) prog_3_method_16_code (3 : Nat) (Option.some Jvm.ClassFile.FieldType.int)) ∈ lw_all := lw_g (lw_at lw_m2 5 rfl) rfl
theorem q271 : (Jvm.Cond.instanceMethod ({ cls := "IncrementalSccModel", name := "inOneLine", desc := "()Z" } : Jvm.MethodName)) ∈ lw_all := lw_g (lw_at lw_m2 7 rfl) rfl
theorem q272 : (Jvm.Cond.selects "IncrementalSccModel" ({ cls := "IncrementalSccModel", name := "inOneLine", desc := "()Z" } : Jvm.MethodName) ({ cls := "IncrementalSccModel", name := "inOneLine", desc := "()Z" } : Jvm.MethodName)) ∈ lw_all := lw_g (lw_at lw_m2 8 rfl) rfl
theorem q273 : (Jvm.Cond.code ({ cls := "IncrementalSccModel", name := "inOneLine", desc := "()Z" } : Jvm.MethodName) prog_3_method_17_code (3 : Nat) (Option.some Jvm.ClassFile.FieldType.boolean)) ∈ lw_all := lw_g (lw_at lw_m2 9 rfl) rfl
theorem in_X2 : ∀ w ∈ wsX20, w ∈ lw_all := lw_in wsX20 [199, 201, 203, 205] (by decide +kernel) (by decide +kernel)
end
section
/-! IncrementalSccLaw -/
set_option maxRecDepth 100000
def RX0 : String := "IncrementalSccLaw"
abbrev cX0_cell : ByteArray := method_2_code
def yX0_cell : MethodName := ⟨RX0, "cell", "([II)I"⟩
theorem dX0_cell_0 : decode cX0_cell 0 = .ok (.iload_n 1, 1) := by decide +kernel
theorem dX0_cell_1 : decode cX0_cell 1 = .ok (.aload_n 0, 1) := by decide +kernel
theorem dX0_cell_2 : decode cX0_cell 2 = .ok (.arraylength, 1) := by decide +kernel
theorem dX0_cell_3 : decode cX0_cell 3 = .ok (.if_icmp .ge 9, 3) := by decide +kernel
theorem dX0_cell_6 : decode cX0_cell 6 = .ok (.aload_n 0, 1) := by decide +kernel
theorem dX0_cell_7 : decode cX0_cell 7 = .ok (.iload_n 1, 1) := by decide +kernel
theorem dX0_cell_8 : decode cX0_cell 8 = .ok (.iaload, 1) := by decide +kernel
theorem dX0_cell_9 : decode cX0_cell 9 = .ok (.goto 4, 3) := by decide +kernel
theorem dX0_cell_12 : decode cX0_cell 12 = .ok (.iconst 0, 1) := by decide +kernel
theorem dX0_cell_13 : decode cX0_cell 13 = .ok (.ireturn, 1) := by decide +kernel
theorem q24 : (Jvm.Cond.initialized "IncrementalSccLaw") ∈ lw_all := lw_g (lw_at lw_m1 0 rfl) rfl
theorem q27 : (Jvm.Cond.classLink "IncrementalSccLaw" (7 : Nat) "IncrementalScc") ∈ lw_all := lw_g (lw_at lw_m1 3 rfl) rfl
theorem q29 : (Jvm.Cond.methodLink "IncrementalSccLaw" (15 : Nat) ({ cls := "IncrementalScc", name := "<init>", desc := "(I)V" } : Jvm.MethodName)) ∈ lw_all := lw_g (lw_at lw_m1 5 rfl) rfl
theorem q74 : (Jvm.Cond.methodLink "IncrementalSccLaw" (21 : Nat) ({ cls := "IncrementalScc", name := "addEdge", desc := "(II)I" } : Jvm.MethodName)) ∈ lw_all := lw_g (lw_at lw_m1 50 rfl) rfl
theorem q134 : (Jvm.Cond.methodLink "IncrementalSccLaw" (26 : Nat) ({ cls := "IncrementalScc", name := "removeEdge", desc := "(II)I" } : Jvm.MethodName)) ∈ lw_all := lw_g (lw_at lw_m1 110 rfl) rfl
theorem q154 : (Jvm.Cond.methodLink "IncrementalSccLaw" (30 : Nat) ({ cls := "IncrementalScc", name := "components", desc := "()I" } : Jvm.MethodName)) ∈ lw_all := lw_g (lw_at lw_m1 130 rfl) rfl
theorem q158 : (Jvm.Cond.methodLink "IncrementalSccLaw" (35 : Nat) ({ cls := "IncrementalScc", name := "leader", desc := "(I)I" } : Jvm.MethodName)) ∈ lw_all := lw_g (lw_at lw_m1 134 rfl) rfl
theorem q162 : (Jvm.Cond.methodLink "IncrementalSccLaw" (40 : Nat) ({ cls := "IncrementalScc", name := "componentSize", desc := "(I)I" } : Jvm.MethodName)) ∈ lw_all := lw_g (lw_at lw_m1 138 rfl) rfl
theorem q166 : (Jvm.Cond.methodLink "IncrementalSccLaw" (44 : Nat) ({ cls := "IncrementalScc", name := "reaches", desc := "(II)Z" } : Jvm.MethodName)) ∈ lw_all := lw_g (lw_at lw_m1 142 rfl) rfl
theorem q170 : (Jvm.Cond.methodLink "IncrementalSccLaw" (49 : Nat) ({ cls := "IncrementalScc", name := "height", desc := "(I)I" } : Jvm.MethodName)) ∈ lw_all := lw_g (lw_at lw_m1 146 rfl) rfl
theorem q174 : (Jvm.Cond.methodLink "IncrementalSccLaw" (53 : Nat) ({ cls := "IncrementalScc", name := "cycle", desc := "(I)I" } : Jvm.MethodName)) ∈ lw_all := lw_g (lw_at lw_m1 150 rfl) rfl
theorem q178 : (Jvm.Cond.methodLink "IncrementalSccLaw" (57 : Nat) ({ cls := "IncrementalScc", name := "outerEdges", desc := "()I" } : Jvm.MethodName)) ∈ lw_all := lw_g (lw_at lw_m1 154 rfl) rfl
theorem q182 : (Jvm.Cond.methodLink "IncrementalSccLaw" (61 : Nat) ({ cls := "IncrementalScc", name := "inOneLine", desc := "()Z" } : Jvm.MethodName)) ∈ lw_all := lw_g (lw_at lw_m1 158 rfl) rfl
theorem q186 : (Jvm.Cond.methodLink "IncrementalSccLaw" (9 : Nat) ({ cls := "IncrementalSccLaw", name := "cell", desc := "([II)I" } : Jvm.MethodName)) ∈ lw_all := lw_g (lw_at lw_m1 162 rfl) rfl
theorem q187 : (Jvm.Cond.static ({ cls := "IncrementalSccLaw", name := "cell", desc := "([II)I" } : Jvm.MethodName)) ∈ lw_all := lw_g (lw_at lw_m1 163 rfl) rfl
theorem q188 : (Jvm.Cond.code ({ cls := "IncrementalSccLaw", name := "cell", desc := "([II)I" } : Jvm.MethodName) method_2_code (2 : Nat) (Option.some Jvm.ClassFile.FieldType.int)) ∈ lw_all := lw_g (lw_at lw_m1 164 rfl) rfl
theorem q189 : (Jvm.Cond.classLink "IncrementalSccLaw" (18 : Nat) "IncrementalSccModel") ∈ lw_all := lw_g (lw_at lw_m1 165 rfl) rfl
theorem q191 : (Jvm.Cond.methodLink "IncrementalSccLaw" (20 : Nat) ({ cls := "IncrementalSccModel", name := "<init>", desc := "(I)V" } : Jvm.MethodName)) ∈ lw_all := lw_g (lw_at lw_m1 167 rfl) rfl
theorem q209 : (Jvm.Cond.methodLink "IncrementalSccLaw" (25 : Nat) ({ cls := "IncrementalSccModel", name := "addEdge", desc := "(II)I" } : Jvm.MethodName)) ∈ lw_all := lw_g (lw_at lw_m1 185 rfl) rfl
theorem q237 : (Jvm.Cond.methodLink "IncrementalSccLaw" (29 : Nat) ({ cls := "IncrementalSccModel", name := "removeEdge", desc := "(II)I" } : Jvm.MethodName)) ∈ lw_all := lw_g (lw_at lw_m1 213 rfl) rfl
theorem q241 : (Jvm.Cond.methodLink "IncrementalSccLaw" (34 : Nat) ({ cls := "IncrementalSccModel", name := "components", desc := "()I" } : Jvm.MethodName)) ∈ lw_all := lw_g (lw_at lw_m1 217 rfl) rfl
theorem q242 : (Jvm.Cond.methodLink "IncrementalSccLaw" (39 : Nat) ({ cls := "IncrementalSccModel", name := "leader", desc := "(I)I" } : Jvm.MethodName)) ∈ lw_all := lw_g (lw_at lw_m1 218 rfl) rfl
theorem q246 : (Jvm.Cond.methodLink "IncrementalSccLaw" (43 : Nat) ({ cls := "IncrementalSccModel", name := "componentSize", desc := "(I)I" } : Jvm.MethodName)) ∈ lw_all := lw_g (lw_at lw_m1 222 rfl) rfl
theorem q250 : (Jvm.Cond.methodLink "IncrementalSccLaw" (48 : Nat) ({ cls := "IncrementalSccModel", name := "reaches", desc := "(II)Z" } : Jvm.MethodName)) ∈ lw_all := lw_g (lw_at lw_m1 226 rfl) rfl
theorem q254 : (Jvm.Cond.methodLink "IncrementalSccLaw" (52 : Nat) ({ cls := "IncrementalSccModel", name := "height", desc := "(I)I" } : Jvm.MethodName)) ∈ lw_all := lw_g (lw_at lw_m1 230 rfl) rfl
theorem q262 : (Jvm.Cond.methodLink "IncrementalSccLaw" (56 : Nat) ({ cls := "IncrementalSccModel", name := "cycle", desc := "(I)I" } : Jvm.MethodName)) ∈ lw_all := lw_g (lw_at lw_m1 238 rfl) rfl
theorem q266 : (Jvm.Cond.methodLink "IncrementalSccLaw" (60 : Nat) ({ cls := "IncrementalSccModel", name := "outerEdges", desc := "()I" } : Jvm.MethodName)) ∈ lw_all := lw_g (lw_at lw_m2 2 rfl) rfl
theorem q270 : (Jvm.Cond.methodLink "IncrementalSccLaw" (65 : Nat) ({ cls := "IncrementalSccModel", name := "inOneLine", desc := "()Z" } : Jvm.MethodName)) ∈ lw_all := lw_g (lw_at lw_m2 6 rfl) rfl

/-! java/lang/Object -/
set_option maxRecDepth 100000
def RJ0 : String := "java/lang/Object"
abbrev cJ0_init : ByteArray := object_method_1_code
def yJ0_init : MethodName := ⟨RJ0, "<init>", "()V"⟩
theorem dJ0_init_0 : decode cJ0_init 0 = .ok (.return_, 1) := by decide +kernel
theorem q33 : (Jvm.Cond.instanceMethod ({ cls := "java/lang/Object", name := "<init>", desc := "()V" } : Jvm.MethodName)) ∈ lw_all := lw_g (lw_at lw_m1 9 rfl) rfl
theorem q34 : (Jvm.Cond.code ({ cls := "java/lang/Object", name := "<init>", desc := "()V" } : Jvm.MethodName) object_method_1_code (1 : Nat) (Option.none : Option Jvm.ClassFile.FieldType)) ∈ lw_all := lw_g (lw_at lw_m1 10 rfl) rfl

theorem q72 : (Jvm.Cond.arrayClass Jvm.ClassFile.FieldType.int) ∈ lw_all := lw_g (lw_at lw_m1 48 rfl) rfl
set_option maxRecDepth 100000
theorem q73 : (Jvm.Cond.arrayClass Jvm.ClassFile.FieldType.byte) ∈ lw_all := lw_g (lw_at lw_m1 49 rfl) rfl
theorem q208 : (Jvm.Cond.arrayClass Jvm.ClassFile.FieldType.boolean) ∈ lw_all := lw_g (lw_at lw_m1 184 rfl) rfl

/-! the law's own entry -/
set_option maxRecDepth 100000
abbrev cL_law : ByteArray := code
theorem dL_law_0 : decode cL_law 0 = .ok (.new 7, 3) := by decide +kernel
theorem dL_law_3 : decode cL_law 3 = .ok (.dup, 1) := by decide +kernel
theorem dL_law_4 : decode cL_law 4 = .ok (.aload_n 0, 1) := by decide +kernel
theorem dL_law_5 : decode cL_law 5 = .ok (.iconst 0, 1) := by decide +kernel
theorem dL_law_6 : decode cL_law 6 = .ok (.invokestatic 9, 3) := by decide +kernel
theorem dL_law_9 : decode cL_law 9 = .ok (.invokespecial 15, 3) := by decide +kernel
theorem dL_law_12 : decode cL_law 12 = .ok (.astore_n 1, 1) := by decide +kernel
theorem dL_law_13 : decode cL_law 13 = .ok (.new 18, 3) := by decide +kernel
theorem dL_law_16 : decode cL_law 16 = .ok (.dup, 1) := by decide +kernel
theorem dL_law_17 : decode cL_law 17 = .ok (.aload_n 0, 1) := by decide +kernel
theorem dL_law_18 : decode cL_law 18 = .ok (.iconst 0, 1) := by decide +kernel
theorem dL_law_19 : decode cL_law 19 = .ok (.invokestatic 9, 3) := by decide +kernel
theorem dL_law_22 : decode cL_law 22 = .ok (.invokespecial 20, 3) := by decide +kernel
theorem dL_law_25 : decode cL_law 25 = .ok (.astore_n 2, 1) := by decide +kernel
theorem dL_law_26 : decode cL_law 26 = .ok (.iconst 1, 1) := by decide +kernel
theorem dL_law_27 : decode cL_law 27 = .ok (.istore_n 3, 1) := by decide +kernel
theorem dL_law_28 : decode cL_law 28 = .ok (.iload_n 3, 1) := by decide +kernel
theorem dL_law_29 : decode cL_law 29 = .ok (.aload_n 0, 1) := by decide +kernel
theorem dL_law_30 : decode cL_law 30 = .ok (.arraylength, 1) := by decide +kernel
theorem dL_law_31 : decode cL_law 31 = .ok (.iconst 3, 1) := by decide +kernel
theorem dL_law_32 : decode cL_law 32 = .ok (.isub, 1) := by decide +kernel
theorem dL_law_33 : decode cL_law 33 = .ok (.if_icmp .gt 299, 3) := by decide +kernel
theorem dL_law_36 : decode cL_law 36 = .ok (.aload_n 0, 1) := by decide +kernel
theorem dL_law_37 : decode cL_law 37 = .ok (.iload_n 3, 1) := by decide +kernel
theorem dL_law_38 : decode cL_law 38 = .ok (.iaload, 1) := by decide +kernel
theorem dL_law_39 : decode cL_law 39 = .ok (.bipush 15, 2) := by decide +kernel
theorem dL_law_41 : decode cL_law 41 = .ok (.iand, 1) := by decide +kernel
theorem dL_law_42 : decode cL_law 42 = .ok (.tableswitch 284 0 9 #[54, 87, 120, 133, 156, 179, 212, 235, 258, 271], 54) := by decide +kernel
theorem dL_law_96 : decode cL_law 96 = .ok (.aload_n 1, 1) := by decide +kernel
theorem dL_law_97 : decode cL_law 97 = .ok (.aload_n 0, 1) := by decide +kernel
theorem dL_law_98 : decode cL_law 98 = .ok (.iload_n 3, 1) := by decide +kernel
theorem dL_law_99 : decode cL_law 99 = .ok (.iconst 1, 1) := by decide +kernel
theorem dL_law_100 : decode cL_law 100 = .ok (.iadd, 1) := by decide +kernel
theorem dL_law_101 : decode cL_law 101 = .ok (.iaload, 1) := by decide +kernel
theorem dL_law_102 : decode cL_law 102 = .ok (.aload_n 0, 1) := by decide +kernel
theorem dL_law_103 : decode cL_law 103 = .ok (.iload_n 3, 1) := by decide +kernel
theorem dL_law_104 : decode cL_law 104 = .ok (.iconst 2, 1) := by decide +kernel
theorem dL_law_105 : decode cL_law 105 = .ok (.iadd, 1) := by decide +kernel
theorem dL_law_106 : decode cL_law 106 = .ok (.iaload, 1) := by decide +kernel
theorem dL_law_107 : decode cL_law 107 = .ok (.invokevirtual 21, 3) := by decide +kernel
theorem dL_law_110 : decode cL_law 110 = .ok (.aload_n 2, 1) := by decide +kernel
theorem dL_law_111 : decode cL_law 111 = .ok (.aload_n 0, 1) := by decide +kernel
theorem dL_law_112 : decode cL_law 112 = .ok (.iload_n 3, 1) := by decide +kernel
theorem dL_law_113 : decode cL_law 113 = .ok (.iconst 1, 1) := by decide +kernel
theorem dL_law_114 : decode cL_law 114 = .ok (.iadd, 1) := by decide +kernel
theorem dL_law_115 : decode cL_law 115 = .ok (.iaload, 1) := by decide +kernel
theorem dL_law_116 : decode cL_law 116 = .ok (.aload_n 0, 1) := by decide +kernel
theorem dL_law_117 : decode cL_law 117 = .ok (.iload_n 3, 1) := by decide +kernel
theorem dL_law_118 : decode cL_law 118 = .ok (.iconst 2, 1) := by decide +kernel
theorem dL_law_119 : decode cL_law 119 = .ok (.iadd, 1) := by decide +kernel
theorem dL_law_120 : decode cL_law 120 = .ok (.iaload, 1) := by decide +kernel
theorem dL_law_121 : decode cL_law 121 = .ok (.invokevirtual 25, 3) := by decide +kernel
theorem dL_law_124 : decode cL_law 124 = .ok (.if_icmp .eq 202, 3) := by decide +kernel
theorem dL_law_127 : decode cL_law 127 = .ok (.iconst 0, 1) := by decide +kernel
theorem dL_law_128 : decode cL_law 128 = .ok (.ireturn, 1) := by decide +kernel
theorem dL_law_129 : decode cL_law 129 = .ok (.aload_n 1, 1) := by decide +kernel
theorem dL_law_130 : decode cL_law 130 = .ok (.aload_n 0, 1) := by decide +kernel
theorem dL_law_131 : decode cL_law 131 = .ok (.iload_n 3, 1) := by decide +kernel
theorem dL_law_132 : decode cL_law 132 = .ok (.iconst 1, 1) := by decide +kernel
theorem dL_law_133 : decode cL_law 133 = .ok (.iadd, 1) := by decide +kernel
theorem dL_law_134 : decode cL_law 134 = .ok (.iaload, 1) := by decide +kernel
theorem dL_law_135 : decode cL_law 135 = .ok (.aload_n 0, 1) := by decide +kernel
theorem dL_law_136 : decode cL_law 136 = .ok (.iload_n 3, 1) := by decide +kernel
theorem dL_law_137 : decode cL_law 137 = .ok (.iconst 2, 1) := by decide +kernel
theorem dL_law_138 : decode cL_law 138 = .ok (.iadd, 1) := by decide +kernel
theorem dL_law_139 : decode cL_law 139 = .ok (.iaload, 1) := by decide +kernel
theorem dL_law_140 : decode cL_law 140 = .ok (.invokevirtual 26, 3) := by decide +kernel
theorem dL_law_143 : decode cL_law 143 = .ok (.aload_n 2, 1) := by decide +kernel
theorem dL_law_144 : decode cL_law 144 = .ok (.aload_n 0, 1) := by decide +kernel
theorem dL_law_145 : decode cL_law 145 = .ok (.iload_n 3, 1) := by decide +kernel
theorem dL_law_146 : decode cL_law 146 = .ok (.iconst 1, 1) := by decide +kernel
theorem dL_law_147 : decode cL_law 147 = .ok (.iadd, 1) := by decide +kernel
theorem dL_law_148 : decode cL_law 148 = .ok (.iaload, 1) := by decide +kernel
theorem dL_law_149 : decode cL_law 149 = .ok (.aload_n 0, 1) := by decide +kernel
theorem dL_law_150 : decode cL_law 150 = .ok (.iload_n 3, 1) := by decide +kernel
theorem dL_law_151 : decode cL_law 151 = .ok (.iconst 2, 1) := by decide +kernel
theorem dL_law_152 : decode cL_law 152 = .ok (.iadd, 1) := by decide +kernel
theorem dL_law_153 : decode cL_law 153 = .ok (.iaload, 1) := by decide +kernel
theorem dL_law_154 : decode cL_law 154 = .ok (.invokevirtual 29, 3) := by decide +kernel
theorem dL_law_157 : decode cL_law 157 = .ok (.if_icmp .eq 169, 3) := by decide +kernel
theorem dL_law_160 : decode cL_law 160 = .ok (.iconst 0, 1) := by decide +kernel
theorem dL_law_161 : decode cL_law 161 = .ok (.ireturn, 1) := by decide +kernel
theorem dL_law_162 : decode cL_law 162 = .ok (.aload_n 1, 1) := by decide +kernel
theorem dL_law_163 : decode cL_law 163 = .ok (.invokevirtual 30, 3) := by decide +kernel
theorem dL_law_166 : decode cL_law 166 = .ok (.aload_n 2, 1) := by decide +kernel
theorem dL_law_167 : decode cL_law 167 = .ok (.invokevirtual 34, 3) := by decide +kernel
theorem dL_law_170 : decode cL_law 170 = .ok (.if_icmp .eq 156, 3) := by decide +kernel
theorem dL_law_173 : decode cL_law 173 = .ok (.iconst 0, 1) := by decide +kernel
theorem dL_law_174 : decode cL_law 174 = .ok (.ireturn, 1) := by decide +kernel
theorem dL_law_175 : decode cL_law 175 = .ok (.aload_n 1, 1) := by decide +kernel
theorem dL_law_176 : decode cL_law 176 = .ok (.aload_n 0, 1) := by decide +kernel
theorem dL_law_177 : decode cL_law 177 = .ok (.iload_n 3, 1) := by decide +kernel
theorem dL_law_178 : decode cL_law 178 = .ok (.iconst 1, 1) := by decide +kernel
theorem dL_law_179 : decode cL_law 179 = .ok (.iadd, 1) := by decide +kernel
theorem dL_law_180 : decode cL_law 180 = .ok (.iaload, 1) := by decide +kernel
theorem dL_law_181 : decode cL_law 181 = .ok (.invokevirtual 35, 3) := by decide +kernel
theorem dL_law_184 : decode cL_law 184 = .ok (.aload_n 2, 1) := by decide +kernel
theorem dL_law_185 : decode cL_law 185 = .ok (.aload_n 0, 1) := by decide +kernel
theorem dL_law_186 : decode cL_law 186 = .ok (.iload_n 3, 1) := by decide +kernel
theorem dL_law_187 : decode cL_law 187 = .ok (.iconst 1, 1) := by decide +kernel
theorem dL_law_188 : decode cL_law 188 = .ok (.iadd, 1) := by decide +kernel
theorem dL_law_189 : decode cL_law 189 = .ok (.iaload, 1) := by decide +kernel
theorem dL_law_190 : decode cL_law 190 = .ok (.invokevirtual 39, 3) := by decide +kernel
theorem dL_law_193 : decode cL_law 193 = .ok (.if_icmp .eq 133, 3) := by decide +kernel
theorem dL_law_196 : decode cL_law 196 = .ok (.iconst 0, 1) := by decide +kernel
theorem dL_law_197 : decode cL_law 197 = .ok (.ireturn, 1) := by decide +kernel
theorem dL_law_198 : decode cL_law 198 = .ok (.aload_n 1, 1) := by decide +kernel
theorem dL_law_199 : decode cL_law 199 = .ok (.aload_n 0, 1) := by decide +kernel
theorem dL_law_200 : decode cL_law 200 = .ok (.iload_n 3, 1) := by decide +kernel
theorem dL_law_201 : decode cL_law 201 = .ok (.iconst 1, 1) := by decide +kernel
theorem dL_law_202 : decode cL_law 202 = .ok (.iadd, 1) := by decide +kernel
theorem dL_law_203 : decode cL_law 203 = .ok (.iaload, 1) := by decide +kernel
theorem dL_law_204 : decode cL_law 204 = .ok (.invokevirtual 40, 3) := by decide +kernel
theorem dL_law_207 : decode cL_law 207 = .ok (.aload_n 2, 1) := by decide +kernel
theorem dL_law_208 : decode cL_law 208 = .ok (.aload_n 0, 1) := by decide +kernel
theorem dL_law_209 : decode cL_law 209 = .ok (.iload_n 3, 1) := by decide +kernel
theorem dL_law_210 : decode cL_law 210 = .ok (.iconst 1, 1) := by decide +kernel
theorem dL_law_211 : decode cL_law 211 = .ok (.iadd, 1) := by decide +kernel
theorem dL_law_212 : decode cL_law 212 = .ok (.iaload, 1) := by decide +kernel
theorem dL_law_213 : decode cL_law 213 = .ok (.invokevirtual 43, 3) := by decide +kernel
theorem dL_law_216 : decode cL_law 216 = .ok (.if_icmp .eq 110, 3) := by decide +kernel
theorem dL_law_219 : decode cL_law 219 = .ok (.iconst 0, 1) := by decide +kernel
theorem dL_law_220 : decode cL_law 220 = .ok (.ireturn, 1) := by decide +kernel
theorem dL_law_221 : decode cL_law 221 = .ok (.aload_n 1, 1) := by decide +kernel
theorem dL_law_222 : decode cL_law 222 = .ok (.aload_n 0, 1) := by decide +kernel
theorem dL_law_223 : decode cL_law 223 = .ok (.iload_n 3, 1) := by decide +kernel
theorem dL_law_224 : decode cL_law 224 = .ok (.iconst 1, 1) := by decide +kernel
theorem dL_law_225 : decode cL_law 225 = .ok (.iadd, 1) := by decide +kernel
theorem dL_law_226 : decode cL_law 226 = .ok (.iaload, 1) := by decide +kernel
theorem dL_law_227 : decode cL_law 227 = .ok (.aload_n 0, 1) := by decide +kernel
theorem dL_law_228 : decode cL_law 228 = .ok (.iload_n 3, 1) := by decide +kernel
theorem dL_law_229 : decode cL_law 229 = .ok (.iconst 2, 1) := by decide +kernel
theorem dL_law_230 : decode cL_law 230 = .ok (.iadd, 1) := by decide +kernel
theorem dL_law_231 : decode cL_law 231 = .ok (.iaload, 1) := by decide +kernel
theorem dL_law_232 : decode cL_law 232 = .ok (.invokevirtual 44, 3) := by decide +kernel
theorem dL_law_235 : decode cL_law 235 = .ok (.aload_n 2, 1) := by decide +kernel
theorem dL_law_236 : decode cL_law 236 = .ok (.aload_n 0, 1) := by decide +kernel
theorem dL_law_237 : decode cL_law 237 = .ok (.iload_n 3, 1) := by decide +kernel
theorem dL_law_238 : decode cL_law 238 = .ok (.iconst 1, 1) := by decide +kernel
theorem dL_law_239 : decode cL_law 239 = .ok (.iadd, 1) := by decide +kernel
theorem dL_law_240 : decode cL_law 240 = .ok (.iaload, 1) := by decide +kernel
theorem dL_law_241 : decode cL_law 241 = .ok (.aload_n 0, 1) := by decide +kernel
theorem dL_law_242 : decode cL_law 242 = .ok (.iload_n 3, 1) := by decide +kernel
theorem dL_law_243 : decode cL_law 243 = .ok (.iconst 2, 1) := by decide +kernel
theorem dL_law_244 : decode cL_law 244 = .ok (.iadd, 1) := by decide +kernel
theorem dL_law_245 : decode cL_law 245 = .ok (.iaload, 1) := by decide +kernel
theorem dL_law_246 : decode cL_law 246 = .ok (.invokevirtual 48, 3) := by decide +kernel
theorem dL_law_249 : decode cL_law 249 = .ok (.if_icmp .eq 77, 3) := by decide +kernel
theorem dL_law_252 : decode cL_law 252 = .ok (.iconst 0, 1) := by decide +kernel
theorem dL_law_253 : decode cL_law 253 = .ok (.ireturn, 1) := by decide +kernel
theorem dL_law_254 : decode cL_law 254 = .ok (.aload_n 1, 1) := by decide +kernel
theorem dL_law_255 : decode cL_law 255 = .ok (.aload_n 0, 1) := by decide +kernel
theorem dL_law_256 : decode cL_law 256 = .ok (.iload_n 3, 1) := by decide +kernel
theorem dL_law_257 : decode cL_law 257 = .ok (.iconst 1, 1) := by decide +kernel
theorem dL_law_258 : decode cL_law 258 = .ok (.iadd, 1) := by decide +kernel
theorem dL_law_259 : decode cL_law 259 = .ok (.iaload, 1) := by decide +kernel
theorem dL_law_260 : decode cL_law 260 = .ok (.invokevirtual 49, 3) := by decide +kernel
theorem dL_law_263 : decode cL_law 263 = .ok (.aload_n 2, 1) := by decide +kernel
theorem dL_law_264 : decode cL_law 264 = .ok (.aload_n 0, 1) := by decide +kernel
theorem dL_law_265 : decode cL_law 265 = .ok (.iload_n 3, 1) := by decide +kernel
theorem dL_law_266 : decode cL_law 266 = .ok (.iconst 1, 1) := by decide +kernel
theorem dL_law_267 : decode cL_law 267 = .ok (.iadd, 1) := by decide +kernel
theorem dL_law_268 : decode cL_law 268 = .ok (.iaload, 1) := by decide +kernel
theorem dL_law_269 : decode cL_law 269 = .ok (.invokevirtual 52, 3) := by decide +kernel
theorem dL_law_272 : decode cL_law 272 = .ok (.if_icmp .eq 54, 3) := by decide +kernel
theorem dL_law_275 : decode cL_law 275 = .ok (.iconst 0, 1) := by decide +kernel
theorem dL_law_276 : decode cL_law 276 = .ok (.ireturn, 1) := by decide +kernel
theorem dL_law_277 : decode cL_law 277 = .ok (.aload_n 1, 1) := by decide +kernel
theorem dL_law_278 : decode cL_law 278 = .ok (.aload_n 0, 1) := by decide +kernel
theorem dL_law_279 : decode cL_law 279 = .ok (.iload_n 3, 1) := by decide +kernel
theorem dL_law_280 : decode cL_law 280 = .ok (.iconst 1, 1) := by decide +kernel
theorem dL_law_281 : decode cL_law 281 = .ok (.iadd, 1) := by decide +kernel
theorem dL_law_282 : decode cL_law 282 = .ok (.iaload, 1) := by decide +kernel
theorem dL_law_283 : decode cL_law 283 = .ok (.invokevirtual 53, 3) := by decide +kernel
theorem dL_law_286 : decode cL_law 286 = .ok (.aload_n 2, 1) := by decide +kernel
theorem dL_law_287 : decode cL_law 287 = .ok (.aload_n 0, 1) := by decide +kernel
theorem dL_law_288 : decode cL_law 288 = .ok (.iload_n 3, 1) := by decide +kernel
theorem dL_law_289 : decode cL_law 289 = .ok (.iconst 1, 1) := by decide +kernel
theorem dL_law_290 : decode cL_law 290 = .ok (.iadd, 1) := by decide +kernel
theorem dL_law_291 : decode cL_law 291 = .ok (.iaload, 1) := by decide +kernel
theorem dL_law_292 : decode cL_law 292 = .ok (.invokevirtual 56, 3) := by decide +kernel
theorem dL_law_295 : decode cL_law 295 = .ok (.if_icmp .eq 31, 3) := by decide +kernel
theorem dL_law_298 : decode cL_law 298 = .ok (.iconst 0, 1) := by decide +kernel
theorem dL_law_299 : decode cL_law 299 = .ok (.ireturn, 1) := by decide +kernel
theorem dL_law_300 : decode cL_law 300 = .ok (.aload_n 1, 1) := by decide +kernel
theorem dL_law_301 : decode cL_law 301 = .ok (.invokevirtual 57, 3) := by decide +kernel
theorem dL_law_304 : decode cL_law 304 = .ok (.aload_n 2, 1) := by decide +kernel
theorem dL_law_305 : decode cL_law 305 = .ok (.invokevirtual 60, 3) := by decide +kernel
theorem dL_law_308 : decode cL_law 308 = .ok (.if_icmp .eq 18, 3) := by decide +kernel
theorem dL_law_311 : decode cL_law 311 = .ok (.iconst 0, 1) := by decide +kernel
theorem dL_law_312 : decode cL_law 312 = .ok (.ireturn, 1) := by decide +kernel
theorem dL_law_313 : decode cL_law 313 = .ok (.aload_n 1, 1) := by decide +kernel
theorem dL_law_314 : decode cL_law 314 = .ok (.invokevirtual 61, 3) := by decide +kernel
theorem dL_law_317 : decode cL_law 317 = .ok (.aload_n 2, 1) := by decide +kernel
theorem dL_law_318 : decode cL_law 318 = .ok (.invokevirtual 65, 3) := by decide +kernel
theorem dL_law_321 : decode cL_law 321 = .ok (.if_icmp .eq 5, 3) := by decide +kernel
theorem dL_law_324 : decode cL_law 324 = .ok (.iconst 0, 1) := by decide +kernel
theorem dL_law_325 : decode cL_law 325 = .ok (.ireturn, 1) := by decide +kernel
theorem dL_law_326 : decode cL_law 326 = .ok (.iinc 3 3, 3) := by decide +kernel
theorem dL_law_329 : decode cL_law 329 = .ok (.goto (-301), 3) := by decide +kernel
theorem dL_law_332 : decode cL_law 332 = .ok (.iconst 1, 1) := by decide +kernel
theorem dL_law_333 : decode cL_law 333 = .ok (.ireturn, 1) := by decide +kernel
end
section
/-! the machine at a point of a method: At G cc own nL R X kc ks w pc lv st: from any heap that holds the world w, with the
locals lv and the stack st at pc, the method comes to its end. One row an instruction, over the kit's rows. -/
abbrev vwCl : List vw_C := [(RX1, TX1, 12), (RX2, TX2, 4)]
abbrev GG : Type := Launch × va_G × ClassId × ClassId × ClassId
abbrev gL (G : GG) : Launch := G.1
abbrev gD (G : GG) : va_G := G.2.1
abbrev gI (G : GG) : ClassId := G.2.2.1
abbrev gB (G : GG) : ClassId := G.2.2.2.1
abbrev gZ (G : GG) : ClassId := G.2.2.2.2
abbrev gT (G : GG) : List (ClassId × FieldType) := [(gI G, .int), (gB G, .byte), (gZ G, .boolean)]
abbrev Cx : Type := Program × Env × State × MethodId × Array Value × List Frame × Method × Code × (Nat → Prop) × (State → Prop)
def Fc (G : GG) (cc : ByteArray) (own : String) (nL : Nat) (X : Cx) : Prop := match X with
  | (p, _, s, m, args, _, _, c, A, _) => p.tables.exec = Jvm.exec ∧ c.code = cc ∧ c.maxLocals = nL ∧ s.vm.findClass own = some m.cls ∧ (∀ w ∈ lw_all, w.before args s = true) ∧ (∀ q, s.heap.size ≤ q → A q) ∧ va_K (gD G) vwCl (gT G) s
def Wt (G : GG) (R : Room) (nL : Nat) (X : Cx) (kc ks : Nat) (w : va_W) (pc : Nat) (lv : List (Nat × Value)) (st : List Value) : Prop := match X with
  | (p, e, s, m, args, below, meth, c, A, Q) => ∀ (H : Heap) (locs : List Loc) (ls : Array Slot), va_P (gD G) vwCl w H → va_D A w → va_S A s.heap H locs → lv_has ls nL lv → W p (gL G) e R s m args below meth c H locs kc ks Q (F0 m pc ls st)
def At (G : GG) (cc : ByteArray) (own : String) (nL : Nat) (R : Room) (X : Cx) (kc ks : Nat) (w : va_W) (pc : Nat) (lv : List (Nat × Value)) (st : List Value) : Prop := Fc G cc own nL X → Wt G R nL X kc ks w pc lv st
section RW
variable {G : GG} {cc : ByteArray} {own : String} {nL : Nat} {R : Room} {X : Cx} {kc ks : Nat} {w : va_W} {pc : Nat} {lv : List (Nat × Value)} {st : List Value}
theorem r_iconst {n : Int} {v : Int32} (hdg : decode cc pc = .ok (.iconst n, 1)) (hv : Int32.ofInt n = v) (kk : At G cc own nL R X kc ks w (pc + 1) lv (.int v :: st)) : At G cc own nL R X kc ks w pc lv (st) := by
  obtain ⟨p, e, s, m, args, below, meth, c, A, Q⟩ := X
  intro F H locs ls hP hD hS hl
  exact lv_iconst F.1 F.2.1 hdg hv (kk F H locs ls hP hD hS hl)
theorem r_bipush {n : Int} {v : Int32} (hdg : decode cc pc = .ok (.bipush n, 2)) (hv : (Int8.ofInt n).toInt32 = v) (kk : At G cc own nL R X kc ks w (pc + 2) lv (.int v :: st)) : At G cc own nL R X kc ks w pc lv (st) := by
  obtain ⟨p, e, s, m, args, below, meth, c, A, Q⟩ := X
  intro F H locs ls hP hD hS hl
  exact lv_bipush F.1 F.2.1 hdg hv (kk F H locs ls hP hD hS hl)
theorem r_sipush {n : Int} {v : Int32} (hdg : decode cc pc = .ok (.sipush n, 3)) (hv : (Int16.ofInt n).toInt32 = v) (kk : At G cc own nL R X kc ks w (pc + 3) lv (.int v :: st)) : At G cc own nL R X kc ks w pc lv (st) := by
  obtain ⟨p, e, s, m, args, below, meth, c, A, Q⟩ := X
  intro F H locs ls hP hD hS hl
  exact lv_sipush F.1 F.2.1 hdg hv (kk F H locs ls hP hD hS hl)
theorem r_iload_n {k : Fin 4} {x : Int32} (hdg : decode cc pc = .ok (.iload_n k, 1)) (j : Nat) (h : lv[j]? = some ((k : Nat), Value.int x)) (kk : At G cc own nL R X kc ks w (pc + 1) lv (.int x :: st)) : At G cc own nL R X kc ks w pc lv (st) := by
  obtain ⟨p, e, s, m, args, below, meth, c, A, Q⟩ := X
  intro F H locs ls hP hD hS hl
  exact lv_iload_n F.1 F.2.1 hdg rfl (lv_at hl j h) (kk F H locs ls hP hD hS hl)
theorem r_iload {i : Nat} {x : Int32} (hdg : decode cc pc = .ok (.iload i, 2)) (j : Nat) (h : lv[j]? = some (i, Value.int x)) (kk : At G cc own nL R X kc ks w (pc + 2) lv (.int x :: st)) : At G cc own nL R X kc ks w pc lv (st) := by
  obtain ⟨p, e, s, m, args, below, meth, c, A, Q⟩ := X
  intro F H locs ls hP hD hS hl
  exact lv_iload F.1 F.2.1 hdg (lv_at hl j h) (kk F H locs ls hP hD hS hl)
theorem r_aload_n {k : Fin 4} {x : Nat} (hdg : decode cc pc = .ok (.aload_n k, 1)) (j : Nat) (h : lv[j]? = some ((k : Nat), Value.ref x)) (kk : At G cc own nL R X kc ks w (pc + 1) lv (.ref x :: st)) : At G cc own nL R X kc ks w pc lv (st) := by
  obtain ⟨p, e, s, m, args, below, meth, c, A, Q⟩ := X
  intro F H locs ls hP hD hS hl
  exact lv_aload_n F.1 F.2.1 hdg rfl (lv_at hl j h) (kk F H locs ls hP hD hS hl)
theorem r_istore_n {k : Fin 4} {x : Int32} {lv' : List (Nat × Value)} (hdg : decode cc pc = .ok (.istore_n k, 1)) (hn : (k : Nat) < nL) (is : List Nat) (h : lv_pick (((k : Nat), Value.int x) :: lv.filter (fun q => !(q.1 == (k : Nat)) && !(q.1 + 1 == (k : Nat) && q.2.category == 2))) is = lv') (kk : At G cc own nL R X kc ks w (pc + 1) lv' st) : At G cc own nL R X kc ks w pc lv (.int x :: st) := by
  obtain ⟨p, e, s, m, args, below, meth, c, A, Q⟩ := X
  intro F H locs ls hP hD hS hl
  exact lv_istore_n F.1 F.2.1 hdg rfl hl hn rfl (fun ls2 hl2 => kk F H locs ls2 hP hD hS (lv_sub hl2 is h))
theorem r_istore {i : Nat} {x : Int32} {lv' : List (Nat × Value)} (hdg : decode cc pc = .ok (.istore i, 2)) (hn : i < nL) (is : List Nat) (h : lv_pick ((i, Value.int x) :: lv.filter (fun q => !(q.1 == i) && !(q.1 + 1 == i && q.2.category == 2))) is = lv') (kk : At G cc own nL R X kc ks w (pc + 2) lv' st) : At G cc own nL R X kc ks w pc lv (.int x :: st) := by
  obtain ⟨p, e, s, m, args, below, meth, c, A, Q⟩ := X
  intro F H locs ls hP hD hS hl
  exact lv_istore F.1 F.2.1 hdg hl hn rfl (fun ls2 hl2 => kk F H locs ls2 hP hD hS (lv_sub hl2 is h))
theorem r_astore_n {k : Fin 4} {x : Nat} {lv' : List (Nat × Value)} (hdg : decode cc pc = .ok (.astore_n k, 1)) (hn : (k : Nat) < nL) (is : List Nat) (h : lv_pick (((k : Nat), Value.ref x) :: lv.filter (fun q => !(q.1 == (k : Nat)) && !(q.1 + 1 == (k : Nat) && q.2.category == 2))) is = lv') (kk : At G cc own nL R X kc ks w (pc + 1) lv' st) : At G cc own nL R X kc ks w pc lv (.ref x :: st) := by
  obtain ⟨p, e, s, m, args, below, meth, c, A, Q⟩ := X
  intro F H locs ls hP hD hS hl
  exact lv_astore_n F.1 F.2.1 hdg rfl hl hn rfl (fun ls2 hl2 => kk F H locs ls2 hP hD hS (lv_sub hl2 is h))
theorem r_iinc {i k : Nat} {n : Int} {x v : Int32} {lv' : List (Nat × Value)} (hdg : decode cc pc = .ok (.iinc i n, 3)) (hk : lv[k]? = some (i, Value.int x)) (hv : x + Int32.ofInt n = v) (hn : i < nL) (is : List Nat) (h : lv_pick ((i, Value.int v) :: lv.filter (fun q => !(q.1 == i) && !(q.1 + 1 == i && q.2.category == 2))) is = lv') (kk : At G cc own nL R X kc ks w (pc + 3) lv' st) : At G cc own nL R X kc ks w pc lv st := by
  obtain ⟨p, e, s, m, args, below, meth, c, A, Q⟩ := X
  intro F H locs ls hP hD hS hl
  exact lv_iinc F.1 F.2.1 hdg hl hk hv hn rfl (fun ls2 hl2 => kk F H locs ls2 hP hD hS (lv_sub hl2 is h))
theorem r_iadd {x y v : Int32} (hdg : decode cc pc = .ok (.iadd, 1)) (hv : x + y = v) (kk : At G cc own nL R X kc ks w (pc + 1) lv (.int v :: st)) : At G cc own nL R X kc ks w pc lv (.int y :: .int x :: st) := by
  subst hv
  obtain ⟨p, e, s, m, args, below, meth, c, A, Q⟩ := X
  intro F H locs ls hP hD hS hl
  exact lv_iadd F.1 F.2.1 hdg (kk F H locs ls hP hD hS hl)
theorem r_isub {x y v : Int32} (hdg : decode cc pc = .ok (.isub, 1)) (hv : x - y = v) (kk : At G cc own nL R X kc ks w (pc + 1) lv (.int v :: st)) : At G cc own nL R X kc ks w pc lv (.int y :: .int x :: st) := by
  subst hv
  obtain ⟨p, e, s, m, args, below, meth, c, A, Q⟩ := X
  intro F H locs ls hP hD hS hl
  exact lv_isub F.1 F.2.1 hdg (kk F H locs ls hP hD hS hl)
theorem r_imul {x y v : Int32} (hdg : decode cc pc = .ok (.imul, 1)) (hv : x * y = v) (kk : At G cc own nL R X kc ks w (pc + 1) lv (.int v :: st)) : At G cc own nL R X kc ks w pc lv (.int y :: .int x :: st) := by
  subst hv
  obtain ⟨p, e, s, m, args, below, meth, c, A, Q⟩ := X
  intro F H locs ls hP hD hS hl
  exact lv_imul F.1 F.2.1 hdg (kk F H locs ls hP hD hS hl)
theorem r_iand {x y v : Int32} (hdg : decode cc pc = .ok (.iand, 1)) (hv : x &&& y = v) (kk : At G cc own nL R X kc ks w (pc + 1) lv (.int v :: st)) : At G cc own nL R X kc ks w pc lv (.int y :: .int x :: st) := by
  subst hv
  obtain ⟨p, e, s, m, args, below, meth, c, A, Q⟩ := X
  intro F H locs ls hP hD hS hl
  exact lv_iand F.1 F.2.1 hdg (kk F H locs ls hP hD hS hl)
theorem r_ior {x y v : Int32} (hdg : decode cc pc = .ok (.ior, 1)) (hv : x ||| y = v) (kk : At G cc own nL R X kc ks w (pc + 1) lv (.int v :: st)) : At G cc own nL R X kc ks w pc lv (.int y :: .int x :: st) := by
  subst hv
  obtain ⟨p, e, s, m, args, below, meth, c, A, Q⟩ := X
  intro F H locs ls hP hD hS hl
  exact lv_ior F.1 F.2.1 hdg (kk F H locs ls hP hD hS hl)
theorem r_ixor {x y v : Int32} (hdg : decode cc pc = .ok (.ixor, 1)) (hv : x ^^^ y = v) (kk : At G cc own nL R X kc ks w (pc + 1) lv (.int v :: st)) : At G cc own nL R X kc ks w pc lv (.int y :: .int x :: st) := by
  subst hv
  obtain ⟨p, e, s, m, args, below, meth, c, A, Q⟩ := X
  intro F H locs ls hP hD hS hl
  exact lv_ixor F.1 F.2.1 hdg (kk F H locs ls hP hD hS hl)
theorem r_ishl {x y v : Int32} (hdg : decode cc pc = .ok (.ishl, 1)) (hv : x <<< (y &&& 31) = v) (kk : At G cc own nL R X kc ks w (pc + 1) lv (.int v :: st)) : At G cc own nL R X kc ks w pc lv (.int y :: .int x :: st) := by
  subst hv
  obtain ⟨p, e, s, m, args, below, meth, c, A, Q⟩ := X
  intro F H locs ls hP hD hS hl
  exact lv_ishl F.1 F.2.1 hdg (kk F H locs ls hP hD hS hl)
theorem r_ishr {x y v : Int32} (hdg : decode cc pc = .ok (.ishr, 1)) (hv : x >>> (y &&& 31) = v) (kk : At G cc own nL R X kc ks w (pc + 1) lv (.int v :: st)) : At G cc own nL R X kc ks w pc lv (.int y :: .int x :: st) := by
  subst hv
  obtain ⟨p, e, s, m, args, below, meth, c, A, Q⟩ := X
  intro F H locs ls hP hD hS hl
  exact lv_ishr F.1 F.2.1 hdg (kk F H locs ls hP hD hS hl)
theorem r_i2b {x v : Int32} (hdg : decode cc pc = .ok (.i2b, 1)) (hv : x.toInt8.toInt32 = v) (kk : At G cc own nL R X kc ks w (pc + 1) lv (.int v :: st)) : At G cc own nL R X kc ks w pc lv (.int x :: st) := by
  obtain ⟨p, e, s, m, args, below, meth, c, A, Q⟩ := X
  intro F H locs ls hP hD hS hl
  exact lv_i2b F.1 F.2.1 hdg hv (kk F H locs ls hP hD hS hl)
theorem r_dup {va : Value} (hdg : decode cc pc = .ok (.dup, 1)) (h1 : va.category = 1) (kk : At G cc own nL R X kc ks w (pc + 1) lv (va :: va :: st)) : At G cc own nL R X kc ks w pc lv (va :: st) := by
  obtain ⟨p, e, s, m, args, below, meth, c, A, Q⟩ := X
  intro F H locs ls hP hD hS hl
  exact lv_dup F.1 F.2.1 hdg h1 (kk F H locs ls hP hD hS hl)
theorem r_dup2 {va vb : Value} (hdg : decode cc pc = .ok (.dup2, 1)) (h1 : va.category = 1) (h2 : vb.category = 1) (kk : At G cc own nL R X kc ks w (pc + 1) lv (va :: vb :: va :: vb :: st)) : At G cc own nL R X kc ks w pc lv (va :: vb :: st) := by
  obtain ⟨p, e, s, m, args, below, meth, c, A, Q⟩ := X
  intro F H locs ls hP hD hS hl
  exact lv_dup2_11 F.1 F.2.1 hdg h1 h2 (kk F H locs ls hP hD hS hl)
theorem r_if_eq {x : Int32} {off : Int} {tgt : Nat} (hdg : decode cc pc = .ok (.ifCond .eq off, 3)) (ht : (pc : Int) + off = (tgt : Int)) (kt : x = 0 → At G cc own nL R X kc ks w tgt lv st) (kf : ¬ x = 0 → At G cc own nL R X kc ks w (pc + 3) lv st) : At G cc own nL R X kc ks w pc lv (.int x :: st) := by
  obtain ⟨p, e, s, m, args, below, meth, c, A, Q⟩ := X
  intro F H locs ls hP hD hS hl
  exact lv_if_eq F.1 F.2.1 hdg ht (fun h => kt h F H locs ls hP hD hS hl) (fun h => kf h F H locs ls hP hD hS hl)
theorem r_if_ne {x : Int32} {off : Int} {tgt : Nat} (hdg : decode cc pc = .ok (.ifCond .ne off, 3)) (ht : (pc : Int) + off = (tgt : Int)) (kt : ¬ x = 0 → At G cc own nL R X kc ks w tgt lv st) (kf : x = 0 → At G cc own nL R X kc ks w (pc + 3) lv st) : At G cc own nL R X kc ks w pc lv (.int x :: st) := by
  obtain ⟨p, e, s, m, args, below, meth, c, A, Q⟩ := X
  intro F H locs ls hP hD hS hl
  exact lv_if_ne F.1 F.2.1 hdg ht (fun h => kt h F H locs ls hP hD hS hl) (fun h => kf h F H locs ls hP hD hS hl)
theorem r_if_lt {x : Int32} {off : Int} {tgt : Nat} (hdg : decode cc pc = .ok (.ifCond .lt off, 3)) (ht : (pc : Int) + off = (tgt : Int)) (kt : x < 0 → At G cc own nL R X kc ks w tgt lv st) (kf : ¬ x < 0 → At G cc own nL R X kc ks w (pc + 3) lv st) : At G cc own nL R X kc ks w pc lv (.int x :: st) := by
  obtain ⟨p, e, s, m, args, below, meth, c, A, Q⟩ := X
  intro F H locs ls hP hD hS hl
  exact lv_if_lt F.1 F.2.1 hdg ht (fun h => kt h F H locs ls hP hD hS hl) (fun h => kf h F H locs ls hP hD hS hl)
theorem r_icmp_eq {x y : Int32} {off : Int} {tgt : Nat} (hdg : decode cc pc = .ok (.if_icmp .eq off, 3)) (ht : (pc : Int) + off = (tgt : Int)) (kt : x = y → At G cc own nL R X kc ks w tgt lv st) (kf : ¬ x = y → At G cc own nL R X kc ks w (pc + 3) lv st) : At G cc own nL R X kc ks w pc lv (.int y :: .int x :: st) := by
  obtain ⟨p, e, s, m, args, below, meth, c, A, Q⟩ := X
  intro F H locs ls hP hD hS hl
  exact lv_icmp_eq F.1 F.2.1 hdg ht (fun h => kt h F H locs ls hP hD hS hl) (fun h => kf h F H locs ls hP hD hS hl)
theorem r_icmp_ne {x y : Int32} {off : Int} {tgt : Nat} (hdg : decode cc pc = .ok (.if_icmp .ne off, 3)) (ht : (pc : Int) + off = (tgt : Int)) (kt : ¬ x = y → At G cc own nL R X kc ks w tgt lv st) (kf : x = y → At G cc own nL R X kc ks w (pc + 3) lv st) : At G cc own nL R X kc ks w pc lv (.int y :: .int x :: st) := by
  obtain ⟨p, e, s, m, args, below, meth, c, A, Q⟩ := X
  intro F H locs ls hP hD hS hl
  exact lv_icmp_ne F.1 F.2.1 hdg ht (fun h => kt h F H locs ls hP hD hS hl) (fun h => kf h F H locs ls hP hD hS hl)
theorem r_icmp_lt {x y : Int32} {off : Int} {tgt : Nat} (hdg : decode cc pc = .ok (.if_icmp .lt off, 3)) (ht : (pc : Int) + off = (tgt : Int)) (kt : x < y → At G cc own nL R X kc ks w tgt lv st) (kf : ¬ x < y → At G cc own nL R X kc ks w (pc + 3) lv st) : At G cc own nL R X kc ks w pc lv (.int y :: .int x :: st) := by
  obtain ⟨p, e, s, m, args, below, meth, c, A, Q⟩ := X
  intro F H locs ls hP hD hS hl
  exact lv_icmp_lt F.1 F.2.1 hdg ht (fun h => kt h F H locs ls hP hD hS hl) (fun h => kf h F H locs ls hP hD hS hl)
theorem r_icmp_ge {x y : Int32} {off : Int} {tgt : Nat} (hdg : decode cc pc = .ok (.if_icmp .ge off, 3)) (ht : (pc : Int) + off = (tgt : Int)) (kt : y ≤ x → At G cc own nL R X kc ks w tgt lv st) (kf : ¬ y ≤ x → At G cc own nL R X kc ks w (pc + 3) lv st) : At G cc own nL R X kc ks w pc lv (.int y :: .int x :: st) := by
  obtain ⟨p, e, s, m, args, below, meth, c, A, Q⟩ := X
  intro F H locs ls hP hD hS hl
  exact lv_icmp_ge F.1 F.2.1 hdg ht (fun h => kt h F H locs ls hP hD hS hl) (fun h => kf h F H locs ls hP hD hS hl)
theorem r_icmp_gt {x y : Int32} {off : Int} {tgt : Nat} (hdg : decode cc pc = .ok (.if_icmp .gt off, 3)) (ht : (pc : Int) + off = (tgt : Int)) (kt : y < x → At G cc own nL R X kc ks w tgt lv st) (kf : ¬ y < x → At G cc own nL R X kc ks w (pc + 3) lv st) : At G cc own nL R X kc ks w pc lv (.int y :: .int x :: st) := by
  obtain ⟨p, e, s, m, args, below, meth, c, A, Q⟩ := X
  intro F H locs ls hP hD hS hl
  exact lv_icmp_gt F.1 F.2.1 hdg ht (fun h => kt h F H locs ls hP hD hS hl) (fun h => kf h F H locs ls hP hD hS hl)
theorem r_icmp_le {x y : Int32} {off : Int} {tgt : Nat} (hdg : decode cc pc = .ok (.if_icmp .le off, 3)) (ht : (pc : Int) + off = (tgt : Int)) (kt : x ≤ y → At G cc own nL R X kc ks w tgt lv st) (kf : ¬ x ≤ y → At G cc own nL R X kc ks w (pc + 3) lv st) : At G cc own nL R X kc ks w pc lv (.int y :: .int x :: st) := by
  obtain ⟨p, e, s, m, args, below, meth, c, A, Q⟩ := X
  intro F H locs ls hP hD hS hl
  exact lv_icmp_le F.1 F.2.1 hdg ht (fun h => kt h F H locs ls hP hD hS hl) (fun h => kf h F H locs ls hP hD hS hl)
theorem n_icmp_eq {a b : Nat} {off : Int} {tgt : Nat} (hdg : decode cc pc = .ok (.if_icmp .eq off, 3)) (ht : (pc : Int) + off = (tgt : Int)) (ha : a < 2 ^ 31) (hb : b < 2 ^ 31) (kt : a = b → At G cc own nL R X kc ks w tgt lv st) (kf : a ≠ b → At G cc own nL R X kc ks w (pc + 3) lv st) : At G cc own nL R X kc ks w pc lv (.int (nI b) :: .int (nI a) :: st) := by
  exact r_icmp_eq hdg ht (fun h => kt ((nI_eq ha hb).mp h)) (fun h => kf (fun q => h ((nI_eq ha hb).mpr q)))
theorem n_icmp_ne {a b : Nat} {off : Int} {tgt : Nat} (hdg : decode cc pc = .ok (.if_icmp .ne off, 3)) (ht : (pc : Int) + off = (tgt : Int)) (ha : a < 2 ^ 31) (hb : b < 2 ^ 31) (kt : a ≠ b → At G cc own nL R X kc ks w tgt lv st) (kf : a = b → At G cc own nL R X kc ks w (pc + 3) lv st) : At G cc own nL R X kc ks w pc lv (.int (nI b) :: .int (nI a) :: st) := by
  exact r_icmp_ne hdg ht (fun h => kt (fun q => h ((nI_eq ha hb).mpr q))) (fun h => kf ((nI_eq ha hb).mp h))
theorem n_icmp_lt {a b : Nat} {off : Int} {tgt : Nat} (hdg : decode cc pc = .ok (.if_icmp .lt off, 3)) (ht : (pc : Int) + off = (tgt : Int)) (ha : a < 2 ^ 31) (hb : b < 2 ^ 31) (kt : a < b → At G cc own nL R X kc ks w tgt lv st) (kf : b ≤ a → At G cc own nL R X kc ks w (pc + 3) lv st) : At G cc own nL R X kc ks w pc lv (.int (nI b) :: .int (nI a) :: st) := by
  exact r_icmp_lt hdg ht (fun h => kt ((nI_ltI ha hb).mp h)) (fun h => kf (by have := mt (nI_ltI ha hb).mpr h; omega))
theorem n_icmp_ge {a b : Nat} {off : Int} {tgt : Nat} (hdg : decode cc pc = .ok (.if_icmp .ge off, 3)) (ht : (pc : Int) + off = (tgt : Int)) (ha : a < 2 ^ 31) (hb : b < 2 ^ 31) (kt : b ≤ a → At G cc own nL R X kc ks w tgt lv st) (kf : a < b → At G cc own nL R X kc ks w (pc + 3) lv st) : At G cc own nL R X kc ks w pc lv (.int (nI b) :: .int (nI a) :: st) := by
  exact r_icmp_ge hdg ht (fun h => kt ((nI_leI hb ha).mp h)) (fun h => kf (by have := mt (nI_leI hb ha).mpr h; omega))
theorem n_icmp_gt {a b : Nat} {off : Int} {tgt : Nat} (hdg : decode cc pc = .ok (.if_icmp .gt off, 3)) (ht : (pc : Int) + off = (tgt : Int)) (ha : a < 2 ^ 31) (hb : b < 2 ^ 31) (kt : b < a → At G cc own nL R X kc ks w tgt lv st) (kf : a ≤ b → At G cc own nL R X kc ks w (pc + 3) lv st) : At G cc own nL R X kc ks w pc lv (.int (nI b) :: .int (nI a) :: st) := by
  exact r_icmp_gt hdg ht (fun h => kt ((nI_ltI hb ha).mp h)) (fun h => kf (by have := mt (nI_ltI hb ha).mpr h; omega))
theorem n_icmp_le {a b : Nat} {off : Int} {tgt : Nat} (hdg : decode cc pc = .ok (.if_icmp .le off, 3)) (ht : (pc : Int) + off = (tgt : Int)) (ha : a < 2 ^ 31) (hb : b < 2 ^ 31) (kt : a ≤ b → At G cc own nL R X kc ks w tgt lv st) (kf : b < a → At G cc own nL R X kc ks w (pc + 3) lv st) : At G cc own nL R X kc ks w pc lv (.int (nI b) :: .int (nI a) :: st) := by
  exact r_icmp_le hdg ht (fun h => kt ((nI_leI ha hb).mp h)) (fun h => kf (by have := mt (nI_leI ha hb).mpr h; omega))
theorem n_if_eq {a : Nat} {off : Int} {tgt : Nat} (hdg : decode cc pc = .ok (.ifCond .eq off, 3)) (ht : (pc : Int) + off = (tgt : Int)) (ha : a < 2 ^ 31) (kt : a = 0 → At G cc own nL R X kc ks w tgt lv st) (kf : a ≠ 0 → At G cc own nL R X kc ks w (pc + 3) lv st) : At G cc own nL R X kc ks w pc lv (.int (nI a) :: st) := by
  have hz : nI a = 0 ↔ a = 0 := nI_eq ha (by decide)
  exact r_if_eq hdg ht (fun h => kt (hz.mp h)) (fun h => kf (fun q => h (hz.mpr q)))
theorem n_if_ne {a : Nat} {off : Int} {tgt : Nat} (hdg : decode cc pc = .ok (.ifCond .ne off, 3)) (ht : (pc : Int) + off = (tgt : Int)) (ha : a < 2 ^ 31) (kt : a ≠ 0 → At G cc own nL R X kc ks w tgt lv st) (kf : a = 0 → At G cc own nL R X kc ks w (pc + 3) lv st) : At G cc own nL R X kc ks w pc lv (.int (nI a) :: st) := by
  have hz : nI a = 0 ↔ a = 0 := nI_eq ha (by decide)
  exact r_if_ne hdg ht (fun h => kt (fun q => h (hz.mpr q))) (fun h => kf (hz.mp h))
theorem b_if_eq {b : Bool} {off : Int} {tgt : Nat} (hdg : decode cc pc = .ok (.ifCond .eq off, 3)) (ht : (pc : Int) + off = (tgt : Int)) (kt : b = false → At G cc own nL R X kc ks w tgt lv st) (kf : b = true → At G cc own nL R X kc ks w (pc + 3) lv st) : At G cc own nL R X kc ks w pc lv (.int (nI b.toNat) :: st) := by
  refine n_if_eq hdg ht (by cases b <;> decide) (fun h => kt ?_) (fun h => kf ?_)
  · cases b <;> simp_all
  · cases b <;> simp_all
theorem b_if_ne {b : Bool} {off : Int} {tgt : Nat} (hdg : decode cc pc = .ok (.ifCond .ne off, 3)) (ht : (pc : Int) + off = (tgt : Int)) (kt : b = true → At G cc own nL R X kc ks w tgt lv st) (kf : b = false → At G cc own nL R X kc ks w (pc + 3) lv st) : At G cc own nL R X kc ks w pc lv (.int (nI b.toNat) :: st) := by
  refine n_if_ne hdg ht (by cases b <;> decide) (fun h => kt ?_) (fun h => kf ?_)
  · cases b <;> simp_all
  · cases b <;> simp_all
theorem r_goto {off : Int} {tgt : Nat} (hdg : decode cc pc = .ok (.goto off, 3)) (ht : (pc : Int) + off = (tgt : Int)) (kk : At G cc own nL R X kc ks w tgt lv st) : At G cc own nL R X kc ks w pc lv st := by
  obtain ⟨p, e, s, m, args, below, meth, c, A, Q⟩ := X
  intro F H locs ls hP hD hS hl
  exact lv_goto F.1 F.2.1 hdg ht (kk F H locs ls hP hD hS hl)
theorem r_tableOut {dflt lo hi : Int} {offs : Array Int} {len : Nat} {x : Int32} {tgt : Nat} (hdg : decode cc pc = .ok (.tableswitch dflt lo hi offs, len)) (h : x.toInt < lo ∨ hi < x.toInt) (ht : (pc : Int) + dflt = (tgt : Int)) (kk : At G cc own nL R X kc ks w tgt lv st) : At G cc own nL R X kc ks w pc lv (.int x :: st) := by
  obtain ⟨p, e, s, m, args, below, meth, c, A, Q⟩ := X
  intro F H locs ls hP hD hS hl
  exact lv_tableOut F.1 F.2.1 hdg h ht (kk F H locs ls hP hD hS hl)
theorem r_tableIn {dflt lo hi : Int} {offs : Array Int} {len : Nat} {x : Int32} {off : Int} {tgt : Nat} (hdg : decode cc pc = .ok (.tableswitch dflt lo hi offs, len)) (h1 : ¬ x.toInt < lo) (h2 : ¬ hi < x.toInt) (ho : offs[(x.toInt - lo).toNat]? = some off) (ht : (pc : Int) + off = (tgt : Int)) (kk : At G cc own nL R X kc ks w tgt lv st) : At G cc own nL R X kc ks w pc lv (.int x :: st) := by
  obtain ⟨p, e, s, m, args, below, meth, c, A, Q⟩ := X
  intro F H locs ls hP hD hS hl
  exact lv_tableIn F.1 F.2.1 hdg h1 h2 ho ht (kk F H locs ls hP hD hS hl)
theorem At.sub {lv' : List (Nat × Value)} (is : List Nat) (h : lv_pick lv is = lv') (kk : At G cc own nL R X kc ks w pc lv' st) : At G cc own nL R X kc ks w pc lv st := by
  obtain ⟨p, e, s, m, args, below, meth, c, A, Q⟩ := X
  intro F H locs ls hP hD hS hl
  exact kk F H locs ls hP hD hS (lv_sub hl is h)
theorem At.top {x y : Int32} (h : x = y) (kk : At G cc own nL R X kc ks w pc lv (.int y :: st)) : At G cc own nL R X kc ks w pc lv (.int x :: st) := by rw [h]; exact kk
theorem r_getX {idx a : Nat} {fs : List Value} {v : Value} (q0 k : Nat) (he : w[q0]? = some (a, .inr (0, fs))) (hk : k < 12) (hlink : Cond.fieldLink own idx (TX1 k).1 (TX1 k).2.1 (TX1 k).2.2.1 ∈ lw_all) (hv : fs[k]? = some v) (hdg : decode cc pc = .ok (.getfield idx, 3)) (kk : At G cc own nL R X kc ks w (pc + 3) lv (v :: st)) : At G cc own nL R X kc ks w pc lv (.ref a :: st) := by
  obtain ⟨p, e, s, m, args, below, meth, c, A, Q⟩ := X
  intro F H locs ls hP hD hS hl
  obtain ⟨hx, hb, hml, hown, hts, hA, hK⟩ := F
  exact va_get (D := gD G) (ci := 0) (v := v) (C := RX1) (T := TX1) (N := 12) hx hb hts in_X1 hown hK hP q0 he rfl k hk (hts _ hlink) (fun _ h9 => h9) hv hdg (kk ⟨hx, hb, hml, hown, hts, hA, hK⟩ H locs ls hP hD hS hl)
theorem r_putX {idx a : Nat} {fs : List Value} {v : Value} {ty : FieldType} {w' : va_W} (q0 k : Nat) (he : w[q0]? = some (a, .inr (0, fs))) (hk : k < 12) (hlink : Cond.fieldLink own idx (TX1 k).1 (TX1 k).2.1 (TX1 k).2.2.1 ∈ lw_all) (hfin : (TX1 k).2.2.2 = false) (hd : parseFieldDescriptor (TX1 k).2.2.1 = some ty) (hn : narrow ty v = v) (hfit : fits ty v = true) (hl0 : k < fs.length) (hw : w.set q0 (a, .inr (0, fs.set k v)) = w') (hdg : decode cc pc = .ok (.putfield idx, 3)) (kk : At G cc own nL R X kc ks w' (pc + 3) lv st) : At G cc own nL R X kc ks w pc lv (v :: .ref a :: st) := by
  subst hw
  obtain ⟨p, e, s, m, args, below, meth, c, A, Q⟩ := X
  intro F H locs ls hP hD hS hl
  obtain ⟨hx, hb, hml, hown, hts, hA, hK⟩ := F
  exact va_put (D := gD G) (ci := 0) (v := v) (ty := ty) (C := RX1) (T := TX1) (N := 12) hx hb hts in_X1 tyX1 tyX1_ok nmX1 hown hK hP hD hS q0 he rfl k hk (hts _ hlink) (fun _ h9 => h9) hfin hd hn hfit hl0 hdg (fun H1 locs1 hP1 hD1 hS1 => kk ⟨hx, hb, hml, hown, hts, hA, hK⟩ H1 locs1 ls hP1 hD1 hS1 hl)
theorem r_getM {idx a : Nat} {fs : List Value} {v : Value} (q0 k : Nat) (he : w[q0]? = some (a, .inr (1, fs))) (hk : k < 4) (hlink : Cond.fieldLink own idx (TX2 k).1 (TX2 k).2.1 (TX2 k).2.2.1 ∈ lw_all) (hv : fs[k]? = some v) (hdg : decode cc pc = .ok (.getfield idx, 3)) (kk : At G cc own nL R X kc ks w (pc + 3) lv (v :: st)) : At G cc own nL R X kc ks w pc lv (.ref a :: st) := by
  obtain ⟨p, e, s, m, args, below, meth, c, A, Q⟩ := X
  intro F H locs ls hP hD hS hl
  obtain ⟨hx, hb, hml, hown, hts, hA, hK⟩ := F
  exact va_get (D := gD G) (ci := 1) (v := v) (C := RX2) (T := TX2) (N := 4) hx hb hts in_X2 hown hK hP q0 he rfl k hk (hts _ hlink) (fun _ h9 => h9) hv hdg (kk ⟨hx, hb, hml, hown, hts, hA, hK⟩ H locs ls hP hD hS hl)
theorem r_putM {idx a : Nat} {fs : List Value} {v : Value} {ty : FieldType} {w' : va_W} (q0 k : Nat) (he : w[q0]? = some (a, .inr (1, fs))) (hk : k < 4) (hlink : Cond.fieldLink own idx (TX2 k).1 (TX2 k).2.1 (TX2 k).2.2.1 ∈ lw_all) (hfin : (TX2 k).2.2.2 = false) (hd : parseFieldDescriptor (TX2 k).2.2.1 = some ty) (hn : narrow ty v = v) (hfit : fits ty v = true) (hl0 : k < fs.length) (hw : w.set q0 (a, .inr (1, fs.set k v)) = w') (hdg : decode cc pc = .ok (.putfield idx, 3)) (kk : At G cc own nL R X kc ks w' (pc + 3) lv st) : At G cc own nL R X kc ks w pc lv (v :: .ref a :: st) := by
  subst hw
  obtain ⟨p, e, s, m, args, below, meth, c, A, Q⟩ := X
  intro F H locs ls hP hD hS hl
  obtain ⟨hx, hb, hml, hown, hts, hA, hK⟩ := F
  exact va_put (D := gD G) (ci := 1) (v := v) (ty := ty) (C := RX2) (T := TX2) (N := 4) hx hb hts in_X2 tyX2 tyX2_ok nmX2 hown hK hP hD hS q0 he rfl k hk (hts _ hlink) (fun _ h9 => h9) hfin hd hn hfit hl0 hdg (fun H1 locs1 hP1 hD1 hS1 => kk ⟨hx, hb, hml, hown, hts, hA, hK⟩ H1 locs1 ls hP1 hD1 hS1 hl)
theorem r_iald {a n j : Nat} {f : Nat → Int32} {v : Int32} (hdg : decode cc pc = .ok (.iaload, 1)) (q0 : Nat) (ha : w[q0]? = some (a, .inl (gI G, n, .inl f))) (hj : j < n) (hn : n < 2 ^ 31) (hv : f j = v) (kk : At G cc own nL R X kc ks w (pc + 1) lv (.int v :: st)) : At G cc own nL R X kc ks w pc lv (.int (nI j) :: .ref a :: st) := by
  subst hv
  obtain ⟨p, e, s, m, args, below, meth, c, A, Q⟩ := X
  intro F H locs ls hP hD hS hl
  refine va_iald F.1 F.2.1 F.2.2.2.2.2.2 hP q0 0 ha rfl (vp_in_nI hj hn) hdg ?_
  rw [nI_clamp (Nat.lt_trans hj hn)]
  exact kk F H locs ls hP hD hS hl
theorem r_bald {a n j : Nat} {f : Nat → Int32} {v : Int32} (hdg : decode cc pc = .ok (.baload, 1)) (q0 : Nat) (ha : w[q0]? = some (a, .inl (gB G, n, .inl f))) (hj : j < n) (hn : n < 2 ^ 31) (hv : f j = v) (kk : At G cc own nL R X kc ks w (pc + 1) lv (.int v :: st)) : At G cc own nL R X kc ks w pc lv (.int (nI j) :: .ref a :: st) := by
  subst hv
  obtain ⟨p, e, s, m, args, below, meth, c, A, Q⟩ := X
  intro F H locs ls hP hD hS hl
  refine va_bald F.1 F.2.1 F.2.2.2.2.2.2 hP q0 1 ha rfl (vp_in_nI hj hn) hdg ?_
  rw [nI_clamp (Nat.lt_trans hj hn)]
  exact kk F H locs ls hP hD hS hl
theorem r_zald {a n j : Nat} {f : Nat → Int32} {v : Int32} (hdg : decode cc pc = .ok (.baload, 1)) (q0 : Nat) (ha : w[q0]? = some (a, .inl (gZ G, n, .inl f))) (hj : j < n) (hn : n < 2 ^ 31) (hv : f j = v) (kk : At G cc own nL R X kc ks w (pc + 1) lv (.int v :: st)) : At G cc own nL R X kc ks w pc lv (.int (nI j) :: .ref a :: st) := by
  subst hv
  obtain ⟨p, e, s, m, args, below, meth, c, A, Q⟩ := X
  intro F H locs ls hP hD hS hl
  refine va_zald F.1 F.2.1 F.2.2.2.2.2.2 hP q0 2 ha rfl (vp_in_nI hj hn) hdg ?_
  rw [nI_clamp (Nat.lt_trans hj hn)]
  exact kk F H locs ls hP hD hS hl
theorem r_iast {a n j : Nat} {f f' : Nat → Int32} {x : Int32} {w' : va_W} (hdg : decode cc pc = .ok (.iastore, 1)) (q0 : Nat) (ha : w[q0]? = some (a, .inl (gI G, n, .inl f))) (hj : j < n) (hn : n < 2 ^ 31) (hf : upd f j (x) = f') (hw : w.set q0 (a, .inl (gI G, n, .inl f')) = w') (kk : At G cc own nL R X kc ks w' (pc + 1) lv st) : At G cc own nL R X kc ks w pc lv (.int x :: .int (nI j) :: .ref a :: st) := by
  subst hf; subst hw
  obtain ⟨p, e, s, m, args, below, meth, c, A, Q⟩ := X
  intro F H locs ls hP hD hS hl
  refine va_iast F.1 F.2.1 F.2.2.2.2.2.2 hP hD hS q0 0 ha rfl (vp_in_nI hj hn) hdg (fun H1 locs1 hP1 hD1 hS1 => ?_)
  rw [nI_clamp (Nat.lt_trans hj hn)] at hP1 hD1
  exact kk F H1 locs1 ls hP1 hD1 hS1 hl
theorem r_bast {a n j : Nat} {f f' : Nat → Int32} {x : Int32} {w' : va_W} (hdg : decode cc pc = .ok (.bastore, 1)) (q0 : Nat) (ha : w[q0]? = some (a, .inl (gB G, n, .inl f))) (hj : j < n) (hn : n < 2 ^ 31) (hf : upd f j (vp_nar .byte x) = f') (hw : w.set q0 (a, .inl (gB G, n, .inl f')) = w') (kk : At G cc own nL R X kc ks w' (pc + 1) lv st) : At G cc own nL R X kc ks w pc lv (.int x :: .int (nI j) :: .ref a :: st) := by
  subst hf; subst hw
  obtain ⟨p, e, s, m, args, below, meth, c, A, Q⟩ := X
  intro F H locs ls hP hD hS hl
  refine va_bast F.1 F.2.1 F.2.2.2.2.2.2 hP hD hS q0 1 ha rfl (vp_in_nI hj hn) hdg (fun H1 locs1 hP1 hD1 hS1 => ?_)
  rw [nI_clamp (Nat.lt_trans hj hn)] at hP1 hD1
  exact kk F H1 locs1 ls hP1 hD1 hS1 hl
theorem r_zast {a n j : Nat} {f f' : Nat → Int32} {x : Int32} {w' : va_W} (hdg : decode cc pc = .ok (.bastore, 1)) (q0 : Nat) (ha : w[q0]? = some (a, .inl (gZ G, n, .inl f))) (hj : j < n) (hn : n < 2 ^ 31) (hf : upd f j (vp_nar .boolean x) = f') (hw : w.set q0 (a, .inl (gZ G, n, .inl f')) = w') (kk : At G cc own nL R X kc ks w' (pc + 1) lv st) : At G cc own nL R X kc ks w pc lv (.int x :: .int (nI j) :: .ref a :: st) := by
  subst hf; subst hw
  obtain ⟨p, e, s, m, args, below, meth, c, A, Q⟩ := X
  intro F H locs ls hP hD hS hl
  refine va_zast F.1 F.2.1 F.2.2.2.2.2.2 hP hD hS q0 2 ha rfl (vp_in_nI hj hn) hdg (fun H1 locs1 hP1 hD1 hS1 => ?_)
  rw [nI_clamp (Nat.lt_trans hj hn)] at hP1 hD1
  exact kk F H1 locs1 ls hP1 hD1 hS1 hl
end RW
def KPre (G : GG) (av : List Value) (w : va_W) (sz : Nat) : Array Value → State → Prop := va_Pc av (fun U => U.heap.size = sz ∧ va_P (gD G) vwCl w U.heap ∧ va_K (gD G) vwCl (gT G) U ∧ va_D (fun _ => True) w)
def KB (G : GG) (w' : va_W) (A : Nat → Prop) (_ : Unit) (t : State) : Prop := va_P (gD G) vwCl w' t.heap ∧ va_K (gD G) vwCl (gT G) t ∧ va_D A w'
/-- the method y, called with av in the world w, answers v (an int, a byte, a boolean) and leaves the world w' -/
def KMi (G : GG) (y : MethodName) (b : ByteArray) (L : Nat) (ty : FieldType) (rm : Room) (av : List Value) (w w' : va_W) (v : Int32) : Prop := ∀ sz : Nat, Met (gL G) y (ws_ y b L (some ty)) rm (KPre G av w sz) (va_Qi (fun r (_ : Unit) => r = v) (KB G w' (va_A w sz)) (va_A w sz)) 0 0 (va_A w sz)
/-- the same for a method that answers nothing -/
def KMv (G : GG) (y : MethodName) (b : ByteArray) (L : Nat) (rm : Room) (av : List Value) (w w' : va_W) : Prop := ∀ sz : Nat, Met (gL G) y (ws_ y b L none) rm (KPre G av w sz) (va_Qv (fun (_ : Unit) => True) (KB G w' (va_A w sz)) (va_A w sz)) 0 0 (va_A w sz)
theorem KPre.blind {G : GG} {av : List Value} {w : va_W} {sz : Nat} : FrameBlind (KPre G av w sz) := by
  intro a U g mk q
  obtain ⟨q0, q1, qP, qK, qD⟩ := q
  exact ⟨q0, q1, qP, va_K.moved (u := U) (U := U.calling g mk a) (Vm.Alike.refl U.vm) qK, qD⟩
theorem KMi.of {G : GG} {y : MethodName} {b : ByteArray} {L : Nat} {ty : FieldType} {rm : Room} {av : List Value} {w w' : va_W} {v : Int32} {own : String} (hy : plainName y.cls = true) (ho : y.cls = own) (hl : (lg_sl av).length ≤ L) (hn : narrow ty (.int v) = .int v)
    (body : ∀ X : Cx, (∀ pc lv (x : Int32) (w2 : va_W), x = v → w2 = w' → decode b pc = .ok (.ireturn, 1) → At G b own L rm X 0 0 w2 pc lv [.int x]) → At G b own L rm X 0 0 w 0 (lv_args 0 av) []) : KMi G y b L ty rm av w w' v := by
  intro sz
  subst ho
  refine Met.ofW (cc := b) (maxL := L) (ret := some ty) hy rfl ?_
  intro p e s m args below meth c s₁ B hml hv
  obtain ⟨rfl, hsz, hP, hK, hD0⟩ := hv
  have hts := atoms_spec (ws := ws_ y b L (some ty)) B.pre
  have hts : ∀ w ∈ lw_all, w.before _ s = true := fun w h => hts w (List.mem_cons_of_mem _ h)
  have hown : s.vm.findClass y.cls = some m.cls := findClass_of_methodNamed B.named
  have hlocks := B.notSynchronized
  subst hsz
  have hD := hD0.self (sz := s.heap.size)
  rw [lg_entry_eq]
  have hl' := lv_entry av (n := L) hl
  have hW := body (p, e, s, m, av.toArray, below, meth, c, va_A w s.heap.size, MQ below (va_Qi (fun r (_ : Unit) => r = v) (KB G w' (va_A w s.heap.size)) (va_A w s.heap.size)) av.toArray s 0 0 (va_A w s.heap.size)) ?_ ⟨B.exec, B.bytes, hml, hown, hts, fun q h => Or.inr h, hK⟩
  · exact hW s.heap [] _ hP hD va_S.rf hl'
  · intro pc lv x w2 ex ew hdg F H locs ls hP hD hS hl
    subst ex; subst ew
    exact W.zret (v := x) F.1 F.2.1 B.returns hn (fun t ht hW => ⟨⟨x, (), rfl, rfl, by rw [ht]; exact hP, va_K.moved hW.alike hK, hD⟩, hS.F ht⟩) hS.2.2 hdg hlocks
theorem KMv.of {G : GG} {y : MethodName} {b : ByteArray} {L : Nat} {rm : Room} {av : List Value} {w w' : va_W} {own : String} (hy : plainName y.cls = true) (ho : y.cls = own) (hl : (lg_sl av).length ≤ L)
    (body : ∀ X : Cx, (∀ pc lv (w2 : va_W), w2 = w' → decode b pc = .ok (.return_, 1) → At G b own L rm X 0 0 w2 pc lv []) → At G b own L rm X 0 0 w 0 (lv_args 0 av) []) : KMv G y b L rm av w w' := by
  intro sz
  subst ho
  refine Met.ofW (cc := b) (maxL := L) (ret := none) hy rfl ?_
  intro p e s m args below meth c s₁ B hml hv
  obtain ⟨rfl, hsz, hP, hK, hD0⟩ := hv
  have hts := atoms_spec (ws := ws_ y b L none) B.pre
  have hts : ∀ w ∈ lw_all, w.before _ s = true := fun w h => hts w (List.mem_cons_of_mem _ h)
  have hown : s.vm.findClass y.cls = some m.cls := findClass_of_methodNamed B.named
  have hlocks := B.notSynchronized
  subst hsz
  have hD := hD0.self (sz := s.heap.size)
  rw [lg_entry_eq]
  have hl' := lv_entry av (n := L) hl
  have hW := body (p, e, s, m, av.toArray, below, meth, c, va_A w s.heap.size, MQ below (va_Qv (fun (_ : Unit) => True) (KB G w' (va_A w s.heap.size)) (va_A w s.heap.size)) av.toArray s 0 0 (va_A w s.heap.size)) ?_ ⟨B.exec, B.bytes, hml, hown, hts, fun q h => Or.inr h, hK⟩
  · exact hW s.heap [] _ hP hD va_S.rf hl'
  · intro pc lv w2 ew hdg F H locs ls hP hD hS hl
    subst ew
    exact W.vret F.1 F.2.1 B.returns (fun t ht hW => ⟨⟨(), rfl, trivial, by rw [ht]; exact hP, va_K.moved hW.alike hK, hD⟩, hS.F ht⟩) hS.2.2 hdg hlocks
section RC
variable {G : GG} {cc : ByteArray} {own : String} {nL : Nat} {R : Room} {X : Cx} {kc ks : Nat} {w w' : va_W} {pc : Nat} {lv : List (Nat × Value)} {st : List Value}
/-- what a call of a method of the world's own object asks of the tables and of the room -/
def Cw (R : Room) (own C : String) (idx : Nat) (y : MethodName) (b : ByteArray) (L : Nat) (ret : Option FieldType) (rm : Room) (n : Nat) : Prop :=
  GoodIn lw_all (wsV own idx C y (ws_ y b L ret)) ∧ (rm.cells = 0 ∧ rm.slots = 0) ∧ (y.cls = C ∧ y.cls ≠ "java/lang/invoke/MethodHandle" ∧ y.cls ≠ "java/lang/invoke/VarHandle" ∧ (parseMethodDescriptor y.desc).map (fun d => d.parameters.length) = some n) ∧ rm.frames + 1 ≤ R.frames ∧ 8 + (L + 11) + rm.locals ≤ R.locals
/-- a call with all the world's cells: an int, byte or boolean comes back -/
theorem r_calli {y : MethodName} {b : ByteArray} {L n idx ci a : Nat} {ty : FieldType} {rm : Room} {As rest : List Value} {v : Int32} {C : String} {q : vw_C} {fs : List Value} (hM : KMi G y b L ty rm (.ref a :: As) w w' v) (hC : Cw R own C idx y b L (some ty) rm n) (hq : vwCl[ci]? = some q) (hqC : q.1 = C) (q0 : Nat) (he : w[q0]? = some (a, .inr (ci, fs))) (hn : As.length = n) (hs : st = As.reverse ++ .ref a :: rest) (hroom : (rest.map fun v => v.category).sum ≤ 8) (hf : kc ≤ R.cells ∧ ks ≤ R.slots) (hdg : decode cc pc = .ok (.invokevirtual idx, 3))
    (kk : At G cc own nL R X kc ks w' (pc + 3) lv (.int v :: rest)) : At G cc own nL R X kc ks w pc lv st := by
  subst hs
  obtain ⟨p, e, s, m, args, below, meth, c, A, Q⟩ := X
  intro F H locs ls hP hD hS hl
  have F0' := F
  obtain ⟨hx, hb, hml, hown, hts, hA, hK⟩ := F
  obtain ⟨c1, ⟨c2, c3⟩, c4, c5, c6⟩ := hC
  have hFc : ∀ q, va_A w H.size q → A q := by
    intro q h
    rcases h with ⟨k, e, h⟩ | h
    · exact hD.2 k (q, e) h
    · exact hA q (Nat.le_trans hS.1 h)
  have hrc := va_recv hK hP hq he
  rw [hqC] at hrc
  refine va_calli (va_runV (As := As) (rest := rest) ⟨hx, hb, hml, hown, hts⟩ (hM H.size) (cwV n hts c1 rfl c2 c3 c4 ⟨c5, c6⟩) ⟨KPre.blind, hrc, fun U hU hW => ⟨rfl, by rw [hU], by rw [hU]; exact hP, va_K.moved hW.alike hK, hD.weaken (fun _ _ _ _ => trivial)⟩⟩ rfl hn hl.1 rfl (lv_room hroom) hdg ⟨hf.1, hf.2⟩) hS (fun q _ h => hFc q h) hFc (fun r u t H1 locs1 ht hvm hw hB hz1 hk1 hS1 => ?_)
  obtain ⟨hP1, hK1, hD1⟩ := hB
  rw [ht] at hP1
  rw [hw]
  exact kk F0' H1 locs1 ls hP1 (hD1.weaken (fun _ q _ h => hFc q.1 h)) hS1 hl
/-- nothing comes back -/
theorem r_callv {y : MethodName} {b : ByteArray} {L n idx ci a : Nat} {rm : Room} {As rest : List Value} {C : String} {q : vw_C} {fs : List Value} (hM : KMv G y b L rm (.ref a :: As) w w') (hC : Cw R own C idx y b L none rm n) (hq : vwCl[ci]? = some q) (hqC : q.1 = C) (q0 : Nat) (he : w[q0]? = some (a, .inr (ci, fs))) (hn : As.length = n) (hs : st = As.reverse ++ .ref a :: rest) (hroom : (rest.map fun v => v.category).sum ≤ 8) (hf : kc ≤ R.cells ∧ ks ≤ R.slots) (hdg : decode cc pc = .ok (.invokevirtual idx, 3))
    (kk : At G cc own nL R X kc ks w' (pc + 3) lv rest) : At G cc own nL R X kc ks w pc lv st := by
  subst hs
  obtain ⟨p, e, s, m, args, below, meth, c, A, Q⟩ := X
  intro F H locs ls hP hD hS hl
  have F0' := F
  obtain ⟨hx, hb, hml, hown, hts, hA, hK⟩ := F
  obtain ⟨c1, ⟨c2, c3⟩, c4, c5, c6⟩ := hC
  have hFc : ∀ q, va_A w H.size q → A q := by
    intro q h
    rcases h with ⟨k, e, h⟩ | h
    · exact hD.2 k (q, e) h
    · exact hA q (Nat.le_trans hS.1 h)
  have hrc := va_recv hK hP hq he
  rw [hqC] at hrc
  refine va_callv (va_runV (As := As) (rest := rest) ⟨hx, hb, hml, hown, hts⟩ (hM H.size) (cwV n hts c1 rfl c2 c3 c4 ⟨c5, c6⟩) ⟨KPre.blind, hrc, fun U hU hW => ⟨rfl, by rw [hU], by rw [hU]; exact hP, va_K.moved hW.alike hK, hD.weaken (fun _ _ _ _ => trivial)⟩⟩ rfl hn hl.1 rfl (lv_room hroom) hdg ⟨hf.1, hf.2⟩) hS (fun q _ h => hFc q h) hFc (fun u t H1 locs1 ht hvm hw hB hz1 hk1 hS1 => ?_)
  obtain ⟨hP1, hK1, hD1⟩ := hB
  rw [ht] at hP1
  exact kk F0' H1 locs1 ls hP1 (hD1.weaken (fun _ q _ h => hFc q.1 h)) hS1 hl
end RC
end
section
/-! Int32 by its bits (the kit's rows of BITS.to-paste, the family bt), sets of small numbers as bits -/
def bt (x : Int32) (i : Nat) : Bool := x.toBitVec.getLsbD i
theorem b_ext {x y : Int32} (h : ∀ i, i < 32 → bt x i = bt y i) : x = y := Int32.toBitVec_inj.mp (BitVec.eq_of_getLsbD_eq (fun i hi => h i hi))
theorem b_or (x y : Int32) (i : Nat) : bt (x ||| y) i = (bt x i || bt y i) := by unfold bt; rw [Int32.toBitVec_or, BitVec.getLsbD_or]
theorem b_and (x y : Int32) (i : Nat) : bt (x &&& y) i = (bt x i && bt y i) := by unfold bt; rw [Int32.toBitVec_and, BitVec.getLsbD_and]
theorem b_xor (x y : Int32) (i : Nat) : bt (x ^^^ y) i = (bt x i ^^ bt y i) := by unfold bt; rw [Int32.toBitVec_xor, BitVec.getLsbD_xor]
theorem b_big {x : Int32} {i : Nat} (h : 32 ≤ i) : bt x i = false := BitVec.getLsbD_of_ge _ _ h
theorem b_m1 : ∀ i, i < 32 → bt (-1) i = true := by decide +kernel
theorem b_0 (i : Nat) : bt 0 i = false := BitVec.getLsbD_zero
theorem s_l : ∀ n, n < 32 → ((nI n &&& 31).toBitVec.smod 32).toNat = n := by decide +kernel
theorem b_shl (n : Nat) (hn : n < 32) (x : Int32) {i : Nat} (hi : i < 32) : bt (x <<< (nI n &&& 31)) i = (decide (n ≤ i) && bt x (i - n)) := by
  unfold bt
  rw [Int32.toBitVec_shiftLeft]
  show (x.toBitVec <<< ((nI n &&& 31).toBitVec.smod 32).toNat).getLsbD i = _
  rw [s_l n hn, BitVec.getLsbD_shiftLeft]
  rcases Nat.lt_or_ge i n with h | h
  · simp [h, Nat.not_le.mpr h]
  · simp [hi, h, Nat.not_lt.mpr h]
theorem b_sshr (n : Nat) (hn : n < 32) (x : Int32) {i : Nat} (hi : i < 32) : bt (x >>> (nI n &&& 31)) i = if n + i < 32 then bt x (n + i) else bt x 31 := by
  unfold bt
  rw [Int32.toBitVec_shiftRight]
  show (x.toBitVec.sshiftRight ((nI n &&& 31).toBitVec.smod 32).toNat).getLsbD i = _
  rw [s_l n hn, BitVec.getLsbD_sshiftRight, BitVec.msb_eq_getLsbD_last]
  simp [hi]
/-- the set of one number -/
def sg (u : Nat) : Int32 := (1 : Int32) <<< (nI u &&& 31)
theorem b_1 : ∀ i, i < 32 → bt 1 i = decide (i = 0) := by decide +kernel
theorem bt_sg {u : Nat} (hu : u < 32) (i : Nat) : bt (sg u) i = decide (i = u) := by
  rcases Nat.lt_or_ge i 32 with h | h
  · unfold sg
    rw [b_shl u hu 1 h, b_1 (i - u) (by omega)]
    rcases Nat.lt_trichotomy i u with q | q | q
    · simp [Nat.not_le.mpr q]; omega
    · simp [q]
    · have e1 : u ≤ i := by omega
      have e2 : ¬ i - u = 0 := by omega
      have e3 : ¬ i = u := by omega
      simp [e2, e3]
  · rw [b_big h]
    have e3 : ¬ i = u := by omega
    simp [e3]
/-- everything else -/
theorem bt_not (x : Int32) {i : Nat} (h : i < 32) : bt (x ^^^ (-1)) i = !bt x i := by
  rw [b_xor, b_m1 i h]
  cases bt x i <;> rfl
theorem bt_lt {x : Int32} {i : Nat} (h : bt x i = true) : i < 32 := by
  rcases Nat.lt_or_ge i 32 with q | q
  · exact q
  · rw [b_big q] at h; cases h
theorem bt_diff (x y : Int32) (i : Nat) : bt (x &&& (y ^^^ (-1))) i = (bt x i && !bt y i) := by
  rcases Nat.lt_or_ge i 32 with h | h
  · rw [b_and, bt_not y h]
  · rw [b_big h, b_big h]; rfl
theorem bt_bit (x : Int32) {u : Nat} (hu : u < 32) : (x >>> (nI u &&& 31)) &&& nI 1 = nI (bt x u).toNat := by
  apply b_ext
  intro i hi
  have e1 : bt (nI 1) i = decide (i = 0) := b_1 i hi
  rw [b_and, b_sshr u hu x hi, e1]
  rcases Nat.eq_zero_or_pos i with q | q
  · subst q
    simp [hu]
    cases bt x u
    · exact (b_0 0).symm
    · exact (b_1 0 (by omega)).symm
  · have q2 : ¬ i = 0 := by omega
    simp [q2]
    cases bt x u
    · exact b_0 i
    · show bt 1 i = false
      rw [b_1 i hi]; simp [q2]
theorem bt_zero {x : Int32} : x = 0 ↔ ∀ i, bt x i = false := by
  constructor
  · intro h i; rw [h]; exact b_0 i
  · intro h; apply b_ext; intro i _; rw [h, b_0]
theorem bt_ne {x : Int32} (h : ¬ x = 0) : ∃ i, bt x i = true := by
  apply Classical.byContradiction
  intro q
  apply h
  rw [bt_zero]
  intro i
  cases e : bt x i
  · rfl
  · exact absurd ⟨i, e⟩ q
theorem bt_ext {x y : Int32} (h : ∀ i, bt x i = true ↔ bt y i = true) : x = y := by
  apply b_ext
  intro i _
  have := h i
  cases e1 : bt x i <;> cases e2 : bt y i <;> simp_all
/-- arrays of small numbers, of booleans -/
def aN (f : Nat → Nat) : Nat → Int32 := fun j => nI (f j)
def aB (f : Nat → Bool) : Nat → Int32 := fun j => nI (f j).toNat
theorem nI_b8 : ∀ k, k < 128 → (nI k).toInt8.toInt32 = nI k := by decide +kernel
theorem aN_upd (f : Nat → Nat) (k x : Nat) : upd (aN f) k (nI x) = aN (va_up f k x) := by
  funext j
  unfold upd aN va_up
  by_cases h : j = k <;> simp [h]
theorem aN_updb (f : Nat → Nat) (k : Nat) {x : Nat} (hx : x < 128) : upd (aN f) k (vp_nar .byte (nI x)) = aN (va_up f k x) := by
  rw [vp_nar_byte, nI_b8 x hx]
  exact aN_upd f k x
theorem vp_nar_z (b : Bool) : vp_nar .boolean (nI b.toNat) = nI b.toNat := by cases b <;> decide +kernel
theorem aB_upd (f : Nat → Bool) (k : Nat) (b : Bool) : upd (aB f) k (vp_nar .boolean (nI b.toNat)) = aB (va_up f k b) := by
  rw [vp_nar_z]
  funext j
  unfold upd aB va_up
  by_cases h : j = k <;> simp [h]
/-- is x a vertex? -/
def vI (n : Nat) (x : Int32) : Bool := decide (0 ≤ x.toInt) && decide (x.toInt < n)
theorem vI_nI {n u : Nat} (hn : n ≤ 16) : vI n (nI u) = decide (u < n) ∨ 2 ^ 31 ≤ u := by
  rcases Nat.lt_or_ge u (2 ^ 31) with h | h
  · left
    unfold vI
    rw [nI_toInt h]
    by_cases q : u < n
    · simp [q]
    · simp [q]
  · exact Or.inr h
theorem vI_of {n : Nat} (hn : n ≤ 16) {x : Int32} (h : vI n x = true) : ∃ u, u < n ∧ x = nI u := by
  unfold vI at h
  simp only [Bool.and_eq_true, decide_eq_true_eq] at h
  have h1 : vp_in x n := vp_in_iff.mpr ⟨h.1, h.2⟩
  exact vp_in_of h1 (by omega)
theorem vI_lt {n u : Nat} (h : u < n) (hn : n ≤ 16) : vI n (nI u) = true := by
  unfold vI
  rw [nI_toInt (by omega)]
  simp
  omega
end
section
/-! what each method computes, as plain functions; the worlds of the two objects -/
/-- bits among the first k -/
def bc (x : Int32) : Nat → Nat
  | 0 => 0
  | k + 1 => bc x k + (bt x k).toNat
/-- the first bit from u on, at most f steps -/
def lwG (x : Int32) : Nat → Nat → Nat
  | 0, u => u
  | f + 1, u => if bt x u = true then u else lwG x f (u + 1)
def low (x : Int32) : Nat := lwG x 15 0
/-- the union of tg u over the bits u of x among the first k -/
def tgOf (tg : Nat → Int32) (x : Int32) : Nat → Int32
  | 0 => 0
  | k + 1 => if bt x k = true then tgOf tg x k ||| tg k else tgOf tg x k
/-- waves from 'wave', met so far 'met', at most f of them -/
def spr (tg : Nat → Int32) (n : Nat) (within : Int32) : Nat → Int32 → Int32 → Int32
  | 0, met, _ => met
  | f + 1, met, wave => if wave = 0 then met else spr tg n within f (met ||| ((tgOf tg wave n &&& within) &&& (met ^^^ (-1)))) ((tgOf tg wave n &&& within) &&& (met ^^^ (-1)))
def ldsOf (ld : Nat → Nat) (x : Int32) : Nat → Int32
  | 0 => 0
  | k + 1 => if bt x k = true then ldsOf ld x k ||| sg (ld k) else ldsOf ld x k
/-- one step of the walk along the line at place i -/
def fwS (tg : Nat → Int32) (n : Nat) (ld : Nat → Nat) (mb : Nat → Int32) (c : Nat) (met : Int32) : Int32 :=
  if bt met c = true then met ||| ldsOf ld (tgOf tg (mb c) n) n else met
def fwd (tg : Nat → Int32) (n : Nat) (ld : Nat → Nat) (mb : Nat → Int32) (ln : Nat → Nat) : Nat → Nat → Int32 → Int32
  | 0, _, met => met
  | f + 1, i, met => fwd tg n ld mb ln f (i + 1) (fwS tg n ld mb (ln i) met)
def bwd (sr : Nat → Int32) (n : Nat) (ld : Nat → Nat) (mb : Nat → Int32) (ln : Nat → Nat) : Nat → Nat → Int32 → Int32
  | 0, _, met => met
  | f + 1, j, met => bwd sr n ld mb ln f (j - 1) (fwS sr n ld mb (ln (j - 1)) met)
def lbt (ln : Nat → Nat) : Nat → Nat → Int32 → Int32
  | 0, _, x => x
  | f + 1, i, x => lbt ln f (i + 1) (x ||| sg (ln i))
/-- appending -/
def apl {α : Type} (nx : Nat → α) : Nat → List α → (Nat → α)
  | _, [] => nx
  | k, c :: L => apl (va_up nx k c) (k + 1) L
def adL (nx ln : Nat → Nat) : Nat → (Nat → Nat)
  | 0 => ln
  | k + 1 => va_up (adL nx ln k) k (nx k)
def adP (nx pl : Nat → Nat) : Nat → (Nat → Nat)
  | 0 => pl
  | k + 1 => va_up (adP nx pl k) (nx k) k
def clm (ld : Nat → Nat) (x : Int32) (c : Nat) : Nat → (Nat → Nat)
  | 0 => ld
  | k + 1 => if bt x k = true then va_up (clm ld x c k) k c else clm ld x c k
def mlM (mb : Nat → Int32) (x : Int32) : Nat → (Nat → Int32)
  | 0 => mb
  | k + 1 => if bt x k = true then upd (mlM mb x k) k 0 else mlM mb x k
def mlA (mb : Nat → Int32) (x : Int32) : Nat → Int32
  | 0 => 0
  | k + 1 => if bt x k = true then mlA mb x k ||| mlM mb x k k else mlA mb x k
/-- the line from place i on, f places, those with P -/
def sgF (P : Nat → Bool) (ln : Nat → Nat) : Nat → Nat → List Nat
  | 0, _ => []
  | f + 1, i => if P (ln i) = true then ln i :: sgF P ln f (i + 1) else sgF P ln f (i + 1)
/-- repairLine -/
def rpF (tg : Nat → Int32) (n : Nat) (ld : Nat → Nat) (mb : Nat → Int32) (pl ln : Nat → Nat) (fr to : Nat) : Int32 := fwd tg n ld mb ln (pl fr + 1 - pl to) (pl to) (sg to)
def rpM (tg sr : Nat → Int32) (n : Nat) (ld : Nat → Nat) (mb : Nat → Int32) (pl ln : Nat → Nat) (fr to : Nat) : Int32 :=
  if bt (rpF tg n ld mb pl ln fr to) fr = true then (rpF tg n ld mb pl ln fr to &&& bwd sr n ld mb ln (pl fr + 1 - pl to) (pl fr + 1) (sg fr)) &&& lbt ln (pl fr + 1 - pl to) (pl to) 0 else 0
/-- the new line, with forward F and melting M -/
def rpA (F M : Int32) (ln : Nat → Nat) (lo hi : Nat) : List Nat := sgF (fun _ => true) ln lo 0 ++ sgF (fun c => !bt F c) ln (hi + 1 - lo) lo
def rpB (F M : Int32) (ln : Nat → Nat) (lo hi len : Nat) : List Nat := sgF (fun c => bt (F &&& (M ^^^ (-1))) c) ln (hi + 1 - lo) lo ++ sgF (fun _ => true) ln (len - (hi + 1)) (hi + 1)
def rpL (F M : Int32) (mb : Nat → Int32) (n : Nat) (ln : Nat → Nat) (lo hi len : Nat) : List Nat :=
  rpA F M ln lo hi ++ ((if M = 0 then [] else [low (mlA mb M n)]) ++ rpB F M ln lo hi len)
/-- split -/
def spP (tg sr : Nat → Int32) (n : Nat) (rest : Int32) : Int32 :=
  spr tg n rest 16 (sg (low rest)) (sg (low rest)) &&& spr sr n rest 16 (sg (low rest)) (sg (low rest))
def spL (tg sr : Nat → Int32) (n : Nat) : Nat → Int32 → List Int32
  | 0, _ => []
  | f + 1, rest => if rest = 0 then [] else spP tg sr n rest :: spL tg sr n f (rest &&& (spP tg sr n rest ^^^ (-1)))
def srcP (sr : Nat → Int32) (n : Nat) (pc : Nat → Int32) (wt : Int32) : Nat → Nat → Int32
  | 0, _ => 0
  | f + 1, q => if pc q &&& wt = 0 then srcP sr n pc wt f (q + 1) else if (tgOf sr (pc q) n &&& wt) &&& (pc q ^^^ (-1)) = 0 then pc q else srcP sr n pc wt f (q + 1)
/-- the pieces in the order that they are placed in -/
def spO (sr : Nat → Int32) (n : Nat) (pc : Nat → Int32) (cnt : Nat) : Nat → Int32 → List Int32
  | 0, _ => []
  | f + 1, wt => srcP sr n pc wt cnt 0 :: spO sr n pc cnt f (wt &&& (srcP sr n pc wt cnt 0 ^^^ (-1)))
def clL (n : Nat) : List Int32 → (Nat → Nat) → (Nat → Nat)
  | [], ld => ld
  | q :: L, ld => clL n L (clm ld q (low q) n)
def clB : List Int32 → (Nat → Int32) → (Nat → Int32)
  | [], mb => mb
  | q :: L, mb => clB L (upd mb (low q) q)
/-- height -/
def hIn (hs ld : Nat → Nat) (x : Int32) : Nat → Nat
  | 0 => 0
  | k + 1 => if bt x k = true ∧ hIn hs ld x k ≤ hs (ld k) then hs (ld k) + 1 else hIn hs ld x k
def hOut (sr : Nat → Int32) (n : Nat) (ld : Nat → Nat) (mb : Nat → Int32) (ln hs : Nat → Nat) : Nat → (Nat → Nat)
  | 0 => hs
  | i + 1 => va_up (hOut sr n ld mb ln hs i) (ln i) (hIn (hOut sr n ld mb ln hs i) ld (tgOf sr (mb (ln i)) n &&& (mb (ln i) ^^^ (-1))) n)
/-- cycle -/
def cyc (tg : Nat → Int32) (n : Nat) (within : Int32) (u : Nat) : Nat → Nat → Int32 → Int32 → Int32
  | 0, _, _, _ => -2
  | f + 1, k, wave, met => if wave = 0 then -2 else if bt met u = true then nI k else
    cyc tg n within u f (k + 1) ((tgOf tg wave n &&& within) &&& (met ^^^ (-1))) (met ||| ((tgOf tg wave n &&& within) &&& (met ^^^ (-1))))
def oeC (tg : Nat → Int32) (ld : Nat → Nat) (mb : Nat → Int32) : Nat → Nat
  | 0 => 0
  | k + 1 => oeC tg ld mb k + bc (tg k &&& (mb (ld k) ^^^ (-1))) 16
def iol (tg : Nat → Int32) (n : Nat) (mb : Nat → Int32) (ln : Nat → Nat) : Nat → Nat → Bool
  | 0, _ => true
  | f + 1, i => if tgOf tg (mb (ln i)) n &&& mb (ln (i + 1)) = 0 then false else iol tg n mb ln f (i + 1)
/-! the reference -/
/-- lengthen: reach and 'grown' behind the first k of w, at uv -/
def lnI (ed : Nat → Bool) (uv : Nat) (re : Nat → Bool) (g : Bool) : Nat → (Nat → Bool) × Bool
  | 0 => (re, g)
  | k + 1 => if ((lnI ed uv re g k).1 uv = true ∧ ed (16 * (uv % 16) + k) = true) ∧ (lnI ed uv re g k).1 (16 * (uv / 16) + k) = false then (va_up (lnI ed uv re g k).1 (16 * (uv / 16) + k) true, true) else lnI ed uv re g k
def lnO (ed : Nat → Bool) (n : Nat) (re : Nat → Bool) : Nat → (Nat → Bool) × Bool
  | 0 => (re, false)
  | k + 1 => lnI ed k (lnO ed n re k).1 (lnO ed n re k).2 n
def frI (re : Nat → Bool) : Nat → (Nat → Bool)
  | 0 => re
  | k + 1 => va_up (frI re k) k (decide (k / 16 = k % 16))
def frG (ed : Nat → Bool) (n : Nat) : Nat → (Nat → Bool) → Bool → (Nat → Bool)
  | 0, re, _ => re
  | f + 1, re, g => if g = true then frG ed n f (lnO ed n re 256).1 (lnO ed n re 256).2 else re
def fr (ed : Nat → Bool) (n : Nat) (re : Nat → Bool) : Nat → Bool := frG ed n 17 (frI re 256) true
def tog (re : Nat → Bool) (u v : Nat) : Bool := re (16 * u + v) && re (16 * v + u)
def loG (re : Nat → Bool) (u : Nat) : Nat → Nat → Nat
  | 0, _ => u
  | f + 1, v => if tog re u v = true then v else loG re u f (v + 1)
def lo (re : Nat → Bool) (u : Nat) : Nat := loG re u u 0
def coC (re : Nat → Bool) : Nat → Nat
  | 0 => 0
  | k + 1 => if lo re k = k then coC re k + 1 else coC re k
def szC (re : Nat → Bool) (u : Nat) : Nat → Nat
  | 0 => 0
  | k + 1 => if tog re u k = true then szC re u k + 1 else szC re u k
/-- raise: the height that u gives v -/
def rsH (ed re : Nat → Bool) (hi : Nat → Nat) (u v : Nat) : Nat :=
  let h1 := if tog re u v = true ∧ hi v < hi u then hi u else hi v
  if ed (16 * u + v) = true ∧ tog re u v = false ∧ h1 < hi u + 1 then hi u + 1 else h1
def rsI (ed re : Nat → Bool) (u : Nat) (hi : Nat → Nat) (g : Bool) : Nat → (Nat → Nat) × Bool
  | 0 => (hi, g)
  | k + 1 => if (rsI ed re u hi g k).1 k < rsH ed re (rsI ed re u hi g k).1 u k then (va_up (rsI ed re u hi g k).1 k (rsH ed re (rsI ed re u hi g k).1 u k), true) else rsI ed re u hi g k
def rsO (ed re : Nat → Bool) (n : Nat) (hi : Nat → Nat) : Nat → (Nat → Nat) × Bool
  | 0 => (hi, false)
  | k + 1 => rsI ed re k (rsO ed re n hi k).1 (rsO ed re n hi k).2 n
def hz (hi : Nat → Nat) : Nat → (Nat → Nat)
  | 0 => hi
  | k + 1 => va_up (hz hi k) k 0
def hG (ed re : Nat → Bool) (n : Nat) : Nat → (Nat → Nat) → Bool → (Nat → Nat)
  | 0, hi, _ => hi
  | f + 1, hi, g => if g = true then hG ed re n f (rsO ed re n hi n).1 (rsO ed re n hi n).2 else hi
def cyI (ed : Nat → Bool) (x : Int32) : Nat → Int32
  | 0 => 0
  | k + 1 => if ed k = true ∧ bt x (k / 16) = true then cyI ed x k ||| sg (k % 16) else cyI ed x k
def cyG (ed : Nat → Bool) (u : Nat) : Nat → Nat → Int32 → Int32
  | 0, _, _ => -2
  | f + 1, k, x => if bt (cyI ed x 256) u = true then nI k else cyG ed u f (k + 1) (cyI ed x 256)
def oeM (ed re : Nat → Bool) : Nat → Nat
  | 0 => 0
  | k + 1 => if ed k = true ∧ tog re (k / 16) (k % 16) = false then oeM ed re k + 1 else oeM ed re k
def ilI (re : Nat → Bool) (u : Nat) : Nat → Nat → Bool
  | 0, _ => true
  | f + 1, v => if re (16 * u + v) = false ∧ re (16 * v + u) = false then false else ilI re u f (v + 1)
def ilO (re : Nat → Bool) (n : Nat) : Nat → Nat → Bool
  | 0, _ => true
  | f + 1, u => if ilI re u n 0 = true then ilO re n f (u + 1) else false
/-! the worlds -/
def XW (G : GG) (a : Nat → Nat) (n : Nat) (tg sr : Nat → Int32) (ld : Nat → Nat) (mb : Nat → Int32) (pl ln : Nat → Nat) (len : Nat) (nx : Nat → Nat) (nl : Nat) (hs : Nat → Nat) (ps : Nat → Int32) : va_W :=
  [(a 0, .inr (0, [.int (nI n), .ref (a 1), .ref (a 2), .ref (a 3), .ref (a 4), .ref (a 5), .ref (a 6), .int (nI len), .ref (a 7), .int (nI nl), .ref (a 8), .ref (a 9)])), (a 1, .inl (gI G, 16, .inl tg)), (a 2, .inl (gI G, 16, .inl sr)), (a 3, .inl (gB G, 16, .inl (aN ld))), (a 4, .inl (gI G, 16, .inl mb)), (a 5, .inl (gB G, 16, .inl (aN pl))), (a 6, .inl (gB G, 16, .inl (aN ln))), (a 7, .inl (gB G, 16, .inl (aN nx))), (a 8, .inl (gB G, 16, .inl (aN hs))), (a 9, .inl (gI G, 16, .inl ps))]
def MW (G : GG) (a : Nat → Nat) (n : Nat) (ed re : Nat → Bool) (hi : Nat → Nat) : va_W :=
  [(a 0, .inr (1, [.int (nI n), .ref (a 1), .ref (a 2), .ref (a 3)])), (a 1, .inl (gZ G, 256, .inl (aB ed))), (a 2, .inl (gZ G, 256, .inl (aB re))), (a 3, .inl (gI G, 16, .inl (aN hi)))]
end
section
theorem n_shr4 {k : Nat} (h : k < 2 ^ 31) : nI k >>> (nI 4 &&& 31) = nI (k / 16) := pk_shrN h (nI 4 &&& 31) 4 (by decide +kernel)
theorem n_and15 (k : Nat) (h : k < 2 ^ 32 := by omega) : nI k &&& nI 15 = nI (k % 16) := pk_andN h 4 (by decide +kernel)
section BN
variable {G : GG} {cc : ByteArray} {own : String} {nL : Nat} {R : Room} {X : Cx} {kc ks : Nat} {w : va_W} {pc : Nat} {lv : List (Nat × Value)} {st : List Value}
theorem b_icmp_ne {b : Bool} {off : Int} {tgt : Nat} (hdg : decode cc pc = .ok (.if_icmp .ne off, 3)) (ht : (pc : Int) + off = (tgt : Int)) (kt : b = false → At G cc own nL R X kc ks w tgt lv st) (kf : b = true → At G cc own nL R X kc ks w (pc + 3) lv st) : At G cc own nL R X kc ks w pc lv (.int (nI 1) :: .int (nI b.toNat) :: st) := by
  refine n_icmp_ne hdg ht (by cases b <;> decide) (by decide) (fun h => kt ?_) (fun h => kf ?_)
  · cases b <;> simp_all
  · cases b <;> simp_all
end BN
theorem nar_z (b : Bool) : narrow .boolean (.int (nI b.toNat)) = .int (nI b.toNat) := by cases b <;> decide +kernel
theorem lwG_le (x : Int32) : ∀ f u, lwG x f u ≤ u + f
  | 0, u => Nat.le_refl _
  | f + 1, u => by
    rw [lwG]
    split
    · omega
    · have := lwG_le x f (u + 1); omega
theorem low_lt (x : Int32) : low x < 16 := by
  have := lwG_le x 15 0
  unfold low; omega
theorem vI_lt0 {n : Nat} {x : Int32} (h : x < 0) : vI n x = false := by
  have h1 : x.toInt < (0 : Int32).toInt := Int32.lt_iff_toInt_lt.mp h
  have h2 : (0 : Int32).toInt = 0 := by decide
  unfold vI
  have : ¬ 0 ≤ x.toInt := by omega
  simp [this]
theorem vI_ge {n : Nat} {x : Int32} (hn : n ≤ 16) (h : nI n ≤ x) : vI n x = false := by
  have h1 : (nI n).toInt ≤ x.toInt := Int32.le_iff_toInt_le.mp h
  rw [nI_toInt (by omega)] at h1
  unfold vI
  have : ¬ x.toInt < n := by omega
  simp [this]
theorem neg1_lt {k : Nat} (h : k < 2 ^ 31) : (-1 : Int32) < nI k := by
  rw [Int32.lt_iff_toInt_lt, nI_toInt h]
  have : (-1 : Int32).toInt = -1 := by decide
  omega
theorem vI_in {n : Nat} {x : Int32} (hn : n ≤ 16) (h0 : ¬ x < 0) (h : ¬ nI n ≤ x) : vI n x = true := by
  have h1 : ¬ (nI n).toInt ≤ x.toInt := fun q => h (Int32.le_iff_toInt_le.mpr q)
  rw [nI_toInt (by omega)] at h1
  have h3 : ¬ x.toInt < (0 : Int32).toInt := fun q => h0 (Int32.lt_iff_toInt_lt.mpr q)
  have h2 : (0 : Int32).toInt = 0 := by decide
  unfold vI
  simp
  omega
theorem cgM_components : GoodIn lw_all (wsV RX2 36 RX2 yX2_components (ws_ yX2_components cX2_components 4 (some .int))) := lw_V q217 q218 q219 q26 q220
theorem cdM_components : yX2_components.cls = RX2 ∧ yX2_components.cls ≠ "java/lang/invoke/MethodHandle" ∧ yX2_components.cls ≠ "java/lang/invoke/VarHandle" ∧ (parseMethodDescriptor yX2_components.desc).map (fun d => d.parameters.length) = some 0 := by decide +kernel
theorem cgM_findReach : GoodIn lw_all (wsV RX2 40 RX2 yX2_findReach (ws_ yX2_findReach cX2_findReach 3 none)) := lw_V q221 q223 qs19 q26 q224
theorem cdM_findReach : yX2_findReach.cls = RX2 ∧ yX2_findReach.cls ≠ "java/lang/invoke/MethodHandle" ∧ yX2_findReach.cls ≠ "java/lang/invoke/VarHandle" ∧ (parseMethodDescriptor yX2_findReach.desc).map (fun d => d.parameters.length) = some 0 := by decide +kernel
theorem cgM_isVertex : GoodIn lw_all (wsV RX2 32 RX2 yX2_isVertex (ws_ yX2_isVertex cX2_isVertex 2 (some .boolean))) := lw_V q213 q215 qs18 q26 q216
theorem cdM_isVertex : yX2_isVertex.cls = RX2 ∧ yX2_isVertex.cls ≠ "java/lang/invoke/MethodHandle" ∧ yX2_isVertex.cls ≠ "java/lang/invoke/VarHandle" ∧ (parseMethodDescriptor yX2_isVertex.desc).map (fun d => d.parameters.length) = some 1 := by decide +kernel
theorem cgM_leaderOf : GoodIn lw_all (wsV RX2 43 RX2 yX2_leaderOf (ws_ yX2_leaderOf cX2_leaderOf 3 (some .int))) := lw_V q229 q231 qs21 q26 q232
theorem cdM_leaderOf : yX2_leaderOf.cls = RX2 ∧ yX2_leaderOf.cls ≠ "java/lang/invoke/MethodHandle" ∧ yX2_leaderOf.cls ≠ "java/lang/invoke/VarHandle" ∧ (parseMethodDescriptor yX2_leaderOf.desc).map (fun d => d.parameters.length) = some 1 := by decide +kernel
theorem cgM_lengthen : GoodIn lw_all (wsV RX2 24 RX2 yX2_lengthen (ws_ yX2_lengthen cX2_lengthen 6 (some .boolean))) := lw_V q225 q227 qs20 q26 q228
theorem cdM_lengthen : yX2_lengthen.cls = RX2 ∧ yX2_lengthen.cls ≠ "java/lang/invoke/MethodHandle" ∧ yX2_lengthen.cls ≠ "java/lang/invoke/VarHandle" ∧ (parseMethodDescriptor yX2_lengthen.desc).map (fun d => d.parameters.length) = some 0 := by decide +kernel
theorem cgM_raise : GoodIn lw_all (wsV RX2 47 RX2 yX2_raise (ws_ yX2_raise cX2_raise 5 (some .boolean))) := lw_V q258 q260 qs23 q26 q261
theorem cdM_raise : yX2_raise.cls = RX2 ∧ yX2_raise.cls ≠ "java/lang/invoke/MethodHandle" ∧ yX2_raise.cls ≠ "java/lang/invoke/VarHandle" ∧ (parseMethodDescriptor yX2_raise.desc).map (fun d => d.parameters.length) = some 0 := by decide +kernel
theorem cgM_together : GoodIn lw_all (wsV RX2 28 RX2 yX2_together (ws_ yX2_together cX2_together 3 (some .boolean))) := lw_V q233 q235 qs22 q26 q236
theorem cdM_together : yX2_together.cls = RX2 ∧ yX2_together.cls ≠ "java/lang/invoke/MethodHandle" ∧ yX2_together.cls ≠ "java/lang/invoke/VarHandle" ∧ (parseMethodDescriptor yX2_together.desc).map (fun d => d.parameters.length) = some 2 := by decide +kernel
theorem cgX_adoptLine : GoodIn lw_all (wsV RX1 91 RX1 yX1_adoptLine (ws_ yX1_adoptLine cX1_adoptLine 2 none)) := lw_V q130 q132 qs13 q25 q133
theorem cdX_adoptLine : yX1_adoptLine.cls = RX1 ∧ yX1_adoptLine.cls ≠ "java/lang/invoke/MethodHandle" ∧ yX1_adoptLine.cls ≠ "java/lang/invoke/VarHandle" ∧ (parseMethodDescriptor yX1_adoptLine.desc).map (fun d => d.parameters.length) = some 0 := by decide +kernel
theorem cgX_append : GoodIn lw_all (wsV RX1 84 RX1 yX1_append (ws_ yX1_append cX1_append 2 none)) := lw_V q110 q112 qs8 q25 q113
theorem cdX_append : yX1_append.cls = RX1 ∧ yX1_append.cls ≠ "java/lang/invoke/MethodHandle" ∧ yX1_append.cls ≠ "java/lang/invoke/VarHandle" ∧ (parseMethodDescriptor yX1_append.desc).map (fun d => d.parameters.length) = some 1 := by decide +kernel
theorem cgX_backwardDownTo : GoodIn lw_all (wsV RX1 75 RX1 yX1_backwardDownTo (ws_ yX1_backwardDownTo cX1_backwardDownTo 6 (some .int))) := lw_V q98 q100 qs5 q25 q101
theorem cdX_backwardDownTo : yX1_backwardDownTo.cls = RX1 ∧ yX1_backwardDownTo.cls ≠ "java/lang/invoke/MethodHandle" ∧ yX1_backwardDownTo.cls ≠ "java/lang/invoke/VarHandle" ∧ (parseMethodDescriptor yX1_backwardDownTo.desc).map (fun d => d.parameters.length) = some 2 := by decide +kernel
theorem cgX_bitsIn : GoodIn lw_all (wsV RX1 60 RX1 yX1_bitsIn (ws_ yX1_bitsIn cX1_bitsIn 4 (some .int))) := lw_V q114 q116 qs9 q25 q117
theorem cdX_bitsIn : yX1_bitsIn.cls = RX1 ∧ yX1_bitsIn.cls ≠ "java/lang/invoke/MethodHandle" ∧ yX1_bitsIn.cls ≠ "java/lang/invoke/VarHandle" ∧ (parseMethodDescriptor yX1_bitsIn.desc).map (fun d => d.parameters.length) = some 1 := by decide +kernel
theorem cgX_claim : GoodIn lw_all (wsV RX1 94 RX1 yX1_claim (ws_ yX1_claim cX1_claim 4 (some .int))) := lw_V q122 q124 qs11 q25 q125
theorem cdX_claim : yX1_claim.cls = RX1 ∧ yX1_claim.cls ≠ "java/lang/invoke/MethodHandle" ∧ yX1_claim.cls ≠ "java/lang/invoke/VarHandle" ∧ (parseMethodDescriptor yX1_claim.desc).map (fun d => d.parameters.length) = some 1 := by decide +kernel
theorem cgX_forwardUpTo : GoodIn lw_all (wsV RX1 63 RX1 yX1_forwardUpTo (ws_ yX1_forwardUpTo cX1_forwardUpTo 6 (some .int))) := lw_V q86 q88 qs2 q25 q89
theorem cdX_forwardUpTo : yX1_forwardUpTo.cls = RX1 ∧ yX1_forwardUpTo.cls ≠ "java/lang/invoke/MethodHandle" ∧ yX1_forwardUpTo.cls ≠ "java/lang/invoke/VarHandle" ∧ (parseMethodDescriptor yX1_forwardUpTo.desc).map (fun d => d.parameters.length) = some 2 := by decide +kernel
theorem cgX_gatherWithin : GoodIn lw_all (wsV RX1 100 RX1 yX1_gatherWithin (ws_ yX1_gatherWithin cX1_gatherWithin 6 (some .int))) := lw_V q146 q148 qs16 q25 q149
theorem cdX_gatherWithin : yX1_gatherWithin.cls = RX1 ∧ yX1_gatherWithin.cls ≠ "java/lang/invoke/MethodHandle" ∧ yX1_gatherWithin.cls ≠ "java/lang/invoke/VarHandle" ∧ (parseMethodDescriptor yX1_gatherWithin.desc).map (fun d => d.parameters.length) = some 2 := by decide +kernel
theorem cgX_isVertex : GoodIn lw_all (wsV RX1 45 RX1 yX1_isVertex (ws_ yX1_isVertex cX1_isVertex 2 (some .boolean))) := lw_V q78 q80 qs0 q25 q81
theorem cdX_isVertex : yX1_isVertex.cls = RX1 ∧ yX1_isVertex.cls ≠ "java/lang/invoke/MethodHandle" ∧ yX1_isVertex.cls ≠ "java/lang/invoke/VarHandle" ∧ (parseMethodDescriptor yX1_isVertex.desc).map (fun d => d.parameters.length) = some 1 := by decide +kernel
theorem cgX_leadersBetween : GoodIn lw_all (wsV RX1 78 RX1 yX1_leadersBetween (ws_ yX1_leadersBetween cX1_leadersBetween 5 (some .int))) := lw_V q106 q108 qs7 q25 q109
theorem cdX_leadersBetween : yX1_leadersBetween.cls = RX1 ∧ yX1_leadersBetween.cls ≠ "java/lang/invoke/MethodHandle" ∧ yX1_leadersBetween.cls ≠ "java/lang/invoke/VarHandle" ∧ (parseMethodDescriptor yX1_leadersBetween.desc).map (fun d => d.parameters.length) = some 2 := by decide +kernel
theorem cgX_leadersOf : GoodIn lw_all (wsV RX1 72 RX1 yX1_leadersOf (ws_ yX1_leadersOf cX1_leadersOf 4 (some .int))) := lw_V q94 q96 qs4 q25 q97
theorem cdX_leadersOf : yX1_leadersOf.cls = RX1 ∧ yX1_leadersOf.cls ≠ "java/lang/invoke/MethodHandle" ∧ yX1_leadersOf.cls ≠ "java/lang/invoke/VarHandle" ∧ (parseMethodDescriptor yX1_leadersOf.desc).map (fun d => d.parameters.length) = some 1 := by decide +kernel
theorem cgX_lowest : GoodIn lw_all (wsV RX1 97 RX1 yX1_lowest (ws_ yX1_lowest cX1_lowest 3 (some .int))) := lw_V q126 q128 qs12 q25 q129
theorem cdX_lowest : yX1_lowest.cls = RX1 ∧ yX1_lowest.cls ≠ "java/lang/invoke/MethodHandle" ∧ yX1_lowest.cls ≠ "java/lang/invoke/VarHandle" ∧ (parseMethodDescriptor yX1_lowest.desc).map (fun d => d.parameters.length) = some 1 := by decide +kernel
theorem cgX_melt : GoodIn lw_all (wsV RX1 88 RX1 yX1_melt (ws_ yX1_melt cX1_melt 4 (some .int))) := lw_V q118 q120 qs10 q25 q121
theorem cdX_melt : yX1_melt.cls = RX1 ∧ yX1_melt.cls ≠ "java/lang/invoke/MethodHandle" ∧ yX1_melt.cls ≠ "java/lang/invoke/VarHandle" ∧ (parseMethodDescriptor yX1_melt.desc).map (fun d => d.parameters.length) = some 1 := by decide +kernel
theorem cgX_repairLine : GoodIn lw_all (wsV RX1 49 RX1 yX1_repairLine (ws_ yX1_repairLine cX1_repairLine 10 (some .int))) := lw_V q82 q84 qs1 q25 q85
theorem cdX_repairLine : yX1_repairLine.cls = RX1 ∧ yX1_repairLine.cls ≠ "java/lang/invoke/MethodHandle" ∧ yX1_repairLine.cls ≠ "java/lang/invoke/VarHandle" ∧ (parseMethodDescriptor yX1_repairLine.desc).map (fun d => d.parameters.length) = some 2 := by decide +kernel
theorem cgX_sourcePiece : GoodIn lw_all (wsV RX1 103 RX1 yX1_sourcePiece (ws_ yX1_sourcePiece cX1_sourcePiece 6 (some .int))) := lw_V q150 q152 qs17 q25 q153
theorem cdX_sourcePiece : yX1_sourcePiece.cls = RX1 ∧ yX1_sourcePiece.cls ≠ "java/lang/invoke/MethodHandle" ∧ yX1_sourcePiece.cls ≠ "java/lang/invoke/VarHandle" ∧ (parseMethodDescriptor yX1_sourcePiece.desc).map (fun d => d.parameters.length) = some 2 := by decide +kernel
theorem cgX_sourcesOf : GoodIn lw_all (wsV RX1 66 RX1 yX1_sourcesOf (ws_ yX1_sourcesOf cX1_sourcesOf 4 (some .int))) := lw_V q102 q104 qs6 q25 q105
theorem cdX_sourcesOf : yX1_sourcesOf.cls = RX1 ∧ yX1_sourcesOf.cls ≠ "java/lang/invoke/MethodHandle" ∧ yX1_sourcesOf.cls ≠ "java/lang/invoke/VarHandle" ∧ (parseMethodDescriptor yX1_sourcesOf.desc).map (fun d => d.parameters.length) = some 1 := by decide +kernel
theorem cgX_split : GoodIn lw_all (wsV RX1 56 RX1 yX1_split (ws_ yX1_split cX1_split 10 (some .int))) := lw_V q142 q144 qs15 q25 q145
theorem cdX_split : yX1_split.cls = RX1 ∧ yX1_split.cls ≠ "java/lang/invoke/MethodHandle" ∧ yX1_split.cls ≠ "java/lang/invoke/VarHandle" ∧ (parseMethodDescriptor yX1_split.desc).map (fun d => d.parameters.length) = some 1 := by decide +kernel
theorem cgX_spreadWithin : GoodIn lw_all (wsV RX1 53 RX1 yX1_spreadWithin (ws_ yX1_spreadWithin cX1_spreadWithin 6 (some .int))) := lw_V q138 q140 qs14 q25 q141
theorem cdX_spreadWithin : yX1_spreadWithin.cls = RX1 ∧ yX1_spreadWithin.cls ≠ "java/lang/invoke/MethodHandle" ∧ yX1_spreadWithin.cls ≠ "java/lang/invoke/VarHandle" ∧ (parseMethodDescriptor yX1_spreadWithin.desc).map (fun d => d.parameters.length) = some 2 := by decide +kernel
theorem cgX_targetsOf : GoodIn lw_all (wsV RX1 69 RX1 yX1_targetsOf (ws_ yX1_targetsOf cX1_targetsOf 4 (some .int))) := lw_V q90 q92 qs3 q25 q93
theorem cdX_targetsOf : yX1_targetsOf.cls = RX1 ∧ yX1_targetsOf.cls ≠ "java/lang/invoke/MethodHandle" ∧ yX1_targetsOf.cls ≠ "java/lang/invoke/VarHandle" ∧ (parseMethodDescriptor yX1_targetsOf.desc).map (fun d => d.parameters.length) = some 1 := by decide +kernel
end
section
abbrev rX1_isVertex : Room := { frames := 0, cells := 0, slots := 0, locals := 0 }
set_option maxHeartbeats 4000000 in
set_option maxRecDepth 100000 in
/-- isVertex(x) -/
theorem metX_isVertex (G : GG) (a : Nat → Nat) (n : Nat) (tg : Nat → Int32) (sr : Nat → Int32) (ld : Nat → Nat) (mb : Nat → Int32) (pl : Nat → Nat) (ln : Nat → Nat) (len : Nat) (nx : Nat → Nat) (nl : Nat) (hs : Nat → Nat) (ps : Nat → Int32) (x : Int32) (hn : n ≤ 16) : KMi G yX1_isVertex cX1_isVertex 2 .boolean rX1_isVertex [.ref (a 0), .int x] (XW G a n tg sr ld mb pl ln len nx nl hs ps) (XW G a n tg sr ld mb pl ln len nx nl hs ps) (nI (vI n x).toNat) := by
  refine KMi.of (own := RX1) (by decide) rfl (Nat.le_of_ble_eq_true rfl) (nar_z _) ?_
  intro X hret
  show At G cX1_isVertex RX1 2 rX1_isVertex X 0 0 (XW G a n tg sr ld mb pl ln len nx nl hs ps) 0 [(0, .ref (a 0)), (1, .int x)] []
  refine r_iload_n dX1_isVertex_0 1 rfl ?_
  refine r_if_lt (tgt := 16) dX1_isVertex_1 (by decide) (fun c_1 => ?_) (fun c_1 => ?_)
  · refine r_iconst (v := nI 0) dX1_isVertex_16 (by decide) ?_
    exact hret _ _ _ _ (by rw [vI_lt0 c_1]; rfl) (rfl) dX1_isVertex_17
  · refine r_iload_n dX1_isVertex_4 1 rfl ?_
    refine r_aload_n dX1_isVertex_5 0 rfl ?_
    refine r_getX 0 0 rfl (by decide) q35 rfl dX1_isVertex_6 ?_
    refine r_icmp_ge (tgt := 16) dX1_isVertex_9 (by decide) (fun c_9 => ?_) (fun c_9 => ?_)
    · refine r_iconst (v := nI 0) dX1_isVertex_16 (by decide) ?_
      exact hret _ _ _ _ (by rw [vI_ge hn c_9]; rfl) (rfl) dX1_isVertex_17
    · refine r_iconst (v := nI 1) dX1_isVertex_12 (by decide) ?_
      refine r_goto (tgt := 17) dX1_isVertex_13 (by decide) ?_
      exact hret _ _ _ _ (by rw [vI_in hn c_1 c_9]; rfl) (rfl) dX1_isVertex_17
abbrev rX1_bitsIn : Room := { frames := 0, cells := 0, slots := 0, locals := 0 }
set_option maxHeartbeats 4000000 in
set_option maxRecDepth 100000 in
/-- bitsIn(x) -/
theorem metX_bitsIn (G : GG) (a : Nat → Nat) (n : Nat) (tg : Nat → Int32) (sr : Nat → Int32) (ld : Nat → Nat) (mb : Nat → Int32) (pl : Nat → Nat) (ln : Nat → Nat) (len : Nat) (nx : Nat → Nat) (nl : Nat) (hs : Nat → Nat) (ps : Nat → Int32) (x : Int32) : KMi G yX1_bitsIn cX1_bitsIn 4 .int rX1_bitsIn [.ref (a 0), .int x] (XW G a n tg sr ld mb pl ln len nx nl hs ps) (XW G a n tg sr ld mb pl ln len nx nl hs ps) (nI (bc x 16)) := by
  refine KMi.of (own := RX1) (by decide) rfl (Nat.le_of_ble_eq_true rfl) rfl ?_
  intro X hret
  show At G cX1_bitsIn RX1 4 rX1_bitsIn X 0 0 (XW G a n tg sr ld mb pl ln len nx nl hs ps) 0 [(0, .ref (a 0)), (1, .int x)] []
  refine r_iconst (v := nI 0) dX1_bitsIn_0 (by decide) ?_
  refine r_istore_n (lv' := [(0, .ref (a 0)), (1, .int x), (2, .int (nI 0))]) dX1_bitsIn_1 (by decide) [1, 2, 0] rfl ?_
  refine r_iconst (v := nI 0) dX1_bitsIn_2 (by decide) ?_
  refine r_istore_n (lv' := [(0, .ref (a 0)), (1, .int x), (2, .int (nI 0)), (3, .int (nI 0))]) dX1_bitsIn_3 (by decide) [1, 2, 3, 0] rfl ?_
  have L4 : ∀ (fu_L4 : Nat) (i : Nat) (cnt : Nat), 16 < i + fu_L4 → i ≤ 16 → cnt = bc x i → At G cX1_bitsIn RX1 4 rX1_bitsIn X 0 0 (XW G a n tg sr ld mb pl ln len nx nl hs ps) 4 [(0, .ref (a 0)), (1, .int x), (2, .int (nI cnt)), (3, .int (nI i))] [] := by
    intro fu_L4
    induction fu_L4 with
    | zero => intro i cnt hf hi hc; exfalso; omega
    | succ fu_L4 ih_L4 =>
      intro i cnt hf hi hc
      refine r_iload_n dX1_bitsIn_4 3 rfl ?_
      refine r_bipush (v := nI 16) dX1_bitsIn_5 (by decide) ?_
      refine n_icmp_ge (tgt := 24) dX1_bitsIn_7 (by decide) (by omega) (by omega) (fun c_7 => ?_) (fun c_7 => ?_)
      · refine r_iload_n dX1_bitsIn_24 2 rfl ?_
        exact hret _ _ _ _ (by rw [hc, show i = 16 by omega]) (rfl) dX1_bitsIn_25
      · refine r_iload_n dX1_bitsIn_10 2 rfl ?_
        refine r_iload_n dX1_bitsIn_11 1 rfl ?_
        refine r_iload_n dX1_bitsIn_12 3 rfl ?_
        refine r_ishr (v := x >>> (nI i &&& 31)) dX1_bitsIn_13 (rfl) ?_
        refine r_iconst (v := nI 1) dX1_bitsIn_14 (by decide) ?_
        refine r_iand (v := nI (bt x i).toNat) dX1_bitsIn_15 (bt_bit _ (by omega)) ?_
        refine r_iadd (v := nI (cnt + ((bt x i).toNat))) dX1_bitsIn_16 (nI_add _ _) ?_
        refine r_istore_n (lv' := [(0, .ref (a 0)), (1, .int x), (2, .int (nI (cnt + ((bt x i).toNat)))), (3, .int (nI i))]) dX1_bitsIn_17 (by decide) [1, 2, 0, 3] rfl ?_
        refine r_iinc (v := nI (i + 1)) (k := 3) (lv' := [(0, .ref (a 0)), (1, .int x), (2, .int (nI (cnt + ((bt x i).toNat)))), (3, .int (nI (i + 1)))]) dX1_bitsIn_18 rfl (nI_1 _) (by decide) [1, 2, 3, 0] rfl ?_
        refine r_goto (tgt := 4) dX1_bitsIn_21 (by decide) ?_
        exact ih_L4 (i + 1) _ (by omega) (by omega) (by rw [hc]; rfl)
  exact L4 17 0 0 (by omega) (by omega) rfl
abbrev rX1_lowest : Room := { frames := 0, cells := 0, slots := 0, locals := 0 }
set_option maxHeartbeats 4000000 in
set_option maxRecDepth 100000 in
/-- lowest(x) -/
theorem metX_lowest (G : GG) (a : Nat → Nat) (n : Nat) (tg : Nat → Int32) (sr : Nat → Int32) (ld : Nat → Nat) (mb : Nat → Int32) (pl : Nat → Nat) (ln : Nat → Nat) (len : Nat) (nx : Nat → Nat) (nl : Nat) (hs : Nat → Nat) (ps : Nat → Int32) (x : Int32) : KMi G yX1_lowest cX1_lowest 3 .int rX1_lowest [.ref (a 0), .int x] (XW G a n tg sr ld mb pl ln len nx nl hs ps) (XW G a n tg sr ld mb pl ln len nx nl hs ps) (nI (low x)) := by
  refine KMi.of (own := RX1) (by decide) rfl (Nat.le_of_ble_eq_true rfl) rfl ?_
  intro X hret
  show At G cX1_lowest RX1 3 rX1_lowest X 0 0 (XW G a n tg sr ld mb pl ln len nx nl hs ps) 0 [(0, .ref (a 0)), (1, .int x)] []
  refine r_iconst (v := nI 0) dX1_lowest_0 (by decide) ?_
  refine r_istore_n (lv' := [(0, .ref (a 0)), (1, .int x), (2, .int (nI 0))]) dX1_lowest_1 (by decide) [1, 2, 0] rfl ?_
  have L2 : ∀ (fu_L2 : Nat) (u : Nat) (g : Nat), g < fu_L2 → u + g = 15 → lwG x g u = low x → At G cX1_lowest RX1 3 rX1_lowest X 0 0 (XW G a n tg sr ld mb pl ln len nx nl hs ps) 2 [(0, .ref (a 0)), (1, .int x), (2, .int (nI u))] [] := by
    intro fu_L2
    induction fu_L2 with
    | zero => intro u g hf hg hv; exfalso; omega
    | succ fu_L2 ih_L2 =>
      intro u g hf hg hv
      refine r_iload_n dX1_lowest_2 2 rfl ?_
      refine r_bipush (v := nI 15) dX1_lowest_3 (by decide) ?_
      refine n_icmp_ge (tgt := 22) dX1_lowest_5 (by decide) (by omega) (by omega) (fun c_5 => ?_) (fun c_5 => ?_)
      · refine r_iload_n dX1_lowest_22 2 rfl ?_
        exact hret _ _ _ _ (by rw [← hv, show g = 0 by omega]; rfl) (rfl) dX1_lowest_23
      · obtain ⟨g', rfl⟩ : ∃ g', g = g' + 1 := ⟨g - 1, by omega⟩
        rw [lwG] at hv
        refine r_iload_n dX1_lowest_8 1 rfl ?_
        refine r_iload_n dX1_lowest_9 2 rfl ?_
        refine r_ishr (v := x >>> (nI u &&& 31)) dX1_lowest_10 (rfl) ?_
        refine r_iconst (v := nI 1) dX1_lowest_11 (by decide) ?_
        refine r_iand (v := nI (bt x u).toNat) dX1_lowest_12 (bt_bit _ (by omega)) ?_
        refine b_if_ne (tgt := 22) dX1_lowest_13 (by decide) (fun c_13 => ?_) (fun c_13 => ?_)
        · refine r_iload_n dX1_lowest_22 2 rfl ?_
          exact hret _ _ _ _ (by rw [if_pos c_13] at hv; rw [hv]) (rfl) dX1_lowest_23
        · refine r_iinc (v := nI (u + 1)) (k := 2) (lv' := [(0, .ref (a 0)), (1, .int x), (2, .int (nI (u + 1)))]) dX1_lowest_16 rfl (nI_1 _) (by decide) [1, 2, 0] rfl ?_
          refine r_goto (tgt := 2) dX1_lowest_19 (by decide) ?_
          exact ih_L2 (u + 1) g' (by omega) (by omega) (by rw [if_neg (by simp [c_13])] at hv; exact hv)
  exact L2 16 0 15 (by omega) (by omega) rfl
abbrev rX1_targetsOf : Room := { frames := 0, cells := 0, slots := 0, locals := 0 }
set_option maxHeartbeats 4000000 in
set_option maxRecDepth 100000 in
/-- targetsOf(x) -/
theorem metX_targetsOf (G : GG) (a : Nat → Nat) (n : Nat) (tg : Nat → Int32) (sr : Nat → Int32) (ld : Nat → Nat) (mb : Nat → Int32) (pl : Nat → Nat) (ln : Nat → Nat) (len : Nat) (nx : Nat → Nat) (nl : Nat) (hs : Nat → Nat) (ps : Nat → Int32) (x : Int32) (hn : n ≤ 16) : KMi G yX1_targetsOf cX1_targetsOf 4 .int rX1_targetsOf [.ref (a 0), .int x] (XW G a n tg sr ld mb pl ln len nx nl hs ps) (XW G a n tg sr ld mb pl ln len nx nl hs ps) (tgOf tg x n) := by
  refine KMi.of (own := RX1) (by decide) rfl (Nat.le_of_ble_eq_true rfl) rfl ?_
  intro X hret
  show At G cX1_targetsOf RX1 4 rX1_targetsOf X 0 0 (XW G a n tg sr ld mb pl ln len nx nl hs ps) 0 [(0, .ref (a 0)), (1, .int x)] []
  refine r_iconst (v := nI 0) dX1_targetsOf_0 (by decide) ?_
  refine r_istore_n (lv' := [(0, .ref (a 0)), (1, .int x), (2, .int (nI 0))]) dX1_targetsOf_1 (by decide) [1, 2, 0] rfl ?_
  refine r_iconst (v := nI 0) dX1_targetsOf_2 (by decide) ?_
  refine r_istore_n (lv' := [(0, .ref (a 0)), (1, .int x), (2, .int (nI 0)), (3, .int (nI 0))]) dX1_targetsOf_3 (by decide) [1, 2, 3, 0] rfl ?_
  have L4 : ∀ (fu_L4 : Nat) (i : Nat) (acc : Int32), n < i + fu_L4 → i ≤ n → acc = tgOf tg x i → At G cX1_targetsOf RX1 4 rX1_targetsOf X 0 0 (XW G a n tg sr ld mb pl ln len nx nl hs ps) 4 [(0, .ref (a 0)), (1, .int x), (2, .int acc), (3, .int (nI i))] [] := by
    intro fu_L4
    induction fu_L4 with
    | zero => intro i acc hf hi hc; exfalso; omega
    | succ fu_L4 ih_L4 =>
      intro i acc hf hi hc
      refine r_iload_n dX1_targetsOf_4 3 rfl ?_
      refine r_aload_n dX1_targetsOf_5 0 rfl ?_
      refine r_getX 0 0 rfl (by decide) q35 rfl dX1_targetsOf_6 ?_
      refine n_icmp_ge (tgt := 35) dX1_targetsOf_9 (by decide) (by omega) (by omega) (fun c_9 => ?_) (fun c_9 => ?_)
      · refine r_iload_n dX1_targetsOf_35 2 rfl ?_
        exact hret _ _ _ _ (by rw [hc, show i = n by omega]) (rfl) dX1_targetsOf_36
      · refine r_iload_n dX1_targetsOf_12 1 rfl ?_
        refine r_iload_n dX1_targetsOf_13 3 rfl ?_
        refine r_ishr (v := x >>> (nI i &&& 31)) dX1_targetsOf_14 (rfl) ?_
        refine r_iconst (v := nI 1) dX1_targetsOf_15 (by decide) ?_
        refine r_iand (v := nI (bt x i).toNat) dX1_targetsOf_16 (bt_bit _ (by omega)) ?_
        refine b_if_eq (tgt := 29) dX1_targetsOf_17 (by decide) (fun c_17 => ?_) (fun c_17 => ?_)
        · refine r_iinc (v := nI (i + 1)) (k := 3) (lv' := [(0, .ref (a 0)), (1, .int x), (2, .int acc), (3, .int (nI (i + 1)))]) dX1_targetsOf_29 rfl (nI_1 _) (by decide) [1, 2, 3, 0] rfl ?_
          refine r_goto (tgt := 4) dX1_targetsOf_32 (by decide) ?_
          exact ih_L4 (i + 1) _ (by omega) (by omega) (by rw [tgOf, if_neg (by simp [c_17]), hc])
        · refine r_iload_n dX1_targetsOf_20 2 rfl ?_
          refine r_aload_n dX1_targetsOf_21 0 rfl ?_
          refine r_getX 0 1 rfl (by decide) q36 rfl dX1_targetsOf_22 ?_
          refine r_iload_n dX1_targetsOf_25 3 rfl ?_
          refine r_iald (v := tg i) dX1_targetsOf_26 1 rfl (by omega) (by decide) (rfl) ?_
          refine r_ior (v := acc ||| (tg i)) dX1_targetsOf_27 (rfl) ?_
          refine r_istore_n (lv' := [(0, .ref (a 0)), (1, .int x), (2, .int (acc ||| (tg i))), (3, .int (nI i))]) dX1_targetsOf_28 (by decide) [1, 2, 0, 3] rfl ?_
          refine r_iinc (v := nI (i + 1)) (k := 3) (lv' := [(0, .ref (a 0)), (1, .int x), (2, .int (acc ||| (tg i))), (3, .int (nI (i + 1)))]) dX1_targetsOf_29 rfl (nI_1 _) (by decide) [1, 2, 3, 0] rfl ?_
          refine r_goto (tgt := 4) dX1_targetsOf_32 (by decide) ?_
          exact ih_L4 (i + 1) _ (by omega) (by omega) (by rw [tgOf, if_pos c_17, hc])
  exact L4 (n + 1) 0 0 (by omega) (by omega) rfl
abbrev rX1_sourcesOf : Room := { frames := 0, cells := 0, slots := 0, locals := 0 }
set_option maxHeartbeats 4000000 in
set_option maxRecDepth 100000 in
/-- sourcesOf(x) -/
theorem metX_sourcesOf (G : GG) (a : Nat → Nat) (n : Nat) (tg : Nat → Int32) (sr : Nat → Int32) (ld : Nat → Nat) (mb : Nat → Int32) (pl : Nat → Nat) (ln : Nat → Nat) (len : Nat) (nx : Nat → Nat) (nl : Nat) (hs : Nat → Nat) (ps : Nat → Int32) (x : Int32) (hn : n ≤ 16) : KMi G yX1_sourcesOf cX1_sourcesOf 4 .int rX1_sourcesOf [.ref (a 0), .int x] (XW G a n tg sr ld mb pl ln len nx nl hs ps) (XW G a n tg sr ld mb pl ln len nx nl hs ps) (tgOf sr x n) := by
  refine KMi.of (own := RX1) (by decide) rfl (Nat.le_of_ble_eq_true rfl) rfl ?_
  intro X hret
  show At G cX1_sourcesOf RX1 4 rX1_sourcesOf X 0 0 (XW G a n tg sr ld mb pl ln len nx nl hs ps) 0 [(0, .ref (a 0)), (1, .int x)] []
  refine r_iconst (v := nI 0) dX1_sourcesOf_0 (by decide) ?_
  refine r_istore_n (lv' := [(0, .ref (a 0)), (1, .int x), (2, .int (nI 0))]) dX1_sourcesOf_1 (by decide) [1, 2, 0] rfl ?_
  refine r_iconst (v := nI 0) dX1_sourcesOf_2 (by decide) ?_
  refine r_istore_n (lv' := [(0, .ref (a 0)), (1, .int x), (2, .int (nI 0)), (3, .int (nI 0))]) dX1_sourcesOf_3 (by decide) [1, 2, 3, 0] rfl ?_
  have L4 : ∀ (fu_L4 : Nat) (i : Nat) (acc : Int32), n < i + fu_L4 → i ≤ n → acc = tgOf sr x i → At G cX1_sourcesOf RX1 4 rX1_sourcesOf X 0 0 (XW G a n tg sr ld mb pl ln len nx nl hs ps) 4 [(0, .ref (a 0)), (1, .int x), (2, .int acc), (3, .int (nI i))] [] := by
    intro fu_L4
    induction fu_L4 with
    | zero => intro i acc hf hi hc; exfalso; omega
    | succ fu_L4 ih_L4 =>
      intro i acc hf hi hc
      refine r_iload_n dX1_sourcesOf_4 3 rfl ?_
      refine r_aload_n dX1_sourcesOf_5 0 rfl ?_
      refine r_getX 0 0 rfl (by decide) q35 rfl dX1_sourcesOf_6 ?_
      refine n_icmp_ge (tgt := 35) dX1_sourcesOf_9 (by decide) (by omega) (by omega) (fun c_9 => ?_) (fun c_9 => ?_)
      · refine r_iload_n dX1_sourcesOf_35 2 rfl ?_
        exact hret _ _ _ _ (by rw [hc, show i = n by omega]) (rfl) dX1_sourcesOf_36
      · refine r_iload_n dX1_sourcesOf_12 1 rfl ?_
        refine r_iload_n dX1_sourcesOf_13 3 rfl ?_
        refine r_ishr (v := x >>> (nI i &&& 31)) dX1_sourcesOf_14 (rfl) ?_
        refine r_iconst (v := nI 1) dX1_sourcesOf_15 (by decide) ?_
        refine r_iand (v := nI (bt x i).toNat) dX1_sourcesOf_16 (bt_bit _ (by omega)) ?_
        refine b_if_eq (tgt := 29) dX1_sourcesOf_17 (by decide) (fun c_17 => ?_) (fun c_17 => ?_)
        · refine r_iinc (v := nI (i + 1)) (k := 3) (lv' := [(0, .ref (a 0)), (1, .int x), (2, .int acc), (3, .int (nI (i + 1)))]) dX1_sourcesOf_29 rfl (nI_1 _) (by decide) [1, 2, 3, 0] rfl ?_
          refine r_goto (tgt := 4) dX1_sourcesOf_32 (by decide) ?_
          exact ih_L4 (i + 1) _ (by omega) (by omega) (by rw [tgOf, if_neg (by simp [c_17]), hc])
        · refine r_iload_n dX1_sourcesOf_20 2 rfl ?_
          refine r_aload_n dX1_sourcesOf_21 0 rfl ?_
          refine r_getX 0 2 rfl (by decide) q37 rfl dX1_sourcesOf_22 ?_
          refine r_iload_n dX1_sourcesOf_25 3 rfl ?_
          refine r_iald (v := sr i) dX1_sourcesOf_26 2 rfl (by omega) (by decide) (rfl) ?_
          refine r_ior (v := acc ||| (sr i)) dX1_sourcesOf_27 (rfl) ?_
          refine r_istore_n (lv' := [(0, .ref (a 0)), (1, .int x), (2, .int (acc ||| (sr i))), (3, .int (nI i))]) dX1_sourcesOf_28 (by decide) [1, 2, 0, 3] rfl ?_
          refine r_iinc (v := nI (i + 1)) (k := 3) (lv' := [(0, .ref (a 0)), (1, .int x), (2, .int (acc ||| (sr i))), (3, .int (nI (i + 1)))]) dX1_sourcesOf_29 rfl (nI_1 _) (by decide) [1, 2, 3, 0] rfl ?_
          refine r_goto (tgt := 4) dX1_sourcesOf_32 (by decide) ?_
          exact ih_L4 (i + 1) _ (by omega) (by omega) (by rw [tgOf, if_pos c_17, hc])
  exact L4 (n + 1) 0 0 (by omega) (by omega) rfl
abbrev rX1_spreadWithin : Room := { frames := 1, cells := 0, slots := 0, locals := 23 }
set_option maxHeartbeats 4000000 in
set_option maxRecDepth 100000 in
/-- spreadWithin(x, wi) -/
theorem metX_spreadWithin (G : GG) (a : Nat → Nat) (n : Nat) (tg : Nat → Int32) (sr : Nat → Int32) (ld : Nat → Nat) (mb : Nat → Int32) (pl : Nat → Nat) (ln : Nat → Nat) (len : Nat) (nx : Nat → Nat) (nl : Nat) (hs : Nat → Nat) (ps : Nat → Int32) (x wi : Int32) (hn : n ≤ 16) : KMi G yX1_spreadWithin cX1_spreadWithin 6 .int rX1_spreadWithin [.ref (a 0), .int x, .int wi] (XW G a n tg sr ld mb pl ln len nx nl hs ps) (XW G a n tg sr ld mb pl ln len nx nl hs ps) (spr tg n wi 16 x x) := by
  refine KMi.of (own := RX1) (by decide) rfl (Nat.le_of_ble_eq_true rfl) rfl ?_
  intro X hret
  show At G cX1_spreadWithin RX1 6 rX1_spreadWithin X 0 0 (XW G a n tg sr ld mb pl ln len nx nl hs ps) 0 [(0, .ref (a 0)), (1, .int x), (2, .int wi)] []
  refine r_iload_n dX1_spreadWithin_0 1 rfl ?_
  refine r_istore_n (lv' := [(0, .ref (a 0)), (1, .int x), (2, .int wi), (3, .int x)]) dX1_spreadWithin_1 (by decide) [1, 2, 3, 0] rfl ?_
  refine r_iload_n dX1_spreadWithin_2 1 rfl ?_
  refine r_istore (lv' := [(0, .ref (a 0)), (1, .int x), (2, .int wi), (3, .int x), (4, .int x)]) dX1_spreadWithin_3 (by decide) [1, 2, 3, 4, 0] rfl ?_
  refine r_iconst (v := nI 0) dX1_spreadWithin_5 (by decide) ?_
  refine r_istore (lv' := [(0, .ref (a 0)), (1, .int x), (2, .int wi), (3, .int x), (4, .int x), (5, .int (nI 0))]) dX1_spreadWithin_6 (by decide) [1, 2, 3, 4, 5, 0] rfl ?_
  have L8 : ∀ (fu_L8 : Nat) (k : Nat) (g : Nat) (met : Int32) (wave : Int32), g < fu_L8 → k + g = 16 → spr tg n wi g met wave = spr tg n wi 16 x x → At G cX1_spreadWithin RX1 6 rX1_spreadWithin X 0 0 (XW G a n tg sr ld mb pl ln len nx nl hs ps) 8 [(0, .ref (a 0)), (1, .int x), (2, .int wi), (3, .int met), (4, .int wave), (5, .int (nI k))] [] := by
    intro fu_L8
    induction fu_L8 with
    | zero => intro k g met wave hf hg hv; exfalso; omega
    | succ fu_L8 ih_L8 =>
      intro k g met wave hf hg hv
      refine r_iload dX1_spreadWithin_8 5 rfl ?_
      refine r_bipush (v := nI 16) dX1_spreadWithin_10 (by decide) ?_
      refine n_icmp_ge (tgt := 45) dX1_spreadWithin_12 (by decide) (by omega) (by omega) (fun c_12 => ?_) (fun c_12 => ?_)
      · refine r_iload_n dX1_spreadWithin_45 3 rfl ?_
        exact hret _ _ _ _ (by rw [← hv, show g = 0 by omega]; rfl) (rfl) dX1_spreadWithin_46
      · obtain ⟨g', rfl⟩ : ∃ g', g = g' + 1 := ⟨g - 1, by omega⟩
        rw [spr] at hv
        refine r_iload dX1_spreadWithin_15 4 rfl ?_
        refine r_if_eq (tgt := 45) dX1_spreadWithin_17 (by decide) (fun c_17 => ?_) (fun c_17 => ?_)
        · refine r_iload_n dX1_spreadWithin_45 3 rfl ?_
          exact hret _ _ _ _ (by rw [if_pos c_17] at hv; exact hv) (rfl) dX1_spreadWithin_46
        · refine r_aload_n dX1_spreadWithin_20 0 rfl ?_
          refine r_iload dX1_spreadWithin_21 4 rfl ?_
          refine r_calli (As := [.int wave]) (rest := []) (ci := 0) (metX_targetsOf G a n tg sr ld mb pl ln len nx nl hs ps wave hn) ⟨cgX_targetsOf, ⟨rfl, rfl⟩, cdX_targetsOf, Nat.le_of_ble_eq_true rfl, Nat.le_of_ble_eq_true rfl⟩ rfl rfl 0 rfl rfl rfl (Nat.le_of_ble_eq_true rfl) ⟨Nat.zero_le _, Nat.zero_le _⟩ dX1_spreadWithin_23 ?_
          refine r_iload_n dX1_spreadWithin_26 2 rfl ?_
          refine r_iand (v := (tgOf tg wave n) &&& wi) dX1_spreadWithin_27 (rfl) ?_
          refine r_iload_n dX1_spreadWithin_28 3 rfl ?_
          refine r_iconst (v := (-1)) dX1_spreadWithin_29 (by decide) ?_
          refine r_ixor (v := met ^^^ (-1)) dX1_spreadWithin_30 (rfl) ?_
          refine r_iand (v := ((tgOf tg wave n) &&& wi) &&& (met ^^^ (-1))) dX1_spreadWithin_31 (rfl) ?_
          refine r_istore (lv' := [(0, .ref (a 0)), (1, .int x), (2, .int wi), (3, .int met), (4, .int (((tgOf tg wave n) &&& wi) &&& (met ^^^ (-1)))), (5, .int (nI k))]) dX1_spreadWithin_32 (by decide) [1, 2, 3, 4, 0, 5] rfl ?_
          refine r_iload_n dX1_spreadWithin_34 3 rfl ?_
          refine r_iload dX1_spreadWithin_35 4 rfl ?_
          refine r_ior (v := met ||| (((tgOf tg wave n) &&& wi) &&& (met ^^^ (-1)))) dX1_spreadWithin_37 (rfl) ?_
          refine r_istore_n (lv' := [(0, .ref (a 0)), (1, .int x), (2, .int wi), (3, .int (met ||| (((tgOf tg wave n) &&& wi) &&& (met ^^^ (-1))))), (4, .int (((tgOf tg wave n) &&& wi) &&& (met ^^^ (-1)))), (5, .int (nI k))]) dX1_spreadWithin_38 (by decide) [1, 2, 3, 0, 4, 5] rfl ?_
          refine r_iinc (v := nI (k + 1)) (k := 5) (lv' := [(0, .ref (a 0)), (1, .int x), (2, .int wi), (3, .int (met ||| (((tgOf tg wave n) &&& wi) &&& (met ^^^ (-1))))), (4, .int (((tgOf tg wave n) &&& wi) &&& (met ^^^ (-1)))), (5, .int (nI (k + 1)))]) dX1_spreadWithin_39 rfl (nI_1 _) (by decide) [1, 2, 3, 4, 5, 0] rfl ?_
          refine r_goto (tgt := 8) dX1_spreadWithin_42 (by decide) ?_
          exact ih_L8 (k + 1) g' _ _ (by omega) (by omega) (by rw [if_neg c_17] at hv; exact hv)
  exact L8 17 0 16 x x (by omega) (by omega) rfl
abbrev rX1_gatherWithin : Room := { frames := 1, cells := 0, slots := 0, locals := 23 }
set_option maxHeartbeats 4000000 in
set_option maxRecDepth 100000 in
/-- gatherWithin(x, wi) -/
theorem metX_gatherWithin (G : GG) (a : Nat → Nat) (n : Nat) (tg : Nat → Int32) (sr : Nat → Int32) (ld : Nat → Nat) (mb : Nat → Int32) (pl : Nat → Nat) (ln : Nat → Nat) (len : Nat) (nx : Nat → Nat) (nl : Nat) (hs : Nat → Nat) (ps : Nat → Int32) (x wi : Int32) (hn : n ≤ 16) : KMi G yX1_gatherWithin cX1_gatherWithin 6 .int rX1_gatherWithin [.ref (a 0), .int x, .int wi] (XW G a n tg sr ld mb pl ln len nx nl hs ps) (XW G a n tg sr ld mb pl ln len nx nl hs ps) (spr sr n wi 16 x x) := by
  refine KMi.of (own := RX1) (by decide) rfl (Nat.le_of_ble_eq_true rfl) rfl ?_
  intro X hret
  show At G cX1_gatherWithin RX1 6 rX1_gatherWithin X 0 0 (XW G a n tg sr ld mb pl ln len nx nl hs ps) 0 [(0, .ref (a 0)), (1, .int x), (2, .int wi)] []
  refine r_iload_n dX1_gatherWithin_0 1 rfl ?_
  refine r_istore_n (lv' := [(0, .ref (a 0)), (1, .int x), (2, .int wi), (3, .int x)]) dX1_gatherWithin_1 (by decide) [1, 2, 3, 0] rfl ?_
  refine r_iload_n dX1_gatherWithin_2 1 rfl ?_
  refine r_istore (lv' := [(0, .ref (a 0)), (1, .int x), (2, .int wi), (3, .int x), (4, .int x)]) dX1_gatherWithin_3 (by decide) [1, 2, 3, 4, 0] rfl ?_
  refine r_iconst (v := nI 0) dX1_gatherWithin_5 (by decide) ?_
  refine r_istore (lv' := [(0, .ref (a 0)), (1, .int x), (2, .int wi), (3, .int x), (4, .int x), (5, .int (nI 0))]) dX1_gatherWithin_6 (by decide) [1, 2, 3, 4, 5, 0] rfl ?_
  have L8 : ∀ (fu_L8 : Nat) (k : Nat) (g : Nat) (met : Int32) (wave : Int32), g < fu_L8 → k + g = 16 → spr sr n wi g met wave = spr sr n wi 16 x x → At G cX1_gatherWithin RX1 6 rX1_gatherWithin X 0 0 (XW G a n tg sr ld mb pl ln len nx nl hs ps) 8 [(0, .ref (a 0)), (1, .int x), (2, .int wi), (3, .int met), (4, .int wave), (5, .int (nI k))] [] := by
    intro fu_L8
    induction fu_L8 with
    | zero => intro k g met wave hf hg hv; exfalso; omega
    | succ fu_L8 ih_L8 =>
      intro k g met wave hf hg hv
      refine r_iload dX1_gatherWithin_8 5 rfl ?_
      refine r_bipush (v := nI 16) dX1_gatherWithin_10 (by decide) ?_
      refine n_icmp_ge (tgt := 45) dX1_gatherWithin_12 (by decide) (by omega) (by omega) (fun c_12 => ?_) (fun c_12 => ?_)
      · refine r_iload_n dX1_gatherWithin_45 3 rfl ?_
        exact hret _ _ _ _ (by rw [← hv, show g = 0 by omega]; rfl) (rfl) dX1_gatherWithin_46
      · obtain ⟨g', rfl⟩ : ∃ g', g = g' + 1 := ⟨g - 1, by omega⟩
        rw [spr] at hv
        refine r_iload dX1_gatherWithin_15 4 rfl ?_
        refine r_if_eq (tgt := 45) dX1_gatherWithin_17 (by decide) (fun c_17 => ?_) (fun c_17 => ?_)
        · refine r_iload_n dX1_gatherWithin_45 3 rfl ?_
          exact hret _ _ _ _ (by rw [if_pos c_17] at hv; exact hv) (rfl) dX1_gatherWithin_46
        · refine r_aload_n dX1_gatherWithin_20 0 rfl ?_
          refine r_iload dX1_gatherWithin_21 4 rfl ?_
          refine r_calli (As := [.int wave]) (rest := []) (ci := 0) (metX_sourcesOf G a n tg sr ld mb pl ln len nx nl hs ps wave hn) ⟨cgX_sourcesOf, ⟨rfl, rfl⟩, cdX_sourcesOf, Nat.le_of_ble_eq_true rfl, Nat.le_of_ble_eq_true rfl⟩ rfl rfl 0 rfl rfl rfl (Nat.le_of_ble_eq_true rfl) ⟨Nat.zero_le _, Nat.zero_le _⟩ dX1_gatherWithin_23 ?_
          refine r_iload_n dX1_gatherWithin_26 2 rfl ?_
          refine r_iand (v := (tgOf sr wave n) &&& wi) dX1_gatherWithin_27 (rfl) ?_
          refine r_iload_n dX1_gatherWithin_28 3 rfl ?_
          refine r_iconst (v := (-1)) dX1_gatherWithin_29 (by decide) ?_
          refine r_ixor (v := met ^^^ (-1)) dX1_gatherWithin_30 (rfl) ?_
          refine r_iand (v := ((tgOf sr wave n) &&& wi) &&& (met ^^^ (-1))) dX1_gatherWithin_31 (rfl) ?_
          refine r_istore (lv' := [(0, .ref (a 0)), (1, .int x), (2, .int wi), (3, .int met), (4, .int (((tgOf sr wave n) &&& wi) &&& (met ^^^ (-1)))), (5, .int (nI k))]) dX1_gatherWithin_32 (by decide) [1, 2, 3, 4, 0, 5] rfl ?_
          refine r_iload_n dX1_gatherWithin_34 3 rfl ?_
          refine r_iload dX1_gatherWithin_35 4 rfl ?_
          refine r_ior (v := met ||| (((tgOf sr wave n) &&& wi) &&& (met ^^^ (-1)))) dX1_gatherWithin_37 (rfl) ?_
          refine r_istore_n (lv' := [(0, .ref (a 0)), (1, .int x), (2, .int wi), (3, .int (met ||| (((tgOf sr wave n) &&& wi) &&& (met ^^^ (-1))))), (4, .int (((tgOf sr wave n) &&& wi) &&& (met ^^^ (-1)))), (5, .int (nI k))]) dX1_gatherWithin_38 (by decide) [1, 2, 3, 0, 4, 5] rfl ?_
          refine r_iinc (v := nI (k + 1)) (k := 5) (lv' := [(0, .ref (a 0)), (1, .int x), (2, .int wi), (3, .int (met ||| (((tgOf sr wave n) &&& wi) &&& (met ^^^ (-1))))), (4, .int (((tgOf sr wave n) &&& wi) &&& (met ^^^ (-1)))), (5, .int (nI (k + 1)))]) dX1_gatherWithin_39 rfl (nI_1 _) (by decide) [1, 2, 3, 4, 5, 0] rfl ?_
          refine r_goto (tgt := 8) dX1_gatherWithin_42 (by decide) ?_
          exact ih_L8 (k + 1) g' _ _ (by omega) (by omega) (by rw [if_neg c_17] at hv; exact hv)
  exact L8 17 0 16 x x (by omega) (by omega) rfl
abbrev rX1_leadersOf : Room := { frames := 0, cells := 0, slots := 0, locals := 0 }
set_option maxHeartbeats 4000000 in
set_option maxRecDepth 100000 in
/-- leadersOf(x) -/
theorem metX_leadersOf (G : GG) (a : Nat → Nat) (n : Nat) (tg : Nat → Int32) (sr : Nat → Int32) (ld : Nat → Nat) (mb : Nat → Int32) (pl : Nat → Nat) (ln : Nat → Nat) (len : Nat) (nx : Nat → Nat) (nl : Nat) (hs : Nat → Nat) (ps : Nat → Int32) (x : Int32) (hn : n ≤ 16) : KMi G yX1_leadersOf cX1_leadersOf 4 .int rX1_leadersOf [.ref (a 0), .int x] (XW G a n tg sr ld mb pl ln len nx nl hs ps) (XW G a n tg sr ld mb pl ln len nx nl hs ps) (ldsOf ld x n) := by
  refine KMi.of (own := RX1) (by decide) rfl (Nat.le_of_ble_eq_true rfl) rfl ?_
  intro X hret
  show At G cX1_leadersOf RX1 4 rX1_leadersOf X 0 0 (XW G a n tg sr ld mb pl ln len nx nl hs ps) 0 [(0, .ref (a 0)), (1, .int x)] []
  refine r_iconst (v := nI 0) dX1_leadersOf_0 (by decide) ?_
  refine r_istore_n (lv' := [(0, .ref (a 0)), (1, .int x), (2, .int (nI 0))]) dX1_leadersOf_1 (by decide) [1, 2, 0] rfl ?_
  refine r_iconst (v := nI 0) dX1_leadersOf_2 (by decide) ?_
  refine r_istore_n (lv' := [(0, .ref (a 0)), (1, .int x), (2, .int (nI 0)), (3, .int (nI 0))]) dX1_leadersOf_3 (by decide) [1, 2, 3, 0] rfl ?_
  have L4 : ∀ (fu_L4 : Nat) (i : Nat) (acc : Int32), n < i + fu_L4 → i ≤ n → acc = ldsOf ld x i → At G cX1_leadersOf RX1 4 rX1_leadersOf X 0 0 (XW G a n tg sr ld mb pl ln len nx nl hs ps) 4 [(0, .ref (a 0)), (1, .int x), (2, .int acc), (3, .int (nI i))] [] := by
    intro fu_L4
    induction fu_L4 with
    | zero => intro i acc hf hi hc; exfalso; omega
    | succ fu_L4 ih_L4 =>
      intro i acc hf hi hc
      refine r_iload_n dX1_leadersOf_4 3 rfl ?_
      refine r_aload_n dX1_leadersOf_5 0 rfl ?_
      refine r_getX 0 0 rfl (by decide) q35 rfl dX1_leadersOf_6 ?_
      refine n_icmp_ge (tgt := 37) dX1_leadersOf_9 (by decide) (by omega) (by omega) (fun c_9 => ?_) (fun c_9 => ?_)
      · refine r_iload_n dX1_leadersOf_37 2 rfl ?_
        exact hret _ _ _ _ (by rw [hc, show i = n by omega]) (rfl) dX1_leadersOf_38
      · refine r_iload_n dX1_leadersOf_12 1 rfl ?_
        refine r_iload_n dX1_leadersOf_13 3 rfl ?_
        refine r_ishr (v := x >>> (nI i &&& 31)) dX1_leadersOf_14 (rfl) ?_
        refine r_iconst (v := nI 1) dX1_leadersOf_15 (by decide) ?_
        refine r_iand (v := nI (bt x i).toNat) dX1_leadersOf_16 (bt_bit _ (by omega)) ?_
        refine b_if_eq (tgt := 31) dX1_leadersOf_17 (by decide) (fun c_17 => ?_) (fun c_17 => ?_)
        · refine r_iinc (v := nI (i + 1)) (k := 3) (lv' := [(0, .ref (a 0)), (1, .int x), (2, .int acc), (3, .int (nI (i + 1)))]) dX1_leadersOf_31 rfl (nI_1 _) (by decide) [1, 2, 3, 0] rfl ?_
          refine r_goto (tgt := 4) dX1_leadersOf_34 (by decide) ?_
          exact ih_L4 (i + 1) _ (by omega) (by omega) (by rw [ldsOf, if_neg (by simp [c_17]), hc])
        · refine r_iload_n dX1_leadersOf_20 2 rfl ?_
          refine r_iconst (v := nI 1) dX1_leadersOf_21 (by decide) ?_
          refine r_aload_n dX1_leadersOf_22 0 rfl ?_
          refine r_getX 0 3 rfl (by decide) q38 rfl dX1_leadersOf_23 ?_
          refine r_iload_n dX1_leadersOf_26 3 rfl ?_
          refine r_bald (v := nI (ld i)) dX1_leadersOf_27 3 rfl (by omega) (by decide) (rfl) ?_
          refine r_ishl (v := sg (ld i)) dX1_leadersOf_28 (rfl) ?_
          refine r_ior (v := acc ||| (sg (ld i))) dX1_leadersOf_29 (rfl) ?_
          refine r_istore_n (lv' := [(0, .ref (a 0)), (1, .int x), (2, .int (acc ||| (sg (ld i)))), (3, .int (nI i))]) dX1_leadersOf_30 (by decide) [1, 2, 0, 3] rfl ?_
          refine r_iinc (v := nI (i + 1)) (k := 3) (lv' := [(0, .ref (a 0)), (1, .int x), (2, .int (acc ||| (sg (ld i)))), (3, .int (nI (i + 1)))]) dX1_leadersOf_31 rfl (nI_1 _) (by decide) [1, 2, 3, 0] rfl ?_
          refine r_goto (tgt := 4) dX1_leadersOf_34 (by decide) ?_
          exact ih_L4 (i + 1) _ (by omega) (by omega) (by rw [ldsOf, if_pos c_17, hc])
  exact L4 (n + 1) 0 0 (by omega) (by omega) rfl
abbrev rX1_forwardUpTo : Room := { frames := 1, cells := 0, slots := 0, locals := 23 }
set_option maxHeartbeats 4000000 in
set_option maxRecDepth 100000 in
/-- forwardUpTo(fr, la) -/
theorem metX_forwardUpTo (G : GG) (a : Nat → Nat) (n : Nat) (tg : Nat → Int32) (sr : Nat → Int32) (ld : Nat → Nat) (mb : Nat → Int32) (pl : Nat → Nat) (ln : Nat → Nat) (len : Nat) (nx : Nat → Nat) (nl : Nat) (hs : Nat → Nat) (ps : Nat → Int32) (fr la : Nat) (hn : n ≤ 16) (hfr : fr < 16) (hla : la < 16) (hp : pl fr < 16) (hle : pl fr ≤ la + 1) (hln : ∀ i, i ≤ la → ln i < 16) : KMi G yX1_forwardUpTo cX1_forwardUpTo 6 .int rX1_forwardUpTo [.ref (a 0), .int (nI fr), .int (nI la)] (XW G a n tg sr ld mb pl ln len nx nl hs ps) (XW G a n tg sr ld mb pl ln len nx nl hs ps) (fwd tg n ld mb ln (la + 1 - pl fr) (pl fr) (sg fr)) := by
  refine KMi.of (own := RX1) (by decide) rfl (Nat.le_of_ble_eq_true rfl) rfl ?_
  intro X hret
  show At G cX1_forwardUpTo RX1 6 rX1_forwardUpTo X 0 0 (XW G a n tg sr ld mb pl ln len nx nl hs ps) 0 [(0, .ref (a 0)), (1, .int (nI fr)), (2, .int (nI la))] []
  refine r_iconst (v := nI 1) dX1_forwardUpTo_0 (by decide) ?_
  refine r_iload_n dX1_forwardUpTo_1 1 rfl ?_
  refine r_ishl (v := sg fr) dX1_forwardUpTo_2 (rfl) ?_
  refine r_istore_n (lv' := [(0, .ref (a 0)), (1, .int (nI fr)), (2, .int (nI la)), (3, .int (sg fr))]) dX1_forwardUpTo_3 (by decide) [1, 2, 3, 0] rfl ?_
  refine r_aload_n dX1_forwardUpTo_4 0 rfl ?_
  refine r_getX 0 5 rfl (by decide) q40 rfl dX1_forwardUpTo_5 ?_
  refine r_iload_n dX1_forwardUpTo_8 1 rfl ?_
  refine r_bald (v := nI (pl fr)) dX1_forwardUpTo_9 5 rfl (by omega) (by decide) (rfl) ?_
  refine r_istore (lv' := [(0, .ref (a 0)), (1, .int (nI fr)), (2, .int (nI la)), (3, .int (sg fr)), (4, .int (nI (pl fr)))]) dX1_forwardUpTo_10 (by decide) [1, 2, 3, 4, 0] rfl ?_
  have L12 : ∀ (fu_L12 : Nat) (i : Nat) (g : Nat) (met : Int32), g < fu_L12 → i + g = la + 1 → fwd tg n ld mb ln g i met = fwd tg n ld mb ln (la + 1 - pl fr) (pl fr) (sg fr) → At G cX1_forwardUpTo RX1 6 rX1_forwardUpTo X 0 0 (XW G a n tg sr ld mb pl ln len nx nl hs ps) 12 [(0, .ref (a 0)), (1, .int (nI fr)), (2, .int (nI la)), (3, .int met), (4, .int (nI i))] [] := by
    intro fu_L12
    induction fu_L12 with
    | zero => intro i g met hf hg hv; exfalso; omega
    | succ fu_L12 ih_L12 =>
      intro i g met hf hg hv
      refine r_iload dX1_forwardUpTo_12 4 rfl ?_
      refine r_iload_n dX1_forwardUpTo_14 2 rfl ?_
      refine n_icmp_gt (tgt := 60) dX1_forwardUpTo_15 (by decide) (by omega) (by omega) (fun c_15 => ?_) (fun c_15 => ?_)
      · refine r_iload_n dX1_forwardUpTo_60 3 rfl ?_
        exact hret _ _ _ _ (by rw [← hv, show g = 0 by omega]; rfl) (rfl) dX1_forwardUpTo_61
      · obtain ⟨g', rfl⟩ : ∃ g', g = g' + 1 := ⟨g - 1, by omega⟩
        rw [fwd] at hv
        have h1 := hln i (by omega)
        refine r_aload_n dX1_forwardUpTo_18 0 rfl ?_
        refine r_getX 0 6 rfl (by decide) q41 rfl dX1_forwardUpTo_19 ?_
        refine r_iload dX1_forwardUpTo_22 4 rfl ?_
        refine r_bald (v := nI (ln i)) dX1_forwardUpTo_24 6 rfl (by omega) (by decide) (rfl) ?_
        refine r_istore (lv' := [(0, .ref (a 0)), (1, .int (nI fr)), (2, .int (nI la)), (3, .int met), (4, .int (nI i)), (5, .int (nI (ln i)))]) dX1_forwardUpTo_25 (by decide) [1, 2, 3, 4, 5, 0] rfl ?_
        refine r_iload_n dX1_forwardUpTo_27 3 rfl ?_
        refine r_iload dX1_forwardUpTo_28 5 rfl ?_
        refine r_ishr (v := met >>> (nI (ln i) &&& 31)) dX1_forwardUpTo_30 (rfl) ?_
        refine r_iconst (v := nI 1) dX1_forwardUpTo_31 (by decide) ?_
        refine r_iand (v := nI (bt met (ln i)).toNat) dX1_forwardUpTo_32 (bt_bit _ (by omega)) ?_
        refine b_if_eq (tgt := 54) dX1_forwardUpTo_33 (by decide) (fun c_33 => ?_) (fun c_33 => ?_)
        · refine r_iinc (v := nI (i + 1)) (k := 4) (lv' := [(0, .ref (a 0)), (1, .int (nI fr)), (2, .int (nI la)), (3, .int met), (4, .int (nI (i + 1))), (5, .int (nI (ln i)))]) dX1_forwardUpTo_54 rfl (nI_1 _) (by decide) [1, 2, 3, 4, 0, 5] rfl ?_
          refine r_goto (tgt := 12) dX1_forwardUpTo_57 (by decide) ?_
          refine At.sub [0, 1, 2, 3, 4] rfl ?_
          exact ih_L12 (i + 1) g' _ (by omega) (by omega) (by rw [fwS, if_neg (by simp [c_33])] at hv; exact hv)
        · refine r_iload_n dX1_forwardUpTo_36 3 rfl ?_
          refine r_aload_n dX1_forwardUpTo_37 0 rfl ?_
          refine r_aload_n dX1_forwardUpTo_38 0 rfl ?_
          refine r_aload_n dX1_forwardUpTo_39 0 rfl ?_
          refine r_getX 0 4 rfl (by decide) q39 rfl dX1_forwardUpTo_40 ?_
          refine r_iload dX1_forwardUpTo_43 5 rfl ?_
          refine r_iald (v := mb (ln i)) dX1_forwardUpTo_45 4 rfl (by omega) (by decide) (rfl) ?_
          refine r_calli (As := [.int (mb (ln i))]) (rest := [.ref (a 0), .int met]) (ci := 0) (metX_targetsOf G a n tg sr ld mb pl ln len nx nl hs ps (mb (ln i)) hn) ⟨cgX_targetsOf, ⟨rfl, rfl⟩, cdX_targetsOf, Nat.le_of_ble_eq_true rfl, Nat.le_of_ble_eq_true rfl⟩ rfl rfl 0 rfl rfl rfl (Nat.le_of_ble_eq_true rfl) ⟨Nat.zero_le _, Nat.zero_le _⟩ dX1_forwardUpTo_46 ?_
          refine r_calli (As := [.int (tgOf tg (mb (ln i)) n)]) (rest := [.int met]) (ci := 0) (metX_leadersOf G a n tg sr ld mb pl ln len nx nl hs ps (tgOf tg (mb (ln i)) n) hn) ⟨cgX_leadersOf, ⟨rfl, rfl⟩, cdX_leadersOf, Nat.le_of_ble_eq_true rfl, Nat.le_of_ble_eq_true rfl⟩ rfl rfl 0 rfl rfl rfl (Nat.le_of_ble_eq_true rfl) ⟨Nat.zero_le _, Nat.zero_le _⟩ dX1_forwardUpTo_49 ?_
          refine r_ior (v := met ||| (ldsOf ld (tgOf tg (mb (ln i)) n) n)) dX1_forwardUpTo_52 (rfl) ?_
          refine r_istore_n (lv' := [(0, .ref (a 0)), (1, .int (nI fr)), (2, .int (nI la)), (3, .int (met ||| (ldsOf ld (tgOf tg (mb (ln i)) n) n))), (4, .int (nI i)), (5, .int (nI (ln i)))]) dX1_forwardUpTo_53 (by decide) [1, 2, 3, 0, 4, 5] rfl ?_
          refine r_iinc (v := nI (i + 1)) (k := 4) (lv' := [(0, .ref (a 0)), (1, .int (nI fr)), (2, .int (nI la)), (3, .int (met ||| (ldsOf ld (tgOf tg (mb (ln i)) n) n))), (4, .int (nI (i + 1))), (5, .int (nI (ln i)))]) dX1_forwardUpTo_54 rfl (nI_1 _) (by decide) [1, 2, 3, 4, 0, 5] rfl ?_
          refine r_goto (tgt := 12) dX1_forwardUpTo_57 (by decide) ?_
          refine At.sub [0, 1, 2, 3, 4] rfl ?_
          exact ih_L12 (i + 1) g' _ (by omega) (by omega) (by rw [fwS, if_pos c_33] at hv; exact hv)
  exact L12 (la + 2) (pl fr) (la + 1 - pl fr) (sg fr) (by omega) (by omega) rfl
abbrev rX1_backwardDownTo : Room := { frames := 1, cells := 0, slots := 0, locals := 23 }
set_option maxHeartbeats 4000000 in
set_option maxRecDepth 100000 in
/-- backwardDownTo(to, fi) -/
theorem metX_backwardDownTo (G : GG) (a : Nat → Nat) (n : Nat) (tg : Nat → Int32) (sr : Nat → Int32) (ld : Nat → Nat) (mb : Nat → Int32) (pl : Nat → Nat) (ln : Nat → Nat) (len : Nat) (nx : Nat → Nat) (nl : Nat) (hs : Nat → Nat) (ps : Nat → Int32) (to fi : Nat) (hn : n ≤ 16) (hto : to < 16) (hp : pl to < 16) (hle : fi ≤ pl to + 1) (hln : ∀ i, i ≤ pl to → ln i < 16) : KMi G yX1_backwardDownTo cX1_backwardDownTo 6 .int rX1_backwardDownTo [.ref (a 0), .int (nI to), .int (nI fi)] (XW G a n tg sr ld mb pl ln len nx nl hs ps) (XW G a n tg sr ld mb pl ln len nx nl hs ps) (bwd sr n ld mb ln (pl to + 1 - fi) (pl to + 1) (sg to)) := by
  refine KMi.of (own := RX1) (by decide) rfl (Nat.le_of_ble_eq_true rfl) rfl ?_
  intro X hret
  show At G cX1_backwardDownTo RX1 6 rX1_backwardDownTo X 0 0 (XW G a n tg sr ld mb pl ln len nx nl hs ps) 0 [(0, .ref (a 0)), (1, .int (nI to)), (2, .int (nI fi))] []
  refine r_iconst (v := nI 1) dX1_backwardDownTo_0 (by decide) ?_
  refine r_iload_n dX1_backwardDownTo_1 1 rfl ?_
  refine r_ishl (v := sg to) dX1_backwardDownTo_2 (rfl) ?_
  refine r_istore_n (lv' := [(0, .ref (a 0)), (1, .int (nI to)), (2, .int (nI fi)), (3, .int (sg to))]) dX1_backwardDownTo_3 (by decide) [1, 2, 3, 0] rfl ?_
  refine r_aload_n dX1_backwardDownTo_4 0 rfl ?_
  refine r_getX 0 5 rfl (by decide) q40 rfl dX1_backwardDownTo_5 ?_
  refine r_iload_n dX1_backwardDownTo_8 1 rfl ?_
  refine r_bald (v := nI (pl to)) dX1_backwardDownTo_9 5 rfl (by omega) (by decide) (rfl) ?_
  refine r_istore (lv' := [(0, .ref (a 0)), (1, .int (nI to)), (2, .int (nI fi)), (3, .int (sg to)), (4, .int (nI (pl to)))]) dX1_backwardDownTo_10 (by decide) [1, 2, 3, 4, 0] rfl ?_
  have L12 : ∀ (fu_L12 : Nat) (i : Nat) (g : Nat) (met : Int32), g < fu_L12 → i + 1 = fi + g → i ≤ pl to → bwd sr n ld mb ln g (i + 1) met = bwd sr n ld mb ln (pl to + 1 - fi) (pl to + 1) (sg to) → At G cX1_backwardDownTo RX1 6 rX1_backwardDownTo X 0 0 (XW G a n tg sr ld mb pl ln len nx nl hs ps) 12 [(0, .ref (a 0)), (1, .int (nI to)), (2, .int (nI fi)), (3, .int met), (4, .int (nI i))] [] := by
    intro fu_L12
    induction fu_L12 with
    | zero => intro i g met hf hg hi hv; exfalso; omega
    | succ fu_L12 ih_L12 =>
      intro i g met hf hg hi hv
      refine r_iload dX1_backwardDownTo_12 4 rfl ?_
      refine r_iload_n dX1_backwardDownTo_14 2 rfl ?_
      refine n_icmp_lt (tgt := 60) dX1_backwardDownTo_15 (by decide) (by omega) (by omega) (fun c_15 => ?_) (fun c_15 => ?_)
      · refine r_iload_n dX1_backwardDownTo_60 3 rfl ?_
        exact hret _ _ _ _ (by rw [← hv, show g = 0 by omega]; rfl) (rfl) dX1_backwardDownTo_61
      · obtain ⟨g', rfl⟩ : ∃ g', g = g' + 1 := ⟨g - 1, by omega⟩
        rw [bwd, Nat.add_sub_cancel] at hv
        have h1 := hln i hi
        refine r_aload_n dX1_backwardDownTo_18 0 rfl ?_
        refine r_getX 0 6 rfl (by decide) q41 rfl dX1_backwardDownTo_19 ?_
        refine r_iload dX1_backwardDownTo_22 4 rfl ?_
        refine r_bald (v := nI (ln i)) dX1_backwardDownTo_24 6 rfl (by omega) (by decide) (rfl) ?_
        refine r_istore (lv' := [(0, .ref (a 0)), (1, .int (nI to)), (2, .int (nI fi)), (3, .int met), (4, .int (nI i)), (5, .int (nI (ln i)))]) dX1_backwardDownTo_25 (by decide) [1, 2, 3, 4, 5, 0] rfl ?_
        refine r_iload_n dX1_backwardDownTo_27 3 rfl ?_
        refine r_iload dX1_backwardDownTo_28 5 rfl ?_
        refine r_ishr (v := met >>> (nI (ln i) &&& 31)) dX1_backwardDownTo_30 (rfl) ?_
        refine r_iconst (v := nI 1) dX1_backwardDownTo_31 (by decide) ?_
        refine r_iand (v := nI (bt met (ln i)).toNat) dX1_backwardDownTo_32 (bt_bit _ (by omega)) ?_
        refine b_if_eq (tgt := 54) dX1_backwardDownTo_33 (by decide) (fun c_33 => ?_) (fun c_33 => ?_)
        · rcases Nat.eq_zero_or_pos i with hz | hz
          · subst hz
            refine r_iinc (v := (-1)) (k := 4) (lv' := [(0, .ref (a 0)), (1, .int (nI to)), (2, .int (nI fi)), (3, .int met), (4, .int (-1)), (5, .int (nI (ln 0)))]) dX1_backwardDownTo_54 rfl (by decide) (by decide) [1, 2, 3, 4, 0, 5] rfl ?_
            refine r_goto (tgt := 12) dX1_backwardDownTo_57 (by decide) ?_
            refine At.sub [0, 1, 2, 3, 4] rfl ?_
            refine r_iload dX1_backwardDownTo_12 4 rfl ?_
            refine r_iload_n dX1_backwardDownTo_14 2 rfl ?_
            refine r_icmp_lt (tgt := 60) dX1_backwardDownTo_15 (by decide) (fun _ => ?_) (fun q => absurd (neg1_lt (by omega)) q)
            refine r_iload_n dX1_backwardDownTo_60 3 rfl ?_
            refine hret _ _ _ _ ?_ rfl dX1_backwardDownTo_61
            rw [fwS, if_neg (by simp [c_33])] at hv
            rw [← hv, show g' = 0 by omega]; rfl
          · obtain ⟨k, rfl⟩ : ∃ k, i = k + 1 := ⟨i - 1, by omega⟩
            refine r_iinc (v := nI k) (k := 4) (lv' := [(0, .ref (a 0)), (1, .int (nI to)), (2, .int (nI fi)), (3, .int met), (4, .int (nI k)), (5, .int (nI (ln (k + 1))))]) dX1_backwardDownTo_54 rfl (pk_m1 _) (by decide) [1, 2, 3, 4, 0, 5] rfl ?_
            refine r_goto (tgt := 12) dX1_backwardDownTo_57 (by decide) ?_
            refine At.sub [0, 1, 2, 3, 4] rfl ?_
            exact ih_L12 k g' _ (by omega) (by omega) (by omega) (by rw [fwS, if_neg (by simp [c_33])] at hv; exact hv)
        · refine r_iload_n dX1_backwardDownTo_36 3 rfl ?_
          refine r_aload_n dX1_backwardDownTo_37 0 rfl ?_
          refine r_aload_n dX1_backwardDownTo_38 0 rfl ?_
          refine r_aload_n dX1_backwardDownTo_39 0 rfl ?_
          refine r_getX 0 4 rfl (by decide) q39 rfl dX1_backwardDownTo_40 ?_
          refine r_iload dX1_backwardDownTo_43 5 rfl ?_
          refine r_iald (v := mb (ln i)) dX1_backwardDownTo_45 4 rfl (by omega) (by decide) (rfl) ?_
          refine r_calli (As := [.int (mb (ln i))]) (rest := [.ref (a 0), .int met]) (ci := 0) (metX_sourcesOf G a n tg sr ld mb pl ln len nx nl hs ps (mb (ln i)) hn) ⟨cgX_sourcesOf, ⟨rfl, rfl⟩, cdX_sourcesOf, Nat.le_of_ble_eq_true rfl, Nat.le_of_ble_eq_true rfl⟩ rfl rfl 0 rfl rfl rfl (Nat.le_of_ble_eq_true rfl) ⟨Nat.zero_le _, Nat.zero_le _⟩ dX1_backwardDownTo_46 ?_
          refine r_calli (As := [.int (tgOf sr (mb (ln i)) n)]) (rest := [.int met]) (ci := 0) (metX_leadersOf G a n tg sr ld mb pl ln len nx nl hs ps (tgOf sr (mb (ln i)) n) hn) ⟨cgX_leadersOf, ⟨rfl, rfl⟩, cdX_leadersOf, Nat.le_of_ble_eq_true rfl, Nat.le_of_ble_eq_true rfl⟩ rfl rfl 0 rfl rfl rfl (Nat.le_of_ble_eq_true rfl) ⟨Nat.zero_le _, Nat.zero_le _⟩ dX1_backwardDownTo_49 ?_
          refine r_ior (v := met ||| (ldsOf ld (tgOf sr (mb (ln i)) n) n)) dX1_backwardDownTo_52 (rfl) ?_
          refine r_istore_n (lv' := [(0, .ref (a 0)), (1, .int (nI to)), (2, .int (nI fi)), (3, .int (met ||| (ldsOf ld (tgOf sr (mb (ln i)) n) n))), (4, .int (nI i)), (5, .int (nI (ln i)))]) dX1_backwardDownTo_53 (by decide) [1, 2, 3, 0, 4, 5] rfl ?_
          rcases Nat.eq_zero_or_pos i with hz | hz
          · subst hz
            refine r_iinc (v := (-1)) (k := 4) (lv' := [(0, .ref (a 0)), (1, .int (nI to)), (2, .int (nI fi)), (3, .int (met ||| (ldsOf ld (tgOf sr (mb (ln 0)) n) n))), (4, .int (-1)), (5, .int (nI (ln 0)))]) dX1_backwardDownTo_54 rfl (by decide) (by decide) [1, 2, 3, 4, 0, 5] rfl ?_
            refine r_goto (tgt := 12) dX1_backwardDownTo_57 (by decide) ?_
            refine At.sub [0, 1, 2, 3, 4] rfl ?_
            refine r_iload dX1_backwardDownTo_12 4 rfl ?_
            refine r_iload_n dX1_backwardDownTo_14 2 rfl ?_
            refine r_icmp_lt (tgt := 60) dX1_backwardDownTo_15 (by decide) (fun _ => ?_) (fun q => absurd (neg1_lt (by omega)) q)
            refine r_iload_n dX1_backwardDownTo_60 3 rfl ?_
            refine hret _ _ _ _ ?_ rfl dX1_backwardDownTo_61
            rw [fwS, if_pos c_33] at hv
            rw [← hv, show g' = 0 by omega]; rfl
          · obtain ⟨k, rfl⟩ : ∃ k, i = k + 1 := ⟨i - 1, by omega⟩
            refine r_iinc (v := nI k) (k := 4) (lv' := [(0, .ref (a 0)), (1, .int (nI to)), (2, .int (nI fi)), (3, .int (met ||| (ldsOf ld (tgOf sr (mb (ln (k + 1))) n) n))), (4, .int (nI k)), (5, .int (nI (ln (k + 1))))]) dX1_backwardDownTo_54 rfl (pk_m1 _) (by decide) [1, 2, 3, 4, 0, 5] rfl ?_
            refine r_goto (tgt := 12) dX1_backwardDownTo_57 (by decide) ?_
            refine At.sub [0, 1, 2, 3, 4] rfl ?_
            exact ih_L12 k g' _ (by omega) (by omega) (by omega) (by rw [fwS, if_pos c_33] at hv; exact hv)
  exact L12 (pl to + 2) (pl to) (pl to + 1 - fi) (sg to) (by omega) (by omega) (by omega) rfl
abbrev rX1_leadersBetween : Room := { frames := 0, cells := 0, slots := 0, locals := 0 }
set_option maxHeartbeats 4000000 in
set_option maxRecDepth 100000 in
/-- leadersBetween(lo, hi) -/
theorem metX_leadersBetween (G : GG) (a : Nat → Nat) (n : Nat) (tg : Nat → Int32) (sr : Nat → Int32) (ld : Nat → Nat) (mb : Nat → Int32) (pl : Nat → Nat) (ln : Nat → Nat) (len : Nat) (nx : Nat → Nat) (nl : Nat) (hs : Nat → Nat) (ps : Nat → Int32) (lo hi : Nat) (hle : lo ≤ hi + 1) (hhi : hi < 16) : KMi G yX1_leadersBetween cX1_leadersBetween 5 .int rX1_leadersBetween [.ref (a 0), .int (nI lo), .int (nI hi)] (XW G a n tg sr ld mb pl ln len nx nl hs ps) (XW G a n tg sr ld mb pl ln len nx nl hs ps) (lbt ln (hi + 1 - lo) lo 0) := by
  refine KMi.of (own := RX1) (by decide) rfl (Nat.le_of_ble_eq_true rfl) rfl ?_
  intro X hret
  show At G cX1_leadersBetween RX1 5 rX1_leadersBetween X 0 0 (XW G a n tg sr ld mb pl ln len nx nl hs ps) 0 [(0, .ref (a 0)), (1, .int (nI lo)), (2, .int (nI hi))] []
  refine r_iconst (v := nI 0) dX1_leadersBetween_0 (by decide) ?_
  refine r_istore_n (lv' := [(0, .ref (a 0)), (1, .int (nI lo)), (2, .int (nI hi)), (3, .int (nI 0))]) dX1_leadersBetween_1 (by decide) [1, 2, 3, 0] rfl ?_
  refine r_iload_n dX1_leadersBetween_2 1 rfl ?_
  refine r_istore (lv' := [(0, .ref (a 0)), (1, .int (nI lo)), (2, .int (nI hi)), (3, .int (nI 0)), (4, .int (nI lo))]) dX1_leadersBetween_3 (by decide) [1, 2, 3, 4, 0] rfl ?_
  have L5 : ∀ (fu_L5 : Nat) (i : Nat) (g : Nat) (acc : Int32), g < fu_L5 → i + g = hi + 1 → lbt ln g i acc = lbt ln (hi + 1 - lo) lo 0 → At G cX1_leadersBetween RX1 5 rX1_leadersBetween X 0 0 (XW G a n tg sr ld mb pl ln len nx nl hs ps) 5 [(0, .ref (a 0)), (1, .int (nI lo)), (2, .int (nI hi)), (3, .int acc), (4, .int (nI i))] [] := by
    intro fu_L5
    induction fu_L5 with
    | zero => intro i g acc hf hg hv; exfalso; omega
    | succ fu_L5 ih_L5 =>
      intro i g acc hf hg hv
      refine r_iload dX1_leadersBetween_5 4 rfl ?_
      refine r_iload_n dX1_leadersBetween_7 2 rfl ?_
      refine n_icmp_gt (tgt := 29) dX1_leadersBetween_8 (by decide) (by omega) (by omega) (fun c_8 => ?_) (fun c_8 => ?_)
      · refine r_iload_n dX1_leadersBetween_29 3 rfl ?_
        exact hret _ _ _ _ (by rw [← hv, show g = 0 by omega]; rfl) (rfl) dX1_leadersBetween_30
      · obtain ⟨g', rfl⟩ : ∃ g', g = g' + 1 := ⟨g - 1, by omega⟩
        rw [lbt] at hv
        refine r_iload_n dX1_leadersBetween_11 3 rfl ?_
        refine r_iconst (v := nI 1) dX1_leadersBetween_12 (by decide) ?_
        refine r_aload_n dX1_leadersBetween_13 0 rfl ?_
        refine r_getX 0 6 rfl (by decide) q41 rfl dX1_leadersBetween_14 ?_
        refine r_iload dX1_leadersBetween_17 4 rfl ?_
        refine r_bald (v := nI (ln i)) dX1_leadersBetween_19 6 rfl (by omega) (by decide) (rfl) ?_
        refine r_ishl (v := sg (ln i)) dX1_leadersBetween_20 (rfl) ?_
        refine r_ior (v := acc ||| (sg (ln i))) dX1_leadersBetween_21 (rfl) ?_
        refine r_istore_n (lv' := [(0, .ref (a 0)), (1, .int (nI lo)), (2, .int (nI hi)), (3, .int (acc ||| (sg (ln i)))), (4, .int (nI i))]) dX1_leadersBetween_22 (by decide) [1, 2, 3, 0, 4] rfl ?_
        refine r_iinc (v := nI (i + 1)) (k := 4) (lv' := [(0, .ref (a 0)), (1, .int (nI lo)), (2, .int (nI hi)), (3, .int (acc ||| (sg (ln i)))), (4, .int (nI (i + 1)))]) dX1_leadersBetween_23 rfl (nI_1 _) (by decide) [1, 2, 3, 4, 0] rfl ?_
        refine r_goto (tgt := 5) dX1_leadersBetween_26 (by decide) ?_
        exact ih_L5 (i + 1) g' _ (by omega) (by omega) hv
  exact L5 (hi + 2) lo (hi + 1 - lo) 0 (by omega) (by omega) rfl
end
section
abbrev rX1_append : Room := { frames := 0, cells := 0, slots := 0, locals := 0 }
set_option maxHeartbeats 4000000 in
set_option maxRecDepth 100000 in
/-- append(c) -/
theorem metX_append (G : GG) (a : Nat → Nat) (n : Nat) (tg : Nat → Int32) (sr : Nat → Int32) (ld : Nat → Nat) (mb : Nat → Int32) (pl : Nat → Nat) (ln : Nat → Nat) (len : Nat) (nx : Nat → Nat) (nl : Nat) (hs : Nat → Nat) (ps : Nat → Int32) (c : Nat) (hnl : nl < 16) (hc : c < 128) : KMv G yX1_append cX1_append 2 rX1_append [.ref (a 0), .int (nI c)] (XW G a n tg sr ld mb pl ln len nx nl hs ps) (XW G a n tg sr ld mb pl ln len (va_up nx nl c) (nl + 1) hs ps) := by
  refine KMv.of (own := RX1) (by decide) rfl (Nat.le_of_ble_eq_true rfl) ?_
  intro X hret
  show At G cX1_append RX1 2 rX1_append X 0 0 (XW G a n tg sr ld mb pl ln len nx nl hs ps) 0 [(0, .ref (a 0)), (1, .int (nI c))] []
  refine r_aload_n dX1_append_0 0 rfl ?_
  refine r_getX 0 8 rfl (by decide) q43 rfl dX1_append_1 ?_
  refine r_aload_n dX1_append_4 0 rfl ?_
  refine r_getX 0 9 rfl (by decide) q44 rfl dX1_append_5 ?_
  refine r_iload_n dX1_append_8 1 rfl ?_
  refine r_i2b (v := nI c) dX1_append_9 (nI_b8 _ (by omega)) ?_
  refine r_bast (f' := aN (va_up nx nl c)) (w' := XW G a n tg sr ld mb pl ln len (va_up nx nl c) nl hs ps) dX1_append_10 7 rfl (by omega) (by decide) (aN_updb _ _ (by omega)) rfl ?_
  refine r_aload_n dX1_append_11 0 rfl ?_
  refine r_dup dX1_append_12 rfl ?_
  refine r_getX 0 9 rfl (by decide) q44 rfl dX1_append_13 ?_
  refine r_iconst (v := nI 1) dX1_append_16 (by decide) ?_
  refine r_iadd (v := nI (nl + 1)) dX1_append_17 (nI_add _ _) ?_
  refine r_putX (ty := .int) (w' := XW G a n tg sr ld mb pl ln len (va_up nx nl c) (nl + 1) hs ps) 0 9 rfl (by decide) q44 rfl (by decide +kernel) rfl rfl (Nat.le_of_ble_eq_true rfl) rfl dX1_append_18 ?_
  exact hret _ _ _ (rfl) dX1_append_21
abbrev rX1_adoptLine : Room := { frames := 0, cells := 0, slots := 0, locals := 0 }
set_option maxHeartbeats 4000000 in
set_option maxRecDepth 100000 in
/-- adoptLine() -/
theorem metX_adoptLine (G : GG) (a : Nat → Nat) (n : Nat) (tg : Nat → Int32) (sr : Nat → Int32) (ld : Nat → Nat) (mb : Nat → Int32) (pl : Nat → Nat) (ln : Nat → Nat) (len : Nat) (nx : Nat → Nat) (nl : Nat) (hs : Nat → Nat) (ps : Nat → Int32) (hnl : nl ≤ 16) (hnx : ∀ i, i < nl → nx i < 16) : KMv G yX1_adoptLine cX1_adoptLine 2 rX1_adoptLine [.ref (a 0)] (XW G a n tg sr ld mb pl ln len nx nl hs ps) (XW G a n tg sr ld mb (adP nx pl nl) (adL nx ln nl) nl nx nl hs ps) := by
  refine KMv.of (own := RX1) (by decide) rfl (Nat.le_of_ble_eq_true rfl) ?_
  intro X hret
  show At G cX1_adoptLine RX1 2 rX1_adoptLine X 0 0 (XW G a n tg sr ld mb pl ln len nx nl hs ps) 0 [(0, .ref (a 0))] []
  refine r_aload_n dX1_adoptLine_0 0 rfl ?_
  refine r_aload_n dX1_adoptLine_1 0 rfl ?_
  refine r_getX 0 9 rfl (by decide) q44 rfl dX1_adoptLine_2 ?_
  refine r_putX (ty := .int) (w' := XW G a n tg sr ld mb pl ln nl nx nl hs ps) 0 7 rfl (by decide) q42 rfl (by decide +kernel) rfl rfl (Nat.le_of_ble_eq_true rfl) rfl dX1_adoptLine_5 ?_
  refine r_iconst (v := nI 0) dX1_adoptLine_8 (by decide) ?_
  refine r_istore_n (lv' := [(0, .ref (a 0)), (1, .int (nI 0))]) dX1_adoptLine_9 (by decide) [1, 0] rfl ?_
  have L10 : ∀ (fu_L10 : Nat) (i : Nat) (ln' : Nat → Nat) (pl' : Nat → Nat), nl < i + fu_L10 → i ≤ nl → ln' = adL nx ln i → pl' = adP nx pl i → At G cX1_adoptLine RX1 2 rX1_adoptLine X 0 0 (XW G a n tg sr ld mb pl' ln' nl nx nl hs ps) 10 [(0, .ref (a 0)), (1, .int (nI i))] [] := by
    intro fu_L10
    induction fu_L10 with
    | zero => intro i ln' pl' hf hi e1 e2; exfalso; omega
    | succ fu_L10 ih_L10 =>
      intro i ln' pl' hf hi e1 e2
      refine r_iload_n dX1_adoptLine_10 1 rfl ?_
      refine r_aload_n dX1_adoptLine_11 0 rfl ?_
      refine r_getX 0 7 rfl (by decide) q42 rfl dX1_adoptLine_12 ?_
      refine n_icmp_ge (tgt := 49) dX1_adoptLine_15 (by decide) (by omega) (by omega) (fun c_15 => ?_) (fun c_15 => ?_)
      · exact hret _ _ _ (by rw [e1, e2, show i = nl by omega]) dX1_adoptLine_49
      · have h1 := hnx i c_15
        refine r_aload_n dX1_adoptLine_18 0 rfl ?_
        refine r_getX 0 6 rfl (by decide) q41 rfl dX1_adoptLine_19 ?_
        refine r_iload_n dX1_adoptLine_22 1 rfl ?_
        refine r_aload_n dX1_adoptLine_23 0 rfl ?_
        refine r_getX 0 8 rfl (by decide) q43 rfl dX1_adoptLine_24 ?_
        refine r_iload_n dX1_adoptLine_27 1 rfl ?_
        refine r_bald (v := nI (nx i)) dX1_adoptLine_28 7 rfl (by omega) (by decide) (rfl) ?_
        refine r_bast (f' := aN (va_up ln' i (nx i))) (w' := XW G a n tg sr ld mb pl' (va_up ln' i (nx i)) nl nx nl hs ps) dX1_adoptLine_29 6 rfl (by omega) (by decide) (aN_updb _ _ (by omega)) rfl ?_
        refine r_aload_n dX1_adoptLine_30 0 rfl ?_
        refine r_getX 0 5 rfl (by decide) q40 rfl dX1_adoptLine_31 ?_
        refine r_aload_n dX1_adoptLine_34 0 rfl ?_
        refine r_getX 0 6 rfl (by decide) q41 rfl dX1_adoptLine_35 ?_
        refine r_iload_n dX1_adoptLine_38 1 rfl ?_
        refine r_bald (v := nI (nx i)) dX1_adoptLine_39 6 rfl (by omega) (by decide) (congrArg nI (va_up_self _ _ _)) ?_
        refine r_iload_n dX1_adoptLine_40 1 rfl ?_
        refine r_i2b (v := nI i) dX1_adoptLine_41 (nI_b8 _ (by omega)) ?_
        refine r_bast (f' := aN (va_up pl' (nx i) i)) (w' := XW G a n tg sr ld mb (va_up pl' (nx i) i) (va_up ln' i (nx i)) nl nx nl hs ps) dX1_adoptLine_42 5 rfl (by omega) (by decide) (aN_updb _ _ (by omega)) rfl ?_
        refine r_iinc (v := nI (i + 1)) (k := 1) (lv' := [(0, .ref (a 0)), (1, .int (nI (i + 1)))]) dX1_adoptLine_43 rfl (nI_1 _) (by decide) [1, 0] rfl ?_
        refine r_goto (tgt := 10) dX1_adoptLine_46 (by decide) ?_
        exact ih_L10 (i + 1) _ _ (by omega) (by omega) (by rw [e1]; rfl) (by rw [e2]; rfl)
  exact L10 (nl + 1) 0 ln pl (by omega) (by omega) rfl rfl
abbrev rX1_claim : Room := { frames := 1, cells := 0, slots := 0, locals := 22 }
set_option maxHeartbeats 4000000 in
set_option maxRecDepth 100000 in
/-- claim(x) -/
theorem metX_claim (G : GG) (a : Nat → Nat) (n : Nat) (tg : Nat → Int32) (sr : Nat → Int32) (ld : Nat → Nat) (mb : Nat → Int32) (pl : Nat → Nat) (ln : Nat → Nat) (len : Nat) (nx : Nat → Nat) (nl : Nat) (hs : Nat → Nat) (ps : Nat → Int32) (x : Int32) (hn : n ≤ 16) : KMi G yX1_claim cX1_claim 4 .int rX1_claim [.ref (a 0), .int x] (XW G a n tg sr ld mb pl ln len nx nl hs ps) (XW G a n tg sr (clm ld x (low x) n) (upd mb (low x) x) pl ln len nx nl hs ps) (nI (low x)) := by
  refine KMi.of (own := RX1) (by decide) rfl (Nat.le_of_ble_eq_true rfl) rfl ?_
  intro X hret
  have hlo := low_lt x
  show At G cX1_claim RX1 4 rX1_claim X 0 0 (XW G a n tg sr ld mb pl ln len nx nl hs ps) 0 [(0, .ref (a 0)), (1, .int x)] []
  refine r_aload_n dX1_claim_0 0 rfl ?_
  refine r_iload_n dX1_claim_1 1 rfl ?_
  refine r_calli (As := [.int x]) (rest := []) (ci := 0) (metX_lowest G a n tg sr ld mb pl ln len nx nl hs ps x) ⟨cgX_lowest, ⟨rfl, rfl⟩, cdX_lowest, Nat.le_of_ble_eq_true rfl, Nat.le_of_ble_eq_true rfl⟩ rfl rfl 0 rfl rfl rfl (Nat.le_of_ble_eq_true rfl) ⟨Nat.zero_le _, Nat.zero_le _⟩ dX1_claim_2 ?_
  refine r_istore_n (lv' := [(0, .ref (a 0)), (1, .int x), (2, .int (nI (low x)))]) dX1_claim_5 (by decide) [1, 2, 0] rfl ?_
  refine r_aload_n dX1_claim_6 0 rfl ?_
  refine r_getX 0 4 rfl (by decide) q39 rfl dX1_claim_7 ?_
  refine r_iload_n dX1_claim_10 2 rfl ?_
  refine r_iload_n dX1_claim_11 1 rfl ?_
  refine r_iast (f' := upd mb (low x) x) (w' := XW G a n tg sr ld (upd mb (low x) x) pl ln len nx nl hs ps) dX1_claim_12 4 rfl (by omega) (by decide) (rfl) rfl ?_
  refine r_iconst (v := nI 0) dX1_claim_13 (by decide) ?_
  refine r_istore_n (lv' := [(0, .ref (a 0)), (1, .int x), (2, .int (nI (low x))), (3, .int (nI 0))]) dX1_claim_14 (by decide) [1, 2, 3, 0] rfl ?_
  have L15 : ∀ (fu_L15 : Nat) (i : Nat) (ld' : Nat → Nat), n < i + fu_L15 → i ≤ n → ld' = clm ld x (low x) i → At G cX1_claim RX1 4 rX1_claim X 0 0 (XW G a n tg sr ld' (upd mb (low x) x) pl ln len nx nl hs ps) 15 [(0, .ref (a 0)), (1, .int x), (2, .int (nI (low x))), (3, .int (nI i))] [] := by
    intro fu_L15
    induction fu_L15 with
    | zero => intro i ld' hf hi e1; exfalso; omega
    | succ fu_L15 ih_L15 =>
      intro i ld' hf hi e1
      refine r_iload_n dX1_claim_15 3 rfl ?_
      refine r_aload_n dX1_claim_16 0 rfl ?_
      refine r_getX 0 0 rfl (by decide) q35 rfl dX1_claim_17 ?_
      refine n_icmp_ge (tgt := 45) dX1_claim_20 (by decide) (by omega) (by omega) (fun c_20 => ?_) (fun c_20 => ?_)
      · refine r_iload_n dX1_claim_45 2 rfl ?_
        exact hret _ _ _ _ (rfl) (by rw [e1, show i = n by omega]) dX1_claim_46
      · refine r_iload_n dX1_claim_23 1 rfl ?_
        refine r_iload_n dX1_claim_24 3 rfl ?_
        refine r_ishr (v := x >>> (nI i &&& 31)) dX1_claim_25 (rfl) ?_
        refine r_iconst (v := nI 1) dX1_claim_26 (by decide) ?_
        refine r_iand (v := nI (bt x i).toNat) dX1_claim_27 (bt_bit _ (by omega)) ?_
        refine b_if_eq (tgt := 39) dX1_claim_28 (by decide) (fun c_28 => ?_) (fun c_28 => ?_)
        · refine r_iinc (v := nI (i + 1)) (k := 3) (lv' := [(0, .ref (a 0)), (1, .int x), (2, .int (nI (low x))), (3, .int (nI (i + 1)))]) dX1_claim_39 rfl (nI_1 _) (by decide) [1, 2, 3, 0] rfl ?_
          refine r_goto (tgt := 15) dX1_claim_42 (by decide) ?_
          exact ih_L15 (i + 1) _ (by omega) (by omega) (by rw [clm, if_neg (by simp [c_28]), e1])
        · refine r_aload_n dX1_claim_31 0 rfl ?_
          refine r_getX 0 3 rfl (by decide) q38 rfl dX1_claim_32 ?_
          refine r_iload_n dX1_claim_35 3 rfl ?_
          refine r_iload_n dX1_claim_36 2 rfl ?_
          refine r_i2b (v := nI (low x)) dX1_claim_37 (nI_b8 _ (by omega)) ?_
          refine r_bast (f' := aN (va_up ld' i (low x))) (w' := XW G a n tg sr (va_up ld' i (low x)) (upd mb (low x) x) pl ln len nx nl hs ps) dX1_claim_38 3 rfl (by omega) (by decide) (aN_updb _ _ (by omega)) rfl ?_
          refine r_iinc (v := nI (i + 1)) (k := 3) (lv' := [(0, .ref (a 0)), (1, .int x), (2, .int (nI (low x))), (3, .int (nI (i + 1)))]) dX1_claim_39 rfl (nI_1 _) (by decide) [1, 2, 3, 0] rfl ?_
          refine r_goto (tgt := 15) dX1_claim_42 (by decide) ?_
          exact ih_L15 (i + 1) _ (by omega) (by omega) (by rw [clm, if_pos c_28, e1])
  exact L15 (n + 1) 0 ld (by omega) (by omega) rfl
abbrev rX1_melt : Room := { frames := 2, cells := 0, slots := 0, locals := 45 }
set_option maxHeartbeats 4000000 in
set_option maxRecDepth 100000 in
/-- melt(x) -/
theorem metX_melt (G : GG) (a : Nat → Nat) (n : Nat) (tg : Nat → Int32) (sr : Nat → Int32) (ld : Nat → Nat) (mb : Nat → Int32) (pl : Nat → Nat) (ln : Nat → Nat) (len : Nat) (nx : Nat → Nat) (nl : Nat) (hs : Nat → Nat) (ps : Nat → Int32) (x : Int32) (hn : n ≤ 16) : KMi G yX1_melt cX1_melt 4 .int rX1_melt [.ref (a 0), .int x] (XW G a n tg sr ld mb pl ln len nx nl hs ps) (XW G a n tg sr (clm ld (mlA mb x n) (low (mlA mb x n)) n) (upd (mlM mb x n) (low (mlA mb x n)) (mlA mb x n)) pl ln len nx nl hs ps) (nI (low (mlA mb x n))) := by
  refine KMi.of (own := RX1) (by decide) rfl (Nat.le_of_ble_eq_true rfl) rfl ?_
  intro X hret
  show At G cX1_melt RX1 4 rX1_melt X 0 0 (XW G a n tg sr ld mb pl ln len nx nl hs ps) 0 [(0, .ref (a 0)), (1, .int x)] []
  refine r_iconst (v := nI 0) dX1_melt_0 (by decide) ?_
  refine r_istore_n (lv' := [(0, .ref (a 0)), (1, .int x), (2, .int (nI 0))]) dX1_melt_1 (by decide) [1, 2, 0] rfl ?_
  refine r_iconst (v := nI 0) dX1_melt_2 (by decide) ?_
  refine r_istore_n (lv' := [(0, .ref (a 0)), (1, .int x), (2, .int (nI 0)), (3, .int (nI 0))]) dX1_melt_3 (by decide) [1, 2, 3, 0] rfl ?_
  have L4 : ∀ (fu_L4 : Nat) (i : Nat) (acc : Int32) (mb' : Nat → Int32), n < i + fu_L4 → i ≤ n → acc = mlA mb x i → mb' = mlM mb x i → At G cX1_melt RX1 4 rX1_melt X 0 0 (XW G a n tg sr ld mb' pl ln len nx nl hs ps) 4 [(0, .ref (a 0)), (1, .int x), (2, .int acc), (3, .int (nI i))] [] := by
    intro fu_L4
    induction fu_L4 with
    | zero => intro i acc mb' hf hi e1 e2; exfalso; omega
    | succ fu_L4 ih_L4 =>
      intro i acc mb' hf hi e1 e2
      refine r_iload_n dX1_melt_4 3 rfl ?_
      refine r_aload_n dX1_melt_5 0 rfl ?_
      refine r_getX 0 0 rfl (by decide) q35 rfl dX1_melt_6 ?_
      refine n_icmp_ge (tgt := 45) dX1_melt_9 (by decide) (by omega) (by omega) (fun c_9 => ?_) (fun c_9 => ?_)
      · refine r_aload_n dX1_melt_45 0 rfl ?_
        refine r_iload_n dX1_melt_46 2 rfl ?_
        refine r_calli (As := [.int acc]) (rest := []) (ci := 0) (metX_claim G a n tg sr ld mb' pl ln len nx nl hs ps acc hn) ⟨cgX_claim, ⟨rfl, rfl⟩, cdX_claim, Nat.le_of_ble_eq_true rfl, Nat.le_of_ble_eq_true rfl⟩ rfl rfl 0 rfl rfl rfl (Nat.le_of_ble_eq_true rfl) ⟨Nat.zero_le _, Nat.zero_le _⟩ dX1_melt_47 ?_
        exact hret _ _ _ _ (by rw [e1, show i = n by omega]) (by rw [e1, e2, show i = n by omega]) dX1_melt_50
      · refine r_iload_n dX1_melt_12 1 rfl ?_
        refine r_iload_n dX1_melt_13 3 rfl ?_
        refine r_ishr (v := x >>> (nI i &&& 31)) dX1_melt_14 (rfl) ?_
        refine r_iconst (v := nI 1) dX1_melt_15 (by decide) ?_
        refine r_iand (v := nI (bt x i).toNat) dX1_melt_16 (bt_bit _ (by omega)) ?_
        refine b_if_ne (tgt := 23) dX1_melt_17 (by decide) (fun c_17 => ?_) (fun c_17 => ?_)
        · refine r_iload_n dX1_melt_23 2 rfl ?_
          refine r_aload_n dX1_melt_24 0 rfl ?_
          refine r_getX 0 4 rfl (by decide) q39 rfl dX1_melt_25 ?_
          refine r_iload_n dX1_melt_28 3 rfl ?_
          refine r_iald (v := mb' i) dX1_melt_29 4 rfl (by omega) (by decide) (rfl) ?_
          refine r_ior (v := acc ||| (mb' i)) dX1_melt_30 (rfl) ?_
          refine r_istore_n (lv' := [(0, .ref (a 0)), (1, .int x), (2, .int (acc ||| (mb' i))), (3, .int (nI i))]) dX1_melt_31 (by decide) [1, 2, 0, 3] rfl ?_
          refine r_aload_n dX1_melt_32 0 rfl ?_
          refine r_getX 0 4 rfl (by decide) q39 rfl dX1_melt_33 ?_
          refine r_iload_n dX1_melt_36 3 rfl ?_
          refine r_iconst (v := 0) dX1_melt_37 (by decide) ?_
          refine r_iast (f' := upd mb' i 0) (w' := XW G a n tg sr ld (upd mb' i 0) pl ln len nx nl hs ps) dX1_melt_38 4 rfl (by omega) (by decide) (rfl) rfl ?_
          refine r_iinc (v := nI (i + 1)) (k := 3) (lv' := [(0, .ref (a 0)), (1, .int x), (2, .int (acc ||| (mb' i))), (3, .int (nI (i + 1)))]) dX1_melt_39 rfl (nI_1 _) (by decide) [1, 2, 3, 0] rfl ?_
          refine r_goto (tgt := 4) dX1_melt_42 (by decide) ?_
          exact ih_L4 (i + 1) _ _ (by omega) (by omega) (by rw [mlA, if_pos c_17, e1, e2]) (by rw [mlM, if_pos c_17, e2])
        · refine r_goto (tgt := 39) dX1_melt_20 (by decide) ?_
          refine r_iinc (v := nI (i + 1)) (k := 3) (lv' := [(0, .ref (a 0)), (1, .int x), (2, .int acc), (3, .int (nI (i + 1)))]) dX1_melt_39 rfl (nI_1 _) (by decide) [1, 2, 3, 0] rfl ?_
          refine r_goto (tgt := 4) dX1_melt_42 (by decide) ?_
          exact ih_L4 (i + 1) _ _ (by omega) (by omega) (by rw [mlA, if_neg (by simp [c_17]), e1]) (by rw [mlM, if_neg (by simp [c_17]), e2])
  exact L4 (n + 1) 0 0 mb (by omega) (by omega) rfl rfl
end
section
/-! appending, as lists -/
theorem b_nf {b : Bool} (h : b = false) : ¬ b = true := by rw [h]; decide
theorem apl_snoc {α : Type} (c : α) : ∀ (L : List α) (nx : Nat → α) (k : Nat), apl nx k (L ++ [c]) = va_up (apl nx k L) (k + L.length) c
  | [], nx, k => rfl
  | d :: L, nx, k => by
    have := apl_snoc c L (va_up nx k d) (k + 1)
    show apl (va_up nx k d) (k + 1) (L ++ [c]) = va_up (apl (va_up nx k d) (k + 1) L) (k + (L.length + 1)) c
    rw [this, show k + 1 + L.length = k + (L.length + 1) by omega]
theorem apl_low {α : Type} : ∀ (L : List α) (nx : Nat → α) (k i : Nat), i < k → apl nx k L i = nx i
  | [], nx, k, i, h => rfl
  | d :: L, nx, k, i, h => by
    show apl (va_up nx k d) (k + 1) L i = nx i
    rw [apl_low L _ _ _ (by omega), va_up_ne _ _ (by omega)]
theorem apl_at {α : Type} : ∀ (L : List α) (nx : Nat → α) (k i : Nat) (h : i < L.length), apl nx k L (k + i) = L[i]
  | [], nx, k, i, h => absurd h (Nat.not_lt_zero _)
  | d :: L, nx, k, 0, h => by
    show apl (va_up nx k d) (k + 1) L (k + 0) = d
    rw [apl_low L _ _ _ (by omega)]
    exact va_up_self _ _ _
  | d :: L, nx, k, i + 1, h => by
    have := apl_at L (va_up nx k d) (k + 1) i (by simp at h; omega)
    show apl (va_up nx k d) (k + 1) L (k + (i + 1)) = L[i]'(by simp at h; omega)
    rw [show k + (i + 1) = k + 1 + i by omega, this]
theorem apl0_at {α : Type} (L : List α) (nx : Nat → α) {i : Nat} (h : i < L.length) : apl nx 0 L i = L[i] := by
  have := apl_at L nx 0 i h
  rwa [Nat.zero_add] at this
theorem apl0_snoc {α : Type} (L : List α) (c : α) (nx : Nat → α) : va_up (apl nx 0 L) L.length c = apl nx 0 (L ++ [c]) := by
  rw [apl_snoc, Nat.zero_add]
theorem apl0_upd (L : List Int32) (c : Int32) (nx : Nat → Int32) : upd (apl nx 0 L) L.length c = apl nx 0 (L ++ [c]) := apl0_snoc L c nx
theorem apl0_mem {L : List Nat} {nx : Nat → Nat} {N i : Nat} (h : ∀ c ∈ L, c < N) (hi : i < L.length) : apl nx 0 L i < N := by
  rw [apl0_at L nx hi]
  exact h _ (List.getElem_mem hi)
theorem nI_snoc {α : Type} (L : List α) (c : α) : nI L.length + Int32.ofInt 1 = nI (L ++ [c]).length := by
  rw [List.length_append]; exact nI_1 _
theorem sgF_all (ln : Nat → Nat) (f i : Nat) : sgF (fun _ => true) ln (f + 1) i = ln i :: sgF (fun _ => true) ln f (i + 1) := rfl
theorem ap_lt {L R T : List Nat} {c N : Nat} (h : (L ++ (c :: R)) = T) (hT : T.length ≤ N) : L.length < N := by
  have : (L ++ (c :: R)).length = T.length := by rw [h]
  simp at this; omega
theorem ap_step {L R Z T : List Nat} {c : Nat} (h : (L ++ (c :: R)) ++ Z = T) : ((L ++ [c]) ++ R) ++ Z = T := by
  rw [← h]; simp
theorem metX_appendL (G : GG) (a : Nat → Nat) (n : Nat) (tg : Nat → Int32) (sr : Nat → Int32) (ld : Nat → Nat) (mb : Nat → Int32) (pl : Nat → Nat) (ln : Nat → Nat) (len : Nat) (nx : Nat → Nat) (hs : Nat → Nat) (ps : Nat → Int32) (L : List Nat) (c : Nat) (h1 : L.length < 16) (h2 : c < 16) : KMv G yX1_append cX1_append 2 rX1_append [.ref (a 0), .int (nI c)] (XW G a n tg sr ld mb pl ln len (apl nx 0 L) L.length hs ps) (XW G a n tg sr ld mb pl ln len (apl nx 0 (L ++ [c])) (L ++ [c]).length hs ps) := by
  have h := metX_append G a n tg sr ld mb pl ln len (apl nx 0 L) L.length hs ps c h1 (by omega)
  rw [apl0_snoc] at h
  rw [List.length_append]
  exact h
theorem hIn_lt {hs : Nat → Nat} (h : ∀ j, hs j < 127) (ld : Nat → Nat) (x : Int32) {k : Nat} : hIn hs ld x k < 128 := by
  induction k with
  | zero => show 0 < 128; omega
  | succ k ih =>
    rw [hIn]
    split
    · have := h (ld k); omega
    · exact ih
end
section
abbrev rX1_sourcePiece : Room := { frames := 1, cells := 0, slots := 0, locals := 23 }
set_option maxHeartbeats 4000000 in
set_option maxRecDepth 100000 in
/-- sourcePiece(cnt, wt) -/
theorem metX_sourcePiece (G : GG) (a : Nat → Nat) (n : Nat) (tg : Nat → Int32) (sr : Nat → Int32) (ld : Nat → Nat) (mb : Nat → Int32) (pl : Nat → Nat) (ln : Nat → Nat) (len : Nat) (nx : Nat → Nat) (nl : Nat) (hs : Nat → Nat) (ps : Nat → Int32) (cnt : Nat) (wt : Int32) (hn : n ≤ 16) (hc : cnt ≤ 16) : KMi G yX1_sourcePiece cX1_sourcePiece 6 .int rX1_sourcePiece [.ref (a 0), .int (nI cnt), .int wt] (XW G a n tg sr ld mb pl ln len nx nl hs ps) (XW G a n tg sr ld mb pl ln len nx nl hs ps) (srcP sr n ps wt cnt 0) := by
  refine KMi.of (own := RX1) (by decide) rfl (Nat.le_of_ble_eq_true rfl) rfl ?_
  intro X hret
  show At G cX1_sourcePiece RX1 6 rX1_sourcePiece X 0 0 (XW G a n tg sr ld mb pl ln len nx nl hs ps) 0 [(0, .ref (a 0)), (1, .int (nI cnt)), (2, .int wt)] []
  refine r_iconst (v := nI 0) dX1_sourcePiece_0 (by decide) ?_
  refine r_istore_n (lv' := [(0, .ref (a 0)), (1, .int (nI cnt)), (2, .int wt), (3, .int (nI 0))]) dX1_sourcePiece_1 (by decide) [1, 2, 3, 0] rfl ?_
  have L2 : ∀ (fu_L2 : Nat) (q : Nat) (g : Nat), g < fu_L2 → q + g = cnt → srcP sr n ps wt g q = srcP sr n ps wt cnt 0 → At G cX1_sourcePiece RX1 6 rX1_sourcePiece X 0 0 (XW G a n tg sr ld mb pl ln len nx nl hs ps) 2 [(0, .ref (a 0)), (1, .int (nI cnt)), (2, .int wt), (3, .int (nI q))] [] := by
    intro fu_L2
    induction fu_L2 with
    | zero => intro q g hf hg hv; exfalso; omega
    | succ fu_L2 ih_L2 =>
      intro q g hf hg hv
      refine r_iload_n dX1_sourcePiece_2 3 rfl ?_
      refine r_iload_n dX1_sourcePiece_3 1 rfl ?_
      refine n_icmp_ge (tgt := 54) dX1_sourcePiece_4 (by decide) (by omega) (by omega) (fun c_4 => ?_) (fun c_4 => ?_)
      · refine r_iconst (v := nI 0) dX1_sourcePiece_54 (by decide) ?_
        exact hret _ _ _ _ (by rw [← hv, show g = 0 by omega]; rfl) (rfl) dX1_sourcePiece_55
      · obtain ⟨g', rfl⟩ : ∃ g', g = g' + 1 := ⟨g - 1, by omega⟩
        rw [srcP] at hv
        refine r_aload_n dX1_sourcePiece_7 0 rfl ?_
        refine r_getX 0 11 rfl (by decide) q46 rfl dX1_sourcePiece_8 ?_
        refine r_iload_n dX1_sourcePiece_11 3 rfl ?_
        refine r_iald (v := ps q) dX1_sourcePiece_12 9 rfl (by omega) (by decide) (rfl) ?_
        refine r_istore (lv' := [(0, .ref (a 0)), (1, .int (nI cnt)), (2, .int wt), (3, .int (nI q)), (4, .int (ps q))]) dX1_sourcePiece_13 (by decide) [1, 2, 3, 4, 0] rfl ?_
        refine r_iload dX1_sourcePiece_15 4 rfl ?_
        refine r_iload_n dX1_sourcePiece_17 2 rfl ?_
        refine r_iand (v := (ps q) &&& wt) dX1_sourcePiece_18 (rfl) ?_
        refine r_if_ne (tgt := 25) dX1_sourcePiece_19 (by decide) (fun c_19 => ?_) (fun c_19 => ?_)
        · refine r_aload_n dX1_sourcePiece_25 0 rfl ?_
          refine r_iload dX1_sourcePiece_26 4 rfl ?_
          refine r_calli (As := [.int (ps q)]) (rest := []) (ci := 0) (metX_sourcesOf G a n tg sr ld mb pl ln len nx nl hs ps (ps q) hn) ⟨cgX_sourcesOf, ⟨rfl, rfl⟩, cdX_sourcesOf, Nat.le_of_ble_eq_true rfl, Nat.le_of_ble_eq_true rfl⟩ rfl rfl 0 rfl rfl rfl (Nat.le_of_ble_eq_true rfl) ⟨Nat.zero_le _, Nat.zero_le _⟩ dX1_sourcePiece_28 ?_
          refine r_iload_n dX1_sourcePiece_31 2 rfl ?_
          refine r_iand (v := (tgOf sr (ps q) n) &&& wt) dX1_sourcePiece_32 (rfl) ?_
          refine r_iload dX1_sourcePiece_33 4 rfl ?_
          refine r_iconst (v := (-1)) dX1_sourcePiece_35 (by decide) ?_
          refine r_ixor (v := (ps q) ^^^ (-1)) dX1_sourcePiece_36 (rfl) ?_
          refine r_iand (v := ((tgOf sr (ps q) n) &&& wt) &&& ((ps q) ^^^ (-1))) dX1_sourcePiece_37 (rfl) ?_
          refine r_istore (lv' := [(0, .ref (a 0)), (1, .int (nI cnt)), (2, .int wt), (3, .int (nI q)), (4, .int (ps q)), (5, .int (((tgOf sr (ps q) n) &&& wt) &&& ((ps q) ^^^ (-1))))]) dX1_sourcePiece_38 (by decide) [1, 2, 3, 4, 5, 0] rfl ?_
          refine r_iload dX1_sourcePiece_40 5 rfl ?_
          refine r_if_ne (tgt := 48) dX1_sourcePiece_42 (by decide) (fun c_42 => ?_) (fun c_42 => ?_)
          · refine r_iinc (v := nI (q + 1)) (k := 3) (lv' := [(0, .ref (a 0)), (1, .int (nI cnt)), (2, .int wt), (3, .int (nI (q + 1))), (4, .int (ps q)), (5, .int (((tgOf sr (ps q) n) &&& wt) &&& ((ps q) ^^^ (-1))))]) dX1_sourcePiece_48 rfl (nI_1 _) (by decide) [1, 2, 3, 0, 4, 5] rfl ?_
            refine r_goto (tgt := 2) dX1_sourcePiece_51 (by decide) ?_
            refine At.sub [0, 1, 2, 3] rfl ?_
            exact ih_L2 (q + 1) g' (by omega) (by omega) (by rw [if_neg c_19, if_neg c_42] at hv; exact hv)
          · refine r_iload dX1_sourcePiece_45 4 rfl ?_
            exact hret _ _ _ _ (by rw [if_neg c_19, if_pos c_42] at hv; exact hv) (rfl) dX1_sourcePiece_47
        · refine r_goto (tgt := 48) dX1_sourcePiece_22 (by decide) ?_
          refine r_iinc (v := nI (q + 1)) (k := 3) (lv' := [(0, .ref (a 0)), (1, .int (nI cnt)), (2, .int wt), (3, .int (nI (q + 1))), (4, .int (ps q))]) dX1_sourcePiece_48 rfl (nI_1 _) (by decide) [1, 2, 3, 0, 4] rfl ?_
          refine r_goto (tgt := 2) dX1_sourcePiece_51 (by decide) ?_
          refine At.sub [0, 1, 2, 3] rfl ?_
          exact ih_L2 (q + 1) g' (by omega) (by omega) (by rw [if_pos c_19] at hv; exact hv)
  exact L2 (cnt + 1) 0 cnt (by omega) (by omega) rfl
abbrev rX1_repairLine : Room := { frames := 3, cells := 0, slots := 0, locals := 68 }
set_option maxHeartbeats 4000000 in
set_option maxRecDepth 100000 in
/-- repairLine(fr, to) -/
theorem metX_repairLine (G : GG) (a : Nat → Nat) (n : Nat) (tg : Nat → Int32) (sr : Nat → Int32) (ld : Nat → Nat) (mb : Nat → Int32) (pl : Nat → Nat) (ln : Nat → Nat) (len : Nat) (nx : Nat → Nat) (nl : Nat) (hs : Nat → Nat) (ps : Nat → Int32) (fr to : Nat) (F M : Int32) (T : List Nat) (hn : n ≤ 16) (hfr : fr < 16) (hto : to < 16) (hlt : pl to < pl fr) (hlen : len ≤ 16) (hhi : pl fr < len) (hln : ∀ i, i < len → ln i < 16) (hF : fwd tg n ld mb ln (pl fr + 1 - pl to) (pl to) (sg to) = F) (hM : (if bt F fr = true then (F &&& bwd sr n ld mb ln (pl fr + 1 - pl to) (pl fr + 1) (sg fr)) &&& lbt ln (pl fr + 1 - pl to) (pl to) 0 else 0) = M) (hb1 : ¬ M = 0 → 1 ≤ bc M 16) (hT : rpL F M mb n ln (pl to) (pl fr) len = T) (hT16 : T.length ≤ 16) (hTm : ∀ c ∈ T, c < 16) : KMi G yX1_repairLine cX1_repairLine 10 .int rX1_repairLine [.ref (a 0), .int (nI fr), .int (nI to)] (XW G a n tg sr ld mb pl ln len nx nl hs ps) (XW G a n tg sr (if M = 0 then ld else clm ld (mlA mb M n) (low (mlA mb M n)) n) (if M = 0 then mb else upd (mlM mb M n) (low (mlA mb M n)) (mlA mb M n)) (adP (apl nx 0 T) pl T.length) (adL (apl nx 0 T) ln T.length) T.length (apl nx 0 T) T.length hs ps) (if M = 0 then 0 else nI (bc M 16 - 1)) := by
  refine KMi.of (own := RX1) (by decide) rfl (Nat.le_of_ble_eq_true rfl) rfl ?_
  intro X hret
  rw [rpL, rpA] at hT
  show At G cX1_repairLine RX1 10 rX1_repairLine X 0 0 (XW G a n tg sr ld mb pl ln len nx nl hs ps) 0 [(0, .ref (a 0)), (1, .int (nI fr)), (2, .int (nI to))] []
  refine r_aload_n dX1_repairLine_0 0 rfl ?_
  refine r_getX 0 5 rfl (by decide) q40 rfl dX1_repairLine_1 ?_
  refine r_iload_n dX1_repairLine_4 2 rfl ?_
  refine r_bald (v := nI (pl to)) dX1_repairLine_5 5 rfl (by omega) (by decide) (rfl) ?_
  refine r_istore_n (lv' := [(0, .ref (a 0)), (1, .int (nI fr)), (2, .int (nI to)), (3, .int (nI (pl to)))]) dX1_repairLine_6 (by decide) [1, 2, 3, 0] rfl ?_
  refine r_aload_n dX1_repairLine_7 0 rfl ?_
  refine r_getX 0 5 rfl (by decide) q40 rfl dX1_repairLine_8 ?_
  refine r_iload_n dX1_repairLine_11 1 rfl ?_
  refine r_bald (v := nI (pl fr)) dX1_repairLine_12 5 rfl (by omega) (by decide) (rfl) ?_
  refine r_istore (lv' := [(0, .ref (a 0)), (1, .int (nI fr)), (2, .int (nI to)), (3, .int (nI (pl to))), (4, .int (nI (pl fr)))]) dX1_repairLine_13 (by decide) [1, 2, 3, 4, 0] rfl ?_
  refine r_aload_n dX1_repairLine_15 0 rfl ?_
  refine r_iload_n dX1_repairLine_16 2 rfl ?_
  refine r_iload dX1_repairLine_17 4 rfl ?_
  refine r_calli (As := [.int (nI to), .int (nI (pl fr))]) (rest := []) (ci := 0) (by have h := metX_forwardUpTo G a n tg sr ld mb pl ln len nx nl hs ps to (pl fr) hn hto (by omega) (by omega) (by omega) (fun i hi => hln i (by omega)); rw [hF] at h; exact h) ⟨cgX_forwardUpTo, ⟨rfl, rfl⟩, cdX_forwardUpTo, Nat.le_of_ble_eq_true rfl, Nat.le_of_ble_eq_true rfl⟩ rfl rfl 0 rfl rfl rfl (Nat.le_of_ble_eq_true rfl) ⟨Nat.zero_le _, Nat.zero_le _⟩ dX1_repairLine_19 ?_
  refine r_istore (lv' := [(0, .ref (a 0)), (1, .int (nI fr)), (2, .int (nI to)), (3, .int (nI (pl to))), (4, .int (nI (pl fr))), (5, .int F)]) dX1_repairLine_22 (by decide) [1, 2, 3, 4, 5, 0] rfl ?_
  have J59 : ∀ (M' : Int32), M' = M → At G cX1_repairLine RX1 10 rX1_repairLine X 0 0 (XW G a n tg sr ld mb pl ln len nx nl hs ps) 59 [(0, .ref (a 0)), (1, .int (nI fr)), (2, .int (nI to)), (3, .int (nI (pl to))), (4, .int (nI (pl fr))), (5, .int F), (6, .int M')] [] := by
    intro M' e
    rw [e]
    refine r_aload_n dX1_repairLine_59 0 rfl ?_
    refine r_iconst (v := nI 0) dX1_repairLine_60 (by decide) ?_
    refine r_putX (ty := .int) (w' := XW G a n tg sr ld mb pl ln len nx 0 hs ps) 0 9 rfl (by decide) q44 rfl (by decide +kernel) rfl rfl (Nat.le_of_ble_eq_true rfl) rfl dX1_repairLine_61 ?_
    refine r_iconst (v := nI 0) dX1_repairLine_64 (by decide) ?_
    refine r_istore (lv' := [(0, .ref (a 0)), (1, .int (nI fr)), (2, .int (nI to)), (3, .int (nI (pl to))), (4, .int (nI (pl fr))), (5, .int F), (6, .int M), (7, .int (nI 0))]) dX1_repairLine_65 (by decide) [1, 2, 3, 4, 5, 6, 7, 0] rfl ?_
    have L67 : ∀ (fu_L67 : Nat) (i : Nat) (g : Nat) (L : List Nat), g < fu_L67 → i + g = pl to → (L ++ sgF (fun _ => true) ln g i) ++ (sgF (fun c => !bt F c) ln (pl fr + 1 - pl to) (pl to) ++ ((if M = 0 then [] else [low (mlA mb M n)]) ++ rpB F M ln (pl to) (pl fr) len)) = T → At G cX1_repairLine RX1 10 rX1_repairLine X 0 0 (XW G a n tg sr ld mb pl ln len (apl nx 0 L) L.length hs ps) 67 [(0, .ref (a 0)), (1, .int (nI fr)), (2, .int (nI to)), (3, .int (nI (pl to))), (4, .int (nI (pl fr))), (5, .int F), (6, .int M), (7, .int (nI i))] [] := by
      intro fu_L67
      induction fu_L67 with
      | zero => intro i g L hf hg hv; exfalso; omega
      | succ fu_L67 ih_L67 =>
        intro i g L hf hg hv
        refine r_iload dX1_repairLine_67 7 rfl ?_
        refine r_iload_n dX1_repairLine_69 3 rfl ?_
        refine n_icmp_ge (tgt := 90) dX1_repairLine_70 (by decide) (by omega) (by omega) (fun c_70 => ?_) (fun c_70 => ?_)
        · have hv2 : L ++ (sgF (fun c => !bt F c) ln (pl fr + 1 - pl to) (pl to) ++ ((if M = 0 then [] else [low (mlA mb M n)]) ++ rpB F M ln (pl to) (pl fr) len)) = T := by rw [← hv, show g = 0 by omega, sgF, List.append_nil]
          refine r_iload_n dX1_repairLine_90 3 rfl ?_
          refine r_istore (lv' := [(0, .ref (a 0)), (1, .int (nI fr)), (2, .int (nI to)), (3, .int (nI (pl to))), (4, .int (nI (pl fr))), (5, .int F), (6, .int M), (7, .int (nI (pl to)))]) dX1_repairLine_91 (by decide) [1, 2, 3, 4, 5, 6, 7, 0] rfl ?_
          have L93 : ∀ (fu_L93 : Nat) (i : Nat) (g : Nat) (L : List Nat), g < fu_L93 → i + g = pl fr + 1 → (L ++ sgF (fun c => !bt F c) ln g i) ++ ((if M = 0 then [] else [low (mlA mb M n)]) ++ rpB F M ln (pl to) (pl fr) len) = T → At G cX1_repairLine RX1 10 rX1_repairLine X 0 0 (XW G a n tg sr ld mb pl ln len (apl nx 0 L) L.length hs ps) 93 [(0, .ref (a 0)), (1, .int (nI fr)), (2, .int (nI to)), (3, .int (nI (pl to))), (4, .int (nI (pl fr))), (5, .int F), (6, .int M), (7, .int (nI i))] [] := by
            intro fu_L93
            induction fu_L93 with
            | zero => intro i g L hf hg hv; exfalso; omega
            | succ fu_L93 ih_L93 =>
              intro i g L hf hg hv
              refine r_iload dX1_repairLine_93 7 rfl ?_
              refine r_iload dX1_repairLine_95 4 rfl ?_
              refine n_icmp_gt (tgt := 132) dX1_repairLine_97 (by decide) (by omega) (by omega) (fun c_97 => ?_) (fun c_97 => ?_)
              · have hv3 : L ++ ((if M = 0 then [] else [low (mlA mb M n)]) ++ rpB F M ln (pl to) (pl fr) len) = T := by rw [← hv, show g = 0 by omega, sgF, List.append_nil]
                refine r_iconst (v := nI 0) dX1_repairLine_132 (by decide) ?_
                refine r_istore (lv' := [(0, .ref (a 0)), (1, .int (nI fr)), (2, .int (nI to)), (3, .int (nI (pl to))), (4, .int (nI (pl fr))), (5, .int F), (6, .int M), (7, .int (nI 0))]) dX1_repairLine_133 (by decide) [1, 2, 3, 4, 5, 6, 7, 0] rfl ?_
                have J164 : ∀ (mb' : Nat → Int32) (ld' : Nat → Nat) (lost : Int32) (L : List Nat), mb' = (if M = 0 then mb else upd (mlM mb M n) (low (mlA mb M n)) (mlA mb M n)) → ld' = (if M = 0 then ld else clm ld (mlA mb M n) (low (mlA mb M n)) n) → lost = (if M = 0 then 0 else nI (bc M 16 - 1)) → L ++ rpB F M ln (pl to) (pl fr) len = T → At G cX1_repairLine RX1 10 rX1_repairLine X 0 0 (XW G a n tg sr ld' mb' pl ln len (apl nx 0 L) L.length hs ps) 164 [(0, .ref (a 0)), (1, .int (nI fr)), (2, .int (nI to)), (3, .int (nI (pl to))), (4, .int (nI (pl fr))), (5, .int F), (6, .int M), (7, .int lost)] [] := by
                  intro mb' ld' lost L e1 e2 e3 hv4
                  refine r_iload_n dX1_repairLine_164 3 rfl ?_
                  refine r_istore (lv' := [(0, .ref (a 0)), (1, .int (nI fr)), (2, .int (nI to)), (3, .int (nI (pl to))), (4, .int (nI (pl fr))), (5, .int F), (6, .int M), (7, .int lost), (8, .int (nI (pl to)))]) dX1_repairLine_165 (by decide) [1, 2, 3, 4, 5, 6, 7, 8, 0] rfl ?_
                  have L167 : ∀ (fu_L167 : Nat) (i : Nat) (g : Nat) (L : List Nat), g < fu_L167 → i + g = pl fr + 1 → (L ++ sgF (fun c => bt (F &&& (M ^^^ (-1))) c) ln g i) ++ sgF (fun _ => true) ln (len - (pl fr + 1)) (pl fr + 1) = T → At G cX1_repairLine RX1 10 rX1_repairLine X 0 0 (XW G a n tg sr ld' mb' pl ln len (apl nx 0 L) L.length hs ps) 167 [(0, .ref (a 0)), (1, .int (nI fr)), (2, .int (nI to)), (3, .int (nI (pl to))), (4, .int (nI (pl fr))), (5, .int F), (6, .int M), (7, .int lost), (8, .int (nI i))] [] := by
                    intro fu_L167
                    induction fu_L167 with
                    | zero => intro i g L hf hg hv; exfalso; omega
                    | succ fu_L167 ih_L167 =>
                      intro i g L hf hg hv
                      refine r_iload dX1_repairLine_167 8 rfl ?_
                      refine r_iload dX1_repairLine_169 4 rfl ?_
                      refine n_icmp_gt (tgt := 215) dX1_repairLine_171 (by decide) (by omega) (by omega) (fun c_171 => ?_) (fun c_171 => ?_)
                      · have hv5 : L ++ sgF (fun _ => true) ln (len - (pl fr + 1)) (pl fr + 1) = T := by rw [← hv, show g = 0 by omega, sgF, List.append_nil]
                        refine r_iload dX1_repairLine_215 4 rfl ?_
                        refine r_iconst (v := nI 1) dX1_repairLine_217 (by decide) ?_
                        refine r_iadd (v := nI ((pl fr) + 1)) dX1_repairLine_218 (nI_add _ _) ?_
                        refine r_istore (lv' := [(0, .ref (a 0)), (1, .int (nI fr)), (2, .int (nI to)), (3, .int (nI (pl to))), (4, .int (nI (pl fr))), (5, .int F), (6, .int M), (7, .int lost), (8, .int (nI ((pl fr) + 1)))]) dX1_repairLine_219 (by decide) [1, 2, 3, 4, 5, 6, 7, 8, 0] rfl ?_
                        have L221 : ∀ (fu_L221 : Nat) (i : Nat) (g : Nat) (L : List Nat), g < fu_L221 → i + g = len → L ++ sgF (fun _ => true) ln g i = T → At G cX1_repairLine RX1 10 rX1_repairLine X 0 0 (XW G a n tg sr ld' mb' pl ln len (apl nx 0 L) L.length hs ps) 221 [(0, .ref (a 0)), (1, .int (nI fr)), (2, .int (nI to)), (3, .int (nI (pl to))), (4, .int (nI (pl fr))), (5, .int F), (6, .int M), (7, .int lost), (8, .int (nI i))] [] := by
                          intro fu_L221
                          induction fu_L221 with
                          | zero => intro i g L hf hg hv; exfalso; omega
                          | succ fu_L221 ih_L221 =>
                            intro i g L hf hg hv
                            refine r_iload dX1_repairLine_221 8 rfl ?_
                            refine r_aload_n dX1_repairLine_223 0 rfl ?_
                            refine r_getX 0 7 rfl (by decide) q42 rfl dX1_repairLine_224 ?_
                            refine n_icmp_ge (tgt := 247) dX1_repairLine_227 (by decide) (by omega) (by omega) (fun c_227 => ?_) (fun c_227 => ?_)
                            · have hT2 : L = T := by rw [← hv, show g = 0 by omega, sgF, List.append_nil]
                              subst hT2
                              refine r_aload_n dX1_repairLine_247 0 rfl ?_
                              refine r_callv (As := []) (rest := []) (ci := 0) (metX_adoptLine G a n tg sr ld' mb' pl ln len (apl nx 0 L) L.length hs ps hT16 (fun i hi => apl0_mem hTm hi)) ⟨cgX_adoptLine, ⟨rfl, rfl⟩, cdX_adoptLine, Nat.le_of_ble_eq_true rfl, Nat.le_of_ble_eq_true rfl⟩ rfl rfl 0 rfl rfl rfl (Nat.le_of_ble_eq_true rfl) ⟨Nat.zero_le _, Nat.zero_le _⟩ dX1_repairLine_248 ?_
                              refine r_iload dX1_repairLine_251 7 rfl ?_
                              exact hret _ _ _ _ (e3) (by rw [e1, e2]) dX1_repairLine_253
                            · obtain ⟨g', rfl⟩ : ∃ g', g = g' + 1 := ⟨g - 1, by omega⟩
                              rw [sgF_all] at hv
                              have h1 := hln i (by omega)
                              have h2 : L.length < 16 := ap_lt hv hT16
                              refine r_aload_n dX1_repairLine_230 0 rfl ?_
                              refine r_aload_n dX1_repairLine_231 0 rfl ?_
                              refine r_getX 0 6 rfl (by decide) q41 rfl dX1_repairLine_232 ?_
                              refine r_iload dX1_repairLine_235 8 rfl ?_
                              refine r_bald (v := nI (ln i)) dX1_repairLine_237 6 rfl (by omega) (by decide) (rfl) ?_
                              refine r_callv (As := [.int (nI (ln i))]) (rest := []) (ci := 0) (metX_appendL G a n tg sr ld' mb' pl ln len nx hs ps L (ln i) (by omega) (by omega)) ⟨cgX_append, ⟨rfl, rfl⟩, cdX_append, Nat.le_of_ble_eq_true rfl, Nat.le_of_ble_eq_true rfl⟩ rfl rfl 0 rfl rfl rfl (Nat.le_of_ble_eq_true rfl) ⟨Nat.zero_le _, Nat.zero_le _⟩ dX1_repairLine_238 ?_
                              refine r_iinc (v := nI (i + 1)) (k := 8) (lv' := [(0, .ref (a 0)), (1, .int (nI fr)), (2, .int (nI to)), (3, .int (nI (pl to))), (4, .int (nI (pl fr))), (5, .int F), (6, .int M), (7, .int lost), (8, .int (nI (i + 1)))]) dX1_repairLine_241 rfl (nI_1 _) (by decide) [1, 2, 3, 4, 5, 6, 7, 8, 0] rfl ?_
                              refine r_goto (tgt := 221) dX1_repairLine_244 (by decide) ?_
                              exact ih_L221 (i + 1) g' _ (by omega) (by omega) (by rw [← hv]; simp)
                        exact L221 (len + 1) (pl fr + 1) (len - (pl fr + 1)) L (by omega) (by omega) hv5
                      · obtain ⟨g', rfl⟩ : ∃ g', g = g' + 1 := ⟨g - 1, by omega⟩
                        rw [sgF] at hv
                        have h1 := hln i (by omega)
                        refine r_iload dX1_repairLine_174 5 rfl ?_
                        refine r_iload dX1_repairLine_176 6 rfl ?_
                        refine r_iconst (v := (-1)) dX1_repairLine_178 (by decide) ?_
                        refine r_ixor (v := M ^^^ (-1)) dX1_repairLine_179 (rfl) ?_
                        refine r_iand (v := F &&& (M ^^^ (-1))) dX1_repairLine_180 (rfl) ?_
                        refine r_istore (lv' := [(0, .ref (a 0)), (1, .int (nI fr)), (2, .int (nI to)), (3, .int (nI (pl to))), (4, .int (nI (pl fr))), (5, .int F), (6, .int M), (7, .int lost), (8, .int (nI i)), (9, .int (F &&& (M ^^^ (-1))))]) dX1_repairLine_181 (by decide) [1, 2, 3, 4, 5, 6, 7, 8, 9, 0] rfl ?_
                        refine r_iload dX1_repairLine_183 9 rfl ?_
                        refine r_aload_n dX1_repairLine_185 0 rfl ?_
                        refine r_getX 0 6 rfl (by decide) q41 rfl dX1_repairLine_186 ?_
                        refine r_iload dX1_repairLine_189 8 rfl ?_
                        refine r_bald (v := nI (ln i)) dX1_repairLine_191 6 rfl (by omega) (by decide) (rfl) ?_
                        refine r_ishr (v := (F &&& (M ^^^ (-1))) >>> (nI (ln i) &&& 31)) dX1_repairLine_192 (rfl) ?_
                        refine r_iconst (v := nI 1) dX1_repairLine_193 (by decide) ?_
                        refine r_iand (v := nI (bt (F &&& (M ^^^ (-1))) (ln i)).toNat) dX1_repairLine_194 (bt_bit _ (by omega)) ?_
                        refine b_if_eq (tgt := 209) dX1_repairLine_195 (by decide) (fun c_195 => ?_) (fun c_195 => ?_)
                        · refine r_iinc (v := nI (i + 1)) (k := 8) (lv' := [(0, .ref (a 0)), (1, .int (nI fr)), (2, .int (nI to)), (3, .int (nI (pl to))), (4, .int (nI (pl fr))), (5, .int F), (6, .int M), (7, .int lost), (8, .int (nI (i + 1))), (9, .int (F &&& (M ^^^ (-1))))]) dX1_repairLine_209 rfl (nI_1 _) (by decide) [1, 2, 3, 4, 5, 6, 7, 8, 0, 9] rfl ?_
                          refine r_goto (tgt := 167) dX1_repairLine_212 (by decide) ?_
                          refine At.sub [0, 1, 2, 3, 4, 5, 6, 7, 8] rfl ?_
                          exact ih_L167 (i + 1) g' _ (by omega) (by omega) (by rw [if_neg (b_nf c_195)] at hv; exact hv)
                        · rw [if_pos c_195] at hv
                          have h2 : L.length < 16 := ap_lt (by rw [← hv, List.append_assoc]; rfl) hT16
                          refine r_aload_n dX1_repairLine_198 0 rfl ?_
                          refine r_aload_n dX1_repairLine_199 0 rfl ?_
                          refine r_getX 0 6 rfl (by decide) q41 rfl dX1_repairLine_200 ?_
                          refine r_iload dX1_repairLine_203 8 rfl ?_
                          refine r_bald (v := nI (ln i)) dX1_repairLine_205 6 rfl (by omega) (by decide) (rfl) ?_
                          refine r_callv (As := [.int (nI (ln i))]) (rest := []) (ci := 0) (metX_appendL G a n tg sr ld' mb' pl ln len nx hs ps L (ln i) (by omega) (by omega)) ⟨cgX_append, ⟨rfl, rfl⟩, cdX_append, Nat.le_of_ble_eq_true rfl, Nat.le_of_ble_eq_true rfl⟩ rfl rfl 0 rfl rfl rfl (Nat.le_of_ble_eq_true rfl) ⟨Nat.zero_le _, Nat.zero_le _⟩ dX1_repairLine_206 ?_
                          refine r_iinc (v := nI (i + 1)) (k := 8) (lv' := [(0, .ref (a 0)), (1, .int (nI fr)), (2, .int (nI to)), (3, .int (nI (pl to))), (4, .int (nI (pl fr))), (5, .int F), (6, .int M), (7, .int lost), (8, .int (nI (i + 1))), (9, .int (F &&& (M ^^^ (-1))))]) dX1_repairLine_209 rfl (nI_1 _) (by decide) [1, 2, 3, 4, 5, 6, 7, 8, 0, 9] rfl ?_
                          refine r_goto (tgt := 167) dX1_repairLine_212 (by decide) ?_
                          refine At.sub [0, 1, 2, 3, 4, 5, 6, 7, 8] rfl ?_
                          exact ih_L167 (i + 1) g' _ (by omega) (by omega) (ap_step hv)
                  exact L167 (pl fr + 2) (pl to) (pl fr + 1 - pl to) L (by omega) (by omega) (by rw [← hv4, rpB, List.append_assoc])
                refine r_iload dX1_repairLine_135 6 rfl ?_
                refine r_if_eq (tgt := 164) dX1_repairLine_137 (by decide) (fun c_137 => ?_) (fun c_137 => ?_)
                · exact J164 _ _ _ L (by rw [if_pos c_137]) (by rw [if_pos c_137]) (by rw [if_pos c_137]; rfl) (by rw [if_pos c_137] at hv3; exact hv3)
                · refine r_aload_n dX1_repairLine_140 0 rfl ?_
                  refine r_iload dX1_repairLine_141 6 rfl ?_
                  refine r_calli (As := [.int M]) (rest := []) (ci := 0) (metX_bitsIn G a n tg sr ld mb pl ln len (apl nx 0 L) L.length hs ps M) ⟨cgX_bitsIn, ⟨rfl, rfl⟩, cdX_bitsIn, Nat.le_of_ble_eq_true rfl, Nat.le_of_ble_eq_true rfl⟩ rfl rfl 0 rfl rfl rfl (Nat.le_of_ble_eq_true rfl) ⟨Nat.zero_le _, Nat.zero_le _⟩ dX1_repairLine_143 ?_
                  refine r_iconst (v := nI 1) dX1_repairLine_146 (by decide) ?_
                  refine r_isub (v := nI ((bc M 16) - 1)) dX1_repairLine_147 (pk_sub (hb1 c_137)) ?_
                  refine r_istore (lv' := [(0, .ref (a 0)), (1, .int (nI fr)), (2, .int (nI to)), (3, .int (nI (pl to))), (4, .int (nI (pl fr))), (5, .int F), (6, .int M), (7, .int (nI ((bc M 16) - 1)))]) dX1_repairLine_148 (by decide) [1, 2, 3, 4, 5, 6, 7, 0] rfl ?_
                  refine r_aload_n dX1_repairLine_150 0 rfl ?_
                  refine r_iload dX1_repairLine_151 6 rfl ?_
                  refine r_calli (As := [.int M]) (rest := []) (ci := 0) (metX_melt G a n tg sr ld mb pl ln len (apl nx 0 L) L.length hs ps M hn) ⟨cgX_melt, ⟨rfl, rfl⟩, cdX_melt, Nat.le_of_ble_eq_true rfl, Nat.le_of_ble_eq_true rfl⟩ rfl rfl 0 rfl rfl rfl (Nat.le_of_ble_eq_true rfl) ⟨Nat.zero_le _, Nat.zero_le _⟩ dX1_repairLine_153 ?_
                  refine r_istore (lv' := [(0, .ref (a 0)), (1, .int (nI fr)), (2, .int (nI to)), (3, .int (nI (pl to))), (4, .int (nI (pl fr))), (5, .int F), (6, .int M), (7, .int (nI ((bc M 16) - 1))), (8, .int (nI (low (mlA mb M n))))]) dX1_repairLine_156 (by decide) [1, 2, 3, 4, 5, 6, 7, 8, 0] rfl ?_
                  have h1 := low_lt (mlA mb M n)
                  have h2 : L.length < 16 := ap_lt (by rw [← hv3, if_neg c_137]; rfl) hT16
                  refine r_aload_n dX1_repairLine_158 0 rfl ?_
                  refine r_iload dX1_repairLine_159 8 rfl ?_
                  refine r_callv (As := [.int (nI (low (mlA mb M n)))]) (rest := []) (ci := 0) (metX_appendL G a n tg sr (clm ld (mlA mb M n) (low (mlA mb M n)) n) (upd (mlM mb M n) (low (mlA mb M n)) (mlA mb M n)) pl ln len nx hs ps L (low (mlA mb M n)) (by omega) (by omega)) ⟨cgX_append, ⟨rfl, rfl⟩, cdX_append, Nat.le_of_ble_eq_true rfl, Nat.le_of_ble_eq_true rfl⟩ rfl rfl 0 rfl rfl rfl (Nat.le_of_ble_eq_true rfl) ⟨Nat.zero_le _, Nat.zero_le _⟩ dX1_repairLine_161 ?_
                  refine At.sub [0, 1, 2, 3, 4, 5, 6, 7] rfl ?_
                  exact J164 _ _ _ (L ++ [low (mlA mb M n)]) (by rw [if_neg c_137]) (by rw [if_neg c_137]) (by rw [if_neg c_137]) (by rw [if_neg c_137] at hv3; rw [← hv3, List.append_assoc])
              · obtain ⟨g', rfl⟩ : ∃ g', g = g' + 1 := ⟨g - 1, by omega⟩
                rw [sgF] at hv
                have h1 := hln i (by omega)
                refine r_iload dX1_repairLine_100 5 rfl ?_
                refine r_aload_n dX1_repairLine_102 0 rfl ?_
                refine r_getX 0 6 rfl (by decide) q41 rfl dX1_repairLine_103 ?_
                refine r_iload dX1_repairLine_106 7 rfl ?_
                refine r_bald (v := nI (ln i)) dX1_repairLine_108 6 rfl (by omega) (by decide) (rfl) ?_
                refine r_ishr (v := F >>> (nI (ln i) &&& 31)) dX1_repairLine_109 (rfl) ?_
                refine r_iconst (v := nI 1) dX1_repairLine_110 (by decide) ?_
                refine r_iand (v := nI (bt F (ln i)).toNat) dX1_repairLine_111 (bt_bit _ (by omega)) ?_
                refine b_if_ne (tgt := 126) dX1_repairLine_112 (by decide) (fun c_112 => ?_) (fun c_112 => ?_)
                · refine r_iinc (v := nI (i + 1)) (k := 7) (lv' := [(0, .ref (a 0)), (1, .int (nI fr)), (2, .int (nI to)), (3, .int (nI (pl to))), (4, .int (nI (pl fr))), (5, .int F), (6, .int M), (7, .int (nI (i + 1)))]) dX1_repairLine_126 rfl (nI_1 _) (by decide) [1, 2, 3, 4, 5, 6, 7, 0] rfl ?_
                  refine r_goto (tgt := 93) dX1_repairLine_129 (by decide) ?_
                  exact ih_L93 (i + 1) g' _ (by omega) (by omega) (by rw [if_neg (by simp [c_112])] at hv; exact hv)
                · rw [if_pos (by simp [c_112])] at hv
                  have h2 : L.length < 16 := ap_lt (by rw [← hv, List.append_assoc]; rfl) hT16
                  refine r_aload_n dX1_repairLine_115 0 rfl ?_
                  refine r_aload_n dX1_repairLine_116 0 rfl ?_
                  refine r_getX 0 6 rfl (by decide) q41 rfl dX1_repairLine_117 ?_
                  refine r_iload dX1_repairLine_120 7 rfl ?_
                  refine r_bald (v := nI (ln i)) dX1_repairLine_122 6 rfl (by omega) (by decide) (rfl) ?_
                  refine r_callv (As := [.int (nI (ln i))]) (rest := []) (ci := 0) (metX_appendL G a n tg sr ld mb pl ln len nx hs ps L (ln i) (by omega) (by omega)) ⟨cgX_append, ⟨rfl, rfl⟩, cdX_append, Nat.le_of_ble_eq_true rfl, Nat.le_of_ble_eq_true rfl⟩ rfl rfl 0 rfl rfl rfl (Nat.le_of_ble_eq_true rfl) ⟨Nat.zero_le _, Nat.zero_le _⟩ dX1_repairLine_123 ?_
                  refine r_iinc (v := nI (i + 1)) (k := 7) (lv' := [(0, .ref (a 0)), (1, .int (nI fr)), (2, .int (nI to)), (3, .int (nI (pl to))), (4, .int (nI (pl fr))), (5, .int F), (6, .int M), (7, .int (nI (i + 1)))]) dX1_repairLine_126 rfl (nI_1 _) (by decide) [1, 2, 3, 4, 5, 6, 7, 0] rfl ?_
                  refine r_goto (tgt := 93) dX1_repairLine_129 (by decide) ?_
                  exact ih_L93 (i + 1) g' _ (by omega) (by omega) (ap_step hv)
          exact L93 (pl fr + 2) (pl to) (pl fr + 1 - pl to) L (by omega) (by omega) (by rw [← hv2, List.append_assoc])
        · obtain ⟨g', rfl⟩ : ∃ g', g = g' + 1 := ⟨g - 1, by omega⟩
          rw [sgF_all] at hv
          have h1 := hln i (by omega)
          have h2 : L.length < 16 := ap_lt (by rw [← hv, List.append_assoc]; rfl) hT16
          refine r_aload_n dX1_repairLine_73 0 rfl ?_
          refine r_aload_n dX1_repairLine_74 0 rfl ?_
          refine r_getX 0 6 rfl (by decide) q41 rfl dX1_repairLine_75 ?_
          refine r_iload dX1_repairLine_78 7 rfl ?_
          refine r_bald (v := nI (ln i)) dX1_repairLine_80 6 rfl (by omega) (by decide) (rfl) ?_
          refine r_callv (As := [.int (nI (ln i))]) (rest := []) (ci := 0) (metX_appendL G a n tg sr ld mb pl ln len nx hs ps L (ln i) (by omega) (by omega)) ⟨cgX_append, ⟨rfl, rfl⟩, cdX_append, Nat.le_of_ble_eq_true rfl, Nat.le_of_ble_eq_true rfl⟩ rfl rfl 0 rfl rfl rfl (Nat.le_of_ble_eq_true rfl) ⟨Nat.zero_le _, Nat.zero_le _⟩ dX1_repairLine_81 ?_
          refine r_iinc (v := nI (i + 1)) (k := 7) (lv' := [(0, .ref (a 0)), (1, .int (nI fr)), (2, .int (nI to)), (3, .int (nI (pl to))), (4, .int (nI (pl fr))), (5, .int F), (6, .int M), (7, .int (nI (i + 1)))]) dX1_repairLine_84 rfl (nI_1 _) (by decide) [1, 2, 3, 4, 5, 6, 7, 0] rfl ?_
          refine r_goto (tgt := 67) dX1_repairLine_87 (by decide) ?_
          exact ih_L67 (i + 1) g' _ (by omega) (by omega) (ap_step hv)
    exact L67 (pl to + 1) 0 (pl to) [] (by omega) (by omega) (by rw [← hT]; simp only [List.nil_append, List.append_assoc])
  refine r_iconst (v := nI 0) dX1_repairLine_24 (by decide) ?_
  refine r_istore (lv' := [(0, .ref (a 0)), (1, .int (nI fr)), (2, .int (nI to)), (3, .int (nI (pl to))), (4, .int (nI (pl fr))), (5, .int F), (6, .int (nI 0))]) dX1_repairLine_25 (by decide) [1, 2, 3, 4, 5, 6, 0] rfl ?_
  refine r_iload dX1_repairLine_27 5 rfl ?_
  refine r_iload_n dX1_repairLine_29 1 rfl ?_
  refine r_ishr (v := F >>> (nI fr &&& 31)) dX1_repairLine_30 (rfl) ?_
  refine r_iconst (v := nI 1) dX1_repairLine_31 (by decide) ?_
  refine r_iand (v := nI (bt F fr).toNat) dX1_repairLine_32 (bt_bit _ (by omega)) ?_
  refine b_if_eq (tgt := 59) dX1_repairLine_33 (by decide) (fun c_33 => ?_) (fun c_33 => ?_)
  · exact J59 _ (by rw [← hM, if_neg (by simp [c_33])]; rfl)
  · refine r_aload_n dX1_repairLine_36 0 rfl ?_
    refine r_iload_n dX1_repairLine_37 1 rfl ?_
    refine r_iload_n dX1_repairLine_38 3 rfl ?_
    refine r_calli (As := [.int (nI fr), .int (nI (pl to))]) (rest := []) (ci := 0) (metX_backwardDownTo G a n tg sr ld mb pl ln len nx nl hs ps fr (pl to) hn hfr (by omega) (by omega) (fun i hi => hln i (by omega))) ⟨cgX_backwardDownTo, ⟨rfl, rfl⟩, cdX_backwardDownTo, Nat.le_of_ble_eq_true rfl, Nat.le_of_ble_eq_true rfl⟩ rfl rfl 0 rfl rfl rfl (Nat.le_of_ble_eq_true rfl) ⟨Nat.zero_le _, Nat.zero_le _⟩ dX1_repairLine_39 ?_
    refine r_istore (lv' := [(0, .ref (a 0)), (1, .int (nI fr)), (2, .int (nI to)), (3, .int (nI (pl to))), (4, .int (nI (pl fr))), (5, .int F), (6, .int (nI 0)), (7, .int (bwd sr n ld mb ln (pl fr + 1 - pl to) (pl fr + 1) (sg fr)))]) dX1_repairLine_42 (by decide) [1, 2, 3, 4, 5, 6, 7, 0] rfl ?_
    refine r_iload dX1_repairLine_44 5 rfl ?_
    refine r_iload dX1_repairLine_46 7 rfl ?_
    refine r_iand (v := F &&& (bwd sr n ld mb ln (pl fr + 1 - pl to) (pl fr + 1) (sg fr))) dX1_repairLine_48 (rfl) ?_
    refine r_aload_n dX1_repairLine_49 0 rfl ?_
    refine r_iload_n dX1_repairLine_50 3 rfl ?_
    refine r_iload dX1_repairLine_51 4 rfl ?_
    refine r_calli (As := [.int (nI (pl to)), .int (nI (pl fr))]) (rest := [.int (F &&& (bwd sr n ld mb ln (pl fr + 1 - pl to) (pl fr + 1) (sg fr)))]) (ci := 0) (metX_leadersBetween G a n tg sr ld mb pl ln len nx nl hs ps (pl to) (pl fr) (by omega) (by omega)) ⟨cgX_leadersBetween, ⟨rfl, rfl⟩, cdX_leadersBetween, Nat.le_of_ble_eq_true rfl, Nat.le_of_ble_eq_true rfl⟩ rfl rfl 0 rfl rfl rfl (Nat.le_of_ble_eq_true rfl) ⟨Nat.zero_le _, Nat.zero_le _⟩ dX1_repairLine_53 ?_
    refine r_iand (v := (F &&& (bwd sr n ld mb ln (pl fr + 1 - pl to) (pl fr + 1) (sg fr))) &&& (lbt ln (pl fr + 1 - pl to) (pl to) 0)) dX1_repairLine_56 (rfl) ?_
    refine r_istore (lv' := [(0, .ref (a 0)), (1, .int (nI fr)), (2, .int (nI to)), (3, .int (nI (pl to))), (4, .int (nI (pl fr))), (5, .int F), (6, .int ((F &&& (bwd sr n ld mb ln (pl fr + 1 - pl to) (pl fr + 1) (sg fr))) &&& (lbt ln (pl fr + 1 - pl to) (pl to) 0))), (7, .int (bwd sr n ld mb ln (pl fr + 1 - pl to) (pl fr + 1) (sg fr)))]) dX1_repairLine_57 (by decide) [1, 2, 3, 4, 5, 6, 0, 7] rfl ?_
    refine At.sub [0, 1, 2, 3, 4, 5, 6] rfl ?_
    exact J59 _ (by rw [← hM, if_pos c_33])
end
section
abbrev rX1_split : Room := { frames := 2, cells := 0, slots := 0, locals := 48 }
set_option maxHeartbeats 4000000 in
set_option maxRecDepth 100000 in
/-- split(c) -/
theorem metX_split (G : GG) (a : Nat → Nat) (n : Nat) (tg : Nat → Int32) (sr : Nat → Int32) (ld : Nat → Nat) (mb : Nat → Int32) (pl : Nat → Nat) (ln : Nat → Nat) (len : Nat) (nx : Nat → Nat) (nl : Nat) (hs : Nat → Nat) (ps : Nat → Int32) (c : Nat) (PS OO : List Int32) (T : List Nat) (hn : n ≤ 16) (hc : c < 16) (hlen : len ≤ 16) (hpl : pl c < len) (hln : ∀ i, i < len → ln i < 16) (hPS : spL tg sr n 16 (mb c) = PS) (hPS1 : 1 ≤ PS.length) (hPS16 : PS.length ≤ 16) (hOO : spO sr n (apl ps 0 PS) PS.length PS.length (mb c) = OO) (hT : (sgF (fun _ => true) ln (pl c) 0 ++ OO.map low) ++ sgF (fun _ => true) ln (len - (pl c + 1)) (pl c + 1) = T) (hT16 : T.length ≤ 16) (hTm : ∀ x ∈ T, x < 16) : KMi G yX1_split cX1_split 10 .int rX1_split [.ref (a 0), .int (nI c)] (XW G a n tg sr ld mb pl ln len nx nl hs ps) (XW G a n tg sr (clL n OO ld) (clB OO (upd mb c 0)) (adP (apl nx 0 T) pl T.length) (adL (apl nx 0 T) ln T.length) T.length (apl nx 0 T) T.length hs (apl ps 0 PS)) (nI (PS.length - 1)) := by
  refine KMi.of (own := RX1) (by decide) rfl (Nat.le_of_ble_eq_true rfl) rfl ?_
  intro X hret
  show At G cX1_split RX1 10 rX1_split X 0 0 (XW G a n tg sr ld mb pl ln len nx nl hs ps) 0 [(0, .ref (a 0)), (1, .int (nI c))] []
  refine r_aload_n dX1_split_0 0 rfl ?_
  refine r_getX 0 5 rfl (by decide) q40 rfl dX1_split_1 ?_
  refine r_iload_n dX1_split_4 1 rfl ?_
  refine r_bald (v := nI (pl c)) dX1_split_5 5 rfl (by omega) (by decide) (rfl) ?_
  refine r_istore_n (lv' := [(0, .ref (a 0)), (1, .int (nI c)), (2, .int (nI (pl c)))]) dX1_split_6 (by decide) [1, 2, 0] rfl ?_
  refine r_aload_n dX1_split_7 0 rfl ?_
  refine r_getX 0 4 rfl (by decide) q39 rfl dX1_split_8 ?_
  refine r_iload_n dX1_split_11 1 rfl ?_
  refine r_iald (v := mb c) dX1_split_12 4 rfl (by omega) (by decide) (rfl) ?_
  refine r_istore_n (lv' := [(0, .ref (a 0)), (1, .int (nI c)), (2, .int (nI (pl c))), (3, .int (mb c))]) dX1_split_13 (by decide) [1, 2, 3, 0] rfl ?_
  refine r_iconst (v := nI 0) dX1_split_14 (by decide) ?_
  refine r_istore (lv' := [(0, .ref (a 0)), (1, .int (nI c)), (2, .int (nI (pl c))), (3, .int (mb c)), (4, .int (nI 0))]) dX1_split_15 (by decide) [1, 2, 3, 4, 0] rfl ?_
  refine r_iconst (v := nI 0) dX1_split_17 (by decide) ?_
  refine r_istore (lv' := [(0, .ref (a 0)), (1, .int (nI c)), (2, .int (nI (pl c))), (3, .int (mb c)), (4, .int (nI 0)), (5, .int (nI 0))]) dX1_split_18 (by decide) [1, 2, 3, 4, 5, 0] rfl ?_
  have J82 : ∀ (P : List Int32), P = PS → At G cX1_split RX1 10 rX1_split X 0 0 (XW G a n tg sr ld mb pl ln len nx nl hs (apl ps 0 P)) 82 [(0, .ref (a 0)), (1, .int (nI c)), (2, .int (nI (pl c))), (4, .int (nI P.length))] [] := by
    intro P hP
    rw [hP]
    refine r_aload_n dX1_split_82 0 rfl ?_
    refine r_getX 0 4 rfl (by decide) q39 rfl dX1_split_83 ?_
    refine r_iload_n dX1_split_86 1 rfl ?_
    refine r_iald (v := mb c) dX1_split_87 4 rfl (by omega) (by decide) (rfl) ?_
    refine r_istore (lv' := [(0, .ref (a 0)), (1, .int (nI c)), (2, .int (nI (pl c))), (4, .int (nI PS.length)), (5, .int (mb c))]) dX1_split_88 (by decide) [1, 2, 3, 4, 0] rfl ?_
    refine r_aload_n dX1_split_90 0 rfl ?_
    refine r_getX 0 4 rfl (by decide) q39 rfl dX1_split_91 ?_
    refine r_iload_n dX1_split_94 1 rfl ?_
    refine r_iconst (v := 0) dX1_split_95 (by decide) ?_
    refine r_iast (f' := upd mb c 0) (w' := XW G a n tg sr ld (upd mb c 0) pl ln len nx nl hs (apl ps 0 PS)) dX1_split_96 4 rfl (by omega) (by decide) (rfl) rfl ?_
    refine r_aload_n dX1_split_97 0 rfl ?_
    refine r_iconst (v := nI 0) dX1_split_98 (by decide) ?_
    refine r_putX (ty := .int) (w' := XW G a n tg sr ld (upd mb c 0) pl ln len nx 0 hs (apl ps 0 PS)) 0 9 rfl (by decide) q44 rfl (by decide +kernel) rfl rfl (Nat.le_of_ble_eq_true rfl) rfl dX1_split_99 ?_
    refine r_iconst (v := nI 0) dX1_split_102 (by decide) ?_
    refine r_istore (lv' := [(0, .ref (a 0)), (1, .int (nI c)), (2, .int (nI (pl c))), (4, .int (nI PS.length)), (5, .int (mb c)), (6, .int (nI 0))]) dX1_split_103 (by decide) [1, 2, 3, 4, 5, 0] rfl ?_
    have L105 : ∀ (fu_L105 : Nat) (i : Nat) (g : Nat) (L : List Nat), g < fu_L105 → i + g = pl c → (L ++ sgF (fun _ => true) ln g i) ++ (OO.map low ++ sgF (fun _ => true) ln (len - (pl c + 1)) (pl c + 1)) = T → At G cX1_split RX1 10 rX1_split X 0 0 (XW G a n tg sr ld (upd mb c 0) pl ln len (apl nx 0 L) L.length hs (apl ps 0 PS)) 105 [(0, .ref (a 0)), (1, .int (nI c)), (2, .int (nI (pl c))), (4, .int (nI PS.length)), (5, .int (mb c)), (6, .int (nI i))] [] := by
      intro fu_L105
      induction fu_L105 with
      | zero => intro i g L hf hg hv; exfalso; omega
      | succ fu_L105 ih_L105 =>
        intro i g L hf hg hv
        refine r_iload dX1_split_105 5 rfl ?_
        refine r_iload_n dX1_split_107 2 rfl ?_
        refine n_icmp_ge (tgt := 128) dX1_split_108 (by decide) (by omega) (by omega) (fun c_108 => ?_) (fun c_108 => ?_)
        · have hv2 : L ++ (OO.map low ++ sgF (fun _ => true) ln (len - (pl c + 1)) (pl c + 1)) = T := by rw [← hv, show g = 0 by omega, sgF, List.append_nil]
          refine r_iload dX1_split_128 4 rfl ?_
          refine r_istore (lv' := [(0, .ref (a 0)), (1, .int (nI c)), (2, .int (nI (pl c))), (4, .int (nI PS.length)), (5, .int (mb c)), (6, .int (mb c))]) dX1_split_130 (by decide) [1, 2, 3, 4, 5, 0] rfl ?_
          refine r_iconst (v := nI 0) dX1_split_132 (by decide) ?_
          refine r_istore (lv' := [(0, .ref (a 0)), (1, .int (nI c)), (2, .int (nI (pl c))), (4, .int (nI PS.length)), (5, .int (mb c)), (6, .int (mb c)), (7, .int (nI 0))]) dX1_split_133 (by decide) [1, 2, 3, 4, 5, 6, 0] rfl ?_
          have L135 : ∀ (fu_L135 : Nat) (j : Nat) (g : Nat) (wt : Int32) (L : List Nat) (mb' : Nat → Int32) (ld' : Nat → Nat), g < fu_L135 → j + g = PS.length → (L ++ (spO sr n (apl ps 0 PS) PS.length g wt).map low) ++ sgF (fun _ => true) ln (len - (pl c + 1)) (pl c + 1) = T → clB (spO sr n (apl ps 0 PS) PS.length g wt) mb' = clB OO (upd mb c 0) → clL n (spO sr n (apl ps 0 PS) PS.length g wt) ld' = clL n OO ld → At G cX1_split RX1 10 rX1_split X 0 0 (XW G a n tg sr ld' mb' pl ln len (apl nx 0 L) L.length hs (apl ps 0 PS)) 135 [(0, .ref (a 0)), (1, .int (nI c)), (2, .int (nI (pl c))), (4, .int (nI PS.length)), (5, .int (mb c)), (6, .int wt), (7, .int (nI j))] [] := by
            intro fu_L135
            induction fu_L135 with
            | zero => intro j g wt L mb' ld' hf hg hv e1 e2; exfalso; omega
            | succ fu_L135 ih_L135 =>
              intro j g wt L mb' ld' hf hg hv e1 e2
              refine r_iload dX1_split_135 6 rfl ?_
              refine r_iload dX1_split_137 3 rfl ?_
              refine n_icmp_ge (tgt := 181) dX1_split_139 (by decide) (by omega) (by omega) (fun c_139 => ?_) (fun c_139 => ?_)
              · have hv3 : L ++ sgF (fun _ => true) ln (len - (pl c + 1)) (pl c + 1) = T := by rw [← hv, show g = 0 by omega, spO, List.map_nil, List.append_nil]
                have e3 : mb' = clB OO (upd mb c 0) := by rw [← e1, show g = 0 by omega]; rfl
                have e4 : ld' = clL n OO ld := by rw [← e2, show g = 0 by omega]; rfl
                refine r_iload_n dX1_split_181 2 rfl ?_
                refine r_iconst (v := nI 1) dX1_split_182 (by decide) ?_
                refine r_iadd (v := nI ((pl c) + 1)) dX1_split_183 (nI_add _ _) ?_
                refine r_istore (lv' := [(0, .ref (a 0)), (1, .int (nI c)), (2, .int (nI (pl c))), (4, .int (nI PS.length)), (5, .int (mb c)), (6, .int wt), (7, .int (nI ((pl c) + 1)))]) dX1_split_184 (by decide) [1, 2, 3, 4, 5, 6, 0] rfl ?_
                have L186 : ∀ (fu_L186 : Nat) (i : Nat) (g : Nat) (L : List Nat), g < fu_L186 → i + g = len → L ++ sgF (fun _ => true) ln g i = T → At G cX1_split RX1 10 rX1_split X 0 0 (XW G a n tg sr ld' mb' pl ln len (apl nx 0 L) L.length hs (apl ps 0 PS)) 186 [(0, .ref (a 0)), (1, .int (nI c)), (2, .int (nI (pl c))), (4, .int (nI PS.length)), (5, .int (mb c)), (7, .int (nI i))] [] := by
                  intro fu_L186
                  induction fu_L186 with
                  | zero => intro i g L hf hg hv; exfalso; omega
                  | succ fu_L186 ih_L186 =>
                    intro i g L hf hg hv
                    refine r_iload dX1_split_186 5 rfl ?_
                    refine r_aload_n dX1_split_188 0 rfl ?_
                    refine r_getX 0 7 rfl (by decide) q42 rfl dX1_split_189 ?_
                    refine n_icmp_ge (tgt := 212) dX1_split_192 (by decide) (by omega) (by omega) (fun c_192 => ?_) (fun c_192 => ?_)
                    · have hT2 : L = T := by rw [← hv, show g = 0 by omega, sgF, List.append_nil]
                      subst hT2
                      refine r_aload_n dX1_split_212 0 rfl ?_
                      refine r_callv (As := []) (rest := []) (ci := 0) (metX_adoptLine G a n tg sr ld' mb' pl ln len (apl nx 0 L) L.length hs (apl ps 0 PS) hT16 (fun i hi => apl0_mem hTm hi)) ⟨cgX_adoptLine, ⟨rfl, rfl⟩, cdX_adoptLine, Nat.le_of_ble_eq_true rfl, Nat.le_of_ble_eq_true rfl⟩ rfl rfl 0 rfl rfl rfl (Nat.le_of_ble_eq_true rfl) ⟨Nat.zero_le _, Nat.zero_le _⟩ dX1_split_213 ?_
                      refine r_iload dX1_split_216 3 rfl ?_
                      refine r_iconst (v := nI 1) dX1_split_218 (by decide) ?_
                      refine r_isub (v := nI (PS.length - 1)) dX1_split_219 (pk_sub (by omega)) ?_
                      exact hret _ _ _ _ (rfl) (by rw [e3, e4]) dX1_split_220
                    · obtain ⟨g', rfl⟩ : ∃ g', g = g' + 1 := ⟨g - 1, by omega⟩
                      rw [sgF_all] at hv
                      have h1 := hln i (by omega)
                      have h2 : L.length < 16 := ap_lt hv hT16
                      refine r_aload_n dX1_split_195 0 rfl ?_
                      refine r_aload_n dX1_split_196 0 rfl ?_
                      refine r_getX 0 6 rfl (by decide) q41 rfl dX1_split_197 ?_
                      refine r_iload dX1_split_200 5 rfl ?_
                      refine r_bald (v := nI (ln i)) dX1_split_202 6 rfl (by omega) (by decide) (rfl) ?_
                      refine r_callv (As := [.int (nI (ln i))]) (rest := []) (ci := 0) (metX_appendL G a n tg sr ld' mb' pl ln len nx hs (apl ps 0 PS) L (ln i) (by omega) (by omega)) ⟨cgX_append, ⟨rfl, rfl⟩, cdX_append, Nat.le_of_ble_eq_true rfl, Nat.le_of_ble_eq_true rfl⟩ rfl rfl 0 rfl rfl rfl (Nat.le_of_ble_eq_true rfl) ⟨Nat.zero_le _, Nat.zero_le _⟩ dX1_split_203 ?_
                      refine r_iinc (v := nI (i + 1)) (k := 5) (lv' := [(0, .ref (a 0)), (1, .int (nI c)), (2, .int (nI (pl c))), (4, .int (nI PS.length)), (5, .int (mb c)), (7, .int (nI (i + 1)))]) dX1_split_206 rfl (nI_1 _) (by decide) [1, 2, 3, 4, 5, 0] rfl ?_
                      refine r_goto (tgt := 186) dX1_split_209 (by decide) ?_
                      exact ih_L186 (i + 1) g' _ (by omega) (by omega) (by rw [← hv]; simp)
                refine At.sub [0, 1, 2, 3, 4, 6] rfl ?_
                exact L186 (len + 1) (pl c + 1) (len - (pl c + 1)) L (by omega) (by omega) hv3
              · obtain ⟨g', rfl⟩ : ∃ g', g = g' + 1 := ⟨g - 1, by omega⟩
                rw [spO] at hv e1 e2
                have h1 := low_lt (srcP sr n (apl ps 0 PS) wt PS.length 0)
                have h2 : L.length < 16 := ap_lt (by rw [← hv, List.append_assoc]; rfl) hT16
                refine r_aload_n dX1_split_142 0 rfl ?_
                refine r_iload dX1_split_143 3 rfl ?_
                refine r_iload dX1_split_145 5 rfl ?_
                refine r_calli (As := [.int (nI PS.length), .int wt]) (rest := []) (ci := 0) (metX_sourcePiece G a n tg sr ld' mb' pl ln len (apl nx 0 L) L.length hs (apl ps 0 PS) PS.length wt hn hPS16) ⟨cgX_sourcePiece, ⟨rfl, rfl⟩, cdX_sourcePiece, Nat.le_of_ble_eq_true rfl, Nat.le_of_ble_eq_true rfl⟩ rfl rfl 0 rfl rfl rfl (Nat.le_of_ble_eq_true rfl) ⟨Nat.zero_le _, Nat.zero_le _⟩ dX1_split_147 ?_
                refine r_istore (lv' := [(0, .ref (a 0)), (1, .int (nI c)), (2, .int (nI (pl c))), (4, .int (nI PS.length)), (5, .int (mb c)), (6, .int wt), (7, .int (nI j)), (8, .int (srcP sr n (apl ps 0 PS) wt PS.length 0))]) dX1_split_150 (by decide) [1, 2, 3, 4, 5, 6, 7, 0] rfl ?_
                refine r_iload dX1_split_152 5 rfl ?_
                refine r_iload dX1_split_154 7 rfl ?_
                refine r_iconst (v := (-1)) dX1_split_156 (by decide) ?_
                refine r_ixor (v := (srcP sr n (apl ps 0 PS) wt PS.length 0) ^^^ (-1)) dX1_split_157 (rfl) ?_
                refine r_iand (v := wt &&& ((srcP sr n (apl ps 0 PS) wt PS.length 0) ^^^ (-1))) dX1_split_158 (rfl) ?_
                refine r_istore (lv' := [(0, .ref (a 0)), (1, .int (nI c)), (2, .int (nI (pl c))), (4, .int (nI PS.length)), (5, .int (mb c)), (6, .int (wt &&& ((srcP sr n (apl ps 0 PS) wt PS.length 0) ^^^ (-1)))), (7, .int (nI j)), (8, .int (srcP sr n (apl ps 0 PS) wt PS.length 0))]) dX1_split_159 (by decide) [1, 2, 3, 4, 5, 0, 6, 7] rfl ?_
                refine r_aload_n dX1_split_161 0 rfl ?_
                refine r_iload dX1_split_162 7 rfl ?_
                refine r_calli (As := [.int (srcP sr n (apl ps 0 PS) wt PS.length 0)]) (rest := []) (ci := 0) (metX_claim G a n tg sr ld' mb' pl ln len (apl nx 0 L) L.length hs (apl ps 0 PS) (srcP sr n (apl ps 0 PS) wt PS.length 0) hn) ⟨cgX_claim, ⟨rfl, rfl⟩, cdX_claim, Nat.le_of_ble_eq_true rfl, Nat.le_of_ble_eq_true rfl⟩ rfl rfl 0 rfl rfl rfl (Nat.le_of_ble_eq_true rfl) ⟨Nat.zero_le _, Nat.zero_le _⟩ dX1_split_164 ?_
                refine r_istore (lv' := [(0, .ref (a 0)), (1, .int (nI c)), (2, .int (nI (pl c))), (4, .int (nI PS.length)), (5, .int (mb c)), (6, .int (wt &&& ((srcP sr n (apl ps 0 PS) wt PS.length 0) ^^^ (-1)))), (7, .int (nI j)), (8, .int (srcP sr n (apl ps 0 PS) wt PS.length 0)), (9, .int (nI (low (srcP sr n (apl ps 0 PS) wt PS.length 0))))]) dX1_split_167 (by decide) [1, 2, 3, 4, 5, 6, 7, 8, 0] rfl ?_
                refine r_aload_n dX1_split_169 0 rfl ?_
                refine r_iload dX1_split_170 8 rfl ?_
                refine r_callv (As := [.int (nI (low (srcP sr n (apl ps 0 PS) wt PS.length 0)))]) (rest := []) (ci := 0) (metX_appendL G a n tg sr (clm ld' (srcP sr n (apl ps 0 PS) wt PS.length 0) (low (srcP sr n (apl ps 0 PS) wt PS.length 0)) n) (upd mb' (low (srcP sr n (apl ps 0 PS) wt PS.length 0)) (srcP sr n (apl ps 0 PS) wt PS.length 0)) pl ln len nx hs (apl ps 0 PS) L (low (srcP sr n (apl ps 0 PS) wt PS.length 0)) (by omega) (by omega)) ⟨cgX_append, ⟨rfl, rfl⟩, cdX_append, Nat.le_of_ble_eq_true rfl, Nat.le_of_ble_eq_true rfl⟩ rfl rfl 0 rfl rfl rfl (Nat.le_of_ble_eq_true rfl) ⟨Nat.zero_le _, Nat.zero_le _⟩ dX1_split_172 ?_
                refine r_iinc (v := nI (j + 1)) (k := 6) (lv' := [(0, .ref (a 0)), (1, .int (nI c)), (2, .int (nI (pl c))), (4, .int (nI PS.length)), (5, .int (mb c)), (6, .int (wt &&& ((srcP sr n (apl ps 0 PS) wt PS.length 0) ^^^ (-1)))), (7, .int (nI (j + 1))), (8, .int (srcP sr n (apl ps 0 PS) wt PS.length 0)), (9, .int (nI (low (srcP sr n (apl ps 0 PS) wt PS.length 0))))]) dX1_split_175 rfl (nI_1 _) (by decide) [1, 2, 3, 4, 5, 6, 0, 7, 8] rfl ?_
                refine r_goto (tgt := 135) dX1_split_178 (by decide) ?_
                refine At.sub [0, 1, 2, 3, 4, 5, 6] rfl ?_
                exact ih_L135 (j + 1) g' _ _ _ _ (by omega) (by omega) (ap_step hv) e1 e2
          exact L135 (PS.length + 1) 0 PS.length (mb c) L _ _ (by omega) (by omega) (by rw [hOO, ← hv2, List.append_assoc]) (by rw [hOO]) (by rw [hOO])
        · obtain ⟨g', rfl⟩ : ∃ g', g = g' + 1 := ⟨g - 1, by omega⟩
          rw [sgF_all] at hv
          have h1 := hln i (by omega)
          have h2 : L.length < 16 := ap_lt (by rw [← hv, List.append_assoc]; rfl) hT16
          refine r_aload_n dX1_split_111 0 rfl ?_
          refine r_aload_n dX1_split_112 0 rfl ?_
          refine r_getX 0 6 rfl (by decide) q41 rfl dX1_split_113 ?_
          refine r_iload dX1_split_116 5 rfl ?_
          refine r_bald (v := nI (ln i)) dX1_split_118 6 rfl (by omega) (by decide) (rfl) ?_
          refine r_callv (As := [.int (nI (ln i))]) (rest := []) (ci := 0) (metX_appendL G a n tg sr ld (upd mb c 0) pl ln len nx hs (apl ps 0 PS) L (ln i) (by omega) (by omega)) ⟨cgX_append, ⟨rfl, rfl⟩, cdX_append, Nat.le_of_ble_eq_true rfl, Nat.le_of_ble_eq_true rfl⟩ rfl rfl 0 rfl rfl rfl (Nat.le_of_ble_eq_true rfl) ⟨Nat.zero_le _, Nat.zero_le _⟩ dX1_split_119 ?_
          refine r_iinc (v := nI (i + 1)) (k := 5) (lv' := [(0, .ref (a 0)), (1, .int (nI c)), (2, .int (nI (pl c))), (4, .int (nI PS.length)), (5, .int (mb c)), (6, .int (nI (i + 1)))]) dX1_split_122 rfl (nI_1 _) (by decide) [1, 2, 3, 4, 5, 0] rfl ?_
          refine r_goto (tgt := 105) dX1_split_125 (by decide) ?_
          exact ih_L105 (i + 1) g' _ (by omega) (by omega) (ap_step hv)
    exact L105 (pl c + 1) 0 (pl c) [] (by omega) (by omega) (by rw [← hT]; simp only [List.nil_append, List.append_assoc])
  have L20 : ∀ (fu_L20 : Nat) (k : Nat) (g : Nat) (rest : Int32) (P : List Int32), g < fu_L20 → k + g = 16 → P.length = k → P ++ spL tg sr n g rest = PS → At G cX1_split RX1 10 rX1_split X 0 0 (XW G a n tg sr ld mb pl ln len nx nl hs (apl ps 0 P)) 20 [(0, .ref (a 0)), (1, .int (nI c)), (2, .int (nI (pl c))), (3, .int rest), (4, .int (nI P.length)), (5, .int (nI k))] [] := by
    intro fu_L20
    induction fu_L20 with
    | zero => intro k g rest P hf hg hk hv; exfalso; omega
    | succ fu_L20 ih_L20 =>
      intro k g rest P hf hg hk hv
      refine r_iload dX1_split_20 5 rfl ?_
      refine r_bipush (v := nI 16) dX1_split_22 (by decide) ?_
      refine n_icmp_ge (tgt := 82) dX1_split_24 (by decide) (by omega) (by omega) (fun c_24 => ?_) (fun c_24 => ?_)
      · refine At.sub [0, 1, 2, 4] rfl ?_
        exact J82 P (by rw [← hv, show g = 0 by omega, spL, List.append_nil])
      · obtain ⟨g', rfl⟩ : ∃ g', g = g' + 1 := ⟨g - 1, by omega⟩
        rw [spL] at hv
        refine r_iload_n dX1_split_27 3 rfl ?_
        refine r_if_eq (tgt := 82) dX1_split_28 (by decide) (fun c_28 => ?_) (fun c_28 => ?_)
        · refine At.sub [0, 1, 2, 4] rfl ?_
          exact J82 P (by rw [if_pos c_28, List.append_nil] at hv; exact hv)
        · refine r_iconst (v := nI 1) dX1_split_31 (by decide) ?_
          refine r_aload_n dX1_split_32 0 rfl ?_
          refine r_iload_n dX1_split_33 3 rfl ?_
          refine r_calli (As := [.int rest]) (rest := [.int (nI 1)]) (ci := 0) (metX_lowest G a n tg sr ld mb pl ln len nx nl hs (apl ps 0 P) rest) ⟨cgX_lowest, ⟨rfl, rfl⟩, cdX_lowest, Nat.le_of_ble_eq_true rfl, Nat.le_of_ble_eq_true rfl⟩ rfl rfl 0 rfl rfl rfl (Nat.le_of_ble_eq_true rfl) ⟨Nat.zero_le _, Nat.zero_le _⟩ dX1_split_34 ?_
          refine r_ishl (v := sg (low rest)) dX1_split_37 (rfl) ?_
          refine r_istore (lv' := [(0, .ref (a 0)), (1, .int (nI c)), (2, .int (nI (pl c))), (3, .int rest), (4, .int (nI P.length)), (5, .int (nI k)), (6, .int (sg (low rest)))]) dX1_split_38 (by decide) [1, 2, 3, 4, 5, 6, 0] rfl ?_
          refine r_aload_n dX1_split_40 0 rfl ?_
          refine r_iload dX1_split_41 6 rfl ?_
          refine r_iload_n dX1_split_43 3 rfl ?_
          refine r_calli (As := [.int (sg (low rest)), .int rest]) (rest := []) (ci := 0) (metX_spreadWithin G a n tg sr ld mb pl ln len nx nl hs (apl ps 0 P) (sg (low rest)) rest hn) ⟨cgX_spreadWithin, ⟨rfl, rfl⟩, cdX_spreadWithin, Nat.le_of_ble_eq_true rfl, Nat.le_of_ble_eq_true rfl⟩ rfl rfl 0 rfl rfl rfl (Nat.le_of_ble_eq_true rfl) ⟨Nat.zero_le _, Nat.zero_le _⟩ dX1_split_44 ?_
          refine r_aload_n dX1_split_47 0 rfl ?_
          refine r_iload dX1_split_48 6 rfl ?_
          refine r_iload_n dX1_split_50 3 rfl ?_
          refine r_calli (As := [.int (sg (low rest)), .int rest]) (rest := [.int (spr tg n rest 16 (sg (low rest)) (sg (low rest)))]) (ci := 0) (metX_gatherWithin G a n tg sr ld mb pl ln len nx nl hs (apl ps 0 P) (sg (low rest)) rest hn) ⟨cgX_gatherWithin, ⟨rfl, rfl⟩, cdX_gatherWithin, Nat.le_of_ble_eq_true rfl, Nat.le_of_ble_eq_true rfl⟩ rfl rfl 0 rfl rfl rfl (Nat.le_of_ble_eq_true rfl) ⟨Nat.zero_le _, Nat.zero_le _⟩ dX1_split_51 ?_
          refine r_iand (v := spP tg sr n rest) dX1_split_54 (rfl) ?_
          refine r_istore (lv' := [(0, .ref (a 0)), (1, .int (nI c)), (2, .int (nI (pl c))), (3, .int rest), (4, .int (nI P.length)), (5, .int (nI k)), (6, .int (sg (low rest))), (7, .int (spP tg sr n rest))]) dX1_split_55 (by decide) [1, 2, 3, 4, 5, 6, 7, 0] rfl ?_
          refine r_aload_n dX1_split_57 0 rfl ?_
          refine r_getX 0 11 rfl (by decide) q46 rfl dX1_split_58 ?_
          refine r_iload dX1_split_61 4 rfl ?_
          refine r_iload dX1_split_63 7 rfl ?_
          refine r_iast (f' := apl ps 0 (P ++ [spP tg sr n rest])) (w' := XW G a n tg sr ld mb pl ln len nx nl hs (apl ps 0 (P ++ [spP tg sr n rest]))) dX1_split_65 9 rfl (by omega) (by decide) (apl0_upd _ _ _) rfl ?_
          refine r_iinc (v := nI ((P ++ [spP tg sr n rest]).length)) (k := 4) (lv' := [(0, .ref (a 0)), (1, .int (nI c)), (2, .int (nI (pl c))), (3, .int rest), (4, .int (nI ((P ++ [spP tg sr n rest]).length))), (5, .int (nI k)), (6, .int (sg (low rest))), (7, .int (spP tg sr n rest))]) dX1_split_66 rfl (nI_snoc _ _) (by decide) [1, 2, 3, 4, 0, 5, 6, 7] rfl ?_
          refine r_iload_n dX1_split_69 3 rfl ?_
          refine r_iload dX1_split_70 7 rfl ?_
          refine r_iconst (v := (-1)) dX1_split_72 (by decide) ?_
          refine r_ixor (v := (spP tg sr n rest) ^^^ (-1)) dX1_split_73 (rfl) ?_
          refine r_iand (v := rest &&& ((spP tg sr n rest) ^^^ (-1))) dX1_split_74 (rfl) ?_
          refine r_istore_n (lv' := [(0, .ref (a 0)), (1, .int (nI c)), (2, .int (nI (pl c))), (3, .int (rest &&& ((spP tg sr n rest) ^^^ (-1)))), (4, .int (nI ((P ++ [spP tg sr n rest]).length))), (5, .int (nI k)), (6, .int (sg (low rest))), (7, .int (spP tg sr n rest))]) dX1_split_75 (by decide) [1, 2, 3, 0, 4, 5, 6, 7] rfl ?_
          refine r_iinc (v := nI (k + 1)) (k := 5) (lv' := [(0, .ref (a 0)), (1, .int (nI c)), (2, .int (nI (pl c))), (3, .int (rest &&& ((spP tg sr n rest) ^^^ (-1)))), (4, .int (nI ((P ++ [spP tg sr n rest]).length))), (5, .int (nI (k + 1))), (6, .int (sg (low rest))), (7, .int (spP tg sr n rest))]) dX1_split_76 rfl (nI_1 _) (by decide) [1, 2, 3, 4, 5, 0, 6, 7] rfl ?_
          refine r_goto (tgt := 20) dX1_split_79 (by decide) ?_
          refine At.sub [0, 1, 2, 3, 4, 5] rfl ?_
          exact ih_L20 (k + 1) g' _ _ (by omega) (by omega) (by rw [List.length_append, hk]; rfl) (by rw [if_neg c_28] at hv; rw [← hv, List.append_assoc]; rfl)
  exact L20 17 0 16 (mb c) [] (by omega) (by omega) rfl hPS
end
section
abbrev rX1_addEdge : Room := { frames := 4, cells := 0, slots := 0, locals := 97 }
set_option maxHeartbeats 4000000 in
set_option maxRecDepth 100000 in
/-- addEdge(x, y), not both vertices, or the same -/
theorem metX_addEdge_bad (G : GG) (a : Nat → Nat) (n : Nat) (tg : Nat → Int32) (sr : Nat → Int32) (ld : Nat → Nat) (mb : Nat → Int32) (pl : Nat → Nat) (ln : Nat → Nat) (len : Nat) (nx : Nat → Nat) (nl : Nat) (hs : Nat → Nat) (ps : Nat → Int32) (x y : Int32) (hn : n ≤ 16) (h : vI n x = false ∨ vI n y = false ∨ x = y) : KMi G yX1_addEdge cX1_addEdge 5 .int rX1_addEdge [.ref (a 0), .int x, .int y] (XW G a n tg sr ld mb pl ln len nx nl hs ps) (XW G a n tg sr ld mb pl ln len nx nl hs ps) (-1) := by
  refine KMi.of (own := RX1) (by decide) rfl (Nat.le_of_ble_eq_true rfl) rfl ?_
  intro X hret
  show At G cX1_addEdge RX1 5 rX1_addEdge X 0 0 (XW G a n tg sr ld mb pl ln len nx nl hs ps) 0 [(0, .ref (a 0)), (1, .int x), (2, .int y)] []
  refine r_aload_n dX1_addEdge_0 0 rfl ?_
  refine r_iload_n dX1_addEdge_1 1 rfl ?_
  refine r_calli (As := [.int x]) (rest := []) (ci := 0) (metX_isVertex G a n tg sr ld mb pl ln len nx nl hs ps x hn) ⟨cgX_isVertex, ⟨rfl, rfl⟩, cdX_isVertex, Nat.le_of_ble_eq_true rfl, Nat.le_of_ble_eq_true rfl⟩ rfl rfl 0 rfl rfl rfl (Nat.le_of_ble_eq_true rfl) ⟨Nat.zero_le _, Nat.zero_le _⟩ dX1_addEdge_2 ?_
  refine b_if_eq (tgt := 21) dX1_addEdge_5 (by decide) (fun c_5 => ?_) (fun c_5 => ?_)
  · refine r_iconst (v := (-1)) dX1_addEdge_21 (by decide) ?_
    exact hret _ _ _ _ (rfl) (rfl) dX1_addEdge_22
  · refine r_aload_n dX1_addEdge_8 0 rfl ?_
    refine r_iload_n dX1_addEdge_9 2 rfl ?_
    refine r_calli (As := [.int y]) (rest := []) (ci := 0) (metX_isVertex G a n tg sr ld mb pl ln len nx nl hs ps y hn) ⟨cgX_isVertex, ⟨rfl, rfl⟩, cdX_isVertex, Nat.le_of_ble_eq_true rfl, Nat.le_of_ble_eq_true rfl⟩ rfl rfl 0 rfl rfl rfl (Nat.le_of_ble_eq_true rfl) ⟨Nat.zero_le _, Nat.zero_le _⟩ dX1_addEdge_10 ?_
    refine b_if_eq (tgt := 21) dX1_addEdge_13 (by decide) (fun c_13 => ?_) (fun c_13 => ?_)
    · refine r_iconst (v := (-1)) dX1_addEdge_21 (by decide) ?_
      exact hret _ _ _ _ (rfl) (rfl) dX1_addEdge_22
    · refine r_iload_n dX1_addEdge_16 1 rfl ?_
      refine r_iload_n dX1_addEdge_17 2 rfl ?_
      refine r_icmp_ne (tgt := 23) dX1_addEdge_18 (by decide) (fun c_18 => ?_) (fun c_18 => ?_)
      · exact absurd h (by rw [c_5, c_13]; simp [c_18])
      · refine r_iconst (v := (-1)) dX1_addEdge_21 (by decide) ?_
        exact hret _ _ _ _ (rfl) (rfl) dX1_addEdge_22
set_option maxHeartbeats 4000000 in
set_option maxRecDepth 100000 in
/-- metX_addEdge_dup -/
theorem metX_addEdge_dup (G : GG) (a : Nat → Nat) (n : Nat) (tg : Nat → Int32) (sr : Nat → Int32) (ld : Nat → Nat) (mb : Nat → Int32) (pl : Nat → Nat) (ln : Nat → Nat) (len : Nat) (nx : Nat → Nat) (nl : Nat) (hs : Nat → Nat) (ps : Nat → Int32) (u v : Nat) (hn : n ≤ 16) (hu : u < n) (hv : v < n) (huv : u ≠ v) (hb : bt (tg u) v = true) : KMi G yX1_addEdge cX1_addEdge 5 .int rX1_addEdge [.ref (a 0), .int (nI u), .int (nI v)] (XW G a n tg sr ld mb pl ln len nx nl hs ps) (XW G a n tg sr ld mb pl ln len nx nl hs ps) (-2) := by
  refine KMi.of (own := RX1) (by decide) rfl (Nat.le_of_ble_eq_true rfl) rfl ?_
  intro X hret
  show At G cX1_addEdge RX1 5 rX1_addEdge X 0 0 (XW G a n tg sr ld mb pl ln len nx nl hs ps) 0 [(0, .ref (a 0)), (1, .int (nI u)), (2, .int (nI v))] []
  refine r_aload_n dX1_addEdge_0 0 rfl ?_
  refine r_iload_n dX1_addEdge_1 1 rfl ?_
  refine r_calli (As := [.int (nI u)]) (rest := []) (ci := 0) (by have h := metX_isVertex G a n tg sr ld mb pl ln len nx nl hs ps (nI u) hn; rw [vI_lt hu hn] at h; exact h) ⟨cgX_isVertex, ⟨rfl, rfl⟩, cdX_isVertex, Nat.le_of_ble_eq_true rfl, Nat.le_of_ble_eq_true rfl⟩ rfl rfl 0 rfl rfl rfl (Nat.le_of_ble_eq_true rfl) ⟨Nat.zero_le _, Nat.zero_le _⟩ dX1_addEdge_2 ?_
  refine b_if_eq (tgt := 21) dX1_addEdge_5 (by decide) (fun c_5 => ?_) (fun c_5 => ?_)
  · exact absurd c_5 (by decide)
  · refine r_aload_n dX1_addEdge_8 0 rfl ?_
    refine r_iload_n dX1_addEdge_9 2 rfl ?_
    refine r_calli (As := [.int (nI v)]) (rest := []) (ci := 0) (by have h := metX_isVertex G a n tg sr ld mb pl ln len nx nl hs ps (nI v) hn; rw [vI_lt hv hn] at h; exact h) ⟨cgX_isVertex, ⟨rfl, rfl⟩, cdX_isVertex, Nat.le_of_ble_eq_true rfl, Nat.le_of_ble_eq_true rfl⟩ rfl rfl 0 rfl rfl rfl (Nat.le_of_ble_eq_true rfl) ⟨Nat.zero_le _, Nat.zero_le _⟩ dX1_addEdge_10 ?_
    refine b_if_eq (tgt := 21) dX1_addEdge_13 (by decide) (fun c_13 => ?_) (fun c_13 => ?_)
    · exact absurd c_13 (by decide)
    · refine r_iload_n dX1_addEdge_16 1 rfl ?_
      refine r_iload_n dX1_addEdge_17 2 rfl ?_
      refine n_icmp_ne (tgt := 23) dX1_addEdge_18 (by decide) (by omega) (by omega) (fun c_18 => ?_) (fun c_18 => ?_)
      · refine r_aload_n dX1_addEdge_23 0 rfl ?_
        refine r_getX 0 1 rfl (by decide) q36 rfl dX1_addEdge_24 ?_
        refine r_iload_n dX1_addEdge_27 1 rfl ?_
        refine r_iald (v := tg u) dX1_addEdge_28 1 rfl (by omega) (by decide) (rfl) ?_
        refine r_iload_n dX1_addEdge_29 2 rfl ?_
        refine r_ishr (v := (tg u) >>> (nI v &&& 31)) dX1_addEdge_30 (rfl) ?_
        refine r_iconst (v := nI 1) dX1_addEdge_31 (by decide) ?_
        refine r_iand (v := nI (bt (tg u) v).toNat) dX1_addEdge_32 (bt_bit _ (by omega)) ?_
        refine b_if_eq (tgt := 39) dX1_addEdge_33 (by decide) (fun c_33 => ?_) (fun c_33 => ?_)
        · exact absurd hb (b_nf c_33)
        · refine r_bipush (v := (-2)) dX1_addEdge_36 (by decide) ?_
          exact hret _ _ _ _ (rfl) (rfl) dX1_addEdge_38
      · exact absurd c_18 huv
set_option maxHeartbeats 4000000 in
set_option maxRecDepth 100000 in
/-- metX_addEdge_fwd -/
theorem metX_addEdge_fwd (G : GG) (a : Nat → Nat) (n : Nat) (tg : Nat → Int32) (sr : Nat → Int32) (ld : Nat → Nat) (mb : Nat → Int32) (pl : Nat → Nat) (ln : Nat → Nat) (len : Nat) (nx : Nat → Nat) (nl : Nat) (hs : Nat → Nat) (ps : Nat → Int32) (u v : Nat) (tg' sr' : Nat → Int32) (hn : n ≤ 16) (hu : u < n) (hv : v < n) (huv : u ≠ v) (e1 : upd tg u (tg u ||| sg v) = tg') (e2 : upd sr v (sr v ||| sg u) = sr') (hlu : ld u < 16) (hlv : ld v < 16) (hpu : pl (ld u) < 16) (hpv : pl (ld v) < 16) (hb : bt (tg u) v = false) (hle : pl (ld u) ≤ pl (ld v)) : KMi G yX1_addEdge cX1_addEdge 5 .int rX1_addEdge [.ref (a 0), .int (nI u), .int (nI v)] (XW G a n tg sr ld mb pl ln len nx nl hs ps) (XW G a n tg' sr' ld mb pl ln len nx nl hs ps) (0) := by
  refine KMi.of (own := RX1) (by decide) rfl (Nat.le_of_ble_eq_true rfl) rfl ?_
  intro X hret
  show At G cX1_addEdge RX1 5 rX1_addEdge X 0 0 (XW G a n tg sr ld mb pl ln len nx nl hs ps) 0 [(0, .ref (a 0)), (1, .int (nI u)), (2, .int (nI v))] []
  refine r_aload_n dX1_addEdge_0 0 rfl ?_
  refine r_iload_n dX1_addEdge_1 1 rfl ?_
  refine r_calli (As := [.int (nI u)]) (rest := []) (ci := 0) (by have h := metX_isVertex G a n tg sr ld mb pl ln len nx nl hs ps (nI u) hn; rw [vI_lt hu hn] at h; exact h) ⟨cgX_isVertex, ⟨rfl, rfl⟩, cdX_isVertex, Nat.le_of_ble_eq_true rfl, Nat.le_of_ble_eq_true rfl⟩ rfl rfl 0 rfl rfl rfl (Nat.le_of_ble_eq_true rfl) ⟨Nat.zero_le _, Nat.zero_le _⟩ dX1_addEdge_2 ?_
  refine b_if_eq (tgt := 21) dX1_addEdge_5 (by decide) (fun c_5 => ?_) (fun c_5 => ?_)
  · exact absurd c_5 (by decide)
  · refine r_aload_n dX1_addEdge_8 0 rfl ?_
    refine r_iload_n dX1_addEdge_9 2 rfl ?_
    refine r_calli (As := [.int (nI v)]) (rest := []) (ci := 0) (by have h := metX_isVertex G a n tg sr ld mb pl ln len nx nl hs ps (nI v) hn; rw [vI_lt hv hn] at h; exact h) ⟨cgX_isVertex, ⟨rfl, rfl⟩, cdX_isVertex, Nat.le_of_ble_eq_true rfl, Nat.le_of_ble_eq_true rfl⟩ rfl rfl 0 rfl rfl rfl (Nat.le_of_ble_eq_true rfl) ⟨Nat.zero_le _, Nat.zero_le _⟩ dX1_addEdge_10 ?_
    refine b_if_eq (tgt := 21) dX1_addEdge_13 (by decide) (fun c_13 => ?_) (fun c_13 => ?_)
    · exact absurd c_13 (by decide)
    · refine r_iload_n dX1_addEdge_16 1 rfl ?_
      refine r_iload_n dX1_addEdge_17 2 rfl ?_
      refine n_icmp_ne (tgt := 23) dX1_addEdge_18 (by decide) (by omega) (by omega) (fun c_18 => ?_) (fun c_18 => ?_)
      · refine r_aload_n dX1_addEdge_23 0 rfl ?_
        refine r_getX 0 1 rfl (by decide) q36 rfl dX1_addEdge_24 ?_
        refine r_iload_n dX1_addEdge_27 1 rfl ?_
        refine r_iald (v := tg u) dX1_addEdge_28 1 rfl (by omega) (by decide) (rfl) ?_
        refine r_iload_n dX1_addEdge_29 2 rfl ?_
        refine r_ishr (v := (tg u) >>> (nI v &&& 31)) dX1_addEdge_30 (rfl) ?_
        refine r_iconst (v := nI 1) dX1_addEdge_31 (by decide) ?_
        refine r_iand (v := nI (bt (tg u) v).toNat) dX1_addEdge_32 (bt_bit _ (by omega)) ?_
        refine b_if_eq (tgt := 39) dX1_addEdge_33 (by decide) (fun c_33 => ?_) (fun c_33 => ?_)
        · refine r_aload_n dX1_addEdge_39 0 rfl ?_
          refine r_getX 0 1 rfl (by decide) q36 rfl dX1_addEdge_40 ?_
          refine r_iload_n dX1_addEdge_43 1 rfl ?_
          refine r_dup2 dX1_addEdge_44 rfl rfl ?_
          refine r_iald (v := tg u) dX1_addEdge_45 1 rfl (by omega) (by decide) (rfl) ?_
          refine r_iconst (v := nI 1) dX1_addEdge_46 (by decide) ?_
          refine r_iload_n dX1_addEdge_47 2 rfl ?_
          refine r_ishl (v := sg v) dX1_addEdge_48 (rfl) ?_
          refine r_ior (v := (tg u) ||| (sg v)) dX1_addEdge_49 (rfl) ?_
          refine r_iast (f' := tg') (w' := XW G a n tg' sr ld mb pl ln len nx nl hs ps) dX1_addEdge_50 1 rfl (by omega) (by decide) (e1) rfl ?_
          refine r_aload_n dX1_addEdge_51 0 rfl ?_
          refine r_getX 0 2 rfl (by decide) q37 rfl dX1_addEdge_52 ?_
          refine r_iload_n dX1_addEdge_55 2 rfl ?_
          refine r_dup2 dX1_addEdge_56 rfl rfl ?_
          refine r_iald (v := sr v) dX1_addEdge_57 2 rfl (by omega) (by decide) (rfl) ?_
          refine r_iconst (v := nI 1) dX1_addEdge_58 (by decide) ?_
          refine r_iload_n dX1_addEdge_59 1 rfl ?_
          refine r_ishl (v := sg u) dX1_addEdge_60 (rfl) ?_
          refine r_ior (v := (sr v) ||| (sg u)) dX1_addEdge_61 (rfl) ?_
          refine r_iast (f' := sr') (w' := XW G a n tg' sr' ld mb pl ln len nx nl hs ps) dX1_addEdge_62 2 rfl (by omega) (by decide) (e2) rfl ?_
          refine r_aload_n dX1_addEdge_63 0 rfl ?_
          refine r_getX 0 3 rfl (by decide) q38 rfl dX1_addEdge_64 ?_
          refine r_iload_n dX1_addEdge_67 1 rfl ?_
          refine r_bald (v := nI (ld u)) dX1_addEdge_68 3 rfl (by omega) (by decide) (rfl) ?_
          refine r_istore_n (lv' := [(0, .ref (a 0)), (1, .int (nI u)), (2, .int (nI v)), (3, .int (nI (ld u)))]) dX1_addEdge_69 (by decide) [1, 2, 3, 0] rfl ?_
          refine r_aload_n dX1_addEdge_70 0 rfl ?_
          refine r_getX 0 3 rfl (by decide) q38 rfl dX1_addEdge_71 ?_
          refine r_iload_n dX1_addEdge_74 2 rfl ?_
          refine r_bald (v := nI (ld v)) dX1_addEdge_75 3 rfl (by omega) (by decide) (rfl) ?_
          refine r_istore (lv' := [(0, .ref (a 0)), (1, .int (nI u)), (2, .int (nI v)), (3, .int (nI (ld u))), (4, .int (nI (ld v)))]) dX1_addEdge_76 (by decide) [1, 2, 3, 4, 0] rfl ?_
          refine r_aload_n dX1_addEdge_78 0 rfl ?_
          refine r_getX 0 5 rfl (by decide) q40 rfl dX1_addEdge_79 ?_
          refine r_iload_n dX1_addEdge_82 3 rfl ?_
          refine r_bald (v := nI (pl (ld u))) dX1_addEdge_83 5 rfl (by omega) (by decide) (rfl) ?_
          refine r_aload_n dX1_addEdge_84 0 rfl ?_
          refine r_getX 0 5 rfl (by decide) q40 rfl dX1_addEdge_85 ?_
          refine r_iload dX1_addEdge_88 4 rfl ?_
          refine r_bald (v := nI (pl (ld v))) dX1_addEdge_90 5 rfl (by omega) (by decide) (rfl) ?_
          refine n_icmp_gt (tgt := 96) dX1_addEdge_91 (by decide) (by omega) (by omega) (fun c_91 => ?_) (fun c_91 => ?_)
          · exfalso; omega
          · refine r_iconst (v := nI 0) dX1_addEdge_94 (by decide) ?_
            exact hret _ _ _ _ (rfl) (rfl) dX1_addEdge_95
        · exact absurd c_33 (b_nf hb)
      · exact absurd c_18 huv
set_option maxHeartbeats 4000000 in
set_option maxRecDepth 100000 in
/-- metX_addEdge_rep -/
theorem metX_addEdge_rep (G : GG) (a : Nat → Nat) (n : Nat) (tg : Nat → Int32) (sr : Nat → Int32) (ld : Nat → Nat) (mb : Nat → Int32) (pl : Nat → Nat) (ln : Nat → Nat) (len : Nat) (nx : Nat → Nat) (nl : Nat) (hs : Nat → Nat) (ps : Nat → Int32) (u v : Nat) (tg' sr' : Nat → Int32) (F M : Int32) (T : List Nat) (hn : n ≤ 16) (hu : u < n) (hv : v < n) (huv : u ≠ v) (e1 : upd tg u (tg u ||| sg v) = tg') (e2 : upd sr v (sr v ||| sg u) = sr') (hlu : ld u < 16) (hlv : ld v < 16) (hb : bt (tg u) v = false) (hlt : pl (ld v) < pl (ld u)) (hlen : len ≤ 16) (hhi : pl (ld u) < len) (hln : ∀ i, i < len → ln i < 16) (hF : fwd tg' n ld mb ln (pl (ld u) + 1 - pl (ld v)) (pl (ld v)) (sg (ld v)) = F) (hM : (if bt F (ld u) = true then (F &&& bwd sr' n ld mb ln (pl (ld u) + 1 - pl (ld v)) (pl (ld u) + 1) (sg (ld u))) &&& lbt ln (pl (ld u) + 1 - pl (ld v)) (pl (ld v)) 0 else 0) = M) (hb1 : ¬ M = 0 → 1 ≤ bc M 16) (hT : rpL F M mb n ln (pl (ld v)) (pl (ld u)) len = T) (hT16 : T.length ≤ 16) (hTm : ∀ c ∈ T, c < 16) : KMi G yX1_addEdge cX1_addEdge 5 .int rX1_addEdge [.ref (a 0), .int (nI u), .int (nI v)] (XW G a n tg sr ld mb pl ln len nx nl hs ps) (XW G a n tg' sr' (if M = 0 then ld else clm ld (mlA mb M n) (low (mlA mb M n)) n) (if M = 0 then mb else upd (mlM mb M n) (low (mlA mb M n)) (mlA mb M n)) (adP (apl nx 0 T) pl T.length) (adL (apl nx 0 T) ln T.length) T.length (apl nx 0 T) T.length hs ps) (if M = 0 then 0 else nI (bc M 16 - 1)) := by
  refine KMi.of (own := RX1) (by decide) rfl (Nat.le_of_ble_eq_true rfl) rfl ?_
  intro X hret
  show At G cX1_addEdge RX1 5 rX1_addEdge X 0 0 (XW G a n tg sr ld mb pl ln len nx nl hs ps) 0 [(0, .ref (a 0)), (1, .int (nI u)), (2, .int (nI v))] []
  refine r_aload_n dX1_addEdge_0 0 rfl ?_
  refine r_iload_n dX1_addEdge_1 1 rfl ?_
  refine r_calli (As := [.int (nI u)]) (rest := []) (ci := 0) (by have h := metX_isVertex G a n tg sr ld mb pl ln len nx nl hs ps (nI u) hn; rw [vI_lt hu hn] at h; exact h) ⟨cgX_isVertex, ⟨rfl, rfl⟩, cdX_isVertex, Nat.le_of_ble_eq_true rfl, Nat.le_of_ble_eq_true rfl⟩ rfl rfl 0 rfl rfl rfl (Nat.le_of_ble_eq_true rfl) ⟨Nat.zero_le _, Nat.zero_le _⟩ dX1_addEdge_2 ?_
  refine b_if_eq (tgt := 21) dX1_addEdge_5 (by decide) (fun c_5 => ?_) (fun c_5 => ?_)
  · exact absurd c_5 (by decide)
  · refine r_aload_n dX1_addEdge_8 0 rfl ?_
    refine r_iload_n dX1_addEdge_9 2 rfl ?_
    refine r_calli (As := [.int (nI v)]) (rest := []) (ci := 0) (by have h := metX_isVertex G a n tg sr ld mb pl ln len nx nl hs ps (nI v) hn; rw [vI_lt hv hn] at h; exact h) ⟨cgX_isVertex, ⟨rfl, rfl⟩, cdX_isVertex, Nat.le_of_ble_eq_true rfl, Nat.le_of_ble_eq_true rfl⟩ rfl rfl 0 rfl rfl rfl (Nat.le_of_ble_eq_true rfl) ⟨Nat.zero_le _, Nat.zero_le _⟩ dX1_addEdge_10 ?_
    refine b_if_eq (tgt := 21) dX1_addEdge_13 (by decide) (fun c_13 => ?_) (fun c_13 => ?_)
    · exact absurd c_13 (by decide)
    · refine r_iload_n dX1_addEdge_16 1 rfl ?_
      refine r_iload_n dX1_addEdge_17 2 rfl ?_
      refine n_icmp_ne (tgt := 23) dX1_addEdge_18 (by decide) (by omega) (by omega) (fun c_18 => ?_) (fun c_18 => ?_)
      · refine r_aload_n dX1_addEdge_23 0 rfl ?_
        refine r_getX 0 1 rfl (by decide) q36 rfl dX1_addEdge_24 ?_
        refine r_iload_n dX1_addEdge_27 1 rfl ?_
        refine r_iald (v := tg u) dX1_addEdge_28 1 rfl (by omega) (by decide) (rfl) ?_
        refine r_iload_n dX1_addEdge_29 2 rfl ?_
        refine r_ishr (v := (tg u) >>> (nI v &&& 31)) dX1_addEdge_30 (rfl) ?_
        refine r_iconst (v := nI 1) dX1_addEdge_31 (by decide) ?_
        refine r_iand (v := nI (bt (tg u) v).toNat) dX1_addEdge_32 (bt_bit _ (by omega)) ?_
        refine b_if_eq (tgt := 39) dX1_addEdge_33 (by decide) (fun c_33 => ?_) (fun c_33 => ?_)
        · refine r_aload_n dX1_addEdge_39 0 rfl ?_
          refine r_getX 0 1 rfl (by decide) q36 rfl dX1_addEdge_40 ?_
          refine r_iload_n dX1_addEdge_43 1 rfl ?_
          refine r_dup2 dX1_addEdge_44 rfl rfl ?_
          refine r_iald (v := tg u) dX1_addEdge_45 1 rfl (by omega) (by decide) (rfl) ?_
          refine r_iconst (v := nI 1) dX1_addEdge_46 (by decide) ?_
          refine r_iload_n dX1_addEdge_47 2 rfl ?_
          refine r_ishl (v := sg v) dX1_addEdge_48 (rfl) ?_
          refine r_ior (v := (tg u) ||| (sg v)) dX1_addEdge_49 (rfl) ?_
          refine r_iast (f' := tg') (w' := XW G a n tg' sr ld mb pl ln len nx nl hs ps) dX1_addEdge_50 1 rfl (by omega) (by decide) (e1) rfl ?_
          refine r_aload_n dX1_addEdge_51 0 rfl ?_
          refine r_getX 0 2 rfl (by decide) q37 rfl dX1_addEdge_52 ?_
          refine r_iload_n dX1_addEdge_55 2 rfl ?_
          refine r_dup2 dX1_addEdge_56 rfl rfl ?_
          refine r_iald (v := sr v) dX1_addEdge_57 2 rfl (by omega) (by decide) (rfl) ?_
          refine r_iconst (v := nI 1) dX1_addEdge_58 (by decide) ?_
          refine r_iload_n dX1_addEdge_59 1 rfl ?_
          refine r_ishl (v := sg u) dX1_addEdge_60 (rfl) ?_
          refine r_ior (v := (sr v) ||| (sg u)) dX1_addEdge_61 (rfl) ?_
          refine r_iast (f' := sr') (w' := XW G a n tg' sr' ld mb pl ln len nx nl hs ps) dX1_addEdge_62 2 rfl (by omega) (by decide) (e2) rfl ?_
          refine r_aload_n dX1_addEdge_63 0 rfl ?_
          refine r_getX 0 3 rfl (by decide) q38 rfl dX1_addEdge_64 ?_
          refine r_iload_n dX1_addEdge_67 1 rfl ?_
          refine r_bald (v := nI (ld u)) dX1_addEdge_68 3 rfl (by omega) (by decide) (rfl) ?_
          refine r_istore_n (lv' := [(0, .ref (a 0)), (1, .int (nI u)), (2, .int (nI v)), (3, .int (nI (ld u)))]) dX1_addEdge_69 (by decide) [1, 2, 3, 0] rfl ?_
          refine r_aload_n dX1_addEdge_70 0 rfl ?_
          refine r_getX 0 3 rfl (by decide) q38 rfl dX1_addEdge_71 ?_
          refine r_iload_n dX1_addEdge_74 2 rfl ?_
          refine r_bald (v := nI (ld v)) dX1_addEdge_75 3 rfl (by omega) (by decide) (rfl) ?_
          refine r_istore (lv' := [(0, .ref (a 0)), (1, .int (nI u)), (2, .int (nI v)), (3, .int (nI (ld u))), (4, .int (nI (ld v)))]) dX1_addEdge_76 (by decide) [1, 2, 3, 4, 0] rfl ?_
          refine r_aload_n dX1_addEdge_78 0 rfl ?_
          refine r_getX 0 5 rfl (by decide) q40 rfl dX1_addEdge_79 ?_
          refine r_iload_n dX1_addEdge_82 3 rfl ?_
          refine r_bald (v := nI (pl (ld u))) dX1_addEdge_83 5 rfl (by omega) (by decide) (rfl) ?_
          refine r_aload_n dX1_addEdge_84 0 rfl ?_
          refine r_getX 0 5 rfl (by decide) q40 rfl dX1_addEdge_85 ?_
          refine r_iload dX1_addEdge_88 4 rfl ?_
          refine r_bald (v := nI (pl (ld v))) dX1_addEdge_90 5 rfl (by omega) (by decide) (rfl) ?_
          refine n_icmp_gt (tgt := 96) dX1_addEdge_91 (by decide) (by omega) (by omega) (fun c_91 => ?_) (fun c_91 => ?_)
          · refine r_aload_n dX1_addEdge_96 0 rfl ?_
            refine r_iload_n dX1_addEdge_97 3 rfl ?_
            refine r_iload dX1_addEdge_98 4 rfl ?_
            refine r_calli (As := [.int (nI (ld u)), .int (nI (ld v))]) (rest := []) (ci := 0) (metX_repairLine G a n tg' sr' ld mb pl ln len nx nl hs ps (ld u) (ld v) F M T hn hlu hlv hlt hlen hhi hln hF hM hb1 hT hT16 hTm) ⟨cgX_repairLine, ⟨rfl, rfl⟩, cdX_repairLine, Nat.le_of_ble_eq_true rfl, Nat.le_of_ble_eq_true rfl⟩ rfl rfl 0 rfl rfl rfl (Nat.le_of_ble_eq_true rfl) ⟨Nat.zero_le _, Nat.zero_le _⟩ dX1_addEdge_100 ?_
            exact hret _ _ _ _ (rfl) (rfl) dX1_addEdge_103
          · exfalso; omega
        · exact absurd c_33 (b_nf hb)
      · exact absurd c_18 huv
abbrev rX1_removeEdge : Room := { frames := 3, cells := 0, slots := 0, locals := 77 }
set_option maxHeartbeats 4000000 in
set_option maxRecDepth 100000 in
/-- removeEdge(x, y), not both vertices, or the same -/
theorem metX_removeEdge_bad (G : GG) (a : Nat → Nat) (n : Nat) (tg : Nat → Int32) (sr : Nat → Int32) (ld : Nat → Nat) (mb : Nat → Int32) (pl : Nat → Nat) (ln : Nat → Nat) (len : Nat) (nx : Nat → Nat) (nl : Nat) (hs : Nat → Nat) (ps : Nat → Int32) (x y : Int32) (hn : n ≤ 16) (h : vI n x = false ∨ vI n y = false ∨ x = y) : KMi G yX1_removeEdge cX1_removeEdge 5 .int rX1_removeEdge [.ref (a 0), .int x, .int y] (XW G a n tg sr ld mb pl ln len nx nl hs ps) (XW G a n tg sr ld mb pl ln len nx nl hs ps) (-1) := by
  refine KMi.of (own := RX1) (by decide) rfl (Nat.le_of_ble_eq_true rfl) rfl ?_
  intro X hret
  show At G cX1_removeEdge RX1 5 rX1_removeEdge X 0 0 (XW G a n tg sr ld mb pl ln len nx nl hs ps) 0 [(0, .ref (a 0)), (1, .int x), (2, .int y)] []
  refine r_aload_n dX1_removeEdge_0 0 rfl ?_
  refine r_iload_n dX1_removeEdge_1 1 rfl ?_
  refine r_calli (As := [.int x]) (rest := []) (ci := 0) (metX_isVertex G a n tg sr ld mb pl ln len nx nl hs ps x hn) ⟨cgX_isVertex, ⟨rfl, rfl⟩, cdX_isVertex, Nat.le_of_ble_eq_true rfl, Nat.le_of_ble_eq_true rfl⟩ rfl rfl 0 rfl rfl rfl (Nat.le_of_ble_eq_true rfl) ⟨Nat.zero_le _, Nat.zero_le _⟩ dX1_removeEdge_2 ?_
  refine b_if_eq (tgt := 21) dX1_removeEdge_5 (by decide) (fun c_5 => ?_) (fun c_5 => ?_)
  · refine r_iconst (v := (-1)) dX1_removeEdge_21 (by decide) ?_
    exact hret _ _ _ _ (rfl) (rfl) dX1_removeEdge_22
  · refine r_aload_n dX1_removeEdge_8 0 rfl ?_
    refine r_iload_n dX1_removeEdge_9 2 rfl ?_
    refine r_calli (As := [.int y]) (rest := []) (ci := 0) (metX_isVertex G a n tg sr ld mb pl ln len nx nl hs ps y hn) ⟨cgX_isVertex, ⟨rfl, rfl⟩, cdX_isVertex, Nat.le_of_ble_eq_true rfl, Nat.le_of_ble_eq_true rfl⟩ rfl rfl 0 rfl rfl rfl (Nat.le_of_ble_eq_true rfl) ⟨Nat.zero_le _, Nat.zero_le _⟩ dX1_removeEdge_10 ?_
    refine b_if_eq (tgt := 21) dX1_removeEdge_13 (by decide) (fun c_13 => ?_) (fun c_13 => ?_)
    · refine r_iconst (v := (-1)) dX1_removeEdge_21 (by decide) ?_
      exact hret _ _ _ _ (rfl) (rfl) dX1_removeEdge_22
    · refine r_iload_n dX1_removeEdge_16 1 rfl ?_
      refine r_iload_n dX1_removeEdge_17 2 rfl ?_
      refine r_icmp_ne (tgt := 23) dX1_removeEdge_18 (by decide) (fun c_18 => ?_) (fun c_18 => ?_)
      · exact absurd h (by rw [c_5, c_13]; simp [c_18])
      · refine r_iconst (v := (-1)) dX1_removeEdge_21 (by decide) ?_
        exact hret _ _ _ _ (rfl) (rfl) dX1_removeEdge_22
set_option maxHeartbeats 4000000 in
set_option maxRecDepth 100000 in
/-- metX_removeEdge_none -/
theorem metX_removeEdge_none (G : GG) (a : Nat → Nat) (n : Nat) (tg : Nat → Int32) (sr : Nat → Int32) (ld : Nat → Nat) (mb : Nat → Int32) (pl : Nat → Nat) (ln : Nat → Nat) (len : Nat) (nx : Nat → Nat) (nl : Nat) (hs : Nat → Nat) (ps : Nat → Int32) (u v : Nat) (hn : n ≤ 16) (hu : u < n) (hv : v < n) (huv : u ≠ v) (hb : bt (tg u) v = false) : KMi G yX1_removeEdge cX1_removeEdge 5 .int rX1_removeEdge [.ref (a 0), .int (nI u), .int (nI v)] (XW G a n tg sr ld mb pl ln len nx nl hs ps) (XW G a n tg sr ld mb pl ln len nx nl hs ps) (-2) := by
  refine KMi.of (own := RX1) (by decide) rfl (Nat.le_of_ble_eq_true rfl) rfl ?_
  intro X hret
  show At G cX1_removeEdge RX1 5 rX1_removeEdge X 0 0 (XW G a n tg sr ld mb pl ln len nx nl hs ps) 0 [(0, .ref (a 0)), (1, .int (nI u)), (2, .int (nI v))] []
  refine r_aload_n dX1_removeEdge_0 0 rfl ?_
  refine r_iload_n dX1_removeEdge_1 1 rfl ?_
  refine r_calli (As := [.int (nI u)]) (rest := []) (ci := 0) (by have h := metX_isVertex G a n tg sr ld mb pl ln len nx nl hs ps (nI u) hn; rw [vI_lt hu hn] at h; exact h) ⟨cgX_isVertex, ⟨rfl, rfl⟩, cdX_isVertex, Nat.le_of_ble_eq_true rfl, Nat.le_of_ble_eq_true rfl⟩ rfl rfl 0 rfl rfl rfl (Nat.le_of_ble_eq_true rfl) ⟨Nat.zero_le _, Nat.zero_le _⟩ dX1_removeEdge_2 ?_
  refine b_if_eq (tgt := 21) dX1_removeEdge_5 (by decide) (fun c_5 => ?_) (fun c_5 => ?_)
  · exact absurd c_5 (by decide)
  · refine r_aload_n dX1_removeEdge_8 0 rfl ?_
    refine r_iload_n dX1_removeEdge_9 2 rfl ?_
    refine r_calli (As := [.int (nI v)]) (rest := []) (ci := 0) (by have h := metX_isVertex G a n tg sr ld mb pl ln len nx nl hs ps (nI v) hn; rw [vI_lt hv hn] at h; exact h) ⟨cgX_isVertex, ⟨rfl, rfl⟩, cdX_isVertex, Nat.le_of_ble_eq_true rfl, Nat.le_of_ble_eq_true rfl⟩ rfl rfl 0 rfl rfl rfl (Nat.le_of_ble_eq_true rfl) ⟨Nat.zero_le _, Nat.zero_le _⟩ dX1_removeEdge_10 ?_
    refine b_if_eq (tgt := 21) dX1_removeEdge_13 (by decide) (fun c_13 => ?_) (fun c_13 => ?_)
    · exact absurd c_13 (by decide)
    · refine r_iload_n dX1_removeEdge_16 1 rfl ?_
      refine r_iload_n dX1_removeEdge_17 2 rfl ?_
      refine n_icmp_ne (tgt := 23) dX1_removeEdge_18 (by decide) (by omega) (by omega) (fun c_18 => ?_) (fun c_18 => ?_)
      · refine r_aload_n dX1_removeEdge_23 0 rfl ?_
        refine r_getX 0 1 rfl (by decide) q36 rfl dX1_removeEdge_24 ?_
        refine r_iload_n dX1_removeEdge_27 1 rfl ?_
        refine r_iald (v := tg u) dX1_removeEdge_28 1 rfl (by omega) (by decide) (rfl) ?_
        refine r_iload_n dX1_removeEdge_29 2 rfl ?_
        refine r_ishr (v := (tg u) >>> (nI v &&& 31)) dX1_removeEdge_30 (rfl) ?_
        refine r_iconst (v := nI 1) dX1_removeEdge_31 (by decide) ?_
        refine r_iand (v := nI (bt (tg u) v).toNat) dX1_removeEdge_32 (bt_bit _ (by omega)) ?_
        refine b_if_ne (tgt := 39) dX1_removeEdge_33 (by decide) (fun c_33 => ?_) (fun c_33 => ?_)
        · exact absurd c_33 (b_nf hb)
        · refine r_bipush (v := (-2)) dX1_removeEdge_36 (by decide) ?_
          exact hret _ _ _ _ (rfl) (rfl) dX1_removeEdge_38
      · exact absurd c_18 huv
set_option maxHeartbeats 4000000 in
set_option maxRecDepth 100000 in
/-- metX_removeEdge_out -/
theorem metX_removeEdge_out (G : GG) (a : Nat → Nat) (n : Nat) (tg : Nat → Int32) (sr : Nat → Int32) (ld : Nat → Nat) (mb : Nat → Int32) (pl : Nat → Nat) (ln : Nat → Nat) (len : Nat) (nx : Nat → Nat) (nl : Nat) (hs : Nat → Nat) (ps : Nat → Int32) (u v : Nat) (tg' sr' : Nat → Int32) (hn : n ≤ 16) (hu : u < n) (hv : v < n) (huv : u ≠ v) (e1 : upd tg u (tg u &&& (sg v ^^^ (-1))) = tg') (e2 : upd sr v (sr v &&& (sg u ^^^ (-1))) = sr') (hlu : ld u < 16) (hlv : ld v < 16) (hb : bt (tg u) v = true) (hne : ld u ≠ ld v) : KMi G yX1_removeEdge cX1_removeEdge 5 .int rX1_removeEdge [.ref (a 0), .int (nI u), .int (nI v)] (XW G a n tg sr ld mb pl ln len nx nl hs ps) (XW G a n tg' sr' ld mb pl ln len nx nl hs ps) (0) := by
  refine KMi.of (own := RX1) (by decide) rfl (Nat.le_of_ble_eq_true rfl) rfl ?_
  intro X hret
  show At G cX1_removeEdge RX1 5 rX1_removeEdge X 0 0 (XW G a n tg sr ld mb pl ln len nx nl hs ps) 0 [(0, .ref (a 0)), (1, .int (nI u)), (2, .int (nI v))] []
  refine r_aload_n dX1_removeEdge_0 0 rfl ?_
  refine r_iload_n dX1_removeEdge_1 1 rfl ?_
  refine r_calli (As := [.int (nI u)]) (rest := []) (ci := 0) (by have h := metX_isVertex G a n tg sr ld mb pl ln len nx nl hs ps (nI u) hn; rw [vI_lt hu hn] at h; exact h) ⟨cgX_isVertex, ⟨rfl, rfl⟩, cdX_isVertex, Nat.le_of_ble_eq_true rfl, Nat.le_of_ble_eq_true rfl⟩ rfl rfl 0 rfl rfl rfl (Nat.le_of_ble_eq_true rfl) ⟨Nat.zero_le _, Nat.zero_le _⟩ dX1_removeEdge_2 ?_
  refine b_if_eq (tgt := 21) dX1_removeEdge_5 (by decide) (fun c_5 => ?_) (fun c_5 => ?_)
  · exact absurd c_5 (by decide)
  · refine r_aload_n dX1_removeEdge_8 0 rfl ?_
    refine r_iload_n dX1_removeEdge_9 2 rfl ?_
    refine r_calli (As := [.int (nI v)]) (rest := []) (ci := 0) (by have h := metX_isVertex G a n tg sr ld mb pl ln len nx nl hs ps (nI v) hn; rw [vI_lt hv hn] at h; exact h) ⟨cgX_isVertex, ⟨rfl, rfl⟩, cdX_isVertex, Nat.le_of_ble_eq_true rfl, Nat.le_of_ble_eq_true rfl⟩ rfl rfl 0 rfl rfl rfl (Nat.le_of_ble_eq_true rfl) ⟨Nat.zero_le _, Nat.zero_le _⟩ dX1_removeEdge_10 ?_
    refine b_if_eq (tgt := 21) dX1_removeEdge_13 (by decide) (fun c_13 => ?_) (fun c_13 => ?_)
    · exact absurd c_13 (by decide)
    · refine r_iload_n dX1_removeEdge_16 1 rfl ?_
      refine r_iload_n dX1_removeEdge_17 2 rfl ?_
      refine n_icmp_ne (tgt := 23) dX1_removeEdge_18 (by decide) (by omega) (by omega) (fun c_18 => ?_) (fun c_18 => ?_)
      · refine r_aload_n dX1_removeEdge_23 0 rfl ?_
        refine r_getX 0 1 rfl (by decide) q36 rfl dX1_removeEdge_24 ?_
        refine r_iload_n dX1_removeEdge_27 1 rfl ?_
        refine r_iald (v := tg u) dX1_removeEdge_28 1 rfl (by omega) (by decide) (rfl) ?_
        refine r_iload_n dX1_removeEdge_29 2 rfl ?_
        refine r_ishr (v := (tg u) >>> (nI v &&& 31)) dX1_removeEdge_30 (rfl) ?_
        refine r_iconst (v := nI 1) dX1_removeEdge_31 (by decide) ?_
        refine r_iand (v := nI (bt (tg u) v).toNat) dX1_removeEdge_32 (bt_bit _ (by omega)) ?_
        refine b_if_ne (tgt := 39) dX1_removeEdge_33 (by decide) (fun c_33 => ?_) (fun c_33 => ?_)
        · refine r_aload_n dX1_removeEdge_39 0 rfl ?_
          refine r_getX 0 1 rfl (by decide) q36 rfl dX1_removeEdge_40 ?_
          refine r_iload_n dX1_removeEdge_43 1 rfl ?_
          refine r_dup2 dX1_removeEdge_44 rfl rfl ?_
          refine r_iald (v := tg u) dX1_removeEdge_45 1 rfl (by omega) (by decide) (rfl) ?_
          refine r_iconst (v := nI 1) dX1_removeEdge_46 (by decide) ?_
          refine r_iload_n dX1_removeEdge_47 2 rfl ?_
          refine r_ishl (v := sg v) dX1_removeEdge_48 (rfl) ?_
          refine r_iconst (v := (-1)) dX1_removeEdge_49 (by decide) ?_
          refine r_ixor (v := (sg v) ^^^ (-1)) dX1_removeEdge_50 (rfl) ?_
          refine r_iand (v := (tg u) &&& ((sg v) ^^^ (-1))) dX1_removeEdge_51 (rfl) ?_
          refine r_iast (f' := tg') (w' := XW G a n tg' sr ld mb pl ln len nx nl hs ps) dX1_removeEdge_52 1 rfl (by omega) (by decide) (e1) rfl ?_
          refine r_aload_n dX1_removeEdge_53 0 rfl ?_
          refine r_getX 0 2 rfl (by decide) q37 rfl dX1_removeEdge_54 ?_
          refine r_iload_n dX1_removeEdge_57 2 rfl ?_
          refine r_dup2 dX1_removeEdge_58 rfl rfl ?_
          refine r_iald (v := sr v) dX1_removeEdge_59 2 rfl (by omega) (by decide) (rfl) ?_
          refine r_iconst (v := nI 1) dX1_removeEdge_60 (by decide) ?_
          refine r_iload_n dX1_removeEdge_61 1 rfl ?_
          refine r_ishl (v := sg u) dX1_removeEdge_62 (rfl) ?_
          refine r_iconst (v := (-1)) dX1_removeEdge_63 (by decide) ?_
          refine r_ixor (v := (sg u) ^^^ (-1)) dX1_removeEdge_64 (rfl) ?_
          refine r_iand (v := (sr v) &&& ((sg u) ^^^ (-1))) dX1_removeEdge_65 (rfl) ?_
          refine r_iast (f' := sr') (w' := XW G a n tg' sr' ld mb pl ln len nx nl hs ps) dX1_removeEdge_66 2 rfl (by omega) (by decide) (e2) rfl ?_
          refine r_aload_n dX1_removeEdge_67 0 rfl ?_
          refine r_getX 0 3 rfl (by decide) q38 rfl dX1_removeEdge_68 ?_
          refine r_iload_n dX1_removeEdge_71 1 rfl ?_
          refine r_bald (v := nI (ld u)) dX1_removeEdge_72 3 rfl (by omega) (by decide) (rfl) ?_
          refine r_istore_n (lv' := [(0, .ref (a 0)), (1, .int (nI u)), (2, .int (nI v)), (3, .int (nI (ld u)))]) dX1_removeEdge_73 (by decide) [1, 2, 3, 0] rfl ?_
          refine r_iload_n dX1_removeEdge_74 3 rfl ?_
          refine r_aload_n dX1_removeEdge_75 0 rfl ?_
          refine r_getX 0 3 rfl (by decide) q38 rfl dX1_removeEdge_76 ?_
          refine r_iload_n dX1_removeEdge_79 2 rfl ?_
          refine r_bald (v := nI (ld v)) dX1_removeEdge_80 3 rfl (by omega) (by decide) (rfl) ?_
          refine n_icmp_eq (tgt := 86) dX1_removeEdge_81 (by decide) (by omega) (by omega) (fun c_81 => ?_) (fun c_81 => ?_)
          · exact absurd c_81 hne
          · refine r_iconst (v := nI 0) dX1_removeEdge_84 (by decide) ?_
            exact hret _ _ _ _ (rfl) (rfl) dX1_removeEdge_85
        · exact absurd hb (b_nf c_33)
      · exact absurd c_18 huv
set_option maxHeartbeats 4000000 in
set_option maxRecDepth 100000 in
/-- metX_removeEdge_still -/
theorem metX_removeEdge_still (G : GG) (a : Nat → Nat) (n : Nat) (tg : Nat → Int32) (sr : Nat → Int32) (ld : Nat → Nat) (mb : Nat → Int32) (pl : Nat → Nat) (ln : Nat → Nat) (len : Nat) (nx : Nat → Nat) (nl : Nat) (hs : Nat → Nat) (ps : Nat → Int32) (u v : Nat) (tg' sr' : Nat → Int32) (hn : n ≤ 16) (hu : u < n) (hv : v < n) (huv : u ≠ v) (e1 : upd tg u (tg u &&& (sg v ^^^ (-1))) = tg') (e2 : upd sr v (sr v &&& (sg u ^^^ (-1))) = sr') (hlu : ld u < 16) (hlv : ld v < 16) (hb : bt (tg u) v = true) (heq : ld u = ld v) (hs1 : bt (spr tg' n (mb (ld u)) 16 (sg u) (sg u)) v = true) : KMi G yX1_removeEdge cX1_removeEdge 5 .int rX1_removeEdge [.ref (a 0), .int (nI u), .int (nI v)] (XW G a n tg sr ld mb pl ln len nx nl hs ps) (XW G a n tg' sr' ld mb pl ln len nx nl hs ps) (0) := by
  refine KMi.of (own := RX1) (by decide) rfl (Nat.le_of_ble_eq_true rfl) rfl ?_
  intro X hret
  show At G cX1_removeEdge RX1 5 rX1_removeEdge X 0 0 (XW G a n tg sr ld mb pl ln len nx nl hs ps) 0 [(0, .ref (a 0)), (1, .int (nI u)), (2, .int (nI v))] []
  refine r_aload_n dX1_removeEdge_0 0 rfl ?_
  refine r_iload_n dX1_removeEdge_1 1 rfl ?_
  refine r_calli (As := [.int (nI u)]) (rest := []) (ci := 0) (by have h := metX_isVertex G a n tg sr ld mb pl ln len nx nl hs ps (nI u) hn; rw [vI_lt hu hn] at h; exact h) ⟨cgX_isVertex, ⟨rfl, rfl⟩, cdX_isVertex, Nat.le_of_ble_eq_true rfl, Nat.le_of_ble_eq_true rfl⟩ rfl rfl 0 rfl rfl rfl (Nat.le_of_ble_eq_true rfl) ⟨Nat.zero_le _, Nat.zero_le _⟩ dX1_removeEdge_2 ?_
  refine b_if_eq (tgt := 21) dX1_removeEdge_5 (by decide) (fun c_5 => ?_) (fun c_5 => ?_)
  · exact absurd c_5 (by decide)
  · refine r_aload_n dX1_removeEdge_8 0 rfl ?_
    refine r_iload_n dX1_removeEdge_9 2 rfl ?_
    refine r_calli (As := [.int (nI v)]) (rest := []) (ci := 0) (by have h := metX_isVertex G a n tg sr ld mb pl ln len nx nl hs ps (nI v) hn; rw [vI_lt hv hn] at h; exact h) ⟨cgX_isVertex, ⟨rfl, rfl⟩, cdX_isVertex, Nat.le_of_ble_eq_true rfl, Nat.le_of_ble_eq_true rfl⟩ rfl rfl 0 rfl rfl rfl (Nat.le_of_ble_eq_true rfl) ⟨Nat.zero_le _, Nat.zero_le _⟩ dX1_removeEdge_10 ?_
    refine b_if_eq (tgt := 21) dX1_removeEdge_13 (by decide) (fun c_13 => ?_) (fun c_13 => ?_)
    · exact absurd c_13 (by decide)
    · refine r_iload_n dX1_removeEdge_16 1 rfl ?_
      refine r_iload_n dX1_removeEdge_17 2 rfl ?_
      refine n_icmp_ne (tgt := 23) dX1_removeEdge_18 (by decide) (by omega) (by omega) (fun c_18 => ?_) (fun c_18 => ?_)
      · refine r_aload_n dX1_removeEdge_23 0 rfl ?_
        refine r_getX 0 1 rfl (by decide) q36 rfl dX1_removeEdge_24 ?_
        refine r_iload_n dX1_removeEdge_27 1 rfl ?_
        refine r_iald (v := tg u) dX1_removeEdge_28 1 rfl (by omega) (by decide) (rfl) ?_
        refine r_iload_n dX1_removeEdge_29 2 rfl ?_
        refine r_ishr (v := (tg u) >>> (nI v &&& 31)) dX1_removeEdge_30 (rfl) ?_
        refine r_iconst (v := nI 1) dX1_removeEdge_31 (by decide) ?_
        refine r_iand (v := nI (bt (tg u) v).toNat) dX1_removeEdge_32 (bt_bit _ (by omega)) ?_
        refine b_if_ne (tgt := 39) dX1_removeEdge_33 (by decide) (fun c_33 => ?_) (fun c_33 => ?_)
        · refine r_aload_n dX1_removeEdge_39 0 rfl ?_
          refine r_getX 0 1 rfl (by decide) q36 rfl dX1_removeEdge_40 ?_
          refine r_iload_n dX1_removeEdge_43 1 rfl ?_
          refine r_dup2 dX1_removeEdge_44 rfl rfl ?_
          refine r_iald (v := tg u) dX1_removeEdge_45 1 rfl (by omega) (by decide) (rfl) ?_
          refine r_iconst (v := nI 1) dX1_removeEdge_46 (by decide) ?_
          refine r_iload_n dX1_removeEdge_47 2 rfl ?_
          refine r_ishl (v := sg v) dX1_removeEdge_48 (rfl) ?_
          refine r_iconst (v := (-1)) dX1_removeEdge_49 (by decide) ?_
          refine r_ixor (v := (sg v) ^^^ (-1)) dX1_removeEdge_50 (rfl) ?_
          refine r_iand (v := (tg u) &&& ((sg v) ^^^ (-1))) dX1_removeEdge_51 (rfl) ?_
          refine r_iast (f' := tg') (w' := XW G a n tg' sr ld mb pl ln len nx nl hs ps) dX1_removeEdge_52 1 rfl (by omega) (by decide) (e1) rfl ?_
          refine r_aload_n dX1_removeEdge_53 0 rfl ?_
          refine r_getX 0 2 rfl (by decide) q37 rfl dX1_removeEdge_54 ?_
          refine r_iload_n dX1_removeEdge_57 2 rfl ?_
          refine r_dup2 dX1_removeEdge_58 rfl rfl ?_
          refine r_iald (v := sr v) dX1_removeEdge_59 2 rfl (by omega) (by decide) (rfl) ?_
          refine r_iconst (v := nI 1) dX1_removeEdge_60 (by decide) ?_
          refine r_iload_n dX1_removeEdge_61 1 rfl ?_
          refine r_ishl (v := sg u) dX1_removeEdge_62 (rfl) ?_
          refine r_iconst (v := (-1)) dX1_removeEdge_63 (by decide) ?_
          refine r_ixor (v := (sg u) ^^^ (-1)) dX1_removeEdge_64 (rfl) ?_
          refine r_iand (v := (sr v) &&& ((sg u) ^^^ (-1))) dX1_removeEdge_65 (rfl) ?_
          refine r_iast (f' := sr') (w' := XW G a n tg' sr' ld mb pl ln len nx nl hs ps) dX1_removeEdge_66 2 rfl (by omega) (by decide) (e2) rfl ?_
          refine r_aload_n dX1_removeEdge_67 0 rfl ?_
          refine r_getX 0 3 rfl (by decide) q38 rfl dX1_removeEdge_68 ?_
          refine r_iload_n dX1_removeEdge_71 1 rfl ?_
          refine r_bald (v := nI (ld u)) dX1_removeEdge_72 3 rfl (by omega) (by decide) (rfl) ?_
          refine r_istore_n (lv' := [(0, .ref (a 0)), (1, .int (nI u)), (2, .int (nI v)), (3, .int (nI (ld u)))]) dX1_removeEdge_73 (by decide) [1, 2, 3, 0] rfl ?_
          refine r_iload_n dX1_removeEdge_74 3 rfl ?_
          refine r_aload_n dX1_removeEdge_75 0 rfl ?_
          refine r_getX 0 3 rfl (by decide) q38 rfl dX1_removeEdge_76 ?_
          refine r_iload_n dX1_removeEdge_79 2 rfl ?_
          refine r_bald (v := nI (ld v)) dX1_removeEdge_80 3 rfl (by omega) (by decide) (rfl) ?_
          refine n_icmp_eq (tgt := 86) dX1_removeEdge_81 (by decide) (by omega) (by omega) (fun c_81 => ?_) (fun c_81 => ?_)
          · refine r_aload_n dX1_removeEdge_86 0 rfl ?_
            refine r_iconst (v := nI 1) dX1_removeEdge_87 (by decide) ?_
            refine r_iload_n dX1_removeEdge_88 1 rfl ?_
            refine r_ishl (v := sg u) dX1_removeEdge_89 (rfl) ?_
            refine r_aload_n dX1_removeEdge_90 0 rfl ?_
            refine r_getX 0 4 rfl (by decide) q39 rfl dX1_removeEdge_91 ?_
            refine r_iload_n dX1_removeEdge_94 3 rfl ?_
            refine r_iald (v := mb (ld u)) dX1_removeEdge_95 4 rfl (by omega) (by decide) (rfl) ?_
            refine r_calli (As := [.int (sg u), .int (mb (ld u))]) (rest := []) (ci := 0) (metX_spreadWithin G a n tg' sr' ld mb pl ln len nx nl hs ps (sg u) (mb (ld u)) hn) ⟨cgX_spreadWithin, ⟨rfl, rfl⟩, cdX_spreadWithin, Nat.le_of_ble_eq_true rfl, Nat.le_of_ble_eq_true rfl⟩ rfl rfl 0 rfl rfl rfl (Nat.le_of_ble_eq_true rfl) ⟨Nat.zero_le _, Nat.zero_le _⟩ dX1_removeEdge_96 ?_
            refine r_istore (lv' := [(0, .ref (a 0)), (1, .int (nI u)), (2, .int (nI v)), (3, .int (nI (ld u))), (4, .int (spr tg' n (mb (ld u)) 16 (sg u) (sg u)))]) dX1_removeEdge_99 (by decide) [1, 2, 3, 4, 0] rfl ?_
            refine r_iload dX1_removeEdge_101 4 rfl ?_
            refine r_iload_n dX1_removeEdge_103 2 rfl ?_
            refine r_ishr (v := (spr tg' n (mb (ld u)) 16 (sg u) (sg u)) >>> (nI v &&& 31)) dX1_removeEdge_104 (rfl) ?_
            refine r_iconst (v := nI 1) dX1_removeEdge_105 (by decide) ?_
            refine r_iand (v := nI (bt (spr tg' n (mb (ld u)) 16 (sg u) (sg u)) v).toNat) dX1_removeEdge_106 (bt_bit _ (by omega)) ?_
            refine b_if_eq (tgt := 112) dX1_removeEdge_107 (by decide) (fun c_107 => ?_) (fun c_107 => ?_)
            · exact absurd hs1 (b_nf c_107)
            · refine r_iconst (v := nI 0) dX1_removeEdge_110 (by decide) ?_
              exact hret _ _ _ _ (rfl) (rfl) dX1_removeEdge_111
          · exact absurd heq c_81
        · exact absurd hb (b_nf c_33)
      · exact absurd c_18 huv
set_option maxHeartbeats 4000000 in
set_option maxRecDepth 100000 in
/-- metX_removeEdge_split -/
theorem metX_removeEdge_split (G : GG) (a : Nat → Nat) (n : Nat) (tg : Nat → Int32) (sr : Nat → Int32) (ld : Nat → Nat) (mb : Nat → Int32) (pl : Nat → Nat) (ln : Nat → Nat) (len : Nat) (nx : Nat → Nat) (nl : Nat) (hs : Nat → Nat) (ps : Nat → Int32) (u v : Nat) (tg' sr' : Nat → Int32) (PS OO : List Int32) (T : List Nat) (hn : n ≤ 16) (hu : u < n) (hv : v < n) (huv : u ≠ v) (e1 : upd tg u (tg u &&& (sg v ^^^ (-1))) = tg') (e2 : upd sr v (sr v &&& (sg u ^^^ (-1))) = sr') (hlu : ld u < 16) (hlv : ld v < 16) (hb : bt (tg u) v = true) (heq : ld u = ld v) (hs1 : bt (spr tg' n (mb (ld u)) 16 (sg u) (sg u)) v = false) (hlen : len ≤ 16) (hpl : pl (ld u) < len) (hln : ∀ i, i < len → ln i < 16) (hPS : spL tg' sr' n 16 (mb (ld u)) = PS) (hPS1 : 1 ≤ PS.length) (hPS16 : PS.length ≤ 16) (hOO : spO sr' n (apl ps 0 PS) PS.length PS.length (mb (ld u)) = OO) (hT : (sgF (fun _ => true) ln (pl (ld u)) 0 ++ OO.map low) ++ sgF (fun _ => true) ln (len - (pl (ld u) + 1)) (pl (ld u) + 1) = T) (hT16 : T.length ≤ 16) (hTm : ∀ x ∈ T, x < 16) : KMi G yX1_removeEdge cX1_removeEdge 5 .int rX1_removeEdge [.ref (a 0), .int (nI u), .int (nI v)] (XW G a n tg sr ld mb pl ln len nx nl hs ps) (XW G a n tg' sr' (clL n OO ld) (clB OO (upd mb (ld u) 0)) (adP (apl nx 0 T) pl T.length) (adL (apl nx 0 T) ln T.length) T.length (apl nx 0 T) T.length hs (apl ps 0 PS)) (nI (PS.length - 1)) := by
  refine KMi.of (own := RX1) (by decide) rfl (Nat.le_of_ble_eq_true rfl) rfl ?_
  intro X hret
  show At G cX1_removeEdge RX1 5 rX1_removeEdge X 0 0 (XW G a n tg sr ld mb pl ln len nx nl hs ps) 0 [(0, .ref (a 0)), (1, .int (nI u)), (2, .int (nI v))] []
  refine r_aload_n dX1_removeEdge_0 0 rfl ?_
  refine r_iload_n dX1_removeEdge_1 1 rfl ?_
  refine r_calli (As := [.int (nI u)]) (rest := []) (ci := 0) (by have h := metX_isVertex G a n tg sr ld mb pl ln len nx nl hs ps (nI u) hn; rw [vI_lt hu hn] at h; exact h) ⟨cgX_isVertex, ⟨rfl, rfl⟩, cdX_isVertex, Nat.le_of_ble_eq_true rfl, Nat.le_of_ble_eq_true rfl⟩ rfl rfl 0 rfl rfl rfl (Nat.le_of_ble_eq_true rfl) ⟨Nat.zero_le _, Nat.zero_le _⟩ dX1_removeEdge_2 ?_
  refine b_if_eq (tgt := 21) dX1_removeEdge_5 (by decide) (fun c_5 => ?_) (fun c_5 => ?_)
  · exact absurd c_5 (by decide)
  · refine r_aload_n dX1_removeEdge_8 0 rfl ?_
    refine r_iload_n dX1_removeEdge_9 2 rfl ?_
    refine r_calli (As := [.int (nI v)]) (rest := []) (ci := 0) (by have h := metX_isVertex G a n tg sr ld mb pl ln len nx nl hs ps (nI v) hn; rw [vI_lt hv hn] at h; exact h) ⟨cgX_isVertex, ⟨rfl, rfl⟩, cdX_isVertex, Nat.le_of_ble_eq_true rfl, Nat.le_of_ble_eq_true rfl⟩ rfl rfl 0 rfl rfl rfl (Nat.le_of_ble_eq_true rfl) ⟨Nat.zero_le _, Nat.zero_le _⟩ dX1_removeEdge_10 ?_
    refine b_if_eq (tgt := 21) dX1_removeEdge_13 (by decide) (fun c_13 => ?_) (fun c_13 => ?_)
    · exact absurd c_13 (by decide)
    · refine r_iload_n dX1_removeEdge_16 1 rfl ?_
      refine r_iload_n dX1_removeEdge_17 2 rfl ?_
      refine n_icmp_ne (tgt := 23) dX1_removeEdge_18 (by decide) (by omega) (by omega) (fun c_18 => ?_) (fun c_18 => ?_)
      · refine r_aload_n dX1_removeEdge_23 0 rfl ?_
        refine r_getX 0 1 rfl (by decide) q36 rfl dX1_removeEdge_24 ?_
        refine r_iload_n dX1_removeEdge_27 1 rfl ?_
        refine r_iald (v := tg u) dX1_removeEdge_28 1 rfl (by omega) (by decide) (rfl) ?_
        refine r_iload_n dX1_removeEdge_29 2 rfl ?_
        refine r_ishr (v := (tg u) >>> (nI v &&& 31)) dX1_removeEdge_30 (rfl) ?_
        refine r_iconst (v := nI 1) dX1_removeEdge_31 (by decide) ?_
        refine r_iand (v := nI (bt (tg u) v).toNat) dX1_removeEdge_32 (bt_bit _ (by omega)) ?_
        refine b_if_ne (tgt := 39) dX1_removeEdge_33 (by decide) (fun c_33 => ?_) (fun c_33 => ?_)
        · refine r_aload_n dX1_removeEdge_39 0 rfl ?_
          refine r_getX 0 1 rfl (by decide) q36 rfl dX1_removeEdge_40 ?_
          refine r_iload_n dX1_removeEdge_43 1 rfl ?_
          refine r_dup2 dX1_removeEdge_44 rfl rfl ?_
          refine r_iald (v := tg u) dX1_removeEdge_45 1 rfl (by omega) (by decide) (rfl) ?_
          refine r_iconst (v := nI 1) dX1_removeEdge_46 (by decide) ?_
          refine r_iload_n dX1_removeEdge_47 2 rfl ?_
          refine r_ishl (v := sg v) dX1_removeEdge_48 (rfl) ?_
          refine r_iconst (v := (-1)) dX1_removeEdge_49 (by decide) ?_
          refine r_ixor (v := (sg v) ^^^ (-1)) dX1_removeEdge_50 (rfl) ?_
          refine r_iand (v := (tg u) &&& ((sg v) ^^^ (-1))) dX1_removeEdge_51 (rfl) ?_
          refine r_iast (f' := tg') (w' := XW G a n tg' sr ld mb pl ln len nx nl hs ps) dX1_removeEdge_52 1 rfl (by omega) (by decide) (e1) rfl ?_
          refine r_aload_n dX1_removeEdge_53 0 rfl ?_
          refine r_getX 0 2 rfl (by decide) q37 rfl dX1_removeEdge_54 ?_
          refine r_iload_n dX1_removeEdge_57 2 rfl ?_
          refine r_dup2 dX1_removeEdge_58 rfl rfl ?_
          refine r_iald (v := sr v) dX1_removeEdge_59 2 rfl (by omega) (by decide) (rfl) ?_
          refine r_iconst (v := nI 1) dX1_removeEdge_60 (by decide) ?_
          refine r_iload_n dX1_removeEdge_61 1 rfl ?_
          refine r_ishl (v := sg u) dX1_removeEdge_62 (rfl) ?_
          refine r_iconst (v := (-1)) dX1_removeEdge_63 (by decide) ?_
          refine r_ixor (v := (sg u) ^^^ (-1)) dX1_removeEdge_64 (rfl) ?_
          refine r_iand (v := (sr v) &&& ((sg u) ^^^ (-1))) dX1_removeEdge_65 (rfl) ?_
          refine r_iast (f' := sr') (w' := XW G a n tg' sr' ld mb pl ln len nx nl hs ps) dX1_removeEdge_66 2 rfl (by omega) (by decide) (e2) rfl ?_
          refine r_aload_n dX1_removeEdge_67 0 rfl ?_
          refine r_getX 0 3 rfl (by decide) q38 rfl dX1_removeEdge_68 ?_
          refine r_iload_n dX1_removeEdge_71 1 rfl ?_
          refine r_bald (v := nI (ld u)) dX1_removeEdge_72 3 rfl (by omega) (by decide) (rfl) ?_
          refine r_istore_n (lv' := [(0, .ref (a 0)), (1, .int (nI u)), (2, .int (nI v)), (3, .int (nI (ld u)))]) dX1_removeEdge_73 (by decide) [1, 2, 3, 0] rfl ?_
          refine r_iload_n dX1_removeEdge_74 3 rfl ?_
          refine r_aload_n dX1_removeEdge_75 0 rfl ?_
          refine r_getX 0 3 rfl (by decide) q38 rfl dX1_removeEdge_76 ?_
          refine r_iload_n dX1_removeEdge_79 2 rfl ?_
          refine r_bald (v := nI (ld v)) dX1_removeEdge_80 3 rfl (by omega) (by decide) (rfl) ?_
          refine n_icmp_eq (tgt := 86) dX1_removeEdge_81 (by decide) (by omega) (by omega) (fun c_81 => ?_) (fun c_81 => ?_)
          · refine r_aload_n dX1_removeEdge_86 0 rfl ?_
            refine r_iconst (v := nI 1) dX1_removeEdge_87 (by decide) ?_
            refine r_iload_n dX1_removeEdge_88 1 rfl ?_
            refine r_ishl (v := sg u) dX1_removeEdge_89 (rfl) ?_
            refine r_aload_n dX1_removeEdge_90 0 rfl ?_
            refine r_getX 0 4 rfl (by decide) q39 rfl dX1_removeEdge_91 ?_
            refine r_iload_n dX1_removeEdge_94 3 rfl ?_
            refine r_iald (v := mb (ld u)) dX1_removeEdge_95 4 rfl (by omega) (by decide) (rfl) ?_
            refine r_calli (As := [.int (sg u), .int (mb (ld u))]) (rest := []) (ci := 0) (metX_spreadWithin G a n tg' sr' ld mb pl ln len nx nl hs ps (sg u) (mb (ld u)) hn) ⟨cgX_spreadWithin, ⟨rfl, rfl⟩, cdX_spreadWithin, Nat.le_of_ble_eq_true rfl, Nat.le_of_ble_eq_true rfl⟩ rfl rfl 0 rfl rfl rfl (Nat.le_of_ble_eq_true rfl) ⟨Nat.zero_le _, Nat.zero_le _⟩ dX1_removeEdge_96 ?_
            refine r_istore (lv' := [(0, .ref (a 0)), (1, .int (nI u)), (2, .int (nI v)), (3, .int (nI (ld u))), (4, .int (spr tg' n (mb (ld u)) 16 (sg u) (sg u)))]) dX1_removeEdge_99 (by decide) [1, 2, 3, 4, 0] rfl ?_
            refine r_iload dX1_removeEdge_101 4 rfl ?_
            refine r_iload_n dX1_removeEdge_103 2 rfl ?_
            refine r_ishr (v := (spr tg' n (mb (ld u)) 16 (sg u) (sg u)) >>> (nI v &&& 31)) dX1_removeEdge_104 (rfl) ?_
            refine r_iconst (v := nI 1) dX1_removeEdge_105 (by decide) ?_
            refine r_iand (v := nI (bt (spr tg' n (mb (ld u)) 16 (sg u) (sg u)) v).toNat) dX1_removeEdge_106 (bt_bit _ (by omega)) ?_
            refine b_if_eq (tgt := 112) dX1_removeEdge_107 (by decide) (fun c_107 => ?_) (fun c_107 => ?_)
            · refine r_aload_n dX1_removeEdge_112 0 rfl ?_
              refine r_iload_n dX1_removeEdge_113 3 rfl ?_
              refine r_calli (As := [.int (nI (ld u))]) (rest := []) (ci := 0) (metX_split G a n tg' sr' ld mb pl ln len nx nl hs ps (ld u) PS OO T hn hlu hlen hpl hln hPS hPS1 hPS16 hOO hT hT16 hTm) ⟨cgX_split, ⟨rfl, rfl⟩, cdX_split, Nat.le_of_ble_eq_true rfl, Nat.le_of_ble_eq_true rfl⟩ rfl rfl 0 rfl rfl rfl (Nat.le_of_ble_eq_true rfl) ⟨Nat.zero_le _, Nat.zero_le _⟩ dX1_removeEdge_114 ?_
              exact hret _ _ _ _ (rfl) (rfl) dX1_removeEdge_117
            · exact absurd c_107 (b_nf hs1)
          · exact absurd heq c_81
        · exact absurd hb (b_nf c_33)
      · exact absurd c_18 huv
end
section
abbrev rX1_components : Room := { frames := 0, cells := 0, slots := 0, locals := 0 }
set_option maxHeartbeats 4000000 in
set_option maxRecDepth 100000 in
/-- components() -/
theorem metX_components (G : GG) (a : Nat → Nat) (n : Nat) (tg : Nat → Int32) (sr : Nat → Int32) (ld : Nat → Nat) (mb : Nat → Int32) (pl : Nat → Nat) (ln : Nat → Nat) (len : Nat) (nx : Nat → Nat) (nl : Nat) (hs : Nat → Nat) (ps : Nat → Int32) : KMi G yX1_components cX1_components 1 .int rX1_components [.ref (a 0)] (XW G a n tg sr ld mb pl ln len nx nl hs ps) (XW G a n tg sr ld mb pl ln len nx nl hs ps) (nI len) := by
  refine KMi.of (own := RX1) (by decide) rfl (Nat.le_of_ble_eq_true rfl) rfl ?_
  intro X hret
  show At G cX1_components RX1 1 rX1_components X 0 0 (XW G a n tg sr ld mb pl ln len nx nl hs ps) 0 [(0, .ref (a 0))] []
  refine r_aload_n dX1_components_0 0 rfl ?_
  refine r_getX 0 7 rfl (by decide) q42 rfl dX1_components_1 ?_
  exact hret _ _ _ _ (rfl) (rfl) dX1_components_4
abbrev rX1_leader : Room := { frames := 1, cells := 0, slots := 0, locals := 21 }
set_option maxHeartbeats 4000000 in
set_option maxRecDepth 100000 in
/-- leader(x), no vertex -/
theorem metX_leader_bad (G : GG) (a : Nat → Nat) (n : Nat) (tg : Nat → Int32) (sr : Nat → Int32) (ld : Nat → Nat) (mb : Nat → Int32) (pl : Nat → Nat) (ln : Nat → Nat) (len : Nat) (nx : Nat → Nat) (nl : Nat) (hs : Nat → Nat) (ps : Nat → Int32) (x : Int32) (hn : n ≤ 16) (h : vI n x = false) : KMi G yX1_leader cX1_leader 2 .int rX1_leader [.ref (a 0), .int x] (XW G a n tg sr ld mb pl ln len nx nl hs ps) (XW G a n tg sr ld mb pl ln len nx nl hs ps) (-1) := by
  refine KMi.of (own := RX1) (by decide) rfl (Nat.le_of_ble_eq_true rfl) rfl ?_
  intro X hret
  show At G cX1_leader RX1 2 rX1_leader X 0 0 (XW G a n tg sr ld mb pl ln len nx nl hs ps) 0 [(0, .ref (a 0)), (1, .int x)] []
  refine r_aload_n dX1_leader_0 0 rfl ?_
  refine r_iload_n dX1_leader_1 1 rfl ?_
  refine r_calli (As := [.int x]) (rest := []) (ci := 0) (metX_isVertex G a n tg sr ld mb pl ln len nx nl hs ps x hn) ⟨cgX_isVertex, ⟨rfl, rfl⟩, cdX_isVertex, Nat.le_of_ble_eq_true rfl, Nat.le_of_ble_eq_true rfl⟩ rfl rfl 0 rfl rfl rfl (Nat.le_of_ble_eq_true rfl) ⟨Nat.zero_le _, Nat.zero_le _⟩ dX1_leader_2 ?_
  refine b_if_eq (tgt := 17) dX1_leader_5 (by decide) (fun c_5 => ?_) (fun c_5 => ?_)
  · refine r_iconst (v := (-1)) dX1_leader_17 (by decide) ?_
    exact hret _ _ _ _ (rfl) (rfl) dX1_leader_18
  · exact absurd c_5 (b_nf h)
set_option maxHeartbeats 4000000 in
set_option maxRecDepth 100000 in
/-- metX_leader_ok -/
theorem metX_leader_ok (G : GG) (a : Nat → Nat) (n : Nat) (tg : Nat → Int32) (sr : Nat → Int32) (ld : Nat → Nat) (mb : Nat → Int32) (pl : Nat → Nat) (ln : Nat → Nat) (len : Nat) (nx : Nat → Nat) (nl : Nat) (hs : Nat → Nat) (ps : Nat → Int32) (u : Nat) (hn : n ≤ 16) (hu : u < n) : KMi G yX1_leader cX1_leader 2 .int rX1_leader [.ref (a 0), .int (nI u)] (XW G a n tg sr ld mb pl ln len nx nl hs ps) (XW G a n tg sr ld mb pl ln len nx nl hs ps) (nI (ld u)) := by
  refine KMi.of (own := RX1) (by decide) rfl (Nat.le_of_ble_eq_true rfl) rfl ?_
  intro X hret
  show At G cX1_leader RX1 2 rX1_leader X 0 0 (XW G a n tg sr ld mb pl ln len nx nl hs ps) 0 [(0, .ref (a 0)), (1, .int (nI u))] []
  refine r_aload_n dX1_leader_0 0 rfl ?_
  refine r_iload_n dX1_leader_1 1 rfl ?_
  refine r_calli (As := [.int (nI u)]) (rest := []) (ci := 0) (by have h := metX_isVertex G a n tg sr ld mb pl ln len nx nl hs ps (nI u) hn; rw [vI_lt hu hn] at h; exact h) ⟨cgX_isVertex, ⟨rfl, rfl⟩, cdX_isVertex, Nat.le_of_ble_eq_true rfl, Nat.le_of_ble_eq_true rfl⟩ rfl rfl 0 rfl rfl rfl (Nat.le_of_ble_eq_true rfl) ⟨Nat.zero_le _, Nat.zero_le _⟩ dX1_leader_2 ?_
  refine b_if_eq (tgt := 17) dX1_leader_5 (by decide) (fun c_5 => ?_) (fun c_5 => ?_)
  · exact absurd c_5 (by decide)
  · refine r_aload_n dX1_leader_8 0 rfl ?_
    refine r_getX 0 3 rfl (by decide) q38 rfl dX1_leader_9 ?_
    refine r_iload_n dX1_leader_12 1 rfl ?_
    refine r_bald (v := nI (ld u)) dX1_leader_13 3 rfl (by omega) (by decide) (rfl) ?_
    refine r_goto (tgt := 18) dX1_leader_14 (by decide) ?_
    exact hret _ _ _ _ (rfl) (rfl) dX1_leader_18
abbrev rX1_componentSize : Room := { frames := 1, cells := 0, slots := 0, locals := 23 }
set_option maxHeartbeats 4000000 in
set_option maxRecDepth 100000 in
/-- componentSize(x), no vertex -/
theorem metX_componentSize_bad (G : GG) (a : Nat → Nat) (n : Nat) (tg : Nat → Int32) (sr : Nat → Int32) (ld : Nat → Nat) (mb : Nat → Int32) (pl : Nat → Nat) (ln : Nat → Nat) (len : Nat) (nx : Nat → Nat) (nl : Nat) (hs : Nat → Nat) (ps : Nat → Int32) (x : Int32) (hn : n ≤ 16) (h : vI n x = false) : KMi G yX1_componentSize cX1_componentSize 3 .int rX1_componentSize [.ref (a 0), .int x] (XW G a n tg sr ld mb pl ln len nx nl hs ps) (XW G a n tg sr ld mb pl ln len nx nl hs ps) (-1) := by
  refine KMi.of (own := RX1) (by decide) rfl (Nat.le_of_ble_eq_true rfl) rfl ?_
  intro X hret
  show At G cX1_componentSize RX1 3 rX1_componentSize X 0 0 (XW G a n tg sr ld mb pl ln len nx nl hs ps) 0 [(0, .ref (a 0)), (1, .int x)] []
  refine r_aload_n dX1_componentSize_0 0 rfl ?_
  refine r_iload_n dX1_componentSize_1 1 rfl ?_
  refine r_calli (As := [.int x]) (rest := []) (ci := 0) (metX_isVertex G a n tg sr ld mb pl ln len nx nl hs ps x hn) ⟨cgX_isVertex, ⟨rfl, rfl⟩, cdX_isVertex, Nat.le_of_ble_eq_true rfl, Nat.le_of_ble_eq_true rfl⟩ rfl rfl 0 rfl rfl rfl (Nat.le_of_ble_eq_true rfl) ⟨Nat.zero_le _, Nat.zero_le _⟩ dX1_componentSize_2 ?_
  refine b_if_ne (tgt := 10) dX1_componentSize_5 (by decide) (fun c_5 => ?_) (fun c_5 => ?_)
  · exact absurd c_5 (b_nf h)
  · refine r_iconst (v := (-1)) dX1_componentSize_8 (by decide) ?_
    exact hret _ _ _ _ (rfl) (rfl) dX1_componentSize_9
set_option maxHeartbeats 4000000 in
set_option maxRecDepth 100000 in
/-- metX_componentSize_ok -/
theorem metX_componentSize_ok (G : GG) (a : Nat → Nat) (n : Nat) (tg : Nat → Int32) (sr : Nat → Int32) (ld : Nat → Nat) (mb : Nat → Int32) (pl : Nat → Nat) (ln : Nat → Nat) (len : Nat) (nx : Nat → Nat) (nl : Nat) (hs : Nat → Nat) (ps : Nat → Int32) (u : Nat) (hn : n ≤ 16) (hu : u < n) (hlu : ld u < 16) : KMi G yX1_componentSize cX1_componentSize 3 .int rX1_componentSize [.ref (a 0), .int (nI u)] (XW G a n tg sr ld mb pl ln len nx nl hs ps) (XW G a n tg sr ld mb pl ln len nx nl hs ps) (nI (bc (mb (ld u)) 16)) := by
  refine KMi.of (own := RX1) (by decide) rfl (Nat.le_of_ble_eq_true rfl) rfl ?_
  intro X hret
  show At G cX1_componentSize RX1 3 rX1_componentSize X 0 0 (XW G a n tg sr ld mb pl ln len nx nl hs ps) 0 [(0, .ref (a 0)), (1, .int (nI u))] []
  refine r_aload_n dX1_componentSize_0 0 rfl ?_
  refine r_iload_n dX1_componentSize_1 1 rfl ?_
  refine r_calli (As := [.int (nI u)]) (rest := []) (ci := 0) (by have h := metX_isVertex G a n tg sr ld mb pl ln len nx nl hs ps (nI u) hn; rw [vI_lt hu hn] at h; exact h) ⟨cgX_isVertex, ⟨rfl, rfl⟩, cdX_isVertex, Nat.le_of_ble_eq_true rfl, Nat.le_of_ble_eq_true rfl⟩ rfl rfl 0 rfl rfl rfl (Nat.le_of_ble_eq_true rfl) ⟨Nat.zero_le _, Nat.zero_le _⟩ dX1_componentSize_2 ?_
  refine b_if_ne (tgt := 10) dX1_componentSize_5 (by decide) (fun c_5 => ?_) (fun c_5 => ?_)
  · refine r_aload_n dX1_componentSize_10 0 rfl ?_
    refine r_getX 0 3 rfl (by decide) q38 rfl dX1_componentSize_11 ?_
    refine r_iload_n dX1_componentSize_14 1 rfl ?_
    refine r_bald (v := nI (ld u)) dX1_componentSize_15 3 rfl (by omega) (by decide) (rfl) ?_
    refine r_istore_n (lv' := [(0, .ref (a 0)), (1, .int (nI u)), (2, .int (nI (ld u)))]) dX1_componentSize_16 (by decide) [1, 2, 0] rfl ?_
    refine r_aload_n dX1_componentSize_17 0 rfl ?_
    refine r_aload_n dX1_componentSize_18 0 rfl ?_
    refine r_getX 0 4 rfl (by decide) q39 rfl dX1_componentSize_19 ?_
    refine r_iload_n dX1_componentSize_22 2 rfl ?_
    refine r_iald (v := mb (ld u)) dX1_componentSize_23 4 rfl (by omega) (by decide) (rfl) ?_
    refine r_calli (As := [.int (mb (ld u))]) (rest := []) (ci := 0) (metX_bitsIn G a n tg sr ld mb pl ln len nx nl hs ps (mb (ld u))) ⟨cgX_bitsIn, ⟨rfl, rfl⟩, cdX_bitsIn, Nat.le_of_ble_eq_true rfl, Nat.le_of_ble_eq_true rfl⟩ rfl rfl 0 rfl rfl rfl (Nat.le_of_ble_eq_true rfl) ⟨Nat.zero_le _, Nat.zero_le _⟩ dX1_componentSize_24 ?_
    exact hret _ _ _ _ (rfl) (rfl) dX1_componentSize_27
  · exact absurd c_5 (by decide)
abbrev rX1_reaches : Room := { frames := 2, cells := 0, slots := 0, locals := 48 }
set_option maxHeartbeats 4000000 in
set_option maxRecDepth 100000 in
/-- reaches(x, y), not both vertices -/
theorem metX_reaches_bad (G : GG) (a : Nat → Nat) (n : Nat) (tg : Nat → Int32) (sr : Nat → Int32) (ld : Nat → Nat) (mb : Nat → Int32) (pl : Nat → Nat) (ln : Nat → Nat) (len : Nat) (nx : Nat → Nat) (nl : Nat) (hs : Nat → Nat) (ps : Nat → Int32) (x y : Int32) (hn : n ≤ 16) (h : vI n x = false ∨ vI n y = false) : KMi G yX1_reaches cX1_reaches 6 .boolean rX1_reaches [.ref (a 0), .int x, .int y] (XW G a n tg sr ld mb pl ln len nx nl hs ps) (XW G a n tg sr ld mb pl ln len nx nl hs ps) (0) := by
  refine KMi.of (own := RX1) (by decide) rfl (Nat.le_of_ble_eq_true rfl) rfl ?_
  intro X hret
  show At G cX1_reaches RX1 6 rX1_reaches X 0 0 (XW G a n tg sr ld mb pl ln len nx nl hs ps) 0 [(0, .ref (a 0)), (1, .int x), (2, .int y)] []
  refine r_aload_n dX1_reaches_0 0 rfl ?_
  refine r_iload_n dX1_reaches_1 1 rfl ?_
  refine r_calli (As := [.int x]) (rest := []) (ci := 0) (metX_isVertex G a n tg sr ld mb pl ln len nx nl hs ps x hn) ⟨cgX_isVertex, ⟨rfl, rfl⟩, cdX_isVertex, Nat.le_of_ble_eq_true rfl, Nat.le_of_ble_eq_true rfl⟩ rfl rfl 0 rfl rfl rfl (Nat.le_of_ble_eq_true rfl) ⟨Nat.zero_le _, Nat.zero_le _⟩ dX1_reaches_2 ?_
  refine b_if_eq (tgt := 16) dX1_reaches_5 (by decide) (fun c_5 => ?_) (fun c_5 => ?_)
  · refine r_iconst (v := nI 0) dX1_reaches_16 (by decide) ?_
    exact hret _ _ _ _ (rfl) (rfl) dX1_reaches_17
  · refine r_aload_n dX1_reaches_8 0 rfl ?_
    refine r_iload_n dX1_reaches_9 2 rfl ?_
    refine r_calli (As := [.int y]) (rest := []) (ci := 0) (metX_isVertex G a n tg sr ld mb pl ln len nx nl hs ps y hn) ⟨cgX_isVertex, ⟨rfl, rfl⟩, cdX_isVertex, Nat.le_of_ble_eq_true rfl, Nat.le_of_ble_eq_true rfl⟩ rfl rfl 0 rfl rfl rfl (Nat.le_of_ble_eq_true rfl) ⟨Nat.zero_le _, Nat.zero_le _⟩ dX1_reaches_10 ?_
    refine b_if_ne (tgt := 18) dX1_reaches_13 (by decide) (fun c_13 => ?_) (fun c_13 => ?_)
    · exact absurd h (by rw [c_5, c_13]; simp)
    · refine r_iconst (v := nI 0) dX1_reaches_16 (by decide) ?_
      exact hret _ _ _ _ (rfl) (rfl) dX1_reaches_17
set_option maxHeartbeats 4000000 in
set_option maxRecDepth 100000 in
/-- metX_reaches_far -/
theorem metX_reaches_far (G : GG) (a : Nat → Nat) (n : Nat) (tg : Nat → Int32) (sr : Nat → Int32) (ld : Nat → Nat) (mb : Nat → Int32) (pl : Nat → Nat) (ln : Nat → Nat) (len : Nat) (nx : Nat → Nat) (nl : Nat) (hs : Nat → Nat) (ps : Nat → Int32) (u v : Nat) (hn : n ≤ 16) (hu : u < n) (hv : v < n) (hlu : ld u < 16) (hlv : ld v < 16) (hpu : pl (ld u) < 16) (hpv : pl (ld v) < 16) (hlt : pl (ld v) < pl (ld u)) : KMi G yX1_reaches cX1_reaches 6 .boolean rX1_reaches [.ref (a 0), .int (nI u), .int (nI v)] (XW G a n tg sr ld mb pl ln len nx nl hs ps) (XW G a n tg sr ld mb pl ln len nx nl hs ps) (0) := by
  refine KMi.of (own := RX1) (by decide) rfl (Nat.le_of_ble_eq_true rfl) rfl ?_
  intro X hret
  show At G cX1_reaches RX1 6 rX1_reaches X 0 0 (XW G a n tg sr ld mb pl ln len nx nl hs ps) 0 [(0, .ref (a 0)), (1, .int (nI u)), (2, .int (nI v))] []
  refine r_aload_n dX1_reaches_0 0 rfl ?_
  refine r_iload_n dX1_reaches_1 1 rfl ?_
  refine r_calli (As := [.int (nI u)]) (rest := []) (ci := 0) (by have h := metX_isVertex G a n tg sr ld mb pl ln len nx nl hs ps (nI u) hn; rw [vI_lt hu hn] at h; exact h) ⟨cgX_isVertex, ⟨rfl, rfl⟩, cdX_isVertex, Nat.le_of_ble_eq_true rfl, Nat.le_of_ble_eq_true rfl⟩ rfl rfl 0 rfl rfl rfl (Nat.le_of_ble_eq_true rfl) ⟨Nat.zero_le _, Nat.zero_le _⟩ dX1_reaches_2 ?_
  refine b_if_eq (tgt := 16) dX1_reaches_5 (by decide) (fun c_5 => ?_) (fun c_5 => ?_)
  · exact absurd c_5 (by decide)
  · refine r_aload_n dX1_reaches_8 0 rfl ?_
    refine r_iload_n dX1_reaches_9 2 rfl ?_
    refine r_calli (As := [.int (nI v)]) (rest := []) (ci := 0) (by have h := metX_isVertex G a n tg sr ld mb pl ln len nx nl hs ps (nI v) hn; rw [vI_lt hv hn] at h; exact h) ⟨cgX_isVertex, ⟨rfl, rfl⟩, cdX_isVertex, Nat.le_of_ble_eq_true rfl, Nat.le_of_ble_eq_true rfl⟩ rfl rfl 0 rfl rfl rfl (Nat.le_of_ble_eq_true rfl) ⟨Nat.zero_le _, Nat.zero_le _⟩ dX1_reaches_10 ?_
    refine b_if_ne (tgt := 18) dX1_reaches_13 (by decide) (fun c_13 => ?_) (fun c_13 => ?_)
    · refine r_aload_n dX1_reaches_18 0 rfl ?_
      refine r_getX 0 3 rfl (by decide) q38 rfl dX1_reaches_19 ?_
      refine r_iload_n dX1_reaches_22 1 rfl ?_
      refine r_bald (v := nI (ld u)) dX1_reaches_23 3 rfl (by omega) (by decide) (rfl) ?_
      refine r_istore_n (lv' := [(0, .ref (a 0)), (1, .int (nI u)), (2, .int (nI v)), (3, .int (nI (ld u)))]) dX1_reaches_24 (by decide) [1, 2, 3, 0] rfl ?_
      refine r_aload_n dX1_reaches_25 0 rfl ?_
      refine r_getX 0 3 rfl (by decide) q38 rfl dX1_reaches_26 ?_
      refine r_iload_n dX1_reaches_29 2 rfl ?_
      refine r_bald (v := nI (ld v)) dX1_reaches_30 3 rfl (by omega) (by decide) (rfl) ?_
      refine r_istore (lv' := [(0, .ref (a 0)), (1, .int (nI u)), (2, .int (nI v)), (3, .int (nI (ld u))), (4, .int (nI (ld v)))]) dX1_reaches_31 (by decide) [1, 2, 3, 4, 0] rfl ?_
      refine r_aload_n dX1_reaches_33 0 rfl ?_
      refine r_getX 0 5 rfl (by decide) q40 rfl dX1_reaches_34 ?_
      refine r_iload_n dX1_reaches_37 3 rfl ?_
      refine r_bald (v := nI (pl (ld u))) dX1_reaches_38 5 rfl (by omega) (by decide) (rfl) ?_
      refine r_aload_n dX1_reaches_39 0 rfl ?_
      refine r_getX 0 5 rfl (by decide) q40 rfl dX1_reaches_40 ?_
      refine r_iload dX1_reaches_43 4 rfl ?_
      refine r_bald (v := nI (pl (ld v))) dX1_reaches_45 5 rfl (by omega) (by decide) (rfl) ?_
      refine n_icmp_le (tgt := 51) dX1_reaches_46 (by decide) (by omega) (by omega) (fun c_46 => ?_) (fun c_46 => ?_)
      · exfalso; omega
      · refine r_iconst (v := nI 0) dX1_reaches_49 (by decide) ?_
        exact hret _ _ _ _ (rfl) (rfl) dX1_reaches_50
    · exact absurd c_13 (by decide)
set_option maxHeartbeats 4000000 in
set_option maxRecDepth 100000 in
/-- metX_reaches_ok -/
theorem metX_reaches_ok (G : GG) (a : Nat → Nat) (n : Nat) (tg : Nat → Int32) (sr : Nat → Int32) (ld : Nat → Nat) (mb : Nat → Int32) (pl : Nat → Nat) (ln : Nat → Nat) (len : Nat) (nx : Nat → Nat) (nl : Nat) (hs : Nat → Nat) (ps : Nat → Int32) (u v : Nat) (hn : n ≤ 16) (hu : u < n) (hv : v < n) (hlu : ld u < 16) (hlv : ld v < 16) (hpu : pl (ld u) < 16) (hpv : pl (ld v) < 16) (hle : pl (ld u) ≤ pl (ld v)) (hln : ∀ i, i ≤ pl (ld v) → ln i < 16) : KMi G yX1_reaches cX1_reaches 6 .boolean rX1_reaches [.ref (a 0), .int (nI u), .int (nI v)] (XW G a n tg sr ld mb pl ln len nx nl hs ps) (XW G a n tg sr ld mb pl ln len nx nl hs ps) (nI (bt (fwd tg n ld mb ln (pl (ld v) + 1 - pl (ld u)) (pl (ld u)) (sg (ld u))) (ld v)).toNat) := by
  refine KMi.of (own := RX1) (by decide) rfl (Nat.le_of_ble_eq_true rfl) (nar_z _) ?_
  intro X hret
  show At G cX1_reaches RX1 6 rX1_reaches X 0 0 (XW G a n tg sr ld mb pl ln len nx nl hs ps) 0 [(0, .ref (a 0)), (1, .int (nI u)), (2, .int (nI v))] []
  refine r_aload_n dX1_reaches_0 0 rfl ?_
  refine r_iload_n dX1_reaches_1 1 rfl ?_
  refine r_calli (As := [.int (nI u)]) (rest := []) (ci := 0) (by have h := metX_isVertex G a n tg sr ld mb pl ln len nx nl hs ps (nI u) hn; rw [vI_lt hu hn] at h; exact h) ⟨cgX_isVertex, ⟨rfl, rfl⟩, cdX_isVertex, Nat.le_of_ble_eq_true rfl, Nat.le_of_ble_eq_true rfl⟩ rfl rfl 0 rfl rfl rfl (Nat.le_of_ble_eq_true rfl) ⟨Nat.zero_le _, Nat.zero_le _⟩ dX1_reaches_2 ?_
  refine b_if_eq (tgt := 16) dX1_reaches_5 (by decide) (fun c_5 => ?_) (fun c_5 => ?_)
  · exact absurd c_5 (by decide)
  · refine r_aload_n dX1_reaches_8 0 rfl ?_
    refine r_iload_n dX1_reaches_9 2 rfl ?_
    refine r_calli (As := [.int (nI v)]) (rest := []) (ci := 0) (by have h := metX_isVertex G a n tg sr ld mb pl ln len nx nl hs ps (nI v) hn; rw [vI_lt hv hn] at h; exact h) ⟨cgX_isVertex, ⟨rfl, rfl⟩, cdX_isVertex, Nat.le_of_ble_eq_true rfl, Nat.le_of_ble_eq_true rfl⟩ rfl rfl 0 rfl rfl rfl (Nat.le_of_ble_eq_true rfl) ⟨Nat.zero_le _, Nat.zero_le _⟩ dX1_reaches_10 ?_
    refine b_if_ne (tgt := 18) dX1_reaches_13 (by decide) (fun c_13 => ?_) (fun c_13 => ?_)
    · refine r_aload_n dX1_reaches_18 0 rfl ?_
      refine r_getX 0 3 rfl (by decide) q38 rfl dX1_reaches_19 ?_
      refine r_iload_n dX1_reaches_22 1 rfl ?_
      refine r_bald (v := nI (ld u)) dX1_reaches_23 3 rfl (by omega) (by decide) (rfl) ?_
      refine r_istore_n (lv' := [(0, .ref (a 0)), (1, .int (nI u)), (2, .int (nI v)), (3, .int (nI (ld u)))]) dX1_reaches_24 (by decide) [1, 2, 3, 0] rfl ?_
      refine r_aload_n dX1_reaches_25 0 rfl ?_
      refine r_getX 0 3 rfl (by decide) q38 rfl dX1_reaches_26 ?_
      refine r_iload_n dX1_reaches_29 2 rfl ?_
      refine r_bald (v := nI (ld v)) dX1_reaches_30 3 rfl (by omega) (by decide) (rfl) ?_
      refine r_istore (lv' := [(0, .ref (a 0)), (1, .int (nI u)), (2, .int (nI v)), (3, .int (nI (ld u))), (4, .int (nI (ld v)))]) dX1_reaches_31 (by decide) [1, 2, 3, 4, 0] rfl ?_
      refine r_aload_n dX1_reaches_33 0 rfl ?_
      refine r_getX 0 5 rfl (by decide) q40 rfl dX1_reaches_34 ?_
      refine r_iload_n dX1_reaches_37 3 rfl ?_
      refine r_bald (v := nI (pl (ld u))) dX1_reaches_38 5 rfl (by omega) (by decide) (rfl) ?_
      refine r_aload_n dX1_reaches_39 0 rfl ?_
      refine r_getX 0 5 rfl (by decide) q40 rfl dX1_reaches_40 ?_
      refine r_iload dX1_reaches_43 4 rfl ?_
      refine r_bald (v := nI (pl (ld v))) dX1_reaches_45 5 rfl (by omega) (by decide) (rfl) ?_
      refine n_icmp_le (tgt := 51) dX1_reaches_46 (by decide) (by omega) (by omega) (fun c_46 => ?_) (fun c_46 => ?_)
      · refine r_aload_n dX1_reaches_51 0 rfl ?_
        refine r_iload_n dX1_reaches_52 3 rfl ?_
        refine r_aload_n dX1_reaches_53 0 rfl ?_
        refine r_getX 0 5 rfl (by decide) q40 rfl dX1_reaches_54 ?_
        refine r_iload dX1_reaches_57 4 rfl ?_
        refine r_bald (v := nI (pl (ld v))) dX1_reaches_59 5 rfl (by omega) (by decide) (rfl) ?_
        refine r_calli (As := [.int (nI (ld u)), .int (nI (pl (ld v)))]) (rest := []) (ci := 0) (metX_forwardUpTo G a n tg sr ld mb pl ln len nx nl hs ps (ld u) (pl (ld v)) hn hlu (by omega) (by omega) (by omega) hln) ⟨cgX_forwardUpTo, ⟨rfl, rfl⟩, cdX_forwardUpTo, Nat.le_of_ble_eq_true rfl, Nat.le_of_ble_eq_true rfl⟩ rfl rfl 0 rfl rfl rfl (Nat.le_of_ble_eq_true rfl) ⟨Nat.zero_le _, Nat.zero_le _⟩ dX1_reaches_60 ?_
        refine r_istore (lv' := [(0, .ref (a 0)), (1, .int (nI u)), (2, .int (nI v)), (3, .int (nI (ld u))), (4, .int (nI (ld v))), (5, .int (fwd tg n ld mb ln (pl (ld v) + 1 - pl (ld u)) (pl (ld u)) (sg (ld u))))]) dX1_reaches_63 (by decide) [1, 2, 3, 4, 5, 0] rfl ?_
        refine r_iload dX1_reaches_65 5 rfl ?_
        refine r_iload dX1_reaches_67 4 rfl ?_
        refine r_ishr (v := (fwd tg n ld mb ln (pl (ld v) + 1 - pl (ld u)) (pl (ld u)) (sg (ld u))) >>> (nI (ld v) &&& 31)) dX1_reaches_69 (rfl) ?_
        refine r_iconst (v := nI 1) dX1_reaches_70 (by decide) ?_
        refine r_iand (v := nI (bt (fwd tg n ld mb ln (pl (ld v) + 1 - pl (ld u)) (pl (ld u)) (sg (ld u))) (ld v)).toNat) dX1_reaches_71 (bt_bit _ (by omega)) ?_
        refine b_if_eq (tgt := 79) dX1_reaches_72 (by decide) (fun c_72 => ?_) (fun c_72 => ?_)
        · refine r_iconst (v := nI 0) dX1_reaches_79 (by decide) ?_
          exact hret _ _ _ _ (by rw [c_72]; rfl) (rfl) dX1_reaches_80
        · refine r_iconst (v := nI 1) dX1_reaches_75 (by decide) ?_
          refine r_goto (tgt := 80) dX1_reaches_76 (by decide) ?_
          exact hret _ _ _ _ (by rw [c_72]; rfl) (rfl) dX1_reaches_80
      · exfalso; omega
    · exact absurd c_13 (by decide)
abbrev rX1_height : Room := { frames := 1, cells := 0, slots := 0, locals := 23 }
set_option maxHeartbeats 4000000 in
set_option maxRecDepth 100000 in
/-- height(x), no vertex -/
theorem metX_height_bad (G : GG) (a : Nat → Nat) (n : Nat) (tg : Nat → Int32) (sr : Nat → Int32) (ld : Nat → Nat) (mb : Nat → Int32) (pl : Nat → Nat) (ln : Nat → Nat) (len : Nat) (nx : Nat → Nat) (nl : Nat) (hs : Nat → Nat) (ps : Nat → Int32) (x : Int32) (hn : n ≤ 16) (h : vI n x = false) : KMi G yX1_height cX1_height 7 .int rX1_height [.ref (a 0), .int x] (XW G a n tg sr ld mb pl ln len nx nl hs ps) (XW G a n tg sr ld mb pl ln len nx nl hs ps) (-1) := by
  refine KMi.of (own := RX1) (by decide) rfl (Nat.le_of_ble_eq_true rfl) rfl ?_
  intro X hret
  show At G cX1_height RX1 7 rX1_height X 0 0 (XW G a n tg sr ld mb pl ln len nx nl hs ps) 0 [(0, .ref (a 0)), (1, .int x)] []
  refine r_aload_n dX1_height_0 0 rfl ?_
  refine r_iload_n dX1_height_1 1 rfl ?_
  refine r_calli (As := [.int x]) (rest := []) (ci := 0) (metX_isVertex G a n tg sr ld mb pl ln len nx nl hs ps x hn) ⟨cgX_isVertex, ⟨rfl, rfl⟩, cdX_isVertex, Nat.le_of_ble_eq_true rfl, Nat.le_of_ble_eq_true rfl⟩ rfl rfl 0 rfl rfl rfl (Nat.le_of_ble_eq_true rfl) ⟨Nat.zero_le _, Nat.zero_le _⟩ dX1_height_2 ?_
  refine b_if_ne (tgt := 10) dX1_height_5 (by decide) (fun c_5 => ?_) (fun c_5 => ?_)
  · exact absurd c_5 (b_nf h)
  · refine r_iconst (v := (-1)) dX1_height_8 (by decide) ?_
    exact hret _ _ _ _ (rfl) (rfl) dX1_height_9
set_option maxHeartbeats 4000000 in
set_option maxRecDepth 100000 in
/-- metX_height_ok -/
theorem metX_height_ok (G : GG) (a : Nat → Nat) (n : Nat) (tg : Nat → Int32) (sr : Nat → Int32) (ld : Nat → Nat) (mb : Nat → Int32) (pl : Nat → Nat) (ln : Nat → Nat) (len : Nat) (nx : Nat → Nat) (nl : Nat) (hs : Nat → Nat) (ps : Nat → Int32) (u : Nat) (hn : n ≤ 16) (hu : u < n) (hlen : len ≤ 16) (hln : ∀ i, i < len → ln i < 16) (hld : ∀ w, w < n → ld w < 16) (hhs : ∀ i, i ≤ len → ∀ j, hOut sr n ld mb ln hs i j < 127) : KMi G yX1_height cX1_height 7 .int rX1_height [.ref (a 0), .int (nI u)] (XW G a n tg sr ld mb pl ln len nx nl hs ps) (XW G a n tg sr ld mb pl ln len nx nl (hOut sr n ld mb ln hs len) ps) (nI (hOut sr n ld mb ln hs len (ld u))) := by
  refine KMi.of (own := RX1) (by decide) rfl (Nat.le_of_ble_eq_true rfl) rfl ?_
  intro X hret
  show At G cX1_height RX1 7 rX1_height X 0 0 (XW G a n tg sr ld mb pl ln len nx nl hs ps) 0 [(0, .ref (a 0)), (1, .int (nI u))] []
  refine r_aload_n dX1_height_0 0 rfl ?_
  refine r_iload_n dX1_height_1 1 rfl ?_
  refine r_calli (As := [.int (nI u)]) (rest := []) (ci := 0) (by have h := metX_isVertex G a n tg sr ld mb pl ln len nx nl hs ps (nI u) hn; rw [vI_lt hu hn] at h; exact h) ⟨cgX_isVertex, ⟨rfl, rfl⟩, cdX_isVertex, Nat.le_of_ble_eq_true rfl, Nat.le_of_ble_eq_true rfl⟩ rfl rfl 0 rfl rfl rfl (Nat.le_of_ble_eq_true rfl) ⟨Nat.zero_le _, Nat.zero_le _⟩ dX1_height_2 ?_
  refine b_if_ne (tgt := 10) dX1_height_5 (by decide) (fun c_5 => ?_) (fun c_5 => ?_)
  · refine r_iconst (v := nI 0) dX1_height_10 (by decide) ?_
    refine r_istore_n (lv' := [(0, .ref (a 0)), (1, .int (nI u)), (2, .int (nI 0))]) dX1_height_11 (by decide) [1, 2, 0] rfl ?_
    have L12 : ∀ (fu_L12 : Nat) (i : Nat) (hs' : Nat → Nat), len < i + fu_L12 → i ≤ len → hs' = hOut sr n ld mb ln hs i → At G cX1_height RX1 7 rX1_height X 0 0 (XW G a n tg sr ld mb pl ln len nx nl hs' ps) 12 [(0, .ref (a 0)), (1, .int (nI u)), (2, .int (nI i))] [] := by
      intro fu_L12
      induction fu_L12 with
      | zero => intro i hs' hf hi e1; exfalso; omega
      | succ fu_L12 ih_L12 =>
        intro i hs' hf hi e1
        refine r_iload_n dX1_height_12 2 rfl ?_
        refine r_aload_n dX1_height_13 0 rfl ?_
        refine r_getX 0 7 rfl (by decide) q42 rfl dX1_height_14 ?_
        refine n_icmp_ge (tgt := 127) dX1_height_17 (by decide) (by omega) (by omega) (fun c_17 => ?_) (fun c_17 => ?_)
        · have h3 := hld u hu
          refine r_aload_n dX1_height_127 0 rfl ?_
          refine r_getX 0 10 rfl (by decide) q45 rfl dX1_height_128 ?_
          refine r_aload_n dX1_height_131 0 rfl ?_
          refine r_getX 0 3 rfl (by decide) q38 rfl dX1_height_132 ?_
          refine r_iload_n dX1_height_135 1 rfl ?_
          refine r_bald (v := nI (ld u)) dX1_height_136 3 rfl (by omega) (by decide) (rfl) ?_
          refine r_bald (v := nI (hs' (ld u))) dX1_height_137 8 rfl (by omega) (by decide) (rfl) ?_
          exact hret _ _ _ _ (by rw [e1, show i = len by omega]) (by rw [e1, show i = len by omega]) dX1_height_138
        · have h1 := hln i c_17
          have h2 : ∀ j, hs' j < 127 := fun j => by rw [e1]; exact hhs i hi j
          refine r_aload_n dX1_height_20 0 rfl ?_
          refine r_getX 0 6 rfl (by decide) q41 rfl dX1_height_21 ?_
          refine r_iload_n dX1_height_24 2 rfl ?_
          refine r_bald (v := nI (ln i)) dX1_height_25 6 rfl (by omega) (by decide) (rfl) ?_
          refine r_istore_n (lv' := [(0, .ref (a 0)), (1, .int (nI u)), (2, .int (nI i)), (3, .int (nI (ln i)))]) dX1_height_26 (by decide) [1, 2, 3, 0] rfl ?_
          refine r_aload_n dX1_height_27 0 rfl ?_
          refine r_aload_n dX1_height_28 0 rfl ?_
          refine r_getX 0 4 rfl (by decide) q39 rfl dX1_height_29 ?_
          refine r_iload_n dX1_height_32 3 rfl ?_
          refine r_iald (v := mb (ln i)) dX1_height_33 4 rfl (by omega) (by decide) (rfl) ?_
          refine r_calli (As := [.int (mb (ln i))]) (rest := []) (ci := 0) (metX_sourcesOf G a n tg sr ld mb pl ln len nx nl hs' ps (mb (ln i)) hn) ⟨cgX_sourcesOf, ⟨rfl, rfl⟩, cdX_sourcesOf, Nat.le_of_ble_eq_true rfl, Nat.le_of_ble_eq_true rfl⟩ rfl rfl 0 rfl rfl rfl (Nat.le_of_ble_eq_true rfl) ⟨Nat.zero_le _, Nat.zero_le _⟩ dX1_height_34 ?_
          refine r_aload_n dX1_height_37 0 rfl ?_
          refine r_getX 0 4 rfl (by decide) q39 rfl dX1_height_38 ?_
          refine r_iload_n dX1_height_41 3 rfl ?_
          refine r_iald (v := mb (ln i)) dX1_height_42 4 rfl (by omega) (by decide) (rfl) ?_
          refine r_iconst (v := (-1)) dX1_height_43 (by decide) ?_
          refine r_ixor (v := (mb (ln i)) ^^^ (-1)) dX1_height_44 (rfl) ?_
          refine r_iand (v := (tgOf sr (mb (ln i)) n) &&& ((mb (ln i)) ^^^ (-1))) dX1_height_45 (rfl) ?_
          refine r_istore (lv' := [(0, .ref (a 0)), (1, .int (nI u)), (2, .int (nI i)), (3, .int (nI (ln i))), (4, .int ((tgOf sr (mb (ln i)) n) &&& ((mb (ln i)) ^^^ (-1))))]) dX1_height_46 (by decide) [1, 2, 3, 4, 0] rfl ?_
          refine r_iconst (v := nI 0) dX1_height_48 (by decide) ?_
          refine r_istore (lv' := [(0, .ref (a 0)), (1, .int (nI u)), (2, .int (nI i)), (3, .int (nI (ln i))), (4, .int ((tgOf sr (mb (ln i)) n) &&& ((mb (ln i)) ^^^ (-1)))), (5, .int (nI 0))]) dX1_height_49 (by decide) [1, 2, 3, 4, 5, 0] rfl ?_
          refine r_iconst (v := nI 0) dX1_height_51 (by decide) ?_
          refine r_istore (lv' := [(0, .ref (a 0)), (1, .int (nI u)), (2, .int (nI i)), (3, .int (nI (ln i))), (4, .int ((tgOf sr (mb (ln i)) n) &&& ((mb (ln i)) ^^^ (-1)))), (5, .int (nI 0)), (6, .int (nI 0))]) dX1_height_52 (by decide) [1, 2, 3, 4, 5, 6, 0] rfl ?_
          have L54 : ∀ (fu_L54 : Nat) (k : Nat) (h : Nat), n < k + fu_L54 → k ≤ n → h = hIn hs' ld ((tgOf sr (mb (ln i)) n) &&& ((mb (ln i)) ^^^ (-1))) k → At G cX1_height RX1 7 rX1_height X 0 0 (XW G a n tg sr ld mb pl ln len nx nl hs' ps) 54 [(0, .ref (a 0)), (1, .int (nI u)), (2, .int (nI i)), (3, .int (nI (ln i))), (4, .int ((tgOf sr (mb (ln i)) n) &&& ((mb (ln i)) ^^^ (-1)))), (5, .int (nI h)), (6, .int (nI k))] [] := by
            intro fu_L54
            induction fu_L54 with
            | zero => intro k h hf2 hk eh; exfalso; omega
            | succ fu_L54 ih_L54 =>
              intro k h hf2 hk eh
              have h5 : h < 128 := by rw [eh]; exact hIn_lt h2 _ _
              refine r_iload dX1_height_54 6 rfl ?_
              refine r_aload_n dX1_height_56 0 rfl ?_
              refine r_getX 0 0 rfl (by decide) q35 rfl dX1_height_57 ?_
              refine n_icmp_ge (tgt := 112) dX1_height_60 (by decide) (by omega) (by omega) (fun c_60 => ?_) (fun c_60 => ?_)
              · refine r_aload_n dX1_height_112 0 rfl ?_
                refine r_getX 0 10 rfl (by decide) q45 rfl dX1_height_113 ?_
                refine r_iload_n dX1_height_116 3 rfl ?_
                refine r_iload dX1_height_117 5 rfl ?_
                refine r_i2b (v := nI h) dX1_height_119 (nI_b8 _ (by omega)) ?_
                refine r_bast (f' := aN (va_up hs' (ln i) h)) (w' := XW G a n tg sr ld mb pl ln len nx nl (va_up hs' (ln i) h) ps) dX1_height_120 8 rfl (by omega) (by decide) (aN_updb _ _ (by omega)) rfl ?_
                refine r_iinc (v := nI (i + 1)) (k := 2) (lv' := [(0, .ref (a 0)), (1, .int (nI u)), (2, .int (nI (i + 1))), (3, .int (nI (ln i))), (4, .int ((tgOf sr (mb (ln i)) n) &&& ((mb (ln i)) ^^^ (-1)))), (5, .int (nI h)), (6, .int (nI k))]) dX1_height_121 rfl (nI_1 _) (by decide) [1, 2, 0, 3, 4, 5, 6] rfl ?_
                refine r_goto (tgt := 12) dX1_height_124 (by decide) ?_
                refine At.sub [0, 1, 2] rfl ?_
                exact ih_L12 (i + 1) _ (by omega) (by omega) (by rw [hOut, ← e1, eh, show k = n by omega])
              · refine r_iload dX1_height_63 4 rfl ?_
                refine r_iload dX1_height_65 6 rfl ?_
                refine r_ishr (v := ((tgOf sr (mb (ln i)) n) &&& ((mb (ln i)) ^^^ (-1))) >>> (nI k &&& 31)) dX1_height_67 (rfl) ?_
                refine r_iconst (v := nI 1) dX1_height_68 (by decide) ?_
                refine r_iand (v := nI (bt ((tgOf sr (mb (ln i)) n) &&& ((mb (ln i)) ^^^ (-1))) k).toNat) dX1_height_69 (bt_bit _ (by omega)) ?_
                refine b_if_eq (tgt := 106) dX1_height_70 (by decide) (fun c_70 => ?_) (fun c_70 => ?_)
                · refine r_iinc (v := nI (k + 1)) (k := 6) (lv' := [(0, .ref (a 0)), (1, .int (nI u)), (2, .int (nI i)), (3, .int (nI (ln i))), (4, .int ((tgOf sr (mb (ln i)) n) &&& ((mb (ln i)) ^^^ (-1)))), (5, .int (nI h)), (6, .int (nI (k + 1)))]) dX1_height_106 rfl (nI_1 _) (by decide) [1, 2, 3, 4, 5, 6, 0] rfl ?_
                  refine r_goto (tgt := 54) dX1_height_109 (by decide) ?_
                  exact ih_L54 (k + 1) _ (by omega) (by omega) (by rw [hIn, if_neg (fun q => b_nf c_70 q.1), eh])
                · have h3 := hld k c_60
                  have h4 := h2 (ld k)
                  refine r_aload_n dX1_height_73 0 rfl ?_
                  refine r_getX 0 10 rfl (by decide) q45 rfl dX1_height_74 ?_
                  refine r_aload_n dX1_height_77 0 rfl ?_
                  refine r_getX 0 3 rfl (by decide) q38 rfl dX1_height_78 ?_
                  refine r_iload dX1_height_81 6 rfl ?_
                  refine r_bald (v := nI (ld k)) dX1_height_83 3 rfl (by omega) (by decide) (rfl) ?_
                  refine r_bald (v := nI (hs' (ld k))) dX1_height_84 8 rfl (by omega) (by decide) (rfl) ?_
                  refine r_iload dX1_height_85 5 rfl ?_
                  refine n_icmp_lt (tgt := 106) dX1_height_87 (by decide) (by omega) (by omega) (fun c_87 => ?_) (fun c_87 => ?_)
                  · refine r_iinc (v := nI (k + 1)) (k := 6) (lv' := [(0, .ref (a 0)), (1, .int (nI u)), (2, .int (nI i)), (3, .int (nI (ln i))), (4, .int ((tgOf sr (mb (ln i)) n) &&& ((mb (ln i)) ^^^ (-1)))), (5, .int (nI h)), (6, .int (nI (k + 1)))]) dX1_height_106 rfl (nI_1 _) (by decide) [1, 2, 3, 4, 5, 6, 0] rfl ?_
                    refine r_goto (tgt := 54) dX1_height_109 (by decide) ?_
                    exact ih_L54 (k + 1) _ (by omega) (by omega) (by rw [hIn, if_neg (fun q => by have q2 := q.2; rw [← eh] at q2; omega), eh])
                  · refine r_aload_n dX1_height_90 0 rfl ?_
                    refine r_getX 0 10 rfl (by decide) q45 rfl dX1_height_91 ?_
                    refine r_aload_n dX1_height_94 0 rfl ?_
                    refine r_getX 0 3 rfl (by decide) q38 rfl dX1_height_95 ?_
                    refine r_iload dX1_height_98 6 rfl ?_
                    refine r_bald (v := nI (ld k)) dX1_height_100 3 rfl (by omega) (by decide) (rfl) ?_
                    refine r_bald (v := nI (hs' (ld k))) dX1_height_101 8 rfl (by omega) (by decide) (rfl) ?_
                    refine r_iconst (v := nI 1) dX1_height_102 (by decide) ?_
                    refine r_iadd (v := nI ((hs' (ld k)) + 1)) dX1_height_103 (nI_add _ _) ?_
                    refine r_istore (lv' := [(0, .ref (a 0)), (1, .int (nI u)), (2, .int (nI i)), (3, .int (nI (ln i))), (4, .int ((tgOf sr (mb (ln i)) n) &&& ((mb (ln i)) ^^^ (-1)))), (5, .int (nI ((hs' (ld k)) + 1))), (6, .int (nI k))]) dX1_height_104 (by decide) [1, 2, 3, 4, 5, 0, 6] rfl ?_
                    refine r_iinc (v := nI (k + 1)) (k := 6) (lv' := [(0, .ref (a 0)), (1, .int (nI u)), (2, .int (nI i)), (3, .int (nI (ln i))), (4, .int ((tgOf sr (mb (ln i)) n) &&& ((mb (ln i)) ^^^ (-1)))), (5, .int (nI ((hs' (ld k)) + 1))), (6, .int (nI (k + 1)))]) dX1_height_106 rfl (nI_1 _) (by decide) [1, 2, 3, 4, 5, 6, 0] rfl ?_
                    refine r_goto (tgt := 54) dX1_height_109 (by decide) ?_
                    exact ih_L54 (k + 1) _ (by omega) (by omega) (by rw [hIn, if_pos ⟨c_70, by rw [← eh]; exact c_87⟩])
          exact L54 (n + 1) 0 0 (by omega) (by omega) rfl
    exact L12 (len + 1) 0 hs (by omega) (by omega) rfl
  · exact absurd c_5 (by decide)
abbrev rX1_cycle : Room := { frames := 1, cells := 0, slots := 0, locals := 23 }
set_option maxHeartbeats 4000000 in
set_option maxRecDepth 100000 in
/-- cycle(x), no vertex -/
theorem metX_cycle_bad (G : GG) (a : Nat → Nat) (n : Nat) (tg : Nat → Int32) (sr : Nat → Int32) (ld : Nat → Nat) (mb : Nat → Int32) (pl : Nat → Nat) (ln : Nat → Nat) (len : Nat) (nx : Nat → Nat) (nl : Nat) (hs : Nat → Nat) (ps : Nat → Int32) (x : Int32) (hn : n ≤ 16) (h : vI n x = false) : KMi G yX1_cycle cX1_cycle 6 .int rX1_cycle [.ref (a 0), .int x] (XW G a n tg sr ld mb pl ln len nx nl hs ps) (XW G a n tg sr ld mb pl ln len nx nl hs ps) (-1) := by
  refine KMi.of (own := RX1) (by decide) rfl (Nat.le_of_ble_eq_true rfl) rfl ?_
  intro X hret
  show At G cX1_cycle RX1 6 rX1_cycle X 0 0 (XW G a n tg sr ld mb pl ln len nx nl hs ps) 0 [(0, .ref (a 0)), (1, .int x)] []
  refine r_aload_n dX1_cycle_0 0 rfl ?_
  refine r_iload_n dX1_cycle_1 1 rfl ?_
  refine r_calli (As := [.int x]) (rest := []) (ci := 0) (metX_isVertex G a n tg sr ld mb pl ln len nx nl hs ps x hn) ⟨cgX_isVertex, ⟨rfl, rfl⟩, cdX_isVertex, Nat.le_of_ble_eq_true rfl, Nat.le_of_ble_eq_true rfl⟩ rfl rfl 0 rfl rfl rfl (Nat.le_of_ble_eq_true rfl) ⟨Nat.zero_le _, Nat.zero_le _⟩ dX1_cycle_2 ?_
  refine b_if_ne (tgt := 10) dX1_cycle_5 (by decide) (fun c_5 => ?_) (fun c_5 => ?_)
  · exact absurd c_5 (b_nf h)
  · refine r_iconst (v := (-1)) dX1_cycle_8 (by decide) ?_
    exact hret _ _ _ _ (rfl) (rfl) dX1_cycle_9
set_option maxHeartbeats 4000000 in
set_option maxRecDepth 100000 in
/-- metX_cycle_ok -/
theorem metX_cycle_ok (G : GG) (a : Nat → Nat) (n : Nat) (tg : Nat → Int32) (sr : Nat → Int32) (ld : Nat → Nat) (mb : Nat → Int32) (pl : Nat → Nat) (ln : Nat → Nat) (len : Nat) (nx : Nat → Nat) (nl : Nat) (hs : Nat → Nat) (ps : Nat → Int32) (u : Nat) (hn : n ≤ 16) (hu : u < n) (hlu : ld u < 16) : KMi G yX1_cycle cX1_cycle 6 .int rX1_cycle [.ref (a 0), .int (nI u)] (XW G a n tg sr ld mb pl ln len nx nl hs ps) (XW G a n tg sr ld mb pl ln len nx nl hs ps) (cyc tg n (mb (ld u)) u 16 1 (tg u &&& mb (ld u)) (tg u &&& mb (ld u))) := by
  refine KMi.of (own := RX1) (by decide) rfl (Nat.le_of_ble_eq_true rfl) rfl ?_
  intro X hret
  show At G cX1_cycle RX1 6 rX1_cycle X 0 0 (XW G a n tg sr ld mb pl ln len nx nl hs ps) 0 [(0, .ref (a 0)), (1, .int (nI u))] []
  refine r_aload_n dX1_cycle_0 0 rfl ?_
  refine r_iload_n dX1_cycle_1 1 rfl ?_
  refine r_calli (As := [.int (nI u)]) (rest := []) (ci := 0) (by have h := metX_isVertex G a n tg sr ld mb pl ln len nx nl hs ps (nI u) hn; rw [vI_lt hu hn] at h; exact h) ⟨cgX_isVertex, ⟨rfl, rfl⟩, cdX_isVertex, Nat.le_of_ble_eq_true rfl, Nat.le_of_ble_eq_true rfl⟩ rfl rfl 0 rfl rfl rfl (Nat.le_of_ble_eq_true rfl) ⟨Nat.zero_le _, Nat.zero_le _⟩ dX1_cycle_2 ?_
  refine b_if_ne (tgt := 10) dX1_cycle_5 (by decide) (fun c_5 => ?_) (fun c_5 => ?_)
  · refine r_aload_n dX1_cycle_10 0 rfl ?_
    refine r_getX 0 4 rfl (by decide) q39 rfl dX1_cycle_11 ?_
    refine r_aload_n dX1_cycle_14 0 rfl ?_
    refine r_getX 0 3 rfl (by decide) q38 rfl dX1_cycle_15 ?_
    refine r_iload_n dX1_cycle_18 1 rfl ?_
    refine r_bald (v := nI (ld u)) dX1_cycle_19 3 rfl (by omega) (by decide) (rfl) ?_
    refine r_iald (v := mb (ld u)) dX1_cycle_20 4 rfl (by omega) (by decide) (rfl) ?_
    refine r_istore_n (lv' := [(0, .ref (a 0)), (1, .int (nI u)), (2, .int (mb (ld u)))]) dX1_cycle_21 (by decide) [1, 2, 0] rfl ?_
    refine r_aload_n dX1_cycle_22 0 rfl ?_
    refine r_getX 0 1 rfl (by decide) q36 rfl dX1_cycle_23 ?_
    refine r_iload_n dX1_cycle_26 1 rfl ?_
    refine r_iald (v := tg u) dX1_cycle_27 1 rfl (by omega) (by decide) (rfl) ?_
    refine r_iload_n dX1_cycle_28 2 rfl ?_
    refine r_iand (v := (tg u) &&& (mb (ld u))) dX1_cycle_29 (rfl) ?_
    refine r_istore_n (lv' := [(0, .ref (a 0)), (1, .int (nI u)), (2, .int (mb (ld u))), (3, .int ((tg u) &&& (mb (ld u))))]) dX1_cycle_30 (by decide) [1, 2, 3, 0] rfl ?_
    refine r_iload_n dX1_cycle_31 3 rfl ?_
    refine r_istore (lv' := [(0, .ref (a 0)), (1, .int (nI u)), (2, .int (mb (ld u))), (3, .int ((tg u) &&& (mb (ld u)))), (4, .int ((tg u) &&& (mb (ld u))))]) dX1_cycle_32 (by decide) [1, 2, 3, 4, 0] rfl ?_
    refine r_iconst (v := nI 1) dX1_cycle_34 (by decide) ?_
    refine r_istore (lv' := [(0, .ref (a 0)), (1, .int (nI u)), (2, .int (mb (ld u))), (3, .int ((tg u) &&& (mb (ld u)))), (4, .int ((tg u) &&& (mb (ld u)))), (5, .int (nI 1))]) dX1_cycle_35 (by decide) [1, 2, 3, 4, 5, 0] rfl ?_
    have L37 : ∀ (fu_L37 : Nat) (k : Nat) (g : Nat) (wave : Int32) (met : Int32), g < fu_L37 → k + g = 17 → cyc tg n (mb (ld u)) u g k wave met = cyc tg n (mb (ld u)) u 16 1 (tg u &&& mb (ld u)) (tg u &&& mb (ld u)) → At G cX1_cycle RX1 6 rX1_cycle X 0 0 (XW G a n tg sr ld mb pl ln len nx nl hs ps) 37 [(0, .ref (a 0)), (1, .int (nI u)), (2, .int (mb (ld u))), (3, .int wave), (4, .int met), (5, .int (nI k))] [] := by
      intro fu_L37
      induction fu_L37 with
      | zero => intro k g wave met hf hg hv; exfalso; omega
      | succ fu_L37 ih_L37 =>
        intro k g wave met hf hg hv
        refine r_iload dX1_cycle_37 5 rfl ?_
        refine r_bipush (v := nI 16) dX1_cycle_39 (by decide) ?_
        refine n_icmp_gt (tgt := 85) dX1_cycle_41 (by decide) (by omega) (by omega) (fun c_41 => ?_) (fun c_41 => ?_)
        · refine r_bipush (v := (-2)) dX1_cycle_85 (by decide) ?_
          exact hret _ _ _ _ (by rw [← hv, show g = 0 by omega]; rfl) (rfl) dX1_cycle_87
        · obtain ⟨g', rfl⟩ : ∃ g', g = g' + 1 := ⟨g - 1, by omega⟩
          rw [cyc] at hv
          refine r_iload_n dX1_cycle_44 3 rfl ?_
          refine r_if_eq (tgt := 85) dX1_cycle_45 (by decide) (fun c_45 => ?_) (fun c_45 => ?_)
          · refine r_bipush (v := (-2)) dX1_cycle_85 (by decide) ?_
            exact hret _ _ _ _ (by rw [if_pos c_45] at hv; exact hv) (rfl) dX1_cycle_87
          · refine r_iload dX1_cycle_48 4 rfl ?_
            refine r_iload_n dX1_cycle_50 1 rfl ?_
            refine r_ishr (v := met >>> (nI u &&& 31)) dX1_cycle_51 (rfl) ?_
            refine r_iconst (v := nI 1) dX1_cycle_52 (by decide) ?_
            refine r_iand (v := nI (bt met u).toNat) dX1_cycle_53 (bt_bit _ (by omega)) ?_
            refine b_if_eq (tgt := 60) dX1_cycle_54 (by decide) (fun c_54 => ?_) (fun c_54 => ?_)
            · refine r_aload_n dX1_cycle_60 0 rfl ?_
              refine r_iload_n dX1_cycle_61 3 rfl ?_
              refine r_calli (As := [.int wave]) (rest := []) (ci := 0) (metX_targetsOf G a n tg sr ld mb pl ln len nx nl hs ps wave hn) ⟨cgX_targetsOf, ⟨rfl, rfl⟩, cdX_targetsOf, Nat.le_of_ble_eq_true rfl, Nat.le_of_ble_eq_true rfl⟩ rfl rfl 0 rfl rfl rfl (Nat.le_of_ble_eq_true rfl) ⟨Nat.zero_le _, Nat.zero_le _⟩ dX1_cycle_62 ?_
              refine r_iload_n dX1_cycle_65 2 rfl ?_
              refine r_iand (v := (tgOf tg wave n) &&& (mb (ld u))) dX1_cycle_66 (rfl) ?_
              refine r_iload dX1_cycle_67 4 rfl ?_
              refine r_iconst (v := (-1)) dX1_cycle_69 (by decide) ?_
              refine r_ixor (v := met ^^^ (-1)) dX1_cycle_70 (rfl) ?_
              refine r_iand (v := ((tgOf tg wave n) &&& (mb (ld u))) &&& (met ^^^ (-1))) dX1_cycle_71 (rfl) ?_
              refine r_istore_n (lv' := [(0, .ref (a 0)), (1, .int (nI u)), (2, .int (mb (ld u))), (3, .int (((tgOf tg wave n) &&& (mb (ld u))) &&& (met ^^^ (-1)))), (4, .int met), (5, .int (nI k))]) dX1_cycle_72 (by decide) [1, 2, 3, 0, 4, 5] rfl ?_
              refine r_iload dX1_cycle_73 4 rfl ?_
              refine r_iload_n dX1_cycle_75 3 rfl ?_
              refine r_ior (v := met ||| (((tgOf tg wave n) &&& (mb (ld u))) &&& (met ^^^ (-1)))) dX1_cycle_76 (rfl) ?_
              refine r_istore (lv' := [(0, .ref (a 0)), (1, .int (nI u)), (2, .int (mb (ld u))), (3, .int (((tgOf tg wave n) &&& (mb (ld u))) &&& (met ^^^ (-1)))), (4, .int (met ||| (((tgOf tg wave n) &&& (mb (ld u))) &&& (met ^^^ (-1))))), (5, .int (nI k))]) dX1_cycle_77 (by decide) [1, 2, 3, 4, 0, 5] rfl ?_
              refine r_iinc (v := nI (k + 1)) (k := 5) (lv' := [(0, .ref (a 0)), (1, .int (nI u)), (2, .int (mb (ld u))), (3, .int (((tgOf tg wave n) &&& (mb (ld u))) &&& (met ^^^ (-1)))), (4, .int (met ||| (((tgOf tg wave n) &&& (mb (ld u))) &&& (met ^^^ (-1))))), (5, .int (nI (k + 1)))]) dX1_cycle_79 rfl (nI_1 _) (by decide) [1, 2, 3, 4, 5, 0] rfl ?_
              refine r_goto (tgt := 37) dX1_cycle_82 (by decide) ?_
              exact ih_L37 (k + 1) g' _ _ (by omega) (by omega) (by rw [if_neg c_45, if_neg (b_nf c_54)] at hv; exact hv)
            · refine r_iload dX1_cycle_57 5 rfl ?_
              exact hret _ _ _ _ (by rw [if_neg c_45, if_pos c_54] at hv; exact hv) (rfl) dX1_cycle_59
    exact L37 17 1 16 _ _ (by omega) (by omega) rfl
  · exact absurd c_5 (by decide)
abbrev rX1_outerEdges : Room := { frames := 1, cells := 0, slots := 0, locals := 23 }
set_option maxHeartbeats 4000000 in
set_option maxRecDepth 100000 in
/-- outerEdges() -/
theorem metX_outerEdges (G : GG) (a : Nat → Nat) (n : Nat) (tg : Nat → Int32) (sr : Nat → Int32) (ld : Nat → Nat) (mb : Nat → Int32) (pl : Nat → Nat) (ln : Nat → Nat) (len : Nat) (nx : Nat → Nat) (nl : Nat) (hs : Nat → Nat) (ps : Nat → Int32) (hn : n ≤ 16) (hld : ∀ w, w < n → ld w < 16) : KMi G yX1_outerEdges cX1_outerEdges 3 .int rX1_outerEdges [.ref (a 0)] (XW G a n tg sr ld mb pl ln len nx nl hs ps) (XW G a n tg sr ld mb pl ln len nx nl hs ps) (nI (oeC tg ld mb n)) := by
  refine KMi.of (own := RX1) (by decide) rfl (Nat.le_of_ble_eq_true rfl) rfl ?_
  intro X hret
  show At G cX1_outerEdges RX1 3 rX1_outerEdges X 0 0 (XW G a n tg sr ld mb pl ln len nx nl hs ps) 0 [(0, .ref (a 0))] []
  refine r_iconst (v := nI 0) dX1_outerEdges_0 (by decide) ?_
  refine r_istore_n (lv' := [(0, .ref (a 0)), (1, .int (nI 0))]) dX1_outerEdges_1 (by decide) [1, 0] rfl ?_
  refine r_iconst (v := nI 0) dX1_outerEdges_2 (by decide) ?_
  refine r_istore_n (lv' := [(0, .ref (a 0)), (1, .int (nI 0)), (2, .int (nI 0))]) dX1_outerEdges_3 (by decide) [1, 2, 0] rfl ?_
  have L4 : ∀ (fu_L4 : Nat) (i : Nat) (cnt : Nat), n < i + fu_L4 → i ≤ n → cnt = oeC tg ld mb i → At G cX1_outerEdges RX1 3 rX1_outerEdges X 0 0 (XW G a n tg sr ld mb pl ln len nx nl hs ps) 4 [(0, .ref (a 0)), (1, .int (nI cnt)), (2, .int (nI i))] [] := by
    intro fu_L4
    induction fu_L4 with
    | zero => intro i cnt hf hi hc; exfalso; omega
    | succ fu_L4 ih_L4 =>
      intro i cnt hf hi hc
      refine r_iload_n dX1_outerEdges_4 2 rfl ?_
      refine r_aload_n dX1_outerEdges_5 0 rfl ?_
      refine r_getX 0 0 rfl (by decide) q35 rfl dX1_outerEdges_6 ?_
      refine n_icmp_ge (tgt := 45) dX1_outerEdges_9 (by decide) (by omega) (by omega) (fun c_9 => ?_) (fun c_9 => ?_)
      · refine r_iload_n dX1_outerEdges_45 1 rfl ?_
        exact hret _ _ _ _ (by rw [hc, show i = n by omega]) (rfl) dX1_outerEdges_46
      · have h1 := hld i c_9
        refine r_iload_n dX1_outerEdges_12 1 rfl ?_
        refine r_aload_n dX1_outerEdges_13 0 rfl ?_
        refine r_aload_n dX1_outerEdges_14 0 rfl ?_
        refine r_getX 0 1 rfl (by decide) q36 rfl dX1_outerEdges_15 ?_
        refine r_iload_n dX1_outerEdges_18 2 rfl ?_
        refine r_iald (v := tg i) dX1_outerEdges_19 1 rfl (by omega) (by decide) (rfl) ?_
        refine r_aload_n dX1_outerEdges_20 0 rfl ?_
        refine r_getX 0 4 rfl (by decide) q39 rfl dX1_outerEdges_21 ?_
        refine r_aload_n dX1_outerEdges_24 0 rfl ?_
        refine r_getX 0 3 rfl (by decide) q38 rfl dX1_outerEdges_25 ?_
        refine r_iload_n dX1_outerEdges_28 2 rfl ?_
        refine r_bald (v := nI (ld i)) dX1_outerEdges_29 3 rfl (by omega) (by decide) (rfl) ?_
        refine r_iald (v := mb (ld i)) dX1_outerEdges_30 4 rfl (by omega) (by decide) (rfl) ?_
        refine r_iconst (v := (-1)) dX1_outerEdges_31 (by decide) ?_
        refine r_ixor (v := (mb (ld i)) ^^^ (-1)) dX1_outerEdges_32 (rfl) ?_
        refine r_iand (v := (tg i) &&& ((mb (ld i)) ^^^ (-1))) dX1_outerEdges_33 (rfl) ?_
        refine r_calli (As := [.int ((tg i) &&& ((mb (ld i)) ^^^ (-1)))]) (rest := [.int (nI cnt)]) (ci := 0) (metX_bitsIn G a n tg sr ld mb pl ln len nx nl hs ps ((tg i) &&& ((mb (ld i)) ^^^ (-1)))) ⟨cgX_bitsIn, ⟨rfl, rfl⟩, cdX_bitsIn, Nat.le_of_ble_eq_true rfl, Nat.le_of_ble_eq_true rfl⟩ rfl rfl 0 rfl rfl rfl (Nat.le_of_ble_eq_true rfl) ⟨Nat.zero_le _, Nat.zero_le _⟩ dX1_outerEdges_34 ?_
        refine r_iadd (v := nI (cnt + (bc ((tg i) &&& ((mb (ld i)) ^^^ (-1))) 16))) dX1_outerEdges_37 (nI_add _ _) ?_
        refine r_istore_n (lv' := [(0, .ref (a 0)), (1, .int (nI (cnt + (bc ((tg i) &&& ((mb (ld i)) ^^^ (-1))) 16)))), (2, .int (nI i))]) dX1_outerEdges_38 (by decide) [1, 0, 2] rfl ?_
        refine r_iinc (v := nI (i + 1)) (k := 2) (lv' := [(0, .ref (a 0)), (1, .int (nI (cnt + (bc ((tg i) &&& ((mb (ld i)) ^^^ (-1))) 16)))), (2, .int (nI (i + 1)))]) dX1_outerEdges_39 rfl (nI_1 _) (by decide) [1, 2, 0] rfl ?_
        refine r_goto (tgt := 4) dX1_outerEdges_42 (by decide) ?_
        exact ih_L4 (i + 1) _ (by omega) (by omega) (by rw [oeC, hc])
  exact L4 (n + 1) 0 0 (by omega) (by omega) rfl
abbrev rX1_inOneLine : Room := { frames := 1, cells := 0, slots := 0, locals := 23 }
set_option maxHeartbeats 4000000 in
set_option maxRecDepth 100000 in
/-- inOneLine() -/
theorem metX_inOneLine (G : GG) (a : Nat → Nat) (n : Nat) (tg : Nat → Int32) (sr : Nat → Int32) (ld : Nat → Nat) (mb : Nat → Int32) (pl : Nat → Nat) (ln : Nat → Nat) (len : Nat) (nx : Nat → Nat) (nl : Nat) (hs : Nat → Nat) (ps : Nat → Int32) (hn : n ≤ 16) (hl1 : 1 ≤ len) (hlen : len ≤ 16) (hln : ∀ i, i < len → ln i < 16) : KMi G yX1_inOneLine cX1_inOneLine 4 .boolean rX1_inOneLine [.ref (a 0)] (XW G a n tg sr ld mb pl ln len nx nl hs ps) (XW G a n tg sr ld mb pl ln len nx nl hs ps) (nI (iol tg n mb ln (len - 1) 0).toNat) := by
  refine KMi.of (own := RX1) (by decide) rfl (Nat.le_of_ble_eq_true rfl) (nar_z _) ?_
  intro X hret
  show At G cX1_inOneLine RX1 4 rX1_inOneLine X 0 0 (XW G a n tg sr ld mb pl ln len nx nl hs ps) 0 [(0, .ref (a 0))] []
  refine r_iconst (v := nI 0) dX1_inOneLine_0 (by decide) ?_
  refine r_istore_n (lv' := [(0, .ref (a 0)), (1, .int (nI 0))]) dX1_inOneLine_1 (by decide) [1, 0] rfl ?_
  have L2 : ∀ (fu_L2 : Nat) (i : Nat) (g : Nat), g < fu_L2 → i + g + 1 = len → iol tg n mb ln g i = iol tg n mb ln (len - 1) 0 → At G cX1_inOneLine RX1 4 rX1_inOneLine X 0 0 (XW G a n tg sr ld mb pl ln len nx nl hs ps) 2 [(0, .ref (a 0)), (1, .int (nI i))] [] := by
    intro fu_L2
    induction fu_L2 with
    | zero => intro i g hf hg hv; exfalso; omega
    | succ fu_L2 ih_L2 =>
      intro i g hf hg hv
      refine r_iload_n dX1_inOneLine_2 1 rfl ?_
      refine r_iconst (v := nI 1) dX1_inOneLine_3 (by decide) ?_
      refine r_iadd (v := nI (i + 1)) dX1_inOneLine_4 (nI_add _ _) ?_
      refine r_aload_n dX1_inOneLine_5 0 rfl ?_
      refine r_getX 0 7 rfl (by decide) q42 rfl dX1_inOneLine_6 ?_
      refine n_icmp_ge (tgt := 56) dX1_inOneLine_9 (by decide) (by omega) (by omega) (fun c_9 => ?_) (fun c_9 => ?_)
      · refine r_iconst (v := nI 1) dX1_inOneLine_56 (by decide) ?_
        exact hret _ _ _ _ (by rw [← hv, show g = 0 by omega]; rfl) (rfl) dX1_inOneLine_57
      · obtain ⟨g', rfl⟩ : ∃ g', g = g' + 1 := ⟨g - 1, by omega⟩
        rw [iol] at hv
        have h1 := hln i (by omega)
        have h2 := hln (i + 1) (by omega)
        refine r_aload_n dX1_inOneLine_12 0 rfl ?_
        refine r_getX 0 6 rfl (by decide) q41 rfl dX1_inOneLine_13 ?_
        refine r_iload_n dX1_inOneLine_16 1 rfl ?_
        refine r_iconst (v := nI 1) dX1_inOneLine_17 (by decide) ?_
        refine r_iadd (v := nI (i + 1)) dX1_inOneLine_18 (nI_add _ _) ?_
        refine r_bald (v := nI (ln (i + 1))) dX1_inOneLine_19 6 rfl (by omega) (by decide) (rfl) ?_
        refine r_istore_n (lv' := [(0, .ref (a 0)), (1, .int (nI i)), (2, .int (nI (ln (i + 1))))]) dX1_inOneLine_20 (by decide) [1, 2, 0] rfl ?_
        refine r_aload_n dX1_inOneLine_21 0 rfl ?_
        refine r_aload_n dX1_inOneLine_22 0 rfl ?_
        refine r_getX 0 4 rfl (by decide) q39 rfl dX1_inOneLine_23 ?_
        refine r_aload_n dX1_inOneLine_26 0 rfl ?_
        refine r_getX 0 6 rfl (by decide) q41 rfl dX1_inOneLine_27 ?_
        refine r_iload_n dX1_inOneLine_30 1 rfl ?_
        refine r_bald (v := nI (ln i)) dX1_inOneLine_31 6 rfl (by omega) (by decide) (rfl) ?_
        refine r_iald (v := mb (ln i)) dX1_inOneLine_32 4 rfl (by omega) (by decide) (rfl) ?_
        refine r_calli (As := [.int (mb (ln i))]) (rest := []) (ci := 0) (metX_targetsOf G a n tg sr ld mb pl ln len nx nl hs ps (mb (ln i)) hn) ⟨cgX_targetsOf, ⟨rfl, rfl⟩, cdX_targetsOf, Nat.le_of_ble_eq_true rfl, Nat.le_of_ble_eq_true rfl⟩ rfl rfl 0 rfl rfl rfl (Nat.le_of_ble_eq_true rfl) ⟨Nat.zero_le _, Nat.zero_le _⟩ dX1_inOneLine_33 ?_
        refine r_istore_n (lv' := [(0, .ref (a 0)), (1, .int (nI i)), (2, .int (nI (ln (i + 1)))), (3, .int (tgOf tg (mb (ln i)) n))]) dX1_inOneLine_36 (by decide) [1, 2, 3, 0] rfl ?_
        refine r_iload_n dX1_inOneLine_37 3 rfl ?_
        refine r_aload_n dX1_inOneLine_38 0 rfl ?_
        refine r_getX 0 4 rfl (by decide) q39 rfl dX1_inOneLine_39 ?_
        refine r_iload_n dX1_inOneLine_42 2 rfl ?_
        refine r_iald (v := mb (ln (i + 1))) dX1_inOneLine_43 4 rfl (by omega) (by decide) (rfl) ?_
        refine r_iand (v := (tgOf tg (mb (ln i)) n) &&& (mb (ln (i + 1)))) dX1_inOneLine_44 (rfl) ?_
        refine r_if_ne (tgt := 50) dX1_inOneLine_45 (by decide) (fun c_45 => ?_) (fun c_45 => ?_)
        · refine r_iinc (v := nI (i + 1)) (k := 1) (lv' := [(0, .ref (a 0)), (1, .int (nI (i + 1))), (2, .int (nI (ln (i + 1)))), (3, .int (tgOf tg (mb (ln i)) n))]) dX1_inOneLine_50 rfl (nI_1 _) (by decide) [1, 0, 2, 3] rfl ?_
          refine r_goto (tgt := 2) dX1_inOneLine_53 (by decide) ?_
          refine At.sub [0, 1] rfl ?_
          exact ih_L2 (i + 1) g' (by omega) (by omega) (by rw [if_neg c_45] at hv; exact hv)
        · refine r_iconst (v := nI 0) dX1_inOneLine_48 (by decide) ?_
          exact hret _ _ _ _ (by rw [if_pos c_45] at hv; rw [← hv]; rfl) (rfl) dX1_inOneLine_49
  exact L2 (len + 1) 0 (len - 1) (by omega) (by omega) rfl
end
section
/-! the reference's loops, a step at a time -/
theorem lnI_neg {ed re re2 : Nat → Bool} {uv k : Nat} {g g2 : Bool} (e3 : re2 = (lnI ed uv re g k).1) (e4 : g2 = (lnI ed uv re g k).2) (h : ¬ ((re2 uv = true ∧ ed (16 * (uv % 16) + k) = true) ∧ re2 (16 * (uv / 16) + k) = false)) : re2 = (lnI ed uv re g (k + 1)).1 ∧ g2 = (lnI ed uv re g (k + 1)).2 := by
  subst e3; subst e4
  rw [lnI, if_neg h]
  exact ⟨rfl, rfl⟩
theorem lnI_pos {ed re re2 : Nat → Bool} {uv k : Nat} {g g2 : Bool} (e3 : re2 = (lnI ed uv re g k).1) (e4 : g2 = (lnI ed uv re g k).2) (h : (re2 uv = true ∧ ed (16 * (uv % 16) + k) = true) ∧ re2 (16 * (uv / 16) + k) = false) : va_up re2 (16 * (uv / 16) + k) true = (lnI ed uv re g (k + 1)).1 ∧ true = (lnI ed uv re g (k + 1)).2 := by
  subst e3; subst e4
  rw [lnI, if_pos h]
  exact ⟨rfl, rfl⟩
theorem loG_le (re : Nat → Bool) (u : Nat) : ∀ f v, v + f ≤ u → loG re u f v ≤ u
  | 0, v, _ => Nat.le_refl _
  | f + 1, v, h => by
    rw [loG]
    split
    · omega
    · exact loG_le re u f (v + 1) (by omega)
theorem lo_le (re : Nat → Bool) (u : Nat) : lo re u ≤ u := loG_le re u u 0 (by omega)
theorem rsH_le {ed re : Nat → Bool} {hi : Nat → Nat} {u v B : Nat} (hu : hi u ≤ B) (hv : hi v ≤ B) : rsH ed re hi u v ≤ B + 1 := by
  unfold rsH
  dsimp only
  repeat' split
  all_goals omega
theorem rsI_le {ed re : Nat → Bool} {hi : Nat → Nat} {u n B : Nat} {g : Bool} (hu : u < n) (h : ∀ j, j < n → hi j ≤ B) : ∀ k, k ≤ n → ∀ j, j < n → (rsI ed re u hi g k).1 j ≤ B + k
  | 0, _, j, hj => h j hj
  | k + 1, hk, j, hj => by
    have ih := rsI_le (ed := ed) (re := re) (g := g) hu h k (by omega)
    rw [rsI]
    split
    · show va_up _ k _ j ≤ _
      by_cases q : j = k
      · subst q
        rw [va_up_self]
        have := rsH_le (ed := ed) (re := re) (ih u hu) (ih j hj)
        omega
      · rw [va_up_ne _ _ q]
        have := ih j hj
        omega
    · have := ih j hj
      omega
theorem rsO_le {ed re : Nat → Bool} {hi : Nat → Nat} {n B : Nat} (hn : n ≤ 16) (h : ∀ j, j < n → hi j ≤ B) : ∀ k, k ≤ n → ∀ j, j < n → (rsO ed re n hi k).1 j ≤ B + 16 * k
  | 0, _, j, hj => h j hj
  | k + 1, hk, j, hj => by
    have ih := rsO_le (ed := ed) (re := re) hn h k (by omega)
    have := rsI_le (ed := ed) (re := re) (u := k) (g := (rsO ed re n hi k).2) (by omega) ih n (Nat.le_refl _) j hj
    rw [rsO]
    omega
theorem rsI_neg {ed re : Nat → Bool} {hi hi2 : Nat → Nat} {u k : Nat} {g g2 : Bool} (e3 : hi2 = (rsI ed re u hi g k).1) (e4 : g2 = (rsI ed re u hi g k).2) (h : ¬ hi2 k < rsH ed re hi2 u k) : hi2 = (rsI ed re u hi g (k + 1)).1 ∧ g2 = (rsI ed re u hi g (k + 1)).2 := by
  subst e3; subst e4
  rw [rsI, if_neg h]
  exact ⟨rfl, rfl⟩
theorem rsI_pos {ed re : Nat → Bool} {hi hi2 : Nat → Nat} {u k : Nat} {g g2 : Bool} (e3 : hi2 = (rsI ed re u hi g k).1) (e4 : g2 = (rsI ed re u hi g k).2) (h : hi2 k < rsH ed re hi2 u k) : va_up hi2 k (rsH ed re hi2 u k) = (rsI ed re u hi g (k + 1)).1 ∧ true = (rsI ed re u hi g (k + 1)).2 := by
  subst e3; subst e4
  rw [rsI, if_pos h]
  exact ⟨rfl, rfl⟩
theorem hz_le (hi : Nat → Nat) : ∀ k j, j < k → hz hi k j = 0
  | k + 1, j, h => by
    rw [hz]
    by_cases q : j = k
    · subst q; exact va_up_self _ _ _
    · rw [va_up_ne _ _ q]; exact hz_le hi k j (by omega)
end
section
abbrev rX2_isVertex : Room := { frames := 0, cells := 0, slots := 0, locals := 0 }
set_option maxHeartbeats 4000000 in
set_option maxRecDepth 100000 in
/-- isVertex(x) -/
theorem metM_isVertex (G : GG) (a : Nat → Nat) (n : Nat) (ed : Nat → Bool) (re : Nat → Bool) (hi : Nat → Nat) (x : Int32) (hn : n ≤ 16) : KMi G yX2_isVertex cX2_isVertex 2 .boolean rX2_isVertex [.ref (a 0), .int x] (MW G a n ed re hi) (MW G a n ed re hi) (nI (vI n x).toNat) := by
  refine KMi.of (own := RX2) (by decide) rfl (Nat.le_of_ble_eq_true rfl) (nar_z _) ?_
  intro X hret
  show At G cX2_isVertex RX2 2 rX2_isVertex X 0 0 (MW G a n ed re hi) 0 [(0, .ref (a 0)), (1, .int x)] []
  refine r_iload_n dX2_isVertex_0 1 rfl ?_
  refine r_if_lt (tgt := 16) dX2_isVertex_1 (by decide) (fun c_1 => ?_) (fun c_1 => ?_)
  · refine r_iconst (v := nI 0) dX2_isVertex_16 (by decide) ?_
    exact hret _ _ _ _ (by rw [vI_lt0 c_1]; rfl) (rfl) dX2_isVertex_17
  · refine r_iload_n dX2_isVertex_4 1 rfl ?_
    refine r_aload_n dX2_isVertex_5 0 rfl ?_
    refine r_getM 0 0 rfl (by decide) q195 rfl dX2_isVertex_6 ?_
    refine r_icmp_ge (tgt := 16) dX2_isVertex_9 (by decide) (fun c_9 => ?_) (fun c_9 => ?_)
    · refine r_iconst (v := nI 0) dX2_isVertex_16 (by decide) ?_
      exact hret _ _ _ _ (by rw [vI_ge hn c_9]; rfl) (rfl) dX2_isVertex_17
    · refine r_iconst (v := nI 1) dX2_isVertex_12 (by decide) ?_
      refine r_goto (tgt := 17) dX2_isVertex_13 (by decide) ?_
      exact hret _ _ _ _ (by rw [vI_in hn c_1 c_9]; rfl) (rfl) dX2_isVertex_17
abbrev rX2_lengthen : Room := { frames := 0, cells := 0, slots := 0, locals := 0 }
set_option maxHeartbeats 4000000 in
set_option maxRecDepth 100000 in
/-- lengthen() -/
theorem metM_lengthen (G : GG) (a : Nat → Nat) (n : Nat) (ed : Nat → Bool) (re : Nat → Bool) (hi : Nat → Nat) (hn : n ≤ 16) : KMi G yX2_lengthen cX2_lengthen 6 .boolean rX2_lengthen [.ref (a 0)] (MW G a n ed re hi) (MW G a n ed ((lnO ed n re 256).1) hi) (nI (lnO ed n re 256).2.toNat) := by
  refine KMi.of (own := RX2) (by decide) rfl (Nat.le_of_ble_eq_true rfl) (nar_z _) ?_
  intro X hret
  show At G cX2_lengthen RX2 6 rX2_lengthen X 0 0 (MW G a n ed re hi) 0 [(0, .ref (a 0))] []
  refine r_iconst (v := nI 0) dX2_lengthen_0 (by decide) ?_
  refine r_istore_n (lv' := [(0, .ref (a 0)), (1, .int (nI 0))]) dX2_lengthen_1 (by decide) [1, 0] rfl ?_
  refine r_iconst (v := nI 0) dX2_lengthen_2 (by decide) ?_
  refine r_istore_n (lv' := [(0, .ref (a 0)), (1, .int (nI 0)), (2, .int (nI 0))]) dX2_lengthen_3 (by decide) [1, 2, 0] rfl ?_
  have L4 : ∀ (fu_L4 : Nat) (uv : Nat) (re' : Nat → Bool) (gg : Bool), 256 < uv + fu_L4 → uv ≤ 256 → re' = (lnO ed n re uv).1 → gg = (lnO ed n re uv).2 → At G cX2_lengthen RX2 6 rX2_lengthen X 0 0 (MW G a n ed re' hi) 4 [(0, .ref (a 0)), (1, .int (nI gg.toNat)), (2, .int (nI uv))] [] := by
    intro fu_L4
    induction fu_L4 with
    | zero => intro uv re' gg hf hi1 e1 e2; exfalso; omega
    | succ fu_L4 ih_L4 =>
      intro uv re' gg hf hi1 e1 e2
      refine r_iload_n dX2_lengthen_4 2 rfl ?_
      refine r_sipush (v := nI 256) dX2_lengthen_5 (by decide) ?_
      refine n_icmp_ge (tgt := 100) dX2_lengthen_8 (by decide) (by omega) (by omega) (fun c_8 => ?_) (fun c_8 => ?_)
      · refine r_iload_n dX2_lengthen_100 1 rfl ?_
        exact hret _ _ _ _ (by rw [e2, show uv = 256 by omega]) (by rw [e1, show uv = 256 by omega]) dX2_lengthen_101
      · refine r_iload_n dX2_lengthen_11 2 rfl ?_
        refine r_iconst (v := nI 4) dX2_lengthen_12 (by decide) ?_
        refine r_ishr (v := nI (uv / 16)) dX2_lengthen_13 (n_shr4 (by omega)) ?_
        refine r_istore_n (lv' := [(0, .ref (a 0)), (1, .int (nI gg.toNat)), (2, .int (nI uv)), (3, .int (nI (uv / 16)))]) dX2_lengthen_14 (by decide) [1, 2, 3, 0] rfl ?_
        refine r_iload_n dX2_lengthen_15 2 rfl ?_
        refine r_bipush (v := nI 15) dX2_lengthen_16 (by decide) ?_
        refine r_iand (v := nI (uv % 16)) dX2_lengthen_18 (n_and15 _) ?_
        refine r_istore (lv' := [(0, .ref (a 0)), (1, .int (nI gg.toNat)), (2, .int (nI uv)), (3, .int (nI (uv / 16))), (4, .int (nI (uv % 16)))]) dX2_lengthen_19 (by decide) [1, 2, 3, 4, 0] rfl ?_
        refine r_iconst (v := nI 0) dX2_lengthen_21 (by decide) ?_
        refine r_istore (lv' := [(0, .ref (a 0)), (1, .int (nI gg.toNat)), (2, .int (nI uv)), (3, .int (nI (uv / 16))), (4, .int (nI (uv % 16))), (5, .int (nI 0))]) dX2_lengthen_22 (by decide) [1, 2, 3, 4, 5, 0] rfl ?_
        have L24 : ∀ (fu_L24 : Nat) (k : Nat) (re2 : Nat → Bool) (g2 : Bool), n < k + fu_L24 → k ≤ n → re2 = (lnI ed uv re' gg k).1 → g2 = (lnI ed uv re' gg k).2 → At G cX2_lengthen RX2 6 rX2_lengthen X 0 0 (MW G a n ed re2 hi) 24 [(0, .ref (a 0)), (1, .int (nI g2.toNat)), (2, .int (nI uv)), (3, .int (nI (uv / 16))), (4, .int (nI (uv % 16))), (5, .int (nI k))] [] := by
          intro fu_L24
          induction fu_L24 with
          | zero => intro k re2 g2 hf2 hk e3 e4; exfalso; omega
          | succ fu_L24 ih_L24 =>
            intro k re2 g2 hf2 hk e3 e4
            refine r_iload dX2_lengthen_24 5 rfl ?_
            refine r_aload_n dX2_lengthen_26 0 rfl ?_
            refine r_getM 0 0 rfl (by decide) q195 rfl dX2_lengthen_27 ?_
            refine n_icmp_ge (tgt := 94) dX2_lengthen_30 (by decide) (by omega) (by omega) (fun c_30 => ?_) (fun c_30 => ?_)
            · refine r_iinc (v := nI (uv + 1)) (k := 2) (lv' := [(0, .ref (a 0)), (1, .int (nI g2.toNat)), (2, .int (nI (uv + 1))), (3, .int (nI (uv / 16))), (4, .int (nI (uv % 16))), (5, .int (nI k))]) dX2_lengthen_94 rfl (nI_1 _) (by decide) [1, 2, 0, 3, 4, 5] rfl ?_
              refine r_goto (tgt := 4) dX2_lengthen_97 (by decide) ?_
              refine At.sub [0, 1, 2] rfl ?_
              exact ih_L4 (uv + 1) _ _ (by omega) (by omega) (by rw [e3, e1, e2, show k = n by omega]; rfl) (by rw [e4, e1, e2, show k = n by omega]; rfl)
            · refine r_aload_n dX2_lengthen_33 0 rfl ?_
              refine r_getM 0 2 rfl (by decide) q197 rfl dX2_lengthen_34 ?_
              refine r_iload_n dX2_lengthen_37 2 rfl ?_
              refine r_zald (v := nI (re2 uv).toNat) dX2_lengthen_38 2 rfl (by omega) (by decide) (rfl) ?_
              refine b_if_eq (tgt := 88) dX2_lengthen_39 (by decide) (fun c_39 => ?_) (fun c_39 => ?_)
              · refine r_iinc (v := nI (k + 1)) (k := 5) (lv' := [(0, .ref (a 0)), (1, .int (nI g2.toNat)), (2, .int (nI uv)), (3, .int (nI (uv / 16))), (4, .int (nI (uv % 16))), (5, .int (nI (k + 1)))]) dX2_lengthen_88 rfl (nI_1 _) (by decide) [1, 2, 3, 4, 5, 0] rfl ?_
                refine r_goto (tgt := 24) dX2_lengthen_91 (by decide) ?_
                obtain ⟨z1, z2⟩ := lnI_neg e3 e4 (fun q => b_nf c_39 q.1.1)
                exact ih_L24 (k + 1) _ _ (by omega) (by omega) z1 z2
              · refine r_aload_n dX2_lengthen_42 0 rfl ?_
                refine r_getM 0 1 rfl (by decide) q196 rfl dX2_lengthen_43 ?_
                refine r_bipush (v := nI 16) dX2_lengthen_46 (by decide) ?_
                refine r_iload dX2_lengthen_48 4 rfl ?_
                refine r_imul (v := nI (16 * (uv % 16))) dX2_lengthen_50 (pk_mul _ _) ?_
                refine r_iload dX2_lengthen_51 5 rfl ?_
                refine r_iadd (v := nI ((16 * (uv % 16)) + k)) dX2_lengthen_53 (nI_add _ _) ?_
                refine r_zald (v := nI (ed ((16 * (uv % 16)) + k)).toNat) dX2_lengthen_54 1 rfl (by omega) (by decide) (rfl) ?_
                refine b_if_eq (tgt := 88) dX2_lengthen_55 (by decide) (fun c_55 => ?_) (fun c_55 => ?_)
                · refine r_iinc (v := nI (k + 1)) (k := 5) (lv' := [(0, .ref (a 0)), (1, .int (nI g2.toNat)), (2, .int (nI uv)), (3, .int (nI (uv / 16))), (4, .int (nI (uv % 16))), (5, .int (nI (k + 1)))]) dX2_lengthen_88 rfl (nI_1 _) (by decide) [1, 2, 3, 4, 5, 0] rfl ?_
                  refine r_goto (tgt := 24) dX2_lengthen_91 (by decide) ?_
                  obtain ⟨z1, z2⟩ := lnI_neg e3 e4 (fun q => b_nf c_55 q.1.2)
                  exact ih_L24 (k + 1) _ _ (by omega) (by omega) z1 z2
                · refine r_aload_n dX2_lengthen_58 0 rfl ?_
                  refine r_getM 0 2 rfl (by decide) q197 rfl dX2_lengthen_59 ?_
                  refine r_bipush (v := nI 16) dX2_lengthen_62 (by decide) ?_
                  refine r_iload_n dX2_lengthen_64 3 rfl ?_
                  refine r_imul (v := nI (16 * (uv / 16))) dX2_lengthen_65 (pk_mul _ _) ?_
                  refine r_iload dX2_lengthen_66 5 rfl ?_
                  refine r_iadd (v := nI ((16 * (uv / 16)) + k)) dX2_lengthen_68 (nI_add _ _) ?_
                  refine r_zald (v := nI (re2 ((16 * (uv / 16)) + k)).toNat) dX2_lengthen_69 2 rfl (by omega) (by decide) (rfl) ?_
                  refine b_if_ne (tgt := 88) dX2_lengthen_70 (by decide) (fun c_70 => ?_) (fun c_70 => ?_)
                  · refine r_iinc (v := nI (k + 1)) (k := 5) (lv' := [(0, .ref (a 0)), (1, .int (nI g2.toNat)), (2, .int (nI uv)), (3, .int (nI (uv / 16))), (4, .int (nI (uv % 16))), (5, .int (nI (k + 1)))]) dX2_lengthen_88 rfl (nI_1 _) (by decide) [1, 2, 3, 4, 5, 0] rfl ?_
                    refine r_goto (tgt := 24) dX2_lengthen_91 (by decide) ?_
                    obtain ⟨z1, z2⟩ := lnI_neg e3 e4 (fun q => b_nf q.2 c_70)
                    exact ih_L24 (k + 1) _ _ (by omega) (by omega) z1 z2
                  · refine r_aload_n dX2_lengthen_73 0 rfl ?_
                    refine r_getM 0 2 rfl (by decide) q197 rfl dX2_lengthen_74 ?_
                    refine r_bipush (v := nI 16) dX2_lengthen_77 (by decide) ?_
                    refine r_iload_n dX2_lengthen_79 3 rfl ?_
                    refine r_imul (v := nI (16 * (uv / 16))) dX2_lengthen_80 (pk_mul _ _) ?_
                    refine r_iload dX2_lengthen_81 5 rfl ?_
                    refine r_iadd (v := nI ((16 * (uv / 16)) + k)) dX2_lengthen_83 (nI_add _ _) ?_
                    refine r_iconst (v := nI 1) dX2_lengthen_84 (by decide) ?_
                    refine r_zast (f' := aB (va_up re2 ((16 * (uv / 16)) + k) true)) (w' := MW G a n ed (va_up re2 ((16 * (uv / 16)) + k) true) hi) dX2_lengthen_85 2 rfl (by omega) (by decide) (aB_upd _ _ true) rfl ?_
                    refine r_iconst (v := nI 1) dX2_lengthen_86 (by decide) ?_
                    refine r_istore_n (lv' := [(0, .ref (a 0)), (1, .int (nI 1)), (2, .int (nI uv)), (3, .int (nI (uv / 16))), (4, .int (nI (uv % 16))), (5, .int (nI k))]) dX2_lengthen_87 (by decide) [1, 0, 2, 3, 4, 5] rfl ?_
                    refine r_iinc (v := nI (k + 1)) (k := 5) (lv' := [(0, .ref (a 0)), (1, .int (nI 1)), (2, .int (nI uv)), (3, .int (nI (uv / 16))), (4, .int (nI (uv % 16))), (5, .int (nI (k + 1)))]) dX2_lengthen_88 rfl (nI_1 _) (by decide) [1, 2, 3, 4, 5, 0] rfl ?_
                    refine r_goto (tgt := 24) dX2_lengthen_91 (by decide) ?_
                    obtain ⟨z1, z2⟩ := lnI_pos e3 e4 ⟨⟨c_39, c_55⟩, c_70⟩
                    exact ih_L24 (k + 1) _ true (by omega) (by omega) z1 z2
        exact L24 (n + 1) 0 re' gg (by omega) (by omega) rfl rfl
  exact L4 257 0 re false (by omega) (by omega) rfl rfl
abbrev rX2_findReach : Room := { frames := 1, cells := 0, slots := 0, locals := 25 }
set_option maxHeartbeats 4000000 in
set_option maxRecDepth 100000 in
/-- findReach() -/
theorem metM_findReach (G : GG) (a : Nat → Nat) (n : Nat) (ed : Nat → Bool) (re : Nat → Bool) (hi : Nat → Nat) (hn : n ≤ 16) : KMv G yX2_findReach cX2_findReach 3 rX2_findReach [.ref (a 0)] (MW G a n ed re hi) (MW G a n ed (fr ed n re) hi) := by
  refine KMv.of (own := RX2) (by decide) rfl (Nat.le_of_ble_eq_true rfl) ?_
  intro X hret
  show At G cX2_findReach RX2 3 rX2_findReach X 0 0 (MW G a n ed re hi) 0 [(0, .ref (a 0))] []
  refine r_iconst (v := nI 0) dX2_findReach_0 (by decide) ?_
  refine r_istore_n (lv' := [(0, .ref (a 0)), (1, .int (nI 0))]) dX2_findReach_1 (by decide) [1, 0] rfl ?_
  have L2 : ∀ (fu_L2 : Nat) (i : Nat) (re' : Nat → Bool), 256 < i + fu_L2 → i ≤ 256 → re' = frI re i → At G cX2_findReach RX2 3 rX2_findReach X 0 0 (MW G a n ed re' hi) 2 [(0, .ref (a 0)), (1, .int (nI i))] [] := by
    intro fu_L2
    induction fu_L2 with
    | zero => intro i re' hf hi1 e1; exfalso; omega
    | succ fu_L2 ih_L2 =>
      intro i re' hf hi1 e1
      refine r_iload_n dX2_findReach_2 1 rfl ?_
      refine r_sipush (v := nI 256) dX2_findReach_3 (by decide) ?_
      refine n_icmp_ge (tgt := 36) dX2_findReach_6 (by decide) (by omega) (by omega) (fun c_6 => ?_) (fun c_6 => ?_)
      · have e2 : frG ed n 17 re' true = fr ed n re := by rw [e1, show i = 256 by omega]; rfl
        refine r_iconst (v := nI 1) dX2_findReach_36 (by decide) ?_
        refine r_istore_n (lv' := [(0, .ref (a 0)), (1, .int (nI 1))]) dX2_findReach_37 (by decide) [1, 0] rfl ?_
        refine r_iconst (v := nI 0) dX2_findReach_38 (by decide) ?_
        refine r_istore_n (lv' := [(0, .ref (a 0)), (1, .int (nI 1)), (2, .int (nI 0))]) dX2_findReach_39 (by decide) [1, 2, 0] rfl ?_
        have L40 : ∀ (fu_L40 : Nat) (k : Nat) (g : Nat) (re2 : Nat → Bool) (gg : Bool), g < fu_L40 → k + g = 17 → frG ed n g re2 gg = fr ed n re → At G cX2_findReach RX2 3 rX2_findReach X 0 0 (MW G a n ed re2 hi) 40 [(0, .ref (a 0)), (1, .int (nI gg.toNat)), (2, .int (nI k))] [] := by
          intro fu_L40
          induction fu_L40 with
          | zero => intro k g re2 gg hf2 hg hv; exfalso; omega
          | succ fu_L40 ih_L40 =>
            intro k g re2 gg hf2 hg hv
            refine r_iload_n dX2_findReach_40 2 rfl ?_
            refine r_bipush (v := nI 17) dX2_findReach_41 (by decide) ?_
            refine n_icmp_ge (tgt := 61) dX2_findReach_43 (by decide) (by omega) (by omega) (fun c_43 => ?_) (fun c_43 => ?_)
            · exact hret _ _ _ (by rw [← hv, show g = 0 by omega]; rfl) dX2_findReach_61
            · obtain ⟨g', rfl⟩ : ∃ g', g = g' + 1 := ⟨g - 1, by omega⟩
              rw [frG] at hv
              refine r_iload_n dX2_findReach_46 1 rfl ?_
              refine b_if_eq (tgt := 61) dX2_findReach_47 (by decide) (fun c_47 => ?_) (fun c_47 => ?_)
              · exact hret _ _ _ (by rw [if_neg (b_nf c_47)] at hv; rw [hv]) dX2_findReach_61
              · refine r_aload_n dX2_findReach_50 0 rfl ?_
                refine r_calli (As := []) (rest := []) (ci := 1) (metM_lengthen G a n ed re2 hi hn) ⟨cgM_lengthen, ⟨rfl, rfl⟩, cdM_lengthen, Nat.le_of_ble_eq_true rfl, Nat.le_of_ble_eq_true rfl⟩ rfl rfl 0 rfl rfl rfl (Nat.le_of_ble_eq_true rfl) ⟨Nat.zero_le _, Nat.zero_le _⟩ dX2_findReach_51 ?_
                refine r_istore_n (lv' := [(0, .ref (a 0)), (1, .int (nI ((lnO ed n re2 256).2).toNat)), (2, .int (nI k))]) dX2_findReach_54 (by decide) [1, 0, 2] rfl ?_
                refine r_iinc (v := nI (k + 1)) (k := 2) (lv' := [(0, .ref (a 0)), (1, .int (nI ((lnO ed n re2 256).2).toNat)), (2, .int (nI (k + 1)))]) dX2_findReach_55 rfl (nI_1 _) (by decide) [1, 2, 0] rfl ?_
                refine r_goto (tgt := 40) dX2_findReach_58 (by decide) ?_
                exact ih_L40 (k + 1) g' _ _ (by omega) (by omega) (by rw [if_pos c_47] at hv; exact hv)
        exact L40 18 0 17 re' true (by omega) (by omega) e2
      · refine r_aload_n dX2_findReach_9 0 rfl ?_
        refine r_getM 0 2 rfl (by decide) q197 rfl dX2_findReach_10 ?_
        refine r_iload_n dX2_findReach_13 1 rfl ?_
        refine r_iload_n dX2_findReach_14 1 rfl ?_
        refine r_iconst (v := nI 4) dX2_findReach_15 (by decide) ?_
        refine r_ishr (v := nI (i / 16)) dX2_findReach_16 (n_shr4 (by omega)) ?_
        refine r_iload_n dX2_findReach_17 1 rfl ?_
        refine r_bipush (v := nI 15) dX2_findReach_18 (by decide) ?_
        refine r_iand (v := nI (i % 16)) dX2_findReach_20 (n_and15 _) ?_
        refine n_icmp_ne (tgt := 28) dX2_findReach_21 (by decide) (by omega) (by omega) (fun c_21 => ?_) (fun c_21 => ?_)
        · refine r_iconst (v := nI 0) dX2_findReach_28 (by decide) ?_
          refine r_zast (f' := aB (va_up re' i false)) (w' := MW G a n ed (va_up re' i false) hi) dX2_findReach_29 2 rfl (by omega) (by decide) (aB_upd _ _ false) rfl ?_
          refine r_iinc (v := nI (i + 1)) (k := 1) (lv' := [(0, .ref (a 0)), (1, .int (nI (i + 1)))]) dX2_findReach_30 rfl (nI_1 _) (by decide) [1, 0] rfl ?_
          refine r_goto (tgt := 2) dX2_findReach_33 (by decide) ?_
          exact ih_L2 (i + 1) _ (by omega) (by omega) (by rw [frI, e1, decide_eq_false c_21])
        · refine r_iconst (v := nI 1) dX2_findReach_24 (by decide) ?_
          refine r_goto (tgt := 29) dX2_findReach_25 (by decide) ?_
          refine r_zast (f' := aB (va_up re' i true)) (w' := MW G a n ed (va_up re' i true) hi) dX2_findReach_29 2 rfl (by omega) (by decide) (aB_upd _ _ true) rfl ?_
          refine r_iinc (v := nI (i + 1)) (k := 1) (lv' := [(0, .ref (a 0)), (1, .int (nI (i + 1)))]) dX2_findReach_30 rfl (nI_1 _) (by decide) [1, 0] rfl ?_
          refine r_goto (tgt := 2) dX2_findReach_33 (by decide) ?_
          exact ih_L2 (i + 1) _ (by omega) (by omega) (by rw [frI, e1, decide_eq_true c_21])
  exact L2 257 0 re (by omega) (by omega) rfl
abbrev rX2_together : Room := { frames := 0, cells := 0, slots := 0, locals := 0 }
set_option maxHeartbeats 4000000 in
set_option maxRecDepth 100000 in
/-- together(u, v) -/
theorem metM_together (G : GG) (a : Nat → Nat) (n : Nat) (ed : Nat → Bool) (re : Nat → Bool) (hi : Nat → Nat) (u v : Nat) (hu : u < 16) (hv : v < 16) : KMi G yX2_together cX2_together 3 .boolean rX2_together [.ref (a 0), .int (nI u), .int (nI v)] (MW G a n ed re hi) (MW G a n ed re hi) (nI (tog re u v).toNat) := by
  refine KMi.of (own := RX2) (by decide) rfl (Nat.le_of_ble_eq_true rfl) (nar_z _) ?_
  intro X hret
  show At G cX2_together RX2 3 rX2_together X 0 0 (MW G a n ed re hi) 0 [(0, .ref (a 0)), (1, .int (nI u)), (2, .int (nI v))] []
  refine r_aload_n dX2_together_0 0 rfl ?_
  refine r_getM 0 2 rfl (by decide) q197 rfl dX2_together_1 ?_
  refine r_bipush (v := nI 16) dX2_together_4 (by decide) ?_
  refine r_iload_n dX2_together_6 1 rfl ?_
  refine r_imul (v := nI (16 * u)) dX2_together_7 (pk_mul _ _) ?_
  refine r_iload_n dX2_together_8 2 rfl ?_
  refine r_iadd (v := nI ((16 * u) + v)) dX2_together_9 (nI_add _ _) ?_
  refine r_zald (v := nI (re ((16 * u) + v)).toNat) dX2_together_10 2 rfl (by omega) (by decide) (rfl) ?_
  refine b_if_eq (tgt := 32) dX2_together_11 (by decide) (fun c_11 => ?_) (fun c_11 => ?_)
  · refine r_iconst (v := nI 0) dX2_together_32 (by decide) ?_
    exact hret _ _ _ _ (by unfold tog; rw [c_11]; rfl) (rfl) dX2_together_33
  · refine r_aload_n dX2_together_14 0 rfl ?_
    refine r_getM 0 2 rfl (by decide) q197 rfl dX2_together_15 ?_
    refine r_bipush (v := nI 16) dX2_together_18 (by decide) ?_
    refine r_iload_n dX2_together_20 2 rfl ?_
    refine r_imul (v := nI (16 * v)) dX2_together_21 (pk_mul _ _) ?_
    refine r_iload_n dX2_together_22 1 rfl ?_
    refine r_iadd (v := nI ((16 * v) + u)) dX2_together_23 (nI_add _ _) ?_
    refine r_zald (v := nI (re ((16 * v) + u)).toNat) dX2_together_24 2 rfl (by omega) (by decide) (rfl) ?_
    refine b_if_eq (tgt := 32) dX2_together_25 (by decide) (fun c_25 => ?_) (fun c_25 => ?_)
    · refine r_iconst (v := nI 0) dX2_together_32 (by decide) ?_
      exact hret _ _ _ _ (by unfold tog; rw [c_11, c_25]; rfl) (rfl) dX2_together_33
    · refine r_iconst (v := nI 1) dX2_together_28 (by decide) ?_
      refine r_goto (tgt := 33) dX2_together_29 (by decide) ?_
      exact hret _ _ _ _ (by unfold tog; rw [c_11, c_25]; rfl) (rfl) dX2_together_33
abbrev rX2_leaderOf : Room := { frames := 1, cells := 0, slots := 0, locals := 22 }
set_option maxHeartbeats 4000000 in
set_option maxRecDepth 100000 in
/-- leaderOf(u) -/
theorem metM_leaderOf (G : GG) (a : Nat → Nat) (n : Nat) (ed : Nat → Bool) (re : Nat → Bool) (hi : Nat → Nat) (u : Nat) (hu : u < 16) : KMi G yX2_leaderOf cX2_leaderOf 3 .int rX2_leaderOf [.ref (a 0), .int (nI u)] (MW G a n ed re hi) (MW G a n ed re hi) (nI (lo re u)) := by
  refine KMi.of (own := RX2) (by decide) rfl (Nat.le_of_ble_eq_true rfl) rfl ?_
  intro X hret
  show At G cX2_leaderOf RX2 3 rX2_leaderOf X 0 0 (MW G a n ed re hi) 0 [(0, .ref (a 0)), (1, .int (nI u))] []
  refine r_iconst (v := nI 0) dX2_leaderOf_0 (by decide) ?_
  refine r_istore_n (lv' := [(0, .ref (a 0)), (1, .int (nI u)), (2, .int (nI 0))]) dX2_leaderOf_1 (by decide) [1, 2, 0] rfl ?_
  have L2 : ∀ (fu_L2 : Nat) (v : Nat) (g : Nat), g < fu_L2 → v + g = u → loG re u g v = lo re u → At G cX2_leaderOf RX2 3 rX2_leaderOf X 0 0 (MW G a n ed re hi) 2 [(0, .ref (a 0)), (1, .int (nI u)), (2, .int (nI v))] [] := by
    intro fu_L2
    induction fu_L2 with
    | zero => intro v g hf hg hv; exfalso; omega
    | succ fu_L2 ih_L2 =>
      intro v g hf hg hv
      refine r_iload_n dX2_leaderOf_2 2 rfl ?_
      refine r_iload_n dX2_leaderOf_3 1 rfl ?_
      refine n_icmp_ge (tgt := 24) dX2_leaderOf_4 (by decide) (by omega) (by omega) (fun c_4 => ?_) (fun c_4 => ?_)
      · refine r_iload_n dX2_leaderOf_24 1 rfl ?_
        exact hret _ _ _ _ (by rw [← hv, show g = 0 by omega]; rfl) (rfl) dX2_leaderOf_25
      · obtain ⟨g', rfl⟩ : ∃ g', g = g' + 1 := ⟨g - 1, by omega⟩
        rw [loG] at hv
        refine r_aload_n dX2_leaderOf_7 0 rfl ?_
        refine r_iload_n dX2_leaderOf_8 1 rfl ?_
        refine r_iload_n dX2_leaderOf_9 2 rfl ?_
        refine r_calli (As := [.int (nI u), .int (nI v)]) (rest := []) (ci := 1) (metM_together G a n ed re hi u v hu (by omega)) ⟨cgM_together, ⟨rfl, rfl⟩, cdM_together, Nat.le_of_ble_eq_true rfl, Nat.le_of_ble_eq_true rfl⟩ rfl rfl 0 rfl rfl rfl (Nat.le_of_ble_eq_true rfl) ⟨Nat.zero_le _, Nat.zero_le _⟩ dX2_leaderOf_10 ?_
        refine b_if_eq (tgt := 18) dX2_leaderOf_13 (by decide) (fun c_13 => ?_) (fun c_13 => ?_)
        · refine r_iinc (v := nI (v + 1)) (k := 2) (lv' := [(0, .ref (a 0)), (1, .int (nI u)), (2, .int (nI (v + 1)))]) dX2_leaderOf_18 rfl (nI_1 _) (by decide) [1, 2, 0] rfl ?_
          refine r_goto (tgt := 2) dX2_leaderOf_21 (by decide) ?_
          exact ih_L2 (v + 1) g' (by omega) (by omega) (by rw [if_neg (b_nf c_13)] at hv; exact hv)
        · refine r_iload_n dX2_leaderOf_16 2 rfl ?_
          exact hret _ _ _ _ (by rw [if_pos c_13] at hv; rw [hv]) (rfl) dX2_leaderOf_17
  exact L2 (u + 1) 0 u (by omega) (by omega) rfl
abbrev rX2_components : Room := { frames := 2, cells := 0, slots := 0, locals := 47 }
set_option maxHeartbeats 4000000 in
set_option maxRecDepth 100000 in
/-- components() -/
theorem metM_components (G : GG) (a : Nat → Nat) (n : Nat) (ed : Nat → Bool) (re : Nat → Bool) (hi : Nat → Nat) (hn : n ≤ 16) : KMi G yX2_components cX2_components 4 .int rX2_components [.ref (a 0)] (MW G a n ed re hi) (MW G a n ed (fr ed n re) hi) (nI (coC (fr ed n re) n)) := by
  refine KMi.of (own := RX2) (by decide) rfl (Nat.le_of_ble_eq_true rfl) rfl ?_
  intro X hret
  show At G cX2_components RX2 4 rX2_components X 0 0 (MW G a n ed re hi) 0 [(0, .ref (a 0))] []
  refine r_aload_n dX2_components_0 0 rfl ?_
  refine r_callv (As := []) (rest := []) (ci := 1) (metM_findReach G a n ed re hi hn) ⟨cgM_findReach, ⟨rfl, rfl⟩, cdM_findReach, Nat.le_of_ble_eq_true rfl, Nat.le_of_ble_eq_true rfl⟩ rfl rfl 0 rfl rfl rfl (Nat.le_of_ble_eq_true rfl) ⟨Nat.zero_le _, Nat.zero_le _⟩ dX2_components_1 ?_
  refine r_iconst (v := nI 0) dX2_components_4 (by decide) ?_
  refine r_istore_n (lv' := [(0, .ref (a 0)), (1, .int (nI 0))]) dX2_components_5 (by decide) [1, 0] rfl ?_
  refine r_iconst (v := nI 0) dX2_components_6 (by decide) ?_
  refine r_istore_n (lv' := [(0, .ref (a 0)), (1, .int (nI 0)), (2, .int (nI 0))]) dX2_components_7 (by decide) [1, 2, 0] rfl ?_
  have L8 : ∀ (fu_L8 : Nat) (i : Nat) (cnt : Nat), n < i + fu_L8 → i ≤ n → cnt = coC (fr ed n re) i → At G cX2_components RX2 4 rX2_components X 0 0 (MW G a n ed (fr ed n re) hi) 8 [(0, .ref (a 0)), (1, .int (nI cnt)), (2, .int (nI i))] [] := by
    intro fu_L8
    induction fu_L8 with
    | zero => intro i cnt hf hi1 hc; exfalso; omega
    | succ fu_L8 ih_L8 =>
      intro i cnt hf hi1 hc
      refine r_iload_n dX2_components_8 2 rfl ?_
      refine r_aload_n dX2_components_9 0 rfl ?_
      refine r_getM 0 0 rfl (by decide) q195 rfl dX2_components_10 ?_
      refine n_icmp_ge (tgt := 36) dX2_components_13 (by decide) (by omega) (by omega) (fun c_13 => ?_) (fun c_13 => ?_)
      · refine r_iload_n dX2_components_36 1 rfl ?_
        exact hret _ _ _ _ (by rw [hc, show i = n by omega]) (rfl) dX2_components_37
      · have h1 := lo_le (fr ed n re) i
        refine r_aload_n dX2_components_16 0 rfl ?_
        refine r_iload_n dX2_components_17 2 rfl ?_
        refine r_calli (As := [.int (nI i)]) (rest := []) (ci := 1) (metM_leaderOf G a n ed (fr ed n re) hi i (by omega)) ⟨cgM_leaderOf, ⟨rfl, rfl⟩, cdM_leaderOf, Nat.le_of_ble_eq_true rfl, Nat.le_of_ble_eq_true rfl⟩ rfl rfl 0 rfl rfl rfl (Nat.le_of_ble_eq_true rfl) ⟨Nat.zero_le _, Nat.zero_le _⟩ dX2_components_18 ?_
        refine r_istore_n (lv' := [(0, .ref (a 0)), (1, .int (nI cnt)), (2, .int (nI i)), (3, .int (nI (lo (fr ed n re) i)))]) dX2_components_21 (by decide) [1, 2, 3, 0] rfl ?_
        refine r_iload_n dX2_components_22 3 rfl ?_
        refine r_iload_n dX2_components_23 2 rfl ?_
        refine n_icmp_ne (tgt := 30) dX2_components_24 (by decide) (by omega) (by omega) (fun c_24 => ?_) (fun c_24 => ?_)
        · refine r_iinc (v := nI (i + 1)) (k := 2) (lv' := [(0, .ref (a 0)), (1, .int (nI cnt)), (2, .int (nI (i + 1))), (3, .int (nI (lo (fr ed n re) i)))]) dX2_components_30 rfl (nI_1 _) (by decide) [1, 2, 0, 3] rfl ?_
          refine r_goto (tgt := 8) dX2_components_33 (by decide) ?_
          refine At.sub [0, 1, 2] rfl ?_
          exact ih_L8 (i + 1) _ (by omega) (by omega) (by rw [coC, if_neg c_24, hc])
        · refine r_iinc (v := nI (cnt + 1)) (k := 1) (lv' := [(0, .ref (a 0)), (1, .int (nI (cnt + 1))), (2, .int (nI i)), (3, .int (nI (lo (fr ed n re) i)))]) dX2_components_27 rfl (nI_1 _) (by decide) [1, 0, 2, 3] rfl ?_
          refine r_iinc (v := nI (i + 1)) (k := 2) (lv' := [(0, .ref (a 0)), (1, .int (nI (cnt + 1))), (2, .int (nI (i + 1))), (3, .int (nI (lo (fr ed n re) i)))]) dX2_components_30 rfl (nI_1 _) (by decide) [1, 2, 0, 3] rfl ?_
          refine r_goto (tgt := 8) dX2_components_33 (by decide) ?_
          refine At.sub [0, 1, 2] rfl ?_
          exact ih_L8 (i + 1) _ (by omega) (by omega) (by rw [coC, if_pos c_24, hc])
  exact L8 (n + 1) 0 0 (by omega) (by omega) rfl
end
section
abbrev rX2_addEdge : Room := { frames := 3, cells := 0, slots := 0, locals := 70 }
set_option maxHeartbeats 4000000 in
set_option maxRecDepth 100000 in
/-- addEdge(x, y), not both vertices, or the same -/
theorem metM_addEdge_bad (G : GG) (a : Nat → Nat) (n : Nat) (ed : Nat → Bool) (re : Nat → Bool) (hi : Nat → Nat) (x y : Int32) (hn : n ≤ 16) (h : vI n x = false ∨ vI n y = false ∨ x = y) : KMi G yX2_addEdge cX2_addEdge 5 .int rX2_addEdge [.ref (a 0), .int x, .int y] (MW G a n ed re hi) (MW G a n ed re hi) (-1) := by
  refine KMi.of (own := RX2) (by decide) rfl (Nat.le_of_ble_eq_true rfl) rfl ?_
  intro X hret
  show At G cX2_addEdge RX2 5 rX2_addEdge X 0 0 (MW G a n ed re hi) 0 [(0, .ref (a 0)), (1, .int x), (2, .int y)] []
  refine r_aload_n dX2_addEdge_0 0 rfl ?_
  refine r_iload_n dX2_addEdge_1 1 rfl ?_
  refine r_calli (As := [.int x]) (rest := []) (ci := 1) (metM_isVertex G a n ed re hi x hn) ⟨cgM_isVertex, ⟨rfl, rfl⟩, cdM_isVertex, Nat.le_of_ble_eq_true rfl, Nat.le_of_ble_eq_true rfl⟩ rfl rfl 0 rfl rfl rfl (Nat.le_of_ble_eq_true rfl) ⟨Nat.zero_le _, Nat.zero_le _⟩ dX2_addEdge_2 ?_
  refine b_if_eq (tgt := 21) dX2_addEdge_5 (by decide) (fun c_5 => ?_) (fun c_5 => ?_)
  · refine r_iconst (v := (-1)) dX2_addEdge_21 (by decide) ?_
    exact hret _ _ _ _ (rfl) (rfl) dX2_addEdge_22
  · refine r_aload_n dX2_addEdge_8 0 rfl ?_
    refine r_iload_n dX2_addEdge_9 2 rfl ?_
    refine r_calli (As := [.int y]) (rest := []) (ci := 1) (metM_isVertex G a n ed re hi y hn) ⟨cgM_isVertex, ⟨rfl, rfl⟩, cdM_isVertex, Nat.le_of_ble_eq_true rfl, Nat.le_of_ble_eq_true rfl⟩ rfl rfl 0 rfl rfl rfl (Nat.le_of_ble_eq_true rfl) ⟨Nat.zero_le _, Nat.zero_le _⟩ dX2_addEdge_10 ?_
    refine b_if_eq (tgt := 21) dX2_addEdge_13 (by decide) (fun c_13 => ?_) (fun c_13 => ?_)
    · refine r_iconst (v := (-1)) dX2_addEdge_21 (by decide) ?_
      exact hret _ _ _ _ (rfl) (rfl) dX2_addEdge_22
    · refine r_iload_n dX2_addEdge_16 1 rfl ?_
      refine r_iload_n dX2_addEdge_17 2 rfl ?_
      refine r_icmp_ne (tgt := 23) dX2_addEdge_18 (by decide) (fun c_18 => ?_) (fun c_18 => ?_)
      · exact absurd h (by rw [c_5, c_13]; simp [c_18])
      · refine r_iconst (v := (-1)) dX2_addEdge_21 (by decide) ?_
        exact hret _ _ _ _ (rfl) (rfl) dX2_addEdge_22
set_option maxHeartbeats 4000000 in
set_option maxRecDepth 100000 in
/-- metM_addEdge_none -/
theorem metM_addEdge_none (G : GG) (a : Nat → Nat) (n : Nat) (ed : Nat → Bool) (re : Nat → Bool) (hi : Nat → Nat) (u v : Nat) (hn : n ≤ 16) (hu : u < n) (hv : v < n) (huv : u ≠ v) (hb : ed (16 * u + v) = true) : KMi G yX2_addEdge cX2_addEdge 5 .int rX2_addEdge [.ref (a 0), .int (nI u), .int (nI v)] (MW G a n ed re hi) (MW G a n ed re hi) (-2) := by
  refine KMi.of (own := RX2) (by decide) rfl (Nat.le_of_ble_eq_true rfl) rfl ?_
  intro X hret
  show At G cX2_addEdge RX2 5 rX2_addEdge X 0 0 (MW G a n ed re hi) 0 [(0, .ref (a 0)), (1, .int (nI u)), (2, .int (nI v))] []
  refine r_aload_n dX2_addEdge_0 0 rfl ?_
  refine r_iload_n dX2_addEdge_1 1 rfl ?_
  refine r_calli (As := [.int (nI u)]) (rest := []) (ci := 1) (by have h := metM_isVertex G a n ed re hi (nI u) hn; rw [vI_lt hu hn] at h; exact h) ⟨cgM_isVertex, ⟨rfl, rfl⟩, cdM_isVertex, Nat.le_of_ble_eq_true rfl, Nat.le_of_ble_eq_true rfl⟩ rfl rfl 0 rfl rfl rfl (Nat.le_of_ble_eq_true rfl) ⟨Nat.zero_le _, Nat.zero_le _⟩ dX2_addEdge_2 ?_
  refine b_if_eq (tgt := 21) dX2_addEdge_5 (by decide) (fun c_5 => ?_) (fun c_5 => ?_)
  · exact absurd c_5 (by decide)
  · refine r_aload_n dX2_addEdge_8 0 rfl ?_
    refine r_iload_n dX2_addEdge_9 2 rfl ?_
    refine r_calli (As := [.int (nI v)]) (rest := []) (ci := 1) (by have h := metM_isVertex G a n ed re hi (nI v) hn; rw [vI_lt hv hn] at h; exact h) ⟨cgM_isVertex, ⟨rfl, rfl⟩, cdM_isVertex, Nat.le_of_ble_eq_true rfl, Nat.le_of_ble_eq_true rfl⟩ rfl rfl 0 rfl rfl rfl (Nat.le_of_ble_eq_true rfl) ⟨Nat.zero_le _, Nat.zero_le _⟩ dX2_addEdge_10 ?_
    refine b_if_eq (tgt := 21) dX2_addEdge_13 (by decide) (fun c_13 => ?_) (fun c_13 => ?_)
    · exact absurd c_13 (by decide)
    · refine r_iload_n dX2_addEdge_16 1 rfl ?_
      refine r_iload_n dX2_addEdge_17 2 rfl ?_
      refine n_icmp_ne (tgt := 23) dX2_addEdge_18 (by decide) (by omega) (by omega) (fun c_18 => ?_) (fun c_18 => ?_)
      · refine r_aload_n dX2_addEdge_23 0 rfl ?_
        refine r_getM 0 1 rfl (by decide) q196 rfl dX2_addEdge_24 ?_
        refine r_bipush (v := nI 16) dX2_addEdge_27 (by decide) ?_
        refine r_iload_n dX2_addEdge_29 1 rfl ?_
        refine r_imul (v := nI (16 * u)) dX2_addEdge_30 (pk_mul _ _) ?_
        refine r_iload_n dX2_addEdge_31 2 rfl ?_
        refine r_iadd (v := nI ((16 * u) + v)) dX2_addEdge_32 (nI_add _ _) ?_
        refine r_zald (v := nI (ed ((16 * u) + v)).toNat) dX2_addEdge_33 1 rfl (by omega) (by decide) (rfl) ?_
        refine b_if_eq (tgt := 40) dX2_addEdge_34 (by decide) (fun c_34 => ?_) (fun c_34 => ?_)
        · exact absurd c_34 (by rw [hb]; decide)
        · refine r_bipush (v := (-2)) dX2_addEdge_37 (by decide) ?_
          exact hret _ _ _ _ (rfl) (rfl) dX2_addEdge_39
      · exact absurd c_18 huv
set_option maxHeartbeats 4000000 in
set_option maxRecDepth 100000 in
/-- metM_addEdge_ok -/
theorem metM_addEdge_ok (G : GG) (a : Nat → Nat) (n : Nat) (ed : Nat → Bool) (re : Nat → Bool) (hi : Nat → Nat) (u v : Nat) (hn : n ≤ 16) (hu : u < n) (hv : v < n) (huv : u ≠ v) (hb : ed (16 * u + v) = false) : KMi G yX2_addEdge cX2_addEdge 5 .int rX2_addEdge [.ref (a 0), .int (nI u), .int (nI v)] (MW G a n ed re hi) (MW G a n (va_up ed (16 * u + v) true) (fr (va_up ed (16 * u + v) true) n (fr ed n re)) hi) (nI (coC (fr ed n re) n) - nI (coC (fr (va_up ed (16 * u + v) true) n (fr ed n re)) n)) := by
  refine KMi.of (own := RX2) (by decide) rfl (Nat.le_of_ble_eq_true rfl) rfl ?_
  intro X hret
  show At G cX2_addEdge RX2 5 rX2_addEdge X 0 0 (MW G a n ed re hi) 0 [(0, .ref (a 0)), (1, .int (nI u)), (2, .int (nI v))] []
  refine r_aload_n dX2_addEdge_0 0 rfl ?_
  refine r_iload_n dX2_addEdge_1 1 rfl ?_
  refine r_calli (As := [.int (nI u)]) (rest := []) (ci := 1) (by have h := metM_isVertex G a n ed re hi (nI u) hn; rw [vI_lt hu hn] at h; exact h) ⟨cgM_isVertex, ⟨rfl, rfl⟩, cdM_isVertex, Nat.le_of_ble_eq_true rfl, Nat.le_of_ble_eq_true rfl⟩ rfl rfl 0 rfl rfl rfl (Nat.le_of_ble_eq_true rfl) ⟨Nat.zero_le _, Nat.zero_le _⟩ dX2_addEdge_2 ?_
  refine b_if_eq (tgt := 21) dX2_addEdge_5 (by decide) (fun c_5 => ?_) (fun c_5 => ?_)
  · exact absurd c_5 (by decide)
  · refine r_aload_n dX2_addEdge_8 0 rfl ?_
    refine r_iload_n dX2_addEdge_9 2 rfl ?_
    refine r_calli (As := [.int (nI v)]) (rest := []) (ci := 1) (by have h := metM_isVertex G a n ed re hi (nI v) hn; rw [vI_lt hv hn] at h; exact h) ⟨cgM_isVertex, ⟨rfl, rfl⟩, cdM_isVertex, Nat.le_of_ble_eq_true rfl, Nat.le_of_ble_eq_true rfl⟩ rfl rfl 0 rfl rfl rfl (Nat.le_of_ble_eq_true rfl) ⟨Nat.zero_le _, Nat.zero_le _⟩ dX2_addEdge_10 ?_
    refine b_if_eq (tgt := 21) dX2_addEdge_13 (by decide) (fun c_13 => ?_) (fun c_13 => ?_)
    · exact absurd c_13 (by decide)
    · refine r_iload_n dX2_addEdge_16 1 rfl ?_
      refine r_iload_n dX2_addEdge_17 2 rfl ?_
      refine n_icmp_ne (tgt := 23) dX2_addEdge_18 (by decide) (by omega) (by omega) (fun c_18 => ?_) (fun c_18 => ?_)
      · refine r_aload_n dX2_addEdge_23 0 rfl ?_
        refine r_getM 0 1 rfl (by decide) q196 rfl dX2_addEdge_24 ?_
        refine r_bipush (v := nI 16) dX2_addEdge_27 (by decide) ?_
        refine r_iload_n dX2_addEdge_29 1 rfl ?_
        refine r_imul (v := nI (16 * u)) dX2_addEdge_30 (pk_mul _ _) ?_
        refine r_iload_n dX2_addEdge_31 2 rfl ?_
        refine r_iadd (v := nI ((16 * u) + v)) dX2_addEdge_32 (nI_add _ _) ?_
        refine r_zald (v := nI (ed ((16 * u) + v)).toNat) dX2_addEdge_33 1 rfl (by omega) (by decide) (rfl) ?_
        refine b_if_eq (tgt := 40) dX2_addEdge_34 (by decide) (fun c_34 => ?_) (fun c_34 => ?_)
        · refine r_aload_n dX2_addEdge_40 0 rfl ?_
          refine r_calli (As := []) (rest := []) (ci := 1) (metM_components G a n ed re hi hn) ⟨cgM_components, ⟨rfl, rfl⟩, cdM_components, Nat.le_of_ble_eq_true rfl, Nat.le_of_ble_eq_true rfl⟩ rfl rfl 0 rfl rfl rfl (Nat.le_of_ble_eq_true rfl) ⟨Nat.zero_le _, Nat.zero_le _⟩ dX2_addEdge_41 ?_
          refine r_istore_n (lv' := [(0, .ref (a 0)), (1, .int (nI u)), (2, .int (nI v)), (3, .int (nI (coC (fr ed n re) n)))]) dX2_addEdge_44 (by decide) [1, 2, 3, 0] rfl ?_
          refine r_aload_n dX2_addEdge_45 0 rfl ?_
          refine r_getM 0 1 rfl (by decide) q196 rfl dX2_addEdge_46 ?_
          refine r_bipush (v := nI 16) dX2_addEdge_49 (by decide) ?_
          refine r_iload_n dX2_addEdge_51 1 rfl ?_
          refine r_imul (v := nI (16 * u)) dX2_addEdge_52 (pk_mul _ _) ?_
          refine r_iload_n dX2_addEdge_53 2 rfl ?_
          refine r_iadd (v := nI ((16 * u) + v)) dX2_addEdge_54 (nI_add _ _) ?_
          refine r_iconst (v := nI 1) dX2_addEdge_55 (by decide) ?_
          refine r_zast (f' := aB (va_up ed ((16 * u) + v) true)) (w' := MW G a n (va_up ed ((16 * u) + v) true) (fr ed n re) hi) dX2_addEdge_56 1 rfl (by omega) (by decide) (aB_upd _ _ true) rfl ?_
          refine r_aload_n dX2_addEdge_57 0 rfl ?_
          refine r_calli (As := []) (rest := []) (ci := 1) (metM_components G a n (va_up ed ((16 * u) + v) true) (fr ed n re) hi hn) ⟨cgM_components, ⟨rfl, rfl⟩, cdM_components, Nat.le_of_ble_eq_true rfl, Nat.le_of_ble_eq_true rfl⟩ rfl rfl 0 rfl rfl rfl (Nat.le_of_ble_eq_true rfl) ⟨Nat.zero_le _, Nat.zero_le _⟩ dX2_addEdge_58 ?_
          refine r_istore (lv' := [(0, .ref (a 0)), (1, .int (nI u)), (2, .int (nI v)), (3, .int (nI (coC (fr ed n re) n))), (4, .int (nI (coC (fr (va_up ed ((16 * u) + v) true) n (fr ed n re)) n)))]) dX2_addEdge_61 (by decide) [1, 2, 3, 4, 0] rfl ?_
          refine r_iload_n dX2_addEdge_63 3 rfl ?_
          refine r_iload dX2_addEdge_64 4 rfl ?_
          refine r_isub (v := nI (coC (fr ed n re) n) - nI (coC (fr (va_up ed (16 * u + v) true) n (fr ed n re)) n)) dX2_addEdge_66 (rfl) ?_
          exact hret _ _ _ _ (rfl) (rfl) dX2_addEdge_67
        · exact absurd c_34 (by rw [hb]; decide)
      · exact absurd c_18 huv
abbrev rX2_removeEdge : Room := { frames := 3, cells := 0, slots := 0, locals := 70 }
set_option maxHeartbeats 4000000 in
set_option maxRecDepth 100000 in
/-- removeEdge(x, y), not both vertices, or the same -/
theorem metM_removeEdge_bad (G : GG) (a : Nat → Nat) (n : Nat) (ed : Nat → Bool) (re : Nat → Bool) (hi : Nat → Nat) (x y : Int32) (hn : n ≤ 16) (h : vI n x = false ∨ vI n y = false ∨ x = y) : KMi G yX2_removeEdge cX2_removeEdge 5 .int rX2_removeEdge [.ref (a 0), .int x, .int y] (MW G a n ed re hi) (MW G a n ed re hi) (-1) := by
  refine KMi.of (own := RX2) (by decide) rfl (Nat.le_of_ble_eq_true rfl) rfl ?_
  intro X hret
  show At G cX2_removeEdge RX2 5 rX2_removeEdge X 0 0 (MW G a n ed re hi) 0 [(0, .ref (a 0)), (1, .int x), (2, .int y)] []
  refine r_aload_n dX2_removeEdge_0 0 rfl ?_
  refine r_iload_n dX2_removeEdge_1 1 rfl ?_
  refine r_calli (As := [.int x]) (rest := []) (ci := 1) (metM_isVertex G a n ed re hi x hn) ⟨cgM_isVertex, ⟨rfl, rfl⟩, cdM_isVertex, Nat.le_of_ble_eq_true rfl, Nat.le_of_ble_eq_true rfl⟩ rfl rfl 0 rfl rfl rfl (Nat.le_of_ble_eq_true rfl) ⟨Nat.zero_le _, Nat.zero_le _⟩ dX2_removeEdge_2 ?_
  refine b_if_eq (tgt := 21) dX2_removeEdge_5 (by decide) (fun c_5 => ?_) (fun c_5 => ?_)
  · refine r_iconst (v := (-1)) dX2_removeEdge_21 (by decide) ?_
    exact hret _ _ _ _ (rfl) (rfl) dX2_removeEdge_22
  · refine r_aload_n dX2_removeEdge_8 0 rfl ?_
    refine r_iload_n dX2_removeEdge_9 2 rfl ?_
    refine r_calli (As := [.int y]) (rest := []) (ci := 1) (metM_isVertex G a n ed re hi y hn) ⟨cgM_isVertex, ⟨rfl, rfl⟩, cdM_isVertex, Nat.le_of_ble_eq_true rfl, Nat.le_of_ble_eq_true rfl⟩ rfl rfl 0 rfl rfl rfl (Nat.le_of_ble_eq_true rfl) ⟨Nat.zero_le _, Nat.zero_le _⟩ dX2_removeEdge_10 ?_
    refine b_if_eq (tgt := 21) dX2_removeEdge_13 (by decide) (fun c_13 => ?_) (fun c_13 => ?_)
    · refine r_iconst (v := (-1)) dX2_removeEdge_21 (by decide) ?_
      exact hret _ _ _ _ (rfl) (rfl) dX2_removeEdge_22
    · refine r_iload_n dX2_removeEdge_16 1 rfl ?_
      refine r_iload_n dX2_removeEdge_17 2 rfl ?_
      refine r_icmp_ne (tgt := 23) dX2_removeEdge_18 (by decide) (fun c_18 => ?_) (fun c_18 => ?_)
      · exact absurd h (by rw [c_5, c_13]; simp [c_18])
      · refine r_iconst (v := (-1)) dX2_removeEdge_21 (by decide) ?_
        exact hret _ _ _ _ (rfl) (rfl) dX2_removeEdge_22
set_option maxHeartbeats 4000000 in
set_option maxRecDepth 100000 in
/-- metM_removeEdge_none -/
theorem metM_removeEdge_none (G : GG) (a : Nat → Nat) (n : Nat) (ed : Nat → Bool) (re : Nat → Bool) (hi : Nat → Nat) (u v : Nat) (hn : n ≤ 16) (hu : u < n) (hv : v < n) (huv : u ≠ v) (hb : ed (16 * u + v) = false) : KMi G yX2_removeEdge cX2_removeEdge 5 .int rX2_removeEdge [.ref (a 0), .int (nI u), .int (nI v)] (MW G a n ed re hi) (MW G a n ed re hi) (-2) := by
  refine KMi.of (own := RX2) (by decide) rfl (Nat.le_of_ble_eq_true rfl) rfl ?_
  intro X hret
  show At G cX2_removeEdge RX2 5 rX2_removeEdge X 0 0 (MW G a n ed re hi) 0 [(0, .ref (a 0)), (1, .int (nI u)), (2, .int (nI v))] []
  refine r_aload_n dX2_removeEdge_0 0 rfl ?_
  refine r_iload_n dX2_removeEdge_1 1 rfl ?_
  refine r_calli (As := [.int (nI u)]) (rest := []) (ci := 1) (by have h := metM_isVertex G a n ed re hi (nI u) hn; rw [vI_lt hu hn] at h; exact h) ⟨cgM_isVertex, ⟨rfl, rfl⟩, cdM_isVertex, Nat.le_of_ble_eq_true rfl, Nat.le_of_ble_eq_true rfl⟩ rfl rfl 0 rfl rfl rfl (Nat.le_of_ble_eq_true rfl) ⟨Nat.zero_le _, Nat.zero_le _⟩ dX2_removeEdge_2 ?_
  refine b_if_eq (tgt := 21) dX2_removeEdge_5 (by decide) (fun c_5 => ?_) (fun c_5 => ?_)
  · exact absurd c_5 (by decide)
  · refine r_aload_n dX2_removeEdge_8 0 rfl ?_
    refine r_iload_n dX2_removeEdge_9 2 rfl ?_
    refine r_calli (As := [.int (nI v)]) (rest := []) (ci := 1) (by have h := metM_isVertex G a n ed re hi (nI v) hn; rw [vI_lt hv hn] at h; exact h) ⟨cgM_isVertex, ⟨rfl, rfl⟩, cdM_isVertex, Nat.le_of_ble_eq_true rfl, Nat.le_of_ble_eq_true rfl⟩ rfl rfl 0 rfl rfl rfl (Nat.le_of_ble_eq_true rfl) ⟨Nat.zero_le _, Nat.zero_le _⟩ dX2_removeEdge_10 ?_
    refine b_if_eq (tgt := 21) dX2_removeEdge_13 (by decide) (fun c_13 => ?_) (fun c_13 => ?_)
    · exact absurd c_13 (by decide)
    · refine r_iload_n dX2_removeEdge_16 1 rfl ?_
      refine r_iload_n dX2_removeEdge_17 2 rfl ?_
      refine n_icmp_ne (tgt := 23) dX2_removeEdge_18 (by decide) (by omega) (by omega) (fun c_18 => ?_) (fun c_18 => ?_)
      · refine r_aload_n dX2_removeEdge_23 0 rfl ?_
        refine r_getM 0 1 rfl (by decide) q196 rfl dX2_removeEdge_24 ?_
        refine r_bipush (v := nI 16) dX2_removeEdge_27 (by decide) ?_
        refine r_iload_n dX2_removeEdge_29 1 rfl ?_
        refine r_imul (v := nI (16 * u)) dX2_removeEdge_30 (pk_mul _ _) ?_
        refine r_iload_n dX2_removeEdge_31 2 rfl ?_
        refine r_iadd (v := nI ((16 * u) + v)) dX2_removeEdge_32 (nI_add _ _) ?_
        refine r_zald (v := nI (ed ((16 * u) + v)).toNat) dX2_removeEdge_33 1 rfl (by omega) (by decide) (rfl) ?_
        refine b_if_ne (tgt := 40) dX2_removeEdge_34 (by decide) (fun c_34 => ?_) (fun c_34 => ?_)
        · exact absurd c_34 (by rw [hb]; decide)
        · refine r_bipush (v := (-2)) dX2_removeEdge_37 (by decide) ?_
          exact hret _ _ _ _ (rfl) (rfl) dX2_removeEdge_39
      · exact absurd c_18 huv
set_option maxHeartbeats 4000000 in
set_option maxRecDepth 100000 in
/-- metM_removeEdge_ok -/
theorem metM_removeEdge_ok (G : GG) (a : Nat → Nat) (n : Nat) (ed : Nat → Bool) (re : Nat → Bool) (hi : Nat → Nat) (u v : Nat) (hn : n ≤ 16) (hu : u < n) (hv : v < n) (huv : u ≠ v) (hb : ed (16 * u + v) = true) : KMi G yX2_removeEdge cX2_removeEdge 5 .int rX2_removeEdge [.ref (a 0), .int (nI u), .int (nI v)] (MW G a n ed re hi) (MW G a n (va_up ed (16 * u + v) false) (fr (va_up ed (16 * u + v) false) n (fr ed n re)) hi) (nI (coC (fr (va_up ed (16 * u + v) false) n (fr ed n re)) n) - nI (coC (fr ed n re) n)) := by
  refine KMi.of (own := RX2) (by decide) rfl (Nat.le_of_ble_eq_true rfl) rfl ?_
  intro X hret
  show At G cX2_removeEdge RX2 5 rX2_removeEdge X 0 0 (MW G a n ed re hi) 0 [(0, .ref (a 0)), (1, .int (nI u)), (2, .int (nI v))] []
  refine r_aload_n dX2_removeEdge_0 0 rfl ?_
  refine r_iload_n dX2_removeEdge_1 1 rfl ?_
  refine r_calli (As := [.int (nI u)]) (rest := []) (ci := 1) (by have h := metM_isVertex G a n ed re hi (nI u) hn; rw [vI_lt hu hn] at h; exact h) ⟨cgM_isVertex, ⟨rfl, rfl⟩, cdM_isVertex, Nat.le_of_ble_eq_true rfl, Nat.le_of_ble_eq_true rfl⟩ rfl rfl 0 rfl rfl rfl (Nat.le_of_ble_eq_true rfl) ⟨Nat.zero_le _, Nat.zero_le _⟩ dX2_removeEdge_2 ?_
  refine b_if_eq (tgt := 21) dX2_removeEdge_5 (by decide) (fun c_5 => ?_) (fun c_5 => ?_)
  · exact absurd c_5 (by decide)
  · refine r_aload_n dX2_removeEdge_8 0 rfl ?_
    refine r_iload_n dX2_removeEdge_9 2 rfl ?_
    refine r_calli (As := [.int (nI v)]) (rest := []) (ci := 1) (by have h := metM_isVertex G a n ed re hi (nI v) hn; rw [vI_lt hv hn] at h; exact h) ⟨cgM_isVertex, ⟨rfl, rfl⟩, cdM_isVertex, Nat.le_of_ble_eq_true rfl, Nat.le_of_ble_eq_true rfl⟩ rfl rfl 0 rfl rfl rfl (Nat.le_of_ble_eq_true rfl) ⟨Nat.zero_le _, Nat.zero_le _⟩ dX2_removeEdge_10 ?_
    refine b_if_eq (tgt := 21) dX2_removeEdge_13 (by decide) (fun c_13 => ?_) (fun c_13 => ?_)
    · exact absurd c_13 (by decide)
    · refine r_iload_n dX2_removeEdge_16 1 rfl ?_
      refine r_iload_n dX2_removeEdge_17 2 rfl ?_
      refine n_icmp_ne (tgt := 23) dX2_removeEdge_18 (by decide) (by omega) (by omega) (fun c_18 => ?_) (fun c_18 => ?_)
      · refine r_aload_n dX2_removeEdge_23 0 rfl ?_
        refine r_getM 0 1 rfl (by decide) q196 rfl dX2_removeEdge_24 ?_
        refine r_bipush (v := nI 16) dX2_removeEdge_27 (by decide) ?_
        refine r_iload_n dX2_removeEdge_29 1 rfl ?_
        refine r_imul (v := nI (16 * u)) dX2_removeEdge_30 (pk_mul _ _) ?_
        refine r_iload_n dX2_removeEdge_31 2 rfl ?_
        refine r_iadd (v := nI ((16 * u) + v)) dX2_removeEdge_32 (nI_add _ _) ?_
        refine r_zald (v := nI (ed ((16 * u) + v)).toNat) dX2_removeEdge_33 1 rfl (by omega) (by decide) (rfl) ?_
        refine b_if_ne (tgt := 40) dX2_removeEdge_34 (by decide) (fun c_34 => ?_) (fun c_34 => ?_)
        · refine r_aload_n dX2_removeEdge_40 0 rfl ?_
          refine r_calli (As := []) (rest := []) (ci := 1) (metM_components G a n ed re hi hn) ⟨cgM_components, ⟨rfl, rfl⟩, cdM_components, Nat.le_of_ble_eq_true rfl, Nat.le_of_ble_eq_true rfl⟩ rfl rfl 0 rfl rfl rfl (Nat.le_of_ble_eq_true rfl) ⟨Nat.zero_le _, Nat.zero_le _⟩ dX2_removeEdge_41 ?_
          refine r_istore_n (lv' := [(0, .ref (a 0)), (1, .int (nI u)), (2, .int (nI v)), (3, .int (nI (coC (fr ed n re) n)))]) dX2_removeEdge_44 (by decide) [1, 2, 3, 0] rfl ?_
          refine r_aload_n dX2_removeEdge_45 0 rfl ?_
          refine r_getM 0 1 rfl (by decide) q196 rfl dX2_removeEdge_46 ?_
          refine r_bipush (v := nI 16) dX2_removeEdge_49 (by decide) ?_
          refine r_iload_n dX2_removeEdge_51 1 rfl ?_
          refine r_imul (v := nI (16 * u)) dX2_removeEdge_52 (pk_mul _ _) ?_
          refine r_iload_n dX2_removeEdge_53 2 rfl ?_
          refine r_iadd (v := nI ((16 * u) + v)) dX2_removeEdge_54 (nI_add _ _) ?_
          refine r_iconst (v := nI 0) dX2_removeEdge_55 (by decide) ?_
          refine r_zast (f' := aB (va_up ed ((16 * u) + v) false)) (w' := MW G a n (va_up ed ((16 * u) + v) false) (fr ed n re) hi) dX2_removeEdge_56 1 rfl (by omega) (by decide) (aB_upd _ _ false) rfl ?_
          refine r_aload_n dX2_removeEdge_57 0 rfl ?_
          refine r_calli (As := []) (rest := []) (ci := 1) (metM_components G a n (va_up ed ((16 * u) + v) false) (fr ed n re) hi hn) ⟨cgM_components, ⟨rfl, rfl⟩, cdM_components, Nat.le_of_ble_eq_true rfl, Nat.le_of_ble_eq_true rfl⟩ rfl rfl 0 rfl rfl rfl (Nat.le_of_ble_eq_true rfl) ⟨Nat.zero_le _, Nat.zero_le _⟩ dX2_removeEdge_58 ?_
          refine r_istore (lv' := [(0, .ref (a 0)), (1, .int (nI u)), (2, .int (nI v)), (3, .int (nI (coC (fr ed n re) n))), (4, .int (nI (coC (fr (va_up ed ((16 * u) + v) false) n (fr ed n re)) n)))]) dX2_removeEdge_61 (by decide) [1, 2, 3, 4, 0] rfl ?_
          refine r_iload dX2_removeEdge_63 4 rfl ?_
          refine r_iload_n dX2_removeEdge_65 3 rfl ?_
          refine r_isub (v := nI (coC (fr (va_up ed (16 * u + v) false) n (fr ed n re)) n) - nI (coC (fr ed n re) n)) dX2_removeEdge_66 (rfl) ?_
          exact hret _ _ _ _ (rfl) (rfl) dX2_removeEdge_67
        · exact absurd c_34 (by rw [hb]; decide)
      · exact absurd c_18 huv
abbrev rX2_leader : Room := { frames := 2, cells := 0, slots := 0, locals := 47 }
set_option maxHeartbeats 4000000 in
set_option maxRecDepth 100000 in
/-- leader(x), no vertex -/
theorem metM_leader_bad (G : GG) (a : Nat → Nat) (n : Nat) (ed : Nat → Bool) (re : Nat → Bool) (hi : Nat → Nat) (x : Int32) (hn : n ≤ 16) (h : vI n x = false) : KMi G yX2_leader cX2_leader 2 .int rX2_leader [.ref (a 0), .int x] (MW G a n ed re hi) (MW G a n ed re hi) (-1) := by
  refine KMi.of (own := RX2) (by decide) rfl (Nat.le_of_ble_eq_true rfl) rfl ?_
  intro X hret
  show At G cX2_leader RX2 2 rX2_leader X 0 0 (MW G a n ed re hi) 0 [(0, .ref (a 0)), (1, .int x)] []
  refine r_aload_n dX2_leader_0 0 rfl ?_
  refine r_iload_n dX2_leader_1 1 rfl ?_
  refine r_calli (As := [.int x]) (rest := []) (ci := 1) (metM_isVertex G a n ed re hi x hn) ⟨cgM_isVertex, ⟨rfl, rfl⟩, cdM_isVertex, Nat.le_of_ble_eq_true rfl, Nat.le_of_ble_eq_true rfl⟩ rfl rfl 0 rfl rfl rfl (Nat.le_of_ble_eq_true rfl) ⟨Nat.zero_le _, Nat.zero_le _⟩ dX2_leader_2 ?_
  refine b_if_ne (tgt := 10) dX2_leader_5 (by decide) (fun c_5 => ?_) (fun c_5 => ?_)
  · exact absurd c_5 (b_nf h)
  · refine r_iconst (v := (-1)) dX2_leader_8 (by decide) ?_
    exact hret _ _ _ _ (rfl) (rfl) dX2_leader_9
set_option maxHeartbeats 4000000 in
set_option maxRecDepth 100000 in
/-- metM_leader_ok -/
theorem metM_leader_ok (G : GG) (a : Nat → Nat) (n : Nat) (ed : Nat → Bool) (re : Nat → Bool) (hi : Nat → Nat) (u : Nat) (hn : n ≤ 16) (hu : u < n) : KMi G yX2_leader cX2_leader 2 .int rX2_leader [.ref (a 0), .int (nI u)] (MW G a n ed re hi) (MW G a n ed (fr ed n re) hi) (nI (lo (fr ed n re) u)) := by
  refine KMi.of (own := RX2) (by decide) rfl (Nat.le_of_ble_eq_true rfl) rfl ?_
  intro X hret
  show At G cX2_leader RX2 2 rX2_leader X 0 0 (MW G a n ed re hi) 0 [(0, .ref (a 0)), (1, .int (nI u))] []
  refine r_aload_n dX2_leader_0 0 rfl ?_
  refine r_iload_n dX2_leader_1 1 rfl ?_
  refine r_calli (As := [.int (nI u)]) (rest := []) (ci := 1) (by have h := metM_isVertex G a n ed re hi (nI u) hn; rw [vI_lt hu hn] at h; exact h) ⟨cgM_isVertex, ⟨rfl, rfl⟩, cdM_isVertex, Nat.le_of_ble_eq_true rfl, Nat.le_of_ble_eq_true rfl⟩ rfl rfl 0 rfl rfl rfl (Nat.le_of_ble_eq_true rfl) ⟨Nat.zero_le _, Nat.zero_le _⟩ dX2_leader_2 ?_
  refine b_if_ne (tgt := 10) dX2_leader_5 (by decide) (fun c_5 => ?_) (fun c_5 => ?_)
  · refine r_aload_n dX2_leader_10 0 rfl ?_
    refine r_callv (As := []) (rest := []) (ci := 1) (metM_findReach G a n ed re hi hn) ⟨cgM_findReach, ⟨rfl, rfl⟩, cdM_findReach, Nat.le_of_ble_eq_true rfl, Nat.le_of_ble_eq_true rfl⟩ rfl rfl 0 rfl rfl rfl (Nat.le_of_ble_eq_true rfl) ⟨Nat.zero_le _, Nat.zero_le _⟩ dX2_leader_11 ?_
    refine r_aload_n dX2_leader_14 0 rfl ?_
    refine r_iload_n dX2_leader_15 1 rfl ?_
    refine r_calli (As := [.int (nI u)]) (rest := []) (ci := 1) (metM_leaderOf G a n ed (fr ed n re) hi u (by omega)) ⟨cgM_leaderOf, ⟨rfl, rfl⟩, cdM_leaderOf, Nat.le_of_ble_eq_true rfl, Nat.le_of_ble_eq_true rfl⟩ rfl rfl 0 rfl rfl rfl (Nat.le_of_ble_eq_true rfl) ⟨Nat.zero_le _, Nat.zero_le _⟩ dX2_leader_16 ?_
    exact hret _ _ _ _ (rfl) (rfl) dX2_leader_19
  · exact absurd c_5 (by decide)
abbrev rX2_componentSize : Room := { frames := 2, cells := 0, slots := 0, locals := 47 }
set_option maxHeartbeats 4000000 in
set_option maxRecDepth 100000 in
/-- componentSize(x), no vertex -/
theorem metM_componentSize_bad (G : GG) (a : Nat → Nat) (n : Nat) (ed : Nat → Bool) (re : Nat → Bool) (hi : Nat → Nat) (x : Int32) (hn : n ≤ 16) (h : vI n x = false) : KMi G yX2_componentSize cX2_componentSize 4 .int rX2_componentSize [.ref (a 0), .int x] (MW G a n ed re hi) (MW G a n ed re hi) (-1) := by
  refine KMi.of (own := RX2) (by decide) rfl (Nat.le_of_ble_eq_true rfl) rfl ?_
  intro X hret
  show At G cX2_componentSize RX2 4 rX2_componentSize X 0 0 (MW G a n ed re hi) 0 [(0, .ref (a 0)), (1, .int x)] []
  refine r_aload_n dX2_componentSize_0 0 rfl ?_
  refine r_iload_n dX2_componentSize_1 1 rfl ?_
  refine r_calli (As := [.int x]) (rest := []) (ci := 1) (metM_isVertex G a n ed re hi x hn) ⟨cgM_isVertex, ⟨rfl, rfl⟩, cdM_isVertex, Nat.le_of_ble_eq_true rfl, Nat.le_of_ble_eq_true rfl⟩ rfl rfl 0 rfl rfl rfl (Nat.le_of_ble_eq_true rfl) ⟨Nat.zero_le _, Nat.zero_le _⟩ dX2_componentSize_2 ?_
  refine b_if_ne (tgt := 10) dX2_componentSize_5 (by decide) (fun c_5 => ?_) (fun c_5 => ?_)
  · exact absurd c_5 (b_nf h)
  · refine r_iconst (v := (-1)) dX2_componentSize_8 (by decide) ?_
    exact hret _ _ _ _ (rfl) (rfl) dX2_componentSize_9
set_option maxHeartbeats 4000000 in
set_option maxRecDepth 100000 in
/-- metM_componentSize_ok -/
theorem metM_componentSize_ok (G : GG) (a : Nat → Nat) (n : Nat) (ed : Nat → Bool) (re : Nat → Bool) (hi : Nat → Nat) (u : Nat) (hn : n ≤ 16) (hu : u < n) : KMi G yX2_componentSize cX2_componentSize 4 .int rX2_componentSize [.ref (a 0), .int (nI u)] (MW G a n ed re hi) (MW G a n ed (fr ed n re) hi) (nI (szC (fr ed n re) u n)) := by
  refine KMi.of (own := RX2) (by decide) rfl (Nat.le_of_ble_eq_true rfl) rfl ?_
  intro X hret
  show At G cX2_componentSize RX2 4 rX2_componentSize X 0 0 (MW G a n ed re hi) 0 [(0, .ref (a 0)), (1, .int (nI u))] []
  refine r_aload_n dX2_componentSize_0 0 rfl ?_
  refine r_iload_n dX2_componentSize_1 1 rfl ?_
  refine r_calli (As := [.int (nI u)]) (rest := []) (ci := 1) (by have h := metM_isVertex G a n ed re hi (nI u) hn; rw [vI_lt hu hn] at h; exact h) ⟨cgM_isVertex, ⟨rfl, rfl⟩, cdM_isVertex, Nat.le_of_ble_eq_true rfl, Nat.le_of_ble_eq_true rfl⟩ rfl rfl 0 rfl rfl rfl (Nat.le_of_ble_eq_true rfl) ⟨Nat.zero_le _, Nat.zero_le _⟩ dX2_componentSize_2 ?_
  refine b_if_ne (tgt := 10) dX2_componentSize_5 (by decide) (fun c_5 => ?_) (fun c_5 => ?_)
  · refine r_aload_n dX2_componentSize_10 0 rfl ?_
    refine r_callv (As := []) (rest := []) (ci := 1) (metM_findReach G a n ed re hi hn) ⟨cgM_findReach, ⟨rfl, rfl⟩, cdM_findReach, Nat.le_of_ble_eq_true rfl, Nat.le_of_ble_eq_true rfl⟩ rfl rfl 0 rfl rfl rfl (Nat.le_of_ble_eq_true rfl) ⟨Nat.zero_le _, Nat.zero_le _⟩ dX2_componentSize_11 ?_
    refine r_iconst (v := nI 0) dX2_componentSize_14 (by decide) ?_
    refine r_istore_n (lv' := [(0, .ref (a 0)), (1, .int (nI u)), (2, .int (nI 0))]) dX2_componentSize_15 (by decide) [1, 2, 0] rfl ?_
    refine r_iconst (v := nI 0) dX2_componentSize_16 (by decide) ?_
    refine r_istore_n (lv' := [(0, .ref (a 0)), (1, .int (nI u)), (2, .int (nI 0)), (3, .int (nI 0))]) dX2_componentSize_17 (by decide) [1, 2, 3, 0] rfl ?_
    have L18 : ∀ (fu_L18 : Nat) (i : Nat) (cnt : Nat), n < i + fu_L18 → i ≤ n → cnt = szC (fr ed n re) u i → At G cX2_componentSize RX2 4 rX2_componentSize X 0 0 (MW G a n ed (fr ed n re) hi) 18 [(0, .ref (a 0)), (1, .int (nI u)), (2, .int (nI cnt)), (3, .int (nI i))] [] := by
      intro fu_L18
      induction fu_L18 with
      | zero => intro i cnt hf hi1 hc; exfalso; omega
      | succ fu_L18 ih_L18 =>
        intro i cnt hf hi1 hc
        refine r_iload_n dX2_componentSize_18 3 rfl ?_
        refine r_aload_n dX2_componentSize_19 0 rfl ?_
        refine r_getM 0 0 rfl (by decide) q195 rfl dX2_componentSize_20 ?_
        refine n_icmp_ge (tgt := 44) dX2_componentSize_23 (by decide) (by omega) (by omega) (fun c_23 => ?_) (fun c_23 => ?_)
        · refine r_iload_n dX2_componentSize_44 2 rfl ?_
          exact hret _ _ _ _ (by rw [hc, show i = n by omega]) (rfl) dX2_componentSize_45
        · refine r_aload_n dX2_componentSize_26 0 rfl ?_
          refine r_iload_n dX2_componentSize_27 1 rfl ?_
          refine r_iload_n dX2_componentSize_28 3 rfl ?_
          refine r_calli (As := [.int (nI u), .int (nI i)]) (rest := []) (ci := 1) (metM_together G a n ed (fr ed n re) hi u i (by omega) (by omega)) ⟨cgM_together, ⟨rfl, rfl⟩, cdM_together, Nat.le_of_ble_eq_true rfl, Nat.le_of_ble_eq_true rfl⟩ rfl rfl 0 rfl rfl rfl (Nat.le_of_ble_eq_true rfl) ⟨Nat.zero_le _, Nat.zero_le _⟩ dX2_componentSize_29 ?_
          refine b_if_eq (tgt := 38) dX2_componentSize_32 (by decide) (fun c_32 => ?_) (fun c_32 => ?_)
          · refine r_iinc (v := nI (i + 1)) (k := 3) (lv' := [(0, .ref (a 0)), (1, .int (nI u)), (2, .int (nI cnt)), (3, .int (nI (i + 1)))]) dX2_componentSize_38 rfl (nI_1 _) (by decide) [1, 2, 3, 0] rfl ?_
            refine r_goto (tgt := 18) dX2_componentSize_41 (by decide) ?_
            exact ih_L18 (i + 1) _ (by omega) (by omega) (by rw [szC, if_neg (b_nf c_32), hc])
          · refine r_iinc (v := nI (cnt + 1)) (k := 2) (lv' := [(0, .ref (a 0)), (1, .int (nI u)), (2, .int (nI (cnt + 1))), (3, .int (nI i))]) dX2_componentSize_35 rfl (nI_1 _) (by decide) [1, 2, 0, 3] rfl ?_
            refine r_iinc (v := nI (i + 1)) (k := 3) (lv' := [(0, .ref (a 0)), (1, .int (nI u)), (2, .int (nI (cnt + 1))), (3, .int (nI (i + 1)))]) dX2_componentSize_38 rfl (nI_1 _) (by decide) [1, 2, 3, 0] rfl ?_
            refine r_goto (tgt := 18) dX2_componentSize_41 (by decide) ?_
            exact ih_L18 (i + 1) _ (by omega) (by omega) (by rw [szC, if_pos c_32, hc])
    exact L18 (n + 1) 0 0 (by omega) (by omega) rfl
  · exact absurd c_5 (by decide)
abbrev rX2_reaches : Room := { frames := 2, cells := 0, slots := 0, locals := 47 }
set_option maxHeartbeats 4000000 in
set_option maxRecDepth 100000 in
/-- reaches(x, y), not both vertices -/
theorem metM_reaches_bad (G : GG) (a : Nat → Nat) (n : Nat) (ed : Nat → Bool) (re : Nat → Bool) (hi : Nat → Nat) (x y : Int32) (hn : n ≤ 16) (h : vI n x = false ∨ vI n y = false) : KMi G yX2_reaches cX2_reaches 3 .boolean rX2_reaches [.ref (a 0), .int x, .int y] (MW G a n ed re hi) (MW G a n ed re hi) (0) := by
  refine KMi.of (own := RX2) (by decide) rfl (Nat.le_of_ble_eq_true rfl) rfl ?_
  intro X hret
  show At G cX2_reaches RX2 3 rX2_reaches X 0 0 (MW G a n ed re hi) 0 [(0, .ref (a 0)), (1, .int x), (2, .int y)] []
  refine r_aload_n dX2_reaches_0 0 rfl ?_
  refine r_iload_n dX2_reaches_1 1 rfl ?_
  refine r_calli (As := [.int x]) (rest := []) (ci := 1) (metM_isVertex G a n ed re hi x hn) ⟨cgM_isVertex, ⟨rfl, rfl⟩, cdM_isVertex, Nat.le_of_ble_eq_true rfl, Nat.le_of_ble_eq_true rfl⟩ rfl rfl 0 rfl rfl rfl (Nat.le_of_ble_eq_true rfl) ⟨Nat.zero_le _, Nat.zero_le _⟩ dX2_reaches_2 ?_
  refine b_if_eq (tgt := 16) dX2_reaches_5 (by decide) (fun c_5 => ?_) (fun c_5 => ?_)
  · refine r_iconst (v := nI 0) dX2_reaches_16 (by decide) ?_
    exact hret _ _ _ _ (rfl) (rfl) dX2_reaches_17
  · refine r_aload_n dX2_reaches_8 0 rfl ?_
    refine r_iload_n dX2_reaches_9 2 rfl ?_
    refine r_calli (As := [.int y]) (rest := []) (ci := 1) (metM_isVertex G a n ed re hi y hn) ⟨cgM_isVertex, ⟨rfl, rfl⟩, cdM_isVertex, Nat.le_of_ble_eq_true rfl, Nat.le_of_ble_eq_true rfl⟩ rfl rfl 0 rfl rfl rfl (Nat.le_of_ble_eq_true rfl) ⟨Nat.zero_le _, Nat.zero_le _⟩ dX2_reaches_10 ?_
    refine b_if_ne (tgt := 18) dX2_reaches_13 (by decide) (fun c_13 => ?_) (fun c_13 => ?_)
    · exact absurd h (by rw [c_5, c_13]; simp)
    · refine r_iconst (v := nI 0) dX2_reaches_16 (by decide) ?_
      exact hret _ _ _ _ (rfl) (rfl) dX2_reaches_17
set_option maxHeartbeats 4000000 in
set_option maxRecDepth 100000 in
/-- reaches -/
theorem metM_reaches_ok (G : GG) (a : Nat → Nat) (n : Nat) (ed : Nat → Bool) (re : Nat → Bool) (hi : Nat → Nat) (u v : Nat) (hn : n ≤ 16) (hu : u < n) (hv : v < n) : KMi G yX2_reaches cX2_reaches 3 .boolean rX2_reaches [.ref (a 0), .int (nI u), .int (nI v)] (MW G a n ed re hi) (MW G a n ed (fr ed n re) hi) (nI (fr ed n re (16 * u + v)).toNat) := by
  refine KMi.of (own := RX2) (by decide) rfl (Nat.le_of_ble_eq_true rfl) (nar_z _) ?_
  intro X hret
  show At G cX2_reaches RX2 3 rX2_reaches X 0 0 (MW G a n ed re hi) 0 [(0, .ref (a 0)), (1, .int (nI u)), (2, .int (nI v))] []
  refine r_aload_n dX2_reaches_0 0 rfl ?_
  refine r_iload_n dX2_reaches_1 1 rfl ?_
  refine r_calli (As := [.int (nI u)]) (rest := []) (ci := 1) (by have h := metM_isVertex G a n ed re hi (nI u) hn; rw [vI_lt hu hn] at h; exact h) ⟨cgM_isVertex, ⟨rfl, rfl⟩, cdM_isVertex, Nat.le_of_ble_eq_true rfl, Nat.le_of_ble_eq_true rfl⟩ rfl rfl 0 rfl rfl rfl (Nat.le_of_ble_eq_true rfl) ⟨Nat.zero_le _, Nat.zero_le _⟩ dX2_reaches_2 ?_
  refine b_if_eq (tgt := 16) dX2_reaches_5 (by decide) (fun c_5 => ?_) (fun c_5 => ?_)
  · exact absurd c_5 (by decide)
  · refine r_aload_n dX2_reaches_8 0 rfl ?_
    refine r_iload_n dX2_reaches_9 2 rfl ?_
    refine r_calli (As := [.int (nI v)]) (rest := []) (ci := 1) (by have h := metM_isVertex G a n ed re hi (nI v) hn; rw [vI_lt hv hn] at h; exact h) ⟨cgM_isVertex, ⟨rfl, rfl⟩, cdM_isVertex, Nat.le_of_ble_eq_true rfl, Nat.le_of_ble_eq_true rfl⟩ rfl rfl 0 rfl rfl rfl (Nat.le_of_ble_eq_true rfl) ⟨Nat.zero_le _, Nat.zero_le _⟩ dX2_reaches_10 ?_
    refine b_if_ne (tgt := 18) dX2_reaches_13 (by decide) (fun c_13 => ?_) (fun c_13 => ?_)
    · refine r_aload_n dX2_reaches_18 0 rfl ?_
      refine r_callv (As := []) (rest := []) (ci := 1) (metM_findReach G a n ed re hi hn) ⟨cgM_findReach, ⟨rfl, rfl⟩, cdM_findReach, Nat.le_of_ble_eq_true rfl, Nat.le_of_ble_eq_true rfl⟩ rfl rfl 0 rfl rfl rfl (Nat.le_of_ble_eq_true rfl) ⟨Nat.zero_le _, Nat.zero_le _⟩ dX2_reaches_19 ?_
      refine r_aload_n dX2_reaches_22 0 rfl ?_
      refine r_getM 0 2 rfl (by decide) q197 rfl dX2_reaches_23 ?_
      refine r_bipush (v := nI 16) dX2_reaches_26 (by decide) ?_
      refine r_iload_n dX2_reaches_28 1 rfl ?_
      refine r_imul (v := nI (16 * u)) dX2_reaches_29 (pk_mul _ _) ?_
      refine r_iload_n dX2_reaches_30 2 rfl ?_
      refine r_iadd (v := nI ((16 * u) + v)) dX2_reaches_31 (nI_add _ _) ?_
      refine r_zald (v := nI ((fr ed n re) ((16 * u) + v)).toNat) dX2_reaches_32 2 rfl (by omega) (by decide) (rfl) ?_
      exact hret _ _ _ _ (rfl) (rfl) dX2_reaches_33
    · exact absurd c_13 (by decide)
abbrev rX2_raise : Room := { frames := 1, cells := 0, slots := 0, locals := 22 }
set_option maxHeartbeats 4000000 in
set_option maxRecDepth 100000 in
/-- raise() -/
theorem metM_raise (G : GG) (a : Nat → Nat) (n : Nat) (ed : Nat → Bool) (re : Nat → Bool) (hi : Nat → Nat) (Bd : Nat) (hn : n ≤ 16) (hB : ∀ j, j < n → hi j ≤ Bd) (hB2 : Bd < 2 ^ 30) : KMi G yX2_raise cX2_raise 5 .boolean rX2_raise [.ref (a 0)] (MW G a n ed re hi) (MW G a n ed re ((rsO ed re n hi n).1)) (nI (rsO ed re n hi n).2.toNat) := by
  refine KMi.of (own := RX2) (by decide) rfl (Nat.le_of_ble_eq_true rfl) (nar_z _) ?_
  intro X hret
  show At G cX2_raise RX2 5 rX2_raise X 0 0 (MW G a n ed re hi) 0 [(0, .ref (a 0))] []
  refine r_iconst (v := nI 0) dX2_raise_0 (by decide) ?_
  refine r_istore_n (lv' := [(0, .ref (a 0)), (1, .int (nI 0))]) dX2_raise_1 (by decide) [1, 0] rfl ?_
  refine r_iconst (v := nI 0) dX2_raise_2 (by decide) ?_
  refine r_istore_n (lv' := [(0, .ref (a 0)), (1, .int (nI 0)), (2, .int (nI 0))]) dX2_raise_3 (by decide) [1, 2, 0] rfl ?_
  have L4 : ∀ (fu_L4 : Nat) (u : Nat) (hi' : Nat → Nat) (gg : Bool), n < u + fu_L4 → u ≤ n → hi' = (rsO ed re n hi u).1 → gg = (rsO ed re n hi u).2 → At G cX2_raise RX2 5 rX2_raise X 0 0 (MW G a n ed re hi') 4 [(0, .ref (a 0)), (1, .int (nI gg.toNat)), (2, .int (nI u))] [] := by
    intro fu_L4
    induction fu_L4 with
    | zero => intro u hi' gg hf hi1 e1 e2; exfalso; omega
    | succ fu_L4 ih_L4 =>
      intro u hi' gg hf hi1 e1 e2
      refine r_iload_n dX2_raise_4 2 rfl ?_
      refine r_aload_n dX2_raise_5 0 rfl ?_
      refine r_getM 0 0 rfl (by decide) q195 rfl dX2_raise_6 ?_
      refine n_icmp_ge (tgt := 137) dX2_raise_9 (by decide) (by omega) (by omega) (fun c_9 => ?_) (fun c_9 => ?_)
      · refine r_iload_n dX2_raise_137 1 rfl ?_
        exact hret _ _ _ _ (by rw [e2, show u = n by omega]) (by rw [e1, show u = n by omega]) dX2_raise_138
      · have b1 : ∀ j, j < n → hi' j ≤ Bd + 16 * u := fun j hj => by rw [e1]; exact rsO_le hn hB u hi1 j hj
        refine r_iconst (v := nI 0) dX2_raise_12 (by decide) ?_
        refine r_istore_n (lv' := [(0, .ref (a 0)), (1, .int (nI gg.toNat)), (2, .int (nI u)), (3, .int (nI 0))]) dX2_raise_13 (by decide) [1, 2, 3, 0] rfl ?_
        have L14 : ∀ (fu_L14 : Nat) (k : Nat) (hi2 : Nat → Nat) (g2 : Bool), n < k + fu_L14 → k ≤ n → hi2 = (rsI ed re u hi' gg k).1 → g2 = (rsI ed re u hi' gg k).2 → At G cX2_raise RX2 5 rX2_raise X 0 0 (MW G a n ed re hi2) 14 [(0, .ref (a 0)), (1, .int (nI g2.toNat)), (2, .int (nI u)), (3, .int (nI k))] [] := by
          intro fu_L14
          induction fu_L14 with
          | zero => intro k hi2 g2 hf2 hk e3 e4; exfalso; omega
          | succ fu_L14 ih_L14 =>
            intro k hi2 g2 hf2 hk e3 e4
            refine r_iload_n dX2_raise_14 3 rfl ?_
            refine r_aload_n dX2_raise_15 0 rfl ?_
            refine r_getM 0 0 rfl (by decide) q195 rfl dX2_raise_16 ?_
            refine n_icmp_ge (tgt := 131) dX2_raise_19 (by decide) (by omega) (by omega) (fun c_19 => ?_) (fun c_19 => ?_)
            · refine r_iinc (v := nI (u + 1)) (k := 2) (lv' := [(0, .ref (a 0)), (1, .int (nI g2.toNat)), (2, .int (nI (u + 1))), (3, .int (nI k))]) dX2_raise_131 rfl (nI_1 _) (by decide) [1, 2, 0, 3] rfl ?_
              refine r_goto (tgt := 4) dX2_raise_134 (by decide) ?_
              refine At.sub [0, 1, 2] rfl ?_
              exact ih_L4 (u + 1) _ _ (by omega) (by omega) (by rw [e3, e1, e2, show k = n by omega]; rfl) (by rw [e4, e1, e2, show k = n by omega]; rfl)
            · have b2 : ∀ j, j < n → hi2 j ≤ Bd + 16 * u + k := fun j hj => by rw [e3]; exact rsI_le c_9 b1 k hk j hj
              have b3 := b2 u c_9
              have b4 := b2 k c_19
              refine r_aload_n dX2_raise_22 0 rfl ?_
              have J104 : ∀ (h : Nat), h = rsH ed re hi2 u k → At G cX2_raise RX2 5 rX2_raise X 0 0 (MW G a n ed re hi2) 104 [(0, .ref (a 0)), (1, .int (nI g2.toNat)), (2, .int (nI u)), (3, .int (nI k)), (4, .int (nI h))] [] := by
                intro h eh
                have b5 : h ≤ Bd + 16 * u + k + 1 := by rw [eh]; exact rsH_le b3 b4
                refine r_iload dX2_raise_104 4 rfl ?_
                refine r_aload_n dX2_raise_106 0 rfl ?_
                refine r_getM 0 3 rfl (by decide) q198 rfl dX2_raise_107 ?_
                refine r_iload_n dX2_raise_110 3 rfl ?_
                refine r_iald (v := nI (hi2 k)) dX2_raise_111 3 rfl (by omega) (by decide) (rfl) ?_
                refine n_icmp_le (tgt := 125) dX2_raise_112 (by decide) (by omega) (by omega) (fun c_112 => ?_) (fun c_112 => ?_)
                · refine r_iinc (v := nI (k + 1)) (k := 3) (lv' := [(0, .ref (a 0)), (1, .int (nI g2.toNat)), (2, .int (nI u)), (3, .int (nI (k + 1))), (4, .int (nI h))]) dX2_raise_125 rfl (nI_1 _) (by decide) [1, 2, 3, 0, 4] rfl ?_
                  refine r_goto (tgt := 14) dX2_raise_128 (by decide) ?_
                  refine At.sub [0, 1, 2, 3] rfl ?_
                  obtain ⟨z1, z2⟩ := rsI_neg e3 e4 (by rw [← eh]; omega)
                  exact ih_L14 (k + 1) _ _ (by omega) (by omega) z1 z2
                · refine r_aload_n dX2_raise_115 0 rfl ?_
                  refine r_getM 0 3 rfl (by decide) q198 rfl dX2_raise_116 ?_
                  refine r_iload_n dX2_raise_119 3 rfl ?_
                  refine r_iload dX2_raise_120 4 rfl ?_
                  refine r_iast (f' := aN (va_up hi2 k h)) (w' := MW G a n ed re (va_up hi2 k h)) dX2_raise_122 3 rfl (by omega) (by decide) (aN_upd _ _ _) rfl ?_
                  refine r_iconst (v := nI 1) dX2_raise_123 (by decide) ?_
                  refine r_istore_n (lv' := [(0, .ref (a 0)), (1, .int (nI 1)), (2, .int (nI u)), (3, .int (nI k)), (4, .int (nI h))]) dX2_raise_124 (by decide) [1, 0, 2, 3, 4] rfl ?_
                  refine r_iinc (v := nI (k + 1)) (k := 3) (lv' := [(0, .ref (a 0)), (1, .int (nI 1)), (2, .int (nI u)), (3, .int (nI (k + 1))), (4, .int (nI h))]) dX2_raise_125 rfl (nI_1 _) (by decide) [1, 2, 3, 0, 4] rfl ?_
                  refine r_goto (tgt := 14) dX2_raise_128 (by decide) ?_
                  refine At.sub [0, 1, 2, 3] rfl ?_
                  obtain ⟨z1, z2⟩ := rsI_pos e3 e4 (by rw [← eh]; omega)
                  exact ih_L14 (k + 1) _ true (by omega) (by omega) (by rw [eh]; exact z1) z2
              have J58 : ∀ (h1 : Nat), h1 = (if tog re u k = true ∧ hi2 k < hi2 u then hi2 u else hi2 k) → At G cX2_raise RX2 5 rX2_raise X 0 0 (MW G a n ed re hi2) 58 [(0, .ref (a 0)), (1, .int (nI g2.toNat)), (2, .int (nI u)), (3, .int (nI k)), (4, .int (nI h1))] [] := by
                intro h1 eh1
                have b5 : h1 ≤ Bd + 16 * u + k := by rw [eh1]; split <;> omega
                refine r_aload_n dX2_raise_58 0 rfl ?_
                refine r_getM 0 1 rfl (by decide) q196 rfl dX2_raise_59 ?_
                refine r_bipush (v := nI 16) dX2_raise_62 (by decide) ?_
                refine r_iload_n dX2_raise_64 2 rfl ?_
                refine r_imul (v := nI (16 * u)) dX2_raise_65 (pk_mul _ _) ?_
                refine r_iload_n dX2_raise_66 3 rfl ?_
                refine r_iadd (v := nI ((16 * u) + k)) dX2_raise_67 (nI_add _ _) ?_
                refine r_zald (v := nI (ed ((16 * u) + k)).toNat) dX2_raise_68 1 rfl (by omega) (by decide) (rfl) ?_
                refine b_if_eq (tgt := 104) dX2_raise_69 (by decide) (fun c_69 => ?_) (fun c_69 => ?_)
                · exact J104 _ (by unfold rsH; dsimp only; rw [← eh1, if_neg (fun q => b_nf c_69 q.1)])
                · refine r_aload_n dX2_raise_72 0 rfl ?_
                  refine r_iload_n dX2_raise_73 2 rfl ?_
                  refine r_iload_n dX2_raise_74 3 rfl ?_
                  refine r_calli (As := [.int (nI u), .int (nI k)]) (rest := []) (ci := 1) (metM_together G a n ed re hi2 u k (by omega) (by omega)) ⟨cgM_together, ⟨rfl, rfl⟩, cdM_together, Nat.le_of_ble_eq_true rfl, Nat.le_of_ble_eq_true rfl⟩ rfl rfl 0 rfl rfl rfl (Nat.le_of_ble_eq_true rfl) ⟨Nat.zero_le _, Nat.zero_le _⟩ dX2_raise_75 ?_
                  refine b_if_ne (tgt := 104) dX2_raise_78 (by decide) (fun c_78 => ?_) (fun c_78 => ?_)
                  · exact J104 _ (by unfold rsH; dsimp only; rw [← eh1, if_neg (fun q => b_nf q.2.1 c_78)])
                  · refine r_aload_n dX2_raise_81 0 rfl ?_
                    refine r_getM 0 3 rfl (by decide) q198 rfl dX2_raise_82 ?_
                    refine r_iload_n dX2_raise_85 2 rfl ?_
                    refine r_iald (v := nI (hi2 u)) dX2_raise_86 3 rfl (by omega) (by decide) (rfl) ?_
                    refine r_iconst (v := nI 1) dX2_raise_87 (by decide) ?_
                    refine r_iadd (v := nI ((hi2 u) + 1)) dX2_raise_88 (nI_add _ _) ?_
                    refine r_iload dX2_raise_89 4 rfl ?_
                    refine n_icmp_le (tgt := 104) dX2_raise_91 (by decide) (by omega) (by omega) (fun c_91 => ?_) (fun c_91 => ?_)
                    · exact J104 _ (by unfold rsH; dsimp only; rw [← eh1, if_neg (fun q => by have := q.2.2; omega)])
                    · refine r_aload_n dX2_raise_94 0 rfl ?_
                      refine r_getM 0 3 rfl (by decide) q198 rfl dX2_raise_95 ?_
                      refine r_iload_n dX2_raise_98 2 rfl ?_
                      refine r_iald (v := nI (hi2 u)) dX2_raise_99 3 rfl (by omega) (by decide) (rfl) ?_
                      refine r_iconst (v := nI 1) dX2_raise_100 (by decide) ?_
                      refine r_iadd (v := nI ((hi2 u) + 1)) dX2_raise_101 (nI_add _ _) ?_
                      refine r_istore (lv' := [(0, .ref (a 0)), (1, .int (nI g2.toNat)), (2, .int (nI u)), (3, .int (nI k)), (4, .int (nI ((hi2 u) + 1)))]) dX2_raise_102 (by decide) [1, 2, 3, 4, 0] rfl ?_
                      exact J104 _ (by unfold rsH; dsimp only; rw [← eh1, if_pos ⟨c_69, c_78, by omega⟩])
              refine r_getM 0 3 rfl (by decide) q198 rfl dX2_raise_23 ?_
              refine r_iload_n dX2_raise_26 3 rfl ?_
              refine r_iald (v := nI (hi2 k)) dX2_raise_27 3 rfl (by omega) (by decide) (rfl) ?_
              refine r_istore (lv' := [(0, .ref (a 0)), (1, .int (nI g2.toNat)), (2, .int (nI u)), (3, .int (nI k)), (4, .int (nI (hi2 k)))]) dX2_raise_28 (by decide) [1, 2, 3, 4, 0] rfl ?_
              refine r_aload_n dX2_raise_30 0 rfl ?_
              refine r_iload_n dX2_raise_31 2 rfl ?_
              refine r_iload_n dX2_raise_32 3 rfl ?_
              refine r_calli (As := [.int (nI u), .int (nI k)]) (rest := []) (ci := 1) (metM_together G a n ed re hi2 u k (by omega) (by omega)) ⟨cgM_together, ⟨rfl, rfl⟩, cdM_together, Nat.le_of_ble_eq_true rfl, Nat.le_of_ble_eq_true rfl⟩ rfl rfl 0 rfl rfl rfl (Nat.le_of_ble_eq_true rfl) ⟨Nat.zero_le _, Nat.zero_le _⟩ dX2_raise_33 ?_
              refine b_if_eq (tgt := 58) dX2_raise_36 (by decide) (fun c_36 => ?_) (fun c_36 => ?_)
              · exact J58 _ (by rw [if_neg (fun q => b_nf c_36 q.1)])
              · refine r_aload_n dX2_raise_39 0 rfl ?_
                refine r_getM 0 3 rfl (by decide) q198 rfl dX2_raise_40 ?_
                refine r_iload_n dX2_raise_43 2 rfl ?_
                refine r_iald (v := nI (hi2 u)) dX2_raise_44 3 rfl (by omega) (by decide) (rfl) ?_
                refine r_iload dX2_raise_45 4 rfl ?_
                refine n_icmp_le (tgt := 58) dX2_raise_47 (by decide) (by omega) (by omega) (fun c_47 => ?_) (fun c_47 => ?_)
                · exact J58 _ (by rw [if_neg (fun q => by have := q.2; omega)])
                · refine r_aload_n dX2_raise_50 0 rfl ?_
                  refine r_getM 0 3 rfl (by decide) q198 rfl dX2_raise_51 ?_
                  refine r_iload_n dX2_raise_54 2 rfl ?_
                  refine r_iald (v := nI (hi2 u)) dX2_raise_55 3 rfl (by omega) (by decide) (rfl) ?_
                  refine r_istore (lv' := [(0, .ref (a 0)), (1, .int (nI g2.toNat)), (2, .int (nI u)), (3, .int (nI k)), (4, .int (nI (hi2 u)))]) dX2_raise_56 (by decide) [1, 2, 3, 4, 0] rfl ?_
                  exact J58 _ (by rw [if_pos ⟨c_36, by omega⟩])
        exact L14 (n + 1) 0 hi' gg (by omega) (by omega) rfl rfl
  exact L4 (n + 1) 0 hi false (by omega) (by omega) rfl rfl
end
section
abbrev rX2_height : Room := { frames := 2, cells := 0, slots := 0, locals := 47 }
set_option maxHeartbeats 4000000 in
set_option maxRecDepth 100000 in
/-- height(x), no vertex -/
theorem metM_height_bad (G : GG) (a : Nat → Nat) (n : Nat) (ed : Nat → Bool) (re : Nat → Bool) (hi : Nat → Nat) (x : Int32) (hn : n ≤ 16) (h : vI n x = false) : KMi G yX2_height cX2_height 4 .int rX2_height [.ref (a 0), .int x] (MW G a n ed re hi) (MW G a n ed re hi) (-1) := by
  refine KMi.of (own := RX2) (by decide) rfl (Nat.le_of_ble_eq_true rfl) rfl ?_
  intro X hret
  show At G cX2_height RX2 4 rX2_height X 0 0 (MW G a n ed re hi) 0 [(0, .ref (a 0)), (1, .int x)] []
  refine r_aload_n dX2_height_0 0 rfl ?_
  refine r_iload_n dX2_height_1 1 rfl ?_
  refine r_calli (As := [.int x]) (rest := []) (ci := 1) (metM_isVertex G a n ed re hi x hn) ⟨cgM_isVertex, ⟨rfl, rfl⟩, cdM_isVertex, Nat.le_of_ble_eq_true rfl, Nat.le_of_ble_eq_true rfl⟩ rfl rfl 0 rfl rfl rfl (Nat.le_of_ble_eq_true rfl) ⟨Nat.zero_le _, Nat.zero_le _⟩ dX2_height_2 ?_
  refine b_if_ne (tgt := 10) dX2_height_5 (by decide) (fun c_5 => ?_) (fun c_5 => ?_)
  · exact absurd c_5 (b_nf h)
  · refine r_iconst (v := (-1)) dX2_height_8 (by decide) ?_
    exact hret _ _ _ _ (rfl) (rfl) dX2_height_9
set_option maxHeartbeats 4000000 in
set_option maxRecDepth 100000 in
/-- metM_height_ok -/
theorem metM_height_ok (G : GG) (a : Nat → Nat) (n : Nat) (ed : Nat → Bool) (re : Nat → Bool) (hi : Nat → Nat) (u : Nat) (hn : n ≤ 16) (hu : u < n) : KMi G yX2_height cX2_height 4 .int rX2_height [.ref (a 0), .int (nI u)] (MW G a n ed re hi) (MW G a n ed (fr ed n re) (hG ed (fr ed n re) n 40 (hz hi n) true)) (nI (hG ed (fr ed n re) n 40 (hz hi n) true u)) := by
  refine KMi.of (own := RX2) (by decide) rfl (Nat.le_of_ble_eq_true rfl) rfl ?_
  intro X hret
  show At G cX2_height RX2 4 rX2_height X 0 0 (MW G a n ed re hi) 0 [(0, .ref (a 0)), (1, .int (nI u))] []
  refine r_aload_n dX2_height_0 0 rfl ?_
  refine r_iload_n dX2_height_1 1 rfl ?_
  refine r_calli (As := [.int (nI u)]) (rest := []) (ci := 1) (by have h := metM_isVertex G a n ed re hi (nI u) hn; rw [vI_lt hu hn] at h; exact h) ⟨cgM_isVertex, ⟨rfl, rfl⟩, cdM_isVertex, Nat.le_of_ble_eq_true rfl, Nat.le_of_ble_eq_true rfl⟩ rfl rfl 0 rfl rfl rfl (Nat.le_of_ble_eq_true rfl) ⟨Nat.zero_le _, Nat.zero_le _⟩ dX2_height_2 ?_
  refine b_if_ne (tgt := 10) dX2_height_5 (by decide) (fun c_5 => ?_) (fun c_5 => ?_)
  · refine r_aload_n dX2_height_10 0 rfl ?_
    refine r_callv (As := []) (rest := []) (ci := 1) (metM_findReach G a n ed re hi hn) ⟨cgM_findReach, ⟨rfl, rfl⟩, cdM_findReach, Nat.le_of_ble_eq_true rfl, Nat.le_of_ble_eq_true rfl⟩ rfl rfl 0 rfl rfl rfl (Nat.le_of_ble_eq_true rfl) ⟨Nat.zero_le _, Nat.zero_le _⟩ dX2_height_11 ?_
    refine r_iconst (v := nI 0) dX2_height_14 (by decide) ?_
    refine r_istore_n (lv' := [(0, .ref (a 0)), (1, .int (nI u)), (2, .int (nI 0))]) dX2_height_15 (by decide) [1, 2, 0] rfl ?_
    have L16 : ∀ (fu_L16 : Nat) (i : Nat) (hi' : Nat → Nat), n < i + fu_L16 → i ≤ n → hi' = hz hi i → At G cX2_height RX2 4 rX2_height X 0 0 (MW G a n ed (fr ed n re) hi') 16 [(0, .ref (a 0)), (1, .int (nI u)), (2, .int (nI i))] [] := by
      intro fu_L16
      induction fu_L16 with
      | zero => intro i hi' hf hi1 e1; exfalso; omega
      | succ fu_L16 ih_L16 =>
        intro i hi' hf hi1 e1
        refine r_iload_n dX2_height_16 2 rfl ?_
        refine r_aload_n dX2_height_17 0 rfl ?_
        refine r_getM 0 0 rfl (by decide) q195 rfl dX2_height_18 ?_
        refine n_icmp_ge (tgt := 37) dX2_height_21 (by decide) (by omega) (by omega) (fun c_21 => ?_) (fun c_21 => ?_)
        · refine r_iconst (v := nI 1) dX2_height_37 (by decide) ?_
          refine r_istore_n (lv' := [(0, .ref (a 0)), (1, .int (nI u)), (2, .int (nI 1))]) dX2_height_38 (by decide) [1, 2, 0] rfl ?_
          refine r_iconst (v := nI 0) dX2_height_39 (by decide) ?_
          refine r_istore_n (lv' := [(0, .ref (a 0)), (1, .int (nI u)), (2, .int (nI 1)), (3, .int (nI 0))]) dX2_height_40 (by decide) [1, 2, 3, 0] rfl ?_
          have L41 : ∀ (fu_L41 : Nat) (k : Nat) (g : Nat) (hi2 : Nat → Nat) (gg : Bool), g < fu_L41 → k + g = 40 → (∀ j, j < n → hi2 j ≤ 256 * k) → hG ed (fr ed n re) n g hi2 gg = hG ed (fr ed n re) n 40 (hz hi n) true → At G cX2_height RX2 4 rX2_height X 0 0 (MW G a n ed (fr ed n re) hi2) 41 [(0, .ref (a 0)), (1, .int (nI u)), (2, .int (nI gg.toNat)), (3, .int (nI k))] [] := by
            intro fu_L41
            induction fu_L41 with
            | zero => intro k g hi2 gg hf2 hg hb hv; exfalso; omega
            | succ fu_L41 ih_L41 =>
              intro k g hi2 gg hf2 hg hb hv
              refine r_iload_n dX2_height_41 3 rfl ?_
              refine r_bipush (v := nI 40) dX2_height_42 (by decide) ?_
              refine n_icmp_ge (tgt := 62) dX2_height_44 (by decide) (by omega) (by omega) (fun c_44 => ?_) (fun c_44 => ?_)
              · refine r_aload_n dX2_height_62 0 rfl ?_
                refine r_getM 0 3 rfl (by decide) q198 rfl dX2_height_63 ?_
                refine r_iload_n dX2_height_66 1 rfl ?_
                refine r_iald (v := nI (hi2 u)) dX2_height_67 3 rfl (by omega) (by decide) (rfl) ?_
                exact hret _ _ _ _ (by rw [← hv, show g = 0 by omega]; rfl) (by rw [← hv, show g = 0 by omega]; rfl) dX2_height_68
              · obtain ⟨g', rfl⟩ : ∃ g', g = g' + 1 := ⟨g - 1, by omega⟩
                rw [hG] at hv
                refine r_iload_n dX2_height_47 2 rfl ?_
                refine b_if_eq (tgt := 62) dX2_height_48 (by decide) (fun c_48 => ?_) (fun c_48 => ?_)
                · refine r_aload_n dX2_height_62 0 rfl ?_
                  refine r_getM 0 3 rfl (by decide) q198 rfl dX2_height_63 ?_
                  refine r_iload_n dX2_height_66 1 rfl ?_
                  refine r_iald (v := nI (hi2 u)) dX2_height_67 3 rfl (by omega) (by decide) (rfl) ?_
                  exact hret _ _ _ _ (by rw [if_neg (b_nf c_48)] at hv; rw [hv]) (by rw [if_neg (b_nf c_48)] at hv; rw [hv]) dX2_height_68
                · refine r_aload_n dX2_height_51 0 rfl ?_
                  refine r_calli (As := []) (rest := []) (ci := 1) (metM_raise G a n ed (fr ed n re) hi2 (256 * k) hn hb (by omega)) ⟨cgM_raise, ⟨rfl, rfl⟩, cdM_raise, Nat.le_of_ble_eq_true rfl, Nat.le_of_ble_eq_true rfl⟩ rfl rfl 0 rfl rfl rfl (Nat.le_of_ble_eq_true rfl) ⟨Nat.zero_le _, Nat.zero_le _⟩ dX2_height_52 ?_
                  refine r_istore_n (lv' := [(0, .ref (a 0)), (1, .int (nI u)), (2, .int (nI ((rsO ed (fr ed n re) n hi2 n).2).toNat)), (3, .int (nI k))]) dX2_height_55 (by decide) [1, 2, 0, 3] rfl ?_
                  refine r_iinc (v := nI (k + 1)) (k := 3) (lv' := [(0, .ref (a 0)), (1, .int (nI u)), (2, .int (nI ((rsO ed (fr ed n re) n hi2 n).2).toNat)), (3, .int (nI (k + 1)))]) dX2_height_56 rfl (nI_1 _) (by decide) [1, 2, 3, 0] rfl ?_
                  refine r_goto (tgt := 41) dX2_height_59 (by decide) ?_
                  exact ih_L41 (k + 1) g' _ _ (by omega) (by omega) (fun j hj => by have := rsO_le (ed := ed) (re := fr ed n re) hn hb n (Nat.le_refl _) j hj; omega) (by rw [if_pos c_48] at hv; exact hv)
          exact L41 41 0 40 _ true (by omega) (by omega) (fun j hj => by rw [e1, show i = n by omega, hz_le hi n j hj]; omega) (by rw [e1, show i = n by omega])
        · refine r_aload_n dX2_height_24 0 rfl ?_
          refine r_getM 0 3 rfl (by decide) q198 rfl dX2_height_25 ?_
          refine r_iload_n dX2_height_28 2 rfl ?_
          refine r_iconst (v := nI 0) dX2_height_29 (by decide) ?_
          refine r_iast (f' := aN (va_up hi' i 0)) (w' := MW G a n ed (fr ed n re) (va_up hi' i 0)) dX2_height_30 3 rfl (by omega) (by decide) (aN_upd _ _ _) rfl ?_
          refine r_iinc (v := nI (i + 1)) (k := 2) (lv' := [(0, .ref (a 0)), (1, .int (nI u)), (2, .int (nI (i + 1)))]) dX2_height_31 rfl (nI_1 _) (by decide) [1, 2, 0] rfl ?_
          refine r_goto (tgt := 16) dX2_height_34 (by decide) ?_
          exact ih_L16 (i + 1) _ (by omega) (by omega) (by rw [hz, e1])
    exact L16 (n + 1) 0 hi (by omega) (by omega) rfl
  · exact absurd c_5 (by decide)
abbrev rX2_cycle : Room := { frames := 1, cells := 0, slots := 0, locals := 21 }
set_option maxHeartbeats 4000000 in
set_option maxRecDepth 100000 in
/-- cycle(x), no vertex -/
theorem metM_cycle_bad (G : GG) (a : Nat → Nat) (n : Nat) (ed : Nat → Bool) (re : Nat → Bool) (hi : Nat → Nat) (x : Int32) (hn : n ≤ 16) (h : vI n x = false) : KMi G yX2_cycle cX2_cycle 6 .int rX2_cycle [.ref (a 0), .int x] (MW G a n ed re hi) (MW G a n ed re hi) (-1) := by
  refine KMi.of (own := RX2) (by decide) rfl (Nat.le_of_ble_eq_true rfl) rfl ?_
  intro X hret
  show At G cX2_cycle RX2 6 rX2_cycle X 0 0 (MW G a n ed re hi) 0 [(0, .ref (a 0)), (1, .int x)] []
  refine r_aload_n dX2_cycle_0 0 rfl ?_
  refine r_iload_n dX2_cycle_1 1 rfl ?_
  refine r_calli (As := [.int x]) (rest := []) (ci := 1) (metM_isVertex G a n ed re hi x hn) ⟨cgM_isVertex, ⟨rfl, rfl⟩, cdM_isVertex, Nat.le_of_ble_eq_true rfl, Nat.le_of_ble_eq_true rfl⟩ rfl rfl 0 rfl rfl rfl (Nat.le_of_ble_eq_true rfl) ⟨Nat.zero_le _, Nat.zero_le _⟩ dX2_cycle_2 ?_
  refine b_if_ne (tgt := 10) dX2_cycle_5 (by decide) (fun c_5 => ?_) (fun c_5 => ?_)
  · exact absurd c_5 (b_nf h)
  · refine r_iconst (v := (-1)) dX2_cycle_8 (by decide) ?_
    exact hret _ _ _ _ (rfl) (rfl) dX2_cycle_9
set_option maxHeartbeats 4000000 in
set_option maxRecDepth 100000 in
/-- metM_cycle_ok -/
theorem metM_cycle_ok (G : GG) (a : Nat → Nat) (n : Nat) (ed : Nat → Bool) (re : Nat → Bool) (hi : Nat → Nat) (u : Nat) (hn : n ≤ 16) (hu : u < n) : KMi G yX2_cycle cX2_cycle 6 .int rX2_cycle [.ref (a 0), .int (nI u)] (MW G a n ed re hi) (MW G a n ed re hi) (cyG ed u n 1 (sg u)) := by
  refine KMi.of (own := RX2) (by decide) rfl (Nat.le_of_ble_eq_true rfl) rfl ?_
  intro X hret
  show At G cX2_cycle RX2 6 rX2_cycle X 0 0 (MW G a n ed re hi) 0 [(0, .ref (a 0)), (1, .int (nI u))] []
  refine r_aload_n dX2_cycle_0 0 rfl ?_
  refine r_iload_n dX2_cycle_1 1 rfl ?_
  refine r_calli (As := [.int (nI u)]) (rest := []) (ci := 1) (by have h := metM_isVertex G a n ed re hi (nI u) hn; rw [vI_lt hu hn] at h; exact h) ⟨cgM_isVertex, ⟨rfl, rfl⟩, cdM_isVertex, Nat.le_of_ble_eq_true rfl, Nat.le_of_ble_eq_true rfl⟩ rfl rfl 0 rfl rfl rfl (Nat.le_of_ble_eq_true rfl) ⟨Nat.zero_le _, Nat.zero_le _⟩ dX2_cycle_2 ?_
  refine b_if_ne (tgt := 10) dX2_cycle_5 (by decide) (fun c_5 => ?_) (fun c_5 => ?_)
  · refine r_iconst (v := nI 1) dX2_cycle_10 (by decide) ?_
    refine r_iload_n dX2_cycle_11 1 rfl ?_
    refine r_ishl (v := sg u) dX2_cycle_12 (rfl) ?_
    refine r_istore_n (lv' := [(0, .ref (a 0)), (1, .int (nI u)), (2, .int (sg u))]) dX2_cycle_13 (by decide) [1, 2, 0] rfl ?_
    refine r_iconst (v := nI 1) dX2_cycle_14 (by decide) ?_
    refine r_istore_n (lv' := [(0, .ref (a 0)), (1, .int (nI u)), (2, .int (sg u)), (3, .int (nI 1))]) dX2_cycle_15 (by decide) [1, 2, 3, 0] rfl ?_
    have L16 : ∀ (fu_L16 : Nat) (k : Nat) (g : Nat) (x : Int32), g < fu_L16 → k + g = n + 1 → cyG ed u g k x = cyG ed u n 1 (sg u) → At G cX2_cycle RX2 6 rX2_cycle X 0 0 (MW G a n ed re hi) 16 [(0, .ref (a 0)), (1, .int (nI u)), (2, .int x), (3, .int (nI k))] [] := by
      intro fu_L16
      induction fu_L16 with
      | zero => intro k g x hf hg hv; exfalso; omega
      | succ fu_L16 ih_L16 =>
        intro k g x hf hg hv
        refine r_iload_n dX2_cycle_16 3 rfl ?_
        refine r_aload_n dX2_cycle_17 0 rfl ?_
        refine r_getM 0 0 rfl (by decide) q195 rfl dX2_cycle_18 ?_
        refine n_icmp_gt (tgt := 98) dX2_cycle_21 (by decide) (by omega) (by omega) (fun c_21 => ?_) (fun c_21 => ?_)
        · refine r_bipush (v := (-2)) dX2_cycle_98 (by decide) ?_
          exact hret _ _ _ _ (by rw [← hv, show g = 0 by omega]; rfl) (rfl) dX2_cycle_100
        · obtain ⟨g', rfl⟩ : ∃ g', g = g' + 1 := ⟨g - 1, by omega⟩
          rw [cyG] at hv
          refine r_iconst (v := nI 0) dX2_cycle_24 (by decide) ?_
          refine r_istore (lv' := [(0, .ref (a 0)), (1, .int (nI u)), (2, .int x), (3, .int (nI k)), (4, .int (nI 0))]) dX2_cycle_25 (by decide) [1, 2, 3, 4, 0] rfl ?_
          refine r_iconst (v := nI 0) dX2_cycle_27 (by decide) ?_
          refine r_istore (lv' := [(0, .ref (a 0)), (1, .int (nI u)), (2, .int x), (3, .int (nI k)), (4, .int (nI 0)), (5, .int (nI 0))]) dX2_cycle_28 (by decide) [1, 2, 3, 4, 5, 0] rfl ?_
          have L30 : ∀ (fu_L30 : Nat) (i : Nat) (acc : Int32), 256 < i + fu_L30 → i ≤ 256 → acc = cyI ed x i → At G cX2_cycle RX2 6 rX2_cycle X 0 0 (MW G a n ed re hi) 30 [(0, .ref (a 0)), (1, .int (nI u)), (2, .int x), (3, .int (nI k)), (4, .int acc), (5, .int (nI i))] [] := by
            intro fu_L30
            induction fu_L30 with
            | zero => intro i acc hf2 hi1 hc; exfalso; omega
            | succ fu_L30 ih_L30 =>
              intro i acc hf2 hi1 hc
              refine r_iload dX2_cycle_30 5 rfl ?_
              refine r_sipush (v := nI 256) dX2_cycle_32 (by decide) ?_
              refine n_icmp_ge (tgt := 78) dX2_cycle_35 (by decide) (by omega) (by omega) (fun c_35 => ?_) (fun c_35 => ?_)
              · have hc2 : acc = cyI ed x 256 := by rw [hc, show i = 256 by omega]
                refine r_iload dX2_cycle_78 4 rfl ?_
                refine r_istore_n (lv' := [(0, .ref (a 0)), (1, .int (nI u)), (2, .int acc), (3, .int (nI k)), (4, .int acc), (5, .int (nI i))]) dX2_cycle_80 (by decide) [1, 2, 0, 3, 4, 5] rfl ?_
                refine r_iload_n dX2_cycle_81 2 rfl ?_
                refine r_iload_n dX2_cycle_82 1 rfl ?_
                refine r_ishr (v := acc >>> (nI u &&& 31)) dX2_cycle_83 (rfl) ?_
                refine r_iconst (v := nI 1) dX2_cycle_84 (by decide) ?_
                refine r_iand (v := nI (bt acc u).toNat) dX2_cycle_85 (bt_bit _ (by omega)) ?_
                refine r_iconst (v := nI 1) dX2_cycle_86 (by decide) ?_
                refine b_icmp_ne (tgt := 92) dX2_cycle_87 (by decide) (fun c_87 => ?_) (fun c_87 => ?_)
                · refine r_iinc (v := nI (k + 1)) (k := 3) (lv' := [(0, .ref (a 0)), (1, .int (nI u)), (2, .int acc), (3, .int (nI (k + 1))), (4, .int acc), (5, .int (nI i))]) dX2_cycle_92 rfl (nI_1 _) (by decide) [1, 2, 3, 0, 4, 5] rfl ?_
                  refine r_goto (tgt := 16) dX2_cycle_95 (by decide) ?_
                  refine At.sub [0, 1, 2, 3] rfl ?_
                  exact ih_L16 (k + 1) g' _ (by omega) (by omega) (by rw [← hc2, if_neg (b_nf c_87)] at hv; exact hv)
                · refine r_iload_n dX2_cycle_90 3 rfl ?_
                  exact hret _ _ _ _ (by rw [← hc2, if_pos c_87] at hv; exact hv) (rfl) dX2_cycle_91
              · refine r_aload_n dX2_cycle_38 0 rfl ?_
                refine r_getM 0 1 rfl (by decide) q196 rfl dX2_cycle_39 ?_
                refine r_iload dX2_cycle_42 5 rfl ?_
                refine r_zald (v := nI (ed i).toNat) dX2_cycle_44 1 rfl (by omega) (by decide) (rfl) ?_
                refine b_if_eq (tgt := 72) dX2_cycle_45 (by decide) (fun c_45 => ?_) (fun c_45 => ?_)
                · refine r_iinc (v := nI (i + 1)) (k := 5) (lv' := [(0, .ref (a 0)), (1, .int (nI u)), (2, .int x), (3, .int (nI k)), (4, .int acc), (5, .int (nI (i + 1)))]) dX2_cycle_72 rfl (nI_1 _) (by decide) [1, 2, 3, 4, 5, 0] rfl ?_
                  refine r_goto (tgt := 30) dX2_cycle_75 (by decide) ?_
                  exact ih_L30 (i + 1) _ (by omega) (by omega) (by rw [cyI, if_neg (fun q => b_nf c_45 q.1), hc])
                · refine r_iload_n dX2_cycle_48 2 rfl ?_
                  refine r_iload dX2_cycle_49 5 rfl ?_
                  refine r_iconst (v := nI 4) dX2_cycle_51 (by decide) ?_
                  refine r_ishr (v := nI (i / 16)) dX2_cycle_52 (n_shr4 (by omega)) ?_
                  refine r_ishr (v := x >>> (nI (i / 16) &&& 31)) dX2_cycle_53 (rfl) ?_
                  refine r_iconst (v := nI 1) dX2_cycle_54 (by decide) ?_
                  refine r_iand (v := nI (bt x (i / 16)).toNat) dX2_cycle_55 (bt_bit _ (by omega)) ?_
                  refine r_iconst (v := nI 1) dX2_cycle_56 (by decide) ?_
                  refine b_icmp_ne (tgt := 72) dX2_cycle_57 (by decide) (fun c_57 => ?_) (fun c_57 => ?_)
                  · refine r_iinc (v := nI (i + 1)) (k := 5) (lv' := [(0, .ref (a 0)), (1, .int (nI u)), (2, .int x), (3, .int (nI k)), (4, .int acc), (5, .int (nI (i + 1)))]) dX2_cycle_72 rfl (nI_1 _) (by decide) [1, 2, 3, 4, 5, 0] rfl ?_
                    refine r_goto (tgt := 30) dX2_cycle_75 (by decide) ?_
                    exact ih_L30 (i + 1) _ (by omega) (by omega) (by rw [cyI, if_neg (fun q => b_nf c_57 q.2), hc])
                  · refine r_iload dX2_cycle_60 4 rfl ?_
                    refine r_iconst (v := nI 1) dX2_cycle_62 (by decide) ?_
                    refine r_iload dX2_cycle_63 5 rfl ?_
                    refine r_bipush (v := nI 15) dX2_cycle_65 (by decide) ?_
                    refine r_iand (v := nI (i % 16)) dX2_cycle_67 (n_and15 _) ?_
                    refine r_ishl (v := sg (i % 16)) dX2_cycle_68 (rfl) ?_
                    refine r_ior (v := acc ||| (sg (i % 16))) dX2_cycle_69 (rfl) ?_
                    refine r_istore (lv' := [(0, .ref (a 0)), (1, .int (nI u)), (2, .int x), (3, .int (nI k)), (4, .int (acc ||| (sg (i % 16)))), (5, .int (nI i))]) dX2_cycle_70 (by decide) [1, 2, 3, 4, 0, 5] rfl ?_
                    refine r_iinc (v := nI (i + 1)) (k := 5) (lv' := [(0, .ref (a 0)), (1, .int (nI u)), (2, .int x), (3, .int (nI k)), (4, .int (acc ||| (sg (i % 16)))), (5, .int (nI (i + 1)))]) dX2_cycle_72 rfl (nI_1 _) (by decide) [1, 2, 3, 4, 5, 0] rfl ?_
                    refine r_goto (tgt := 30) dX2_cycle_75 (by decide) ?_
                    exact ih_L30 (i + 1) _ (by omega) (by omega) (by rw [cyI, if_pos ⟨c_45, c_57⟩, hc])
          exact L30 257 0 0 (by omega) (by omega) rfl
    exact L16 (n + 1) 1 n _ (by omega) (by omega) rfl
  · exact absurd c_5 (by decide)
abbrev rX2_outerEdges : Room := { frames := 2, cells := 0, slots := 0, locals := 47 }
set_option maxHeartbeats 4000000 in
set_option maxRecDepth 100000 in
/-- outerEdges() -/
theorem metM_outerEdges (G : GG) (a : Nat → Nat) (n : Nat) (ed : Nat → Bool) (re : Nat → Bool) (hi : Nat → Nat) (hn : n ≤ 16) : KMi G yX2_outerEdges cX2_outerEdges 3 .int rX2_outerEdges [.ref (a 0)] (MW G a n ed re hi) (MW G a n ed (fr ed n re) hi) (nI (oeM ed (fr ed n re) 256)) := by
  refine KMi.of (own := RX2) (by decide) rfl (Nat.le_of_ble_eq_true rfl) rfl ?_
  intro X hret
  show At G cX2_outerEdges RX2 3 rX2_outerEdges X 0 0 (MW G a n ed re hi) 0 [(0, .ref (a 0))] []
  refine r_aload_n dX2_outerEdges_0 0 rfl ?_
  refine r_callv (As := []) (rest := []) (ci := 1) (metM_findReach G a n ed re hi hn) ⟨cgM_findReach, ⟨rfl, rfl⟩, cdM_findReach, Nat.le_of_ble_eq_true rfl, Nat.le_of_ble_eq_true rfl⟩ rfl rfl 0 rfl rfl rfl (Nat.le_of_ble_eq_true rfl) ⟨Nat.zero_le _, Nat.zero_le _⟩ dX2_outerEdges_1 ?_
  refine r_iconst (v := nI 0) dX2_outerEdges_4 (by decide) ?_
  refine r_istore_n (lv' := [(0, .ref (a 0)), (1, .int (nI 0))]) dX2_outerEdges_5 (by decide) [1, 0] rfl ?_
  refine r_iconst (v := nI 0) dX2_outerEdges_6 (by decide) ?_
  refine r_istore_n (lv' := [(0, .ref (a 0)), (1, .int (nI 0)), (2, .int (nI 0))]) dX2_outerEdges_7 (by decide) [1, 2, 0] rfl ?_
  have L8 : ∀ (fu_L8 : Nat) (i : Nat) (cnt : Nat), 256 < i + fu_L8 → i ≤ 256 → cnt = oeM ed (fr ed n re) i → At G cX2_outerEdges RX2 3 rX2_outerEdges X 0 0 (MW G a n ed (fr ed n re) hi) 8 [(0, .ref (a 0)), (1, .int (nI cnt)), (2, .int (nI i))] [] := by
    intro fu_L8
    induction fu_L8 with
    | zero => intro i cnt hf hi1 hc; exfalso; omega
    | succ fu_L8 ih_L8 =>
      intro i cnt hf hi1 hc
      refine r_iload_n dX2_outerEdges_8 2 rfl ?_
      refine r_sipush (v := nI 256) dX2_outerEdges_9 (by decide) ?_
      refine n_icmp_ge (tgt := 47) dX2_outerEdges_12 (by decide) (by omega) (by omega) (fun c_12 => ?_) (fun c_12 => ?_)
      · refine r_iload_n dX2_outerEdges_47 1 rfl ?_
        exact hret _ _ _ _ (by rw [hc, show i = 256 by omega]) (rfl) dX2_outerEdges_48
      · refine r_aload_n dX2_outerEdges_15 0 rfl ?_
        refine r_getM 0 1 rfl (by decide) q196 rfl dX2_outerEdges_16 ?_
        refine r_iload_n dX2_outerEdges_19 2 rfl ?_
        refine r_zald (v := nI (ed i).toNat) dX2_outerEdges_20 1 rfl (by omega) (by decide) (rfl) ?_
        refine b_if_eq (tgt := 41) dX2_outerEdges_21 (by decide) (fun c_21 => ?_) (fun c_21 => ?_)
        · refine r_iinc (v := nI (i + 1)) (k := 2) (lv' := [(0, .ref (a 0)), (1, .int (nI cnt)), (2, .int (nI (i + 1)))]) dX2_outerEdges_41 rfl (nI_1 _) (by decide) [1, 2, 0] rfl ?_
          refine r_goto (tgt := 8) dX2_outerEdges_44 (by decide) ?_
          exact ih_L8 (i + 1) _ (by omega) (by omega) (by rw [oeM, if_neg (fun q => b_nf c_21 q.1), hc])
        · refine r_aload_n dX2_outerEdges_24 0 rfl ?_
          refine r_iload_n dX2_outerEdges_25 2 rfl ?_
          refine r_iconst (v := nI 4) dX2_outerEdges_26 (by decide) ?_
          refine r_ishr (v := nI (i / 16)) dX2_outerEdges_27 (n_shr4 (by omega)) ?_
          refine r_iload_n dX2_outerEdges_28 2 rfl ?_
          refine r_bipush (v := nI 15) dX2_outerEdges_29 (by decide) ?_
          refine r_iand (v := nI (i % 16)) dX2_outerEdges_31 (n_and15 _) ?_
          refine r_calli (As := [.int (nI (i / 16)), .int (nI (i % 16))]) (rest := []) (ci := 1) (metM_together G a n ed (fr ed n re) hi (i / 16) (i % 16) (by omega) (by omega)) ⟨cgM_together, ⟨rfl, rfl⟩, cdM_together, Nat.le_of_ble_eq_true rfl, Nat.le_of_ble_eq_true rfl⟩ rfl rfl 0 rfl rfl rfl (Nat.le_of_ble_eq_true rfl) ⟨Nat.zero_le _, Nat.zero_le _⟩ dX2_outerEdges_32 ?_
          refine b_if_ne (tgt := 41) dX2_outerEdges_35 (by decide) (fun c_35 => ?_) (fun c_35 => ?_)
          · refine r_iinc (v := nI (i + 1)) (k := 2) (lv' := [(0, .ref (a 0)), (1, .int (nI cnt)), (2, .int (nI (i + 1)))]) dX2_outerEdges_41 rfl (nI_1 _) (by decide) [1, 2, 0] rfl ?_
            refine r_goto (tgt := 8) dX2_outerEdges_44 (by decide) ?_
            exact ih_L8 (i + 1) _ (by omega) (by omega) (by rw [oeM, if_neg (fun q => b_nf q.2 c_35), hc])
          · refine r_iinc (v := nI (cnt + 1)) (k := 1) (lv' := [(0, .ref (a 0)), (1, .int (nI (cnt + 1))), (2, .int (nI i))]) dX2_outerEdges_38 rfl (nI_1 _) (by decide) [1, 0, 2] rfl ?_
            refine r_iinc (v := nI (i + 1)) (k := 2) (lv' := [(0, .ref (a 0)), (1, .int (nI (cnt + 1))), (2, .int (nI (i + 1)))]) dX2_outerEdges_41 rfl (nI_1 _) (by decide) [1, 2, 0] rfl ?_
            refine r_goto (tgt := 8) dX2_outerEdges_44 (by decide) ?_
            exact ih_L8 (i + 1) _ (by omega) (by omega) (by rw [oeM, if_pos ⟨c_21, c_35⟩, hc])
  exact L8 257 0 0 (by omega) (by omega) rfl
abbrev rX2_inOneLine : Room := { frames := 2, cells := 0, slots := 0, locals := 47 }
set_option maxHeartbeats 4000000 in
set_option maxRecDepth 100000 in
/-- inOneLine() -/
theorem metM_inOneLine (G : GG) (a : Nat → Nat) (n : Nat) (ed : Nat → Bool) (re : Nat → Bool) (hi : Nat → Nat) (hn : n ≤ 16) : KMi G yX2_inOneLine cX2_inOneLine 3 .boolean rX2_inOneLine [.ref (a 0)] (MW G a n ed re hi) (MW G a n ed (fr ed n re) hi) (nI (ilO (fr ed n re) n n 0).toNat) := by
  refine KMi.of (own := RX2) (by decide) rfl (Nat.le_of_ble_eq_true rfl) (nar_z _) ?_
  intro X hret
  show At G cX2_inOneLine RX2 3 rX2_inOneLine X 0 0 (MW G a n ed re hi) 0 [(0, .ref (a 0))] []
  refine r_aload_n dX2_inOneLine_0 0 rfl ?_
  refine r_callv (As := []) (rest := []) (ci := 1) (metM_findReach G a n ed re hi hn) ⟨cgM_findReach, ⟨rfl, rfl⟩, cdM_findReach, Nat.le_of_ble_eq_true rfl, Nat.le_of_ble_eq_true rfl⟩ rfl rfl 0 rfl rfl rfl (Nat.le_of_ble_eq_true rfl) ⟨Nat.zero_le _, Nat.zero_le _⟩ dX2_inOneLine_1 ?_
  refine r_iconst (v := nI 0) dX2_inOneLine_4 (by decide) ?_
  refine r_istore_n (lv' := [(0, .ref (a 0)), (1, .int (nI 0))]) dX2_inOneLine_5 (by decide) [1, 0] rfl ?_
  have L6 : ∀ (fu_L6 : Nat) (u : Nat) (g : Nat), g < fu_L6 → u + g = n → ilO (fr ed n re) n g u = ilO (fr ed n re) n n 0 → At G cX2_inOneLine RX2 3 rX2_inOneLine X 0 0 (MW G a n ed (fr ed n re) hi) 6 [(0, .ref (a 0)), (1, .int (nI u))] [] := by
    intro fu_L6
    induction fu_L6 with
    | zero => intro u g hf hg hv; exfalso; omega
    | succ fu_L6 ih_L6 =>
      intro u g hf hg hv
      refine r_iload_n dX2_inOneLine_6 1 rfl ?_
      refine r_aload_n dX2_inOneLine_7 0 rfl ?_
      refine r_getM 0 0 rfl (by decide) q195 rfl dX2_inOneLine_8 ?_
      refine n_icmp_ge (tgt := 66) dX2_inOneLine_11 (by decide) (by omega) (by omega) (fun c_11 => ?_) (fun c_11 => ?_)
      · refine r_iconst (v := nI 1) dX2_inOneLine_66 (by decide) ?_
        exact hret _ _ _ _ (by rw [← hv, show g = 0 by omega]; rfl) (rfl) dX2_inOneLine_67
      · obtain ⟨g', rfl⟩ : ∃ g', g = g' + 1 := ⟨g - 1, by omega⟩
        rw [ilO] at hv
        refine r_iconst (v := nI 0) dX2_inOneLine_14 (by decide) ?_
        refine r_istore_n (lv' := [(0, .ref (a 0)), (1, .int (nI u)), (2, .int (nI 0))]) dX2_inOneLine_15 (by decide) [1, 2, 0] rfl ?_
        have L16 : ∀ (fu_L16 : Nat) (v : Nat) (g2 : Nat), g2 < fu_L16 → v + g2 = n → ilI (fr ed n re) u g2 v = ilI (fr ed n re) u n 0 → At G cX2_inOneLine RX2 3 rX2_inOneLine X 0 0 (MW G a n ed (fr ed n re) hi) 16 [(0, .ref (a 0)), (1, .int (nI u)), (2, .int (nI v))] [] := by
          intro fu_L16
          induction fu_L16 with
          | zero => intro v g2 hf2 hg2 hv2; exfalso; omega
          | succ fu_L16 ih_L16 =>
            intro v g2 hf2 hg2 hv2
            refine r_iload_n dX2_inOneLine_16 2 rfl ?_
            refine r_aload_n dX2_inOneLine_17 0 rfl ?_
            refine r_getM 0 0 rfl (by decide) q195 rfl dX2_inOneLine_18 ?_
            refine n_icmp_ge (tgt := 60) dX2_inOneLine_21 (by decide) (by omega) (by omega) (fun c_21 => ?_) (fun c_21 => ?_)
            · refine r_iinc (v := nI (u + 1)) (k := 1) (lv' := [(0, .ref (a 0)), (1, .int (nI (u + 1))), (2, .int (nI v))]) dX2_inOneLine_60 rfl (nI_1 _) (by decide) [1, 0, 2] rfl ?_
              refine r_goto (tgt := 6) dX2_inOneLine_63 (by decide) ?_
              refine At.sub [0, 1] rfl ?_
              exact ih_L6 (u + 1) g' (by omega) (by omega) (by rw [← hv2, show g2 = 0 by omega, ilI, if_pos rfl] at hv; exact hv)
            · obtain ⟨g3, rfl⟩ : ∃ g3, g2 = g3 + 1 := ⟨g2 - 1, by omega⟩
              rw [ilI] at hv2
              refine r_aload_n dX2_inOneLine_24 0 rfl ?_
              refine r_getM 0 2 rfl (by decide) q197 rfl dX2_inOneLine_25 ?_
              refine r_bipush (v := nI 16) dX2_inOneLine_28 (by decide) ?_
              refine r_iload_n dX2_inOneLine_30 1 rfl ?_
              refine r_imul (v := nI (16 * u)) dX2_inOneLine_31 (pk_mul _ _) ?_
              refine r_iload_n dX2_inOneLine_32 2 rfl ?_
              refine r_iadd (v := nI ((16 * u) + v)) dX2_inOneLine_33 (nI_add _ _) ?_
              refine r_zald (v := nI ((fr ed n re) ((16 * u) + v)).toNat) dX2_inOneLine_34 2 rfl (by omega) (by decide) (rfl) ?_
              refine b_if_ne (tgt := 54) dX2_inOneLine_35 (by decide) (fun c_35 => ?_) (fun c_35 => ?_)
              · refine r_iinc (v := nI (v + 1)) (k := 2) (lv' := [(0, .ref (a 0)), (1, .int (nI u)), (2, .int (nI (v + 1)))]) dX2_inOneLine_54 rfl (nI_1 _) (by decide) [1, 2, 0] rfl ?_
                refine r_goto (tgt := 16) dX2_inOneLine_57 (by decide) ?_
                exact ih_L16 (v + 1) g3 (by omega) (by omega) (by rw [if_neg (fun q => b_nf q.1 c_35)] at hv2; exact hv2)
              · refine r_aload_n dX2_inOneLine_38 0 rfl ?_
                refine r_getM 0 2 rfl (by decide) q197 rfl dX2_inOneLine_39 ?_
                refine r_bipush (v := nI 16) dX2_inOneLine_42 (by decide) ?_
                refine r_iload_n dX2_inOneLine_44 2 rfl ?_
                refine r_imul (v := nI (16 * v)) dX2_inOneLine_45 (pk_mul _ _) ?_
                refine r_iload_n dX2_inOneLine_46 1 rfl ?_
                refine r_iadd (v := nI ((16 * v) + u)) dX2_inOneLine_47 (nI_add _ _) ?_
                refine r_zald (v := nI ((fr ed n re) ((16 * v) + u)).toNat) dX2_inOneLine_48 2 rfl (by omega) (by decide) (rfl) ?_
                refine b_if_ne (tgt := 54) dX2_inOneLine_49 (by decide) (fun c_49 => ?_) (fun c_49 => ?_)
                · refine r_iinc (v := nI (v + 1)) (k := 2) (lv' := [(0, .ref (a 0)), (1, .int (nI u)), (2, .int (nI (v + 1)))]) dX2_inOneLine_54 rfl (nI_1 _) (by decide) [1, 2, 0] rfl ?_
                  refine r_goto (tgt := 16) dX2_inOneLine_57 (by decide) ?_
                  exact ih_L16 (v + 1) g3 (by omega) (by omega) (by rw [if_neg (fun q => b_nf q.2 c_49)] at hv2; exact hv2)
                · refine r_iconst (v := nI 0) dX2_inOneLine_52 (by decide) ?_
                  exact hret _ _ _ _ (by rw [if_pos ⟨c_35, c_49⟩] at hv2; rw [← hv2, if_neg (by decide)] at hv; rw [← hv]; rfl) (rfl) dX2_inOneLine_53
        exact L16 (n + 1) 0 n (by omega) (by omega) rfl
  exact L6 (n + 1) 0 n (by omega) (by omega) rfl
end
section
/-! constructors: rows for new arrays, final fields, Object.<init>; contracts that make cells -/
section RN
variable {G : GG} {cc : ByteArray} {own : String} {nL : Nat} {R : Room} {X : Cx} {kc ks : Nat} {w : va_W} {pc : Nat} {lv : List (Nat × Value)} {st : List Value}
theorem r_newI {N : Nat} (hdg : decode cc pc = .ok (.newarray .int, 2)) (hN : N < 2 ^ 20) (hc : kc + 1 ≤ R.cells) (hs : ks + N ≤ R.slots) (kk : ∀ q : Nat, At G cc own nL R X (kc + 1) (ks + N) (w ++ [(q, .inl (gI G, N, .inl (fun _ => 0)))]) (pc + 2) lv (.ref q :: st)) : At G cc own nL R X kc ks w pc lv (.int (nI N) :: st) := by
  obtain ⟨p, e, s, m, args, below, meth, c, A, Q⟩ := X
  intro F H locs ls hP hD hS hl
  have F0' := F
  obtain ⟨hx, hb, hml, hown, hts, hA, hK⟩ := F
  refine va_newa (atype := .int) (ty := .int) (N' := N) (a0 := (N, .inl (fun _ => 0))) hx hb (hts _ q72) rfl hK hP hD hS hA (fun cA => rfl) (nI_pos (by omega)) (nI_clamp (by omega)) (by show N * 4 ≤ _; omega) hc hs hdg (fun q cA H1 hK1 hP1 hD1 hS1 => ?_)
  have e1 := va_nm_int (hK1.2 3 (cA, .int) rfl).2
  have e2 := va_nm_int (hK.2 0 (gI G, .int) rfl).2
  have e3 : cA = gI G := Option.some.inj (e1.symm.trans e2)
  subst e3
  exact kk q F0' H1 locs ls hP1 hD1 hS1 hl
theorem r_newB {N : Nat} (hdg : decode cc pc = .ok (.newarray .byte, 2)) (hN : N < 2 ^ 20) (hc : kc + 1 ≤ R.cells) (hs : ks + N ≤ R.slots) (kk : ∀ q : Nat, At G cc own nL R X (kc + 1) (ks + N) (w ++ [(q, .inl (gB G, N, .inl (fun _ => 0)))]) (pc + 2) lv (.ref q :: st)) : At G cc own nL R X kc ks w pc lv (.int (nI N) :: st) := by
  obtain ⟨p, e, s, m, args, below, meth, c, A, Q⟩ := X
  intro F H locs ls hP hD hS hl
  have F0' := F
  obtain ⟨hx, hb, hml, hown, hts, hA, hK⟩ := F
  refine va_newa (atype := .byte) (ty := .byte) (N' := N) (a0 := (N, .inl (fun _ => 0))) hx hb (hts _ q73) rfl hK hP hD hS hA (fun cA => rfl) (nI_pos (by omega)) (nI_clamp (by omega)) (by show N * 1 ≤ _; omega) hc hs hdg (fun q cA H1 hK1 hP1 hD1 hS1 => ?_)
  have e1 := va_nm_byte (hK1.2 3 (cA, .byte) rfl).2
  have e2 := va_nm_byte (hK.2 1 (gB G, .byte) rfl).2
  have e3 : cA = gB G := Option.some.inj (e1.symm.trans e2)
  subst e3
  exact kk q F0' H1 locs ls hP1 hD1 hS1 hl
theorem r_newZ {N : Nat} (hdg : decode cc pc = .ok (.newarray .boolean, 2)) (hN : N < 2 ^ 20) (hc : kc + 1 ≤ R.cells) (hs : ks + N ≤ R.slots) (kk : ∀ q : Nat, At G cc own nL R X (kc + 1) (ks + N) (w ++ [(q, .inl (gZ G, N, .inl (fun _ => 0)))]) (pc + 2) lv (.ref q :: st)) : At G cc own nL R X kc ks w pc lv (.int (nI N) :: st) := by
  obtain ⟨p, e, s, m, args, below, meth, c, A, Q⟩ := X
  intro F H locs ls hP hD hS hl
  have F0' := F
  obtain ⟨hx, hb, hml, hown, hts, hA, hK⟩ := F
  refine va_newa (atype := .boolean) (ty := .boolean) (N' := N) (a0 := (N, .inl (fun _ => 0))) hx hb (hts _ q208) rfl hK hP hD hS hA (fun cA => rfl) (nI_pos (by omega)) (nI_clamp (by omega)) (by show N * 1 ≤ _; omega) hc hs hdg (fun q cA H1 hK1 hP1 hD1 hS1 => ?_)
  have e1 := va_nm_boolean (hK1.2 3 (cA, .boolean) rfl).2
  have e2 := va_nm_boolean (hK.2 2 (gZ G, .boolean) rfl).2
  have e3 : cA = gZ G := Option.some.inj (e1.symm.trans e2)
  subst e3
  exact kk q F0' H1 locs ls hP1 hD1 hS1 hl
theorem r_putFX {idx a : Nat} {fs : List Value} {v : Value} {ty : FieldType} {w' : va_W} (hin : X.2.2.2.2.2.2.1.name = "<init>") (q0 k : Nat) (he : w[q0]? = some (a, .inr (0, fs))) (hk : k < 12) (hlink : Cond.fieldLink own idx (TX1 k).1 (TX1 k).2.1 (TX1 k).2.2.1 ∈ lw_all) (hfin : (TX1 k).2.2.2 = true) (hdecl : (TX1 k).1 = own) (hd : parseFieldDescriptor (TX1 k).2.2.1 = some ty) (hn : narrow ty v = v) (hfit : fits ty v = true) (hl0 : k < fs.length) (hw : w.set q0 (a, .inr (0, fs.set k v)) = w') (hdg : decode cc pc = .ok (.putfield idx, 3)) (kk : At G cc own nL R X kc ks w' (pc + 3) lv st) : At G cc own nL R X kc ks w pc lv (v :: .ref a :: st) := by
  subst hw
  obtain ⟨p, e, s, m, args, below, meth, c, A, Q⟩ := X
  intro F H locs ls hP hD hS hl
  obtain ⟨hx, hb, hml, hown, hts, hA, hK⟩ := F
  exact va_putF (D := gD G) (ci := 0) (v := v) (ty := ty) (C := RX1) (T := TX1) (N := 12) hx hb hts in_X1 tyX1 tyX1_ok nmX1 hown hK hP hD hS q0 he rfl k hk (hts _ hlink) (fun _ h9 => h9) hfin hin hdecl hd hn hfit hl0 hdg (fun H1 locs1 hP1 hD1 hS1 => kk ⟨hx, hb, hml, hown, hts, hA, hK⟩ H1 locs1 ls hP1 hD1 hS1 hl)
theorem r_objInit {idx a : Nat} (hlink : Cond.methodLink own idx Lib.objectInit ∈ lw_all) (hst : st = []) (h1 : 1 ≤ R.frames) (h2 : 12 ≤ R.locals) (hdg : decode cc pc = .ok (.invokespecial idx, 3)) (kk : At G cc own nL R X kc ks w (pc + 3) lv st) : At G cc own nL R X kc ks w pc lv (.ref a :: st) := by
  subst hst
  obtain ⟨p, e, s, m, args, below, meth, c, A, Q⟩ := X
  intro F H locs ls hP hD hS hl
  have F0' := F
  obtain ⟨hx, hb, hml, hown, hts, hA, hK⟩ := F
  refine W.objInit hx hb hown (hts _ hlink) (hts _ q33) (hts _ q34) rfl (by rw [hml]; exact hl.1) rfl hdg h1 h2 ?_
  exact kk F0' H locs ls hP hD hS hl
end RN
/-- a constructor: from the world w (its bare object at q) to a world W a, a 0 = q -/
def KMc (G : GG) (y : MethodName) (b : ByteArray) (L : Nat) (rm : Room) (av : List Value) (w : va_W) (V : (Nat → Nat) → va_W) (q mc ms : Nat) : Prop := ∀ sz : Nat, Met (gL G) y (ws_ y b L none) rm (KPre G av w sz) (va_Qv (fun (a : Nat → Nat) => a 0 = q) (fun a => KB G (V a) (va_A w sz) ()) (va_A w sz)) mc ms (va_A w sz)
theorem KMc.of {G : GG} {y : MethodName} {b : ByteArray} {L : Nat} {rm : Room} {av : List Value} {w : va_W} {V : (Nat → Nat) → va_W} {q mc ms : Nat} {own : String} (hy : plainName y.cls = true) (ho : y.cls = own) (hl : (lg_sl av).length ≤ L) (hyn : y.name = "<init>")
    (body : ∀ X : Cx, X.2.2.2.2.2.2.1.name = "<init>" → (∀ pc lv (a : Nat → Nat), a 0 = q → decode b pc = .ok (.return_, 1) → At G b own L rm X mc ms (V a) pc lv []) → At G b own L rm X 0 0 w 0 (lv_args 0 av) []) : KMc G y b L rm av w V q mc ms := by
  intro sz
  subst ho
  refine Met.ofW (cc := b) (maxL := L) (ret := none) hy rfl ?_
  intro p e s m args below meth c s₁ B hml hv
  obtain ⟨rfl, hsz, hP, hK, hD0⟩ := hv
  have hts := atoms_spec (ws := ws_ y b L none) B.pre
  have hts : ∀ w ∈ lw_all, w.before _ s = true := fun w h => hts w (List.mem_cons_of_mem _ h)
  have hown : s.vm.findClass y.cls = some m.cls := findClass_of_methodNamed B.named
  have hlocks := B.notSynchronized
  have hin : meth.name = "<init>" := by rw [← hyn]; exact (name_of_methodNamed B.named B.method).1
  subst hsz
  have hD := hD0.self (sz := s.heap.size)
  rw [lg_entry_eq]
  have hl' := lv_entry av (n := L) hl
  have hW := body (p, e, s, m, av.toArray, below, meth, c, va_A w s.heap.size, MQ below (va_Qv (fun (a : Nat → Nat) => a 0 = q) (fun a => KB G (V a) (va_A w s.heap.size) ()) (va_A w s.heap.size)) av.toArray s mc ms (va_A w s.heap.size)) hin ?_ ⟨B.exec, B.bytes, hml, hown, hts, fun q h => Or.inr h, hK⟩
  · exact hW s.heap [] _ hP hD va_S.rf hl'
  · intro pc lv a ha hdg F H locs ls hP hD hS hl
    exact W.vret F.1 F.2.1 B.returns (fun t ht hW => ⟨⟨a, rfl, ha, by rw [ht]; exact hP, va_K.moved hW.alike hK, hD⟩, hS.F ht⟩) hS.2.2 hdg hlocks
/-- the number of vertices that a constructor takes -/
def cl (x : Int32) : Nat := if x < 2 then 2 else if 16 < x then 16 else x.toNatClampNeg
theorem cl_lo {x : Int32} (h : ¬ 2 ≤ x) : nI 2 = nI (cl x) := by
  have h2 : x < 2 := Int32.lt_iff_toInt_lt.mpr (by have := mt Int32.le_iff_toInt_le.mpr h; omega)
  unfold cl; rw [if_pos h2]
theorem cl_mid {x : Int32} (h : 2 ≤ x) (h3 : x ≤ 16) : x = nI (cl x) ∧ 2 ≤ cl x ∧ cl x ≤ 16 := by
  have a1 := Int32.le_iff_toInt_le.mp h
  have a2 := Int32.le_iff_toInt_le.mp h3
  have c1 : (2 : Int32).toInt = 2 := by decide
  have c2 : (16 : Int32).toInt = 16 := by decide
  have n1 : ¬ x < 2 := fun q => by have := Int32.lt_iff_toInt_lt.mp q; omega
  have n2 : ¬ 16 < x := fun q => by have := Int32.lt_iff_toInt_lt.mp q; omega
  have h0 : ¬ x < 0 := fun q => by
    have := Int32.lt_iff_toInt_lt.mp q
    have c3 : (0 : Int32).toInt = 0 := by decide
    omega
  obtain ⟨j, hj, rfl⟩ := nI_of h0
  have e : cl (nI j) = j := by unfold cl; rw [if_neg n1, if_neg n2, nI_clamp hj]
  rw [nI_toInt hj] at a1 a2
  rw [e]
  exact ⟨rfl, by omega, by omega⟩
theorem cl_hi {x : Int32} (h : 2 ≤ x) (h3 : ¬ x ≤ 16) : nI 16 = nI (cl x) := by
  have a1 := Int32.le_iff_toInt_le.mp h
  have a2 := mt Int32.le_iff_toInt_le.mpr h3
  have n1 : ¬ x < 2 := fun q => by have := Int32.lt_iff_toInt_lt.mp q; omega
  have n2 : 16 < x := Int32.lt_iff_toInt_lt.mpr (by omega)
  unfold cl; rw [if_neg n1, if_pos n2]
theorem cl_in (x : Int32) : 2 ≤ cl x ∧ cl x ≤ 16 := by
  by_cases h : 2 ≤ x
  · by_cases h3 : x ≤ 16
    · exact (cl_mid h h3).2
    · have a1 := Int32.le_iff_toInt_le.mp h
      have a2 := mt Int32.le_iff_toInt_le.mpr h3
      have n1 : ¬ x < 2 := fun q => by have := Int32.lt_iff_toInt_lt.mp q; omega
      have n2 : 16 < x := Int32.lt_iff_toInt_lt.mpr (by omega)
      unfold cl; rw [if_neg n1, if_pos n2]; omega
  · have h2 : x < 2 := Int32.lt_iff_toInt_lt.mpr (by have := mt Int32.le_iff_toInt_le.mpr h; omega)
    unfold cl; rw [if_pos h2]; omega
/-- what the constructor's loop writes -/
def inN : Nat → (Nat → Nat)
  | 0 => fun _ => 0
  | k + 1 => va_up (inN k) k k
def inB : Nat → (Nat → Int32)
  | 0 => fun _ => 0
  | k + 1 => upd (inB k) k (sg k)
def ad10 (q0 q1 q2 q3 q4 q5 q6 q7 q8 q9 : Nat) : Nat → Nat := fun k => match k with
  | 0 => q0 | 1 => q1 | 2 => q2 | 3 => q3 | 4 => q4 | 5 => q5 | 6 => q6 | 7 => q7 | 8 => q8 | _ => q9
def ad4 (q0 q1 q2 q3 : Nat) : Nat → Nat := fun k => match k with
  | 0 => q0 | 1 => q1 | 2 => q2 | _ => q3
end
section
abbrev rX1_init : Room := { frames := 1, cells := 9, slots := 144, locals := 12 }
abbrev rX2_init : Room := { frames := 1, cells := 3, slots := 528, locals := 12 }
set_option maxHeartbeats 4000000 in
set_option maxRecDepth 100000 in
theorem initX_tail (G : GG) (a : Nat → Nat) (X : Cx) (x : Int32) (hret : ∀ pc lv, decode cX1_init pc = .ok (.return_, 1) → At G cX1_init RX1 3 rX1_init X 9 144 (XW G a (cl x) (fun _ => 0) (fun _ => 0) (inN (cl x)) (inB (cl x)) (inN (cl x)) (inN (cl x)) (cl x) (fun _ => 0) 0 (fun _ => 0) (fun _ => 0)) pc lv []) : At G cX1_init RX1 3 rX1_init X 9 144 (XW G a 0 (fun _ => 0) (fun _ => 0) (fun _ => 0) (fun _ => 0) (fun _ => 0) (fun _ => 0) 0 (fun _ => 0) 0 (fun _ => 0) (fun _ => 0)) 76 [(0, .ref (a 0)), (1, .int x)] [] := by
  have hcl := cl_in x
  have J98 : At G cX1_init RX1 3 rX1_init X 9 144 (XW G a 0 (fun _ => 0) (fun _ => 0) (fun _ => 0) (fun _ => 0) (fun _ => 0) (fun _ => 0) 0 (fun _ => 0) 0 (fun _ => 0) (fun _ => 0)) 98 [(0, .ref (a 0)), (1, .int x)] [.int (nI (cl x)), .ref (a 0)] := by
    refine r_putX (ty := .int) (w' := XW G a (cl x) (fun _ => 0) (fun _ => 0) (fun _ => 0) (fun _ => 0) (fun _ => 0) (fun _ => 0) 0 (fun _ => 0) 0 (fun _ => 0) (fun _ => 0)) 0 0 rfl (by decide) q35 rfl (by decide +kernel) rfl rfl (Nat.le_of_ble_eq_true rfl) rfl dX1_init_98 ?_
    refine r_iconst (v := nI 0) dX1_init_101 (by decide) ?_
    refine r_istore_n (lv' := [(0, .ref (a 0)), (1, .int x), (2, .int (nI 0))]) dX1_init_102 (by decide) [1, 2, 0] rfl ?_
    have L103 : ∀ (fu_L103 : Nat) (u : Nat), cl x < u + fu_L103 → u ≤ cl x → At G cX1_init RX1 3 rX1_init X 9 144 (XW G a (cl x) (fun _ => 0) (fun _ => 0) (inN u) (inB u) (inN u) (inN u) 0 (fun _ => 0) 0 (fun _ => 0) (fun _ => 0)) 103 [(0, .ref (a 0)), (1, .int x), (2, .int (nI u))] [] := by
      intro fu_L103
      induction fu_L103 with
      | zero => intro u hf hi; exfalso; omega
      | succ fu_L103 ih_L103 =>
        intro u hf hi
        refine r_iload_n dX1_init_103 2 rfl ?_
        refine r_aload_n dX1_init_104 0 rfl ?_
        refine r_getX 0 0 rfl (by decide) q35 rfl dX1_init_105 ?_
        refine n_icmp_ge (tgt := 150) dX1_init_108 (by decide) (by omega) (by omega) (fun c_108 => ?_) (fun c_108 => ?_)
        · · have hu : u = cl x := by omega
            rw [hu]
            refine r_aload_n dX1_init_150 0 rfl ?_
            refine r_aload_n dX1_init_151 0 rfl ?_
            refine r_getX 0 0 rfl (by decide) q35 rfl dX1_init_152 ?_
            refine r_putX (ty := .int) (w' := XW G a (cl x) (fun _ => 0) (fun _ => 0) (inN (cl x)) (inB (cl x)) (inN (cl x)) (inN (cl x)) (cl x) (fun _ => 0) 0 (fun _ => 0) (fun _ => 0)) 0 7 rfl (by decide) q42 rfl (by decide +kernel) rfl rfl (Nat.le_of_ble_eq_true rfl) rfl dX1_init_155 ?_
            exact hret _ _ dX1_init_158
        · refine r_aload_n dX1_init_111 0 rfl ?_
          refine r_getX 0 3 rfl (by decide) q38 rfl dX1_init_112 ?_
          refine r_iload_n dX1_init_115 2 rfl ?_
          refine r_iload_n dX1_init_116 2 rfl ?_
          refine r_i2b (v := nI u) dX1_init_117 (nI_b8 _ (by omega)) ?_
          refine r_bast (f' := aN (va_up (inN u) u u)) (w' := XW G a (cl x) (fun _ => 0) (fun _ => 0) (va_up (inN u) u u) (inB u) (inN u) (inN u) 0 (fun _ => 0) 0 (fun _ => 0) (fun _ => 0)) dX1_init_118 3 rfl (by omega) (by decide) (aN_updb _ _ (by omega)) rfl ?_
          refine r_aload_n dX1_init_119 0 rfl ?_
          refine r_getX 0 4 rfl (by decide) q39 rfl dX1_init_120 ?_
          refine r_iload_n dX1_init_123 2 rfl ?_
          refine r_iconst (v := nI 1) dX1_init_124 (by decide) ?_
          refine r_iload_n dX1_init_125 2 rfl ?_
          refine r_ishl (v := sg u) dX1_init_126 (rfl) ?_
          refine r_iast (f' := upd (inB u) u (sg u)) (w' := XW G a (cl x) (fun _ => 0) (fun _ => 0) (va_up (inN u) u u) (upd (inB u) u (sg u)) (inN u) (inN u) 0 (fun _ => 0) 0 (fun _ => 0) (fun _ => 0)) dX1_init_127 4 rfl (by omega) (by decide) (rfl) rfl ?_
          refine r_aload_n dX1_init_128 0 rfl ?_
          refine r_getX 0 5 rfl (by decide) q40 rfl dX1_init_129 ?_
          refine r_iload_n dX1_init_132 2 rfl ?_
          refine r_iload_n dX1_init_133 2 rfl ?_
          refine r_i2b (v := nI u) dX1_init_134 (nI_b8 _ (by omega)) ?_
          refine r_bast (f' := aN (va_up (inN u) u u)) (w' := XW G a (cl x) (fun _ => 0) (fun _ => 0) (va_up (inN u) u u) (upd (inB u) u (sg u)) (va_up (inN u) u u) (inN u) 0 (fun _ => 0) 0 (fun _ => 0) (fun _ => 0)) dX1_init_135 5 rfl (by omega) (by decide) (aN_updb _ _ (by omega)) rfl ?_
          refine r_aload_n dX1_init_136 0 rfl ?_
          refine r_getX 0 6 rfl (by decide) q41 rfl dX1_init_137 ?_
          refine r_iload_n dX1_init_140 2 rfl ?_
          refine r_iload_n dX1_init_141 2 rfl ?_
          refine r_i2b (v := nI u) dX1_init_142 (nI_b8 _ (by omega)) ?_
          refine r_bast (f' := aN (va_up (inN u) u u)) (w' := XW G a (cl x) (fun _ => 0) (fun _ => 0) (va_up (inN u) u u) (upd (inB u) u (sg u)) (va_up (inN u) u u) (va_up (inN u) u u) 0 (fun _ => 0) 0 (fun _ => 0) (fun _ => 0)) dX1_init_143 6 rfl (by omega) (by decide) (aN_updb _ _ (by omega)) rfl ?_
          refine r_iinc (v := nI (u + 1)) (k := 2) (lv' := [(0, .ref (a 0)), (1, .int x), (2, .int (nI (u + 1)))]) dX1_init_144 rfl (nI_1 _) (by decide) [1, 2, 0] rfl ?_
          refine r_goto (tgt := 103) dX1_init_147 (by decide) ?_
          exact ih_L103 (u + 1) (by omega) (by omega)
    exact L103 (cl x + 1) 0 (by omega) (by omega)
  refine r_aload_n dX1_init_76 0 rfl ?_
  refine r_iload_n dX1_init_77 1 rfl ?_
  refine r_iconst (v := nI 2) dX1_init_78 (by decide) ?_
  refine r_icmp_ge (tgt := 86) dX1_init_79 (by decide) (fun c_79 => ?_) (fun c_79 => ?_)
  · refine r_iload_n dX1_init_86 1 rfl ?_
    refine r_bipush (v := nI 16) dX1_init_87 (by decide) ?_
    refine r_icmp_le (tgt := 97) dX1_init_89 (by decide) (fun c_89 => ?_) (fun c_89 => ?_)
    · refine r_iload_n dX1_init_97 1 rfl ?_
      refine At.top (cl_mid c_79 c_89).1 ?_
      exact J98
    · refine r_bipush (v := nI 16) dX1_init_92 (by decide) ?_
      refine r_goto (tgt := 98) dX1_init_94 (by decide) ?_
      refine At.top (cl_hi c_79 c_89) ?_
      exact J98
  · refine r_iconst (v := nI 2) dX1_init_82 (by decide) ?_
    refine r_goto (tgt := 98) dX1_init_83 (by decide) ?_
    refine At.top (cl_lo c_79) ?_
    exact J98
set_option maxHeartbeats 4000000 in
set_option maxRecDepth 100000 in
theorem metX_init (G : GG) (q : Nat) (x : Int32) : KMc G yX1_init cX1_init 3 rX1_init [.ref q, .int x] [(q, .inr (0, [.int 0, .null, .null, .null, .null, .null, .null, .int 0, .null, .int 0, .null, .null]))] (fun a => XW G a (cl x) (fun _ => 0) (fun _ => 0) (inN (cl x)) (inB (cl x)) (inN (cl x)) (inN (cl x)) (cl x) (fun _ => 0) 0 (fun _ => 0) (fun _ => 0)) q 9 144 := by
  refine KMc.of (own := RX1) (by decide) rfl (Nat.le_of_ble_eq_true rfl) rfl ?_
  intro X hin hret
  show At G cX1_init RX1 3 rX1_init X 0 0 [(q, .inr (0, [.int 0, .null, .null, .null, .null, .null, .null, .int 0, .null, .int 0, .null, .null]))] 0 [(0, .ref q), (1, .int x)] []
  refine r_aload_n dX1_init_0 0 rfl ?_
  refine r_objInit q32 rfl (Nat.le_of_ble_eq_true rfl) (Nat.le_of_ble_eq_true rfl) dX1_init_1 ?_
  refine r_aload_n dX1_init_4 0 rfl ?_
  refine r_bipush (v := nI 16) dX1_init_5 (by decide) ?_
  refine r_newI dX1_init_7 (by decide) (Nat.le_of_ble_eq_true rfl) (Nat.le_of_ble_eq_true rfl) (fun q1 => ?_)
  refine r_putFX (ty := (.array .int)) (w' := [(q, .inr (0, [.int 0, .ref q1, .null, .null, .null, .null, .null, .int 0, .null, .int 0, .null, .null])), (q1, .inl (gI G, 16, .inl (fun _ => 0)))]) hin 0 1 rfl (by decide) q36 rfl rfl (by decide +kernel) rfl rfl (Nat.le_of_ble_eq_true rfl) rfl dX1_init_9 ?_
  refine r_aload_n dX1_init_12 0 rfl ?_
  refine r_bipush (v := nI 16) dX1_init_13 (by decide) ?_
  refine r_newI dX1_init_15 (by decide) (Nat.le_of_ble_eq_true rfl) (Nat.le_of_ble_eq_true rfl) (fun q2 => ?_)
  refine r_putFX (ty := (.array .int)) (w' := [(q, .inr (0, [.int 0, .ref q1, .ref q2, .null, .null, .null, .null, .int 0, .null, .int 0, .null, .null])), (q1, .inl (gI G, 16, .inl (fun _ => 0))), (q2, .inl (gI G, 16, .inl (fun _ => 0)))]) hin 0 2 rfl (by decide) q37 rfl rfl (by decide +kernel) rfl rfl (Nat.le_of_ble_eq_true rfl) rfl dX1_init_17 ?_
  refine r_aload_n dX1_init_20 0 rfl ?_
  refine r_bipush (v := nI 16) dX1_init_21 (by decide) ?_
  refine r_newB dX1_init_23 (by decide) (Nat.le_of_ble_eq_true rfl) (Nat.le_of_ble_eq_true rfl) (fun q3 => ?_)
  refine r_putFX (ty := (.array .byte)) (w' := [(q, .inr (0, [.int 0, .ref q1, .ref q2, .ref q3, .null, .null, .null, .int 0, .null, .int 0, .null, .null])), (q1, .inl (gI G, 16, .inl (fun _ => 0))), (q2, .inl (gI G, 16, .inl (fun _ => 0))), (q3, .inl (gB G, 16, .inl (fun _ => 0)))]) hin 0 3 rfl (by decide) q38 rfl rfl (by decide +kernel) rfl rfl (Nat.le_of_ble_eq_true rfl) rfl dX1_init_25 ?_
  refine r_aload_n dX1_init_28 0 rfl ?_
  refine r_bipush (v := nI 16) dX1_init_29 (by decide) ?_
  refine r_newI dX1_init_31 (by decide) (Nat.le_of_ble_eq_true rfl) (Nat.le_of_ble_eq_true rfl) (fun q4 => ?_)
  refine r_putFX (ty := (.array .int)) (w' := [(q, .inr (0, [.int 0, .ref q1, .ref q2, .ref q3, .ref q4, .null, .null, .int 0, .null, .int 0, .null, .null])), (q1, .inl (gI G, 16, .inl (fun _ => 0))), (q2, .inl (gI G, 16, .inl (fun _ => 0))), (q3, .inl (gB G, 16, .inl (fun _ => 0))), (q4, .inl (gI G, 16, .inl (fun _ => 0)))]) hin 0 4 rfl (by decide) q39 rfl rfl (by decide +kernel) rfl rfl (Nat.le_of_ble_eq_true rfl) rfl dX1_init_33 ?_
  refine r_aload_n dX1_init_36 0 rfl ?_
  refine r_bipush (v := nI 16) dX1_init_37 (by decide) ?_
  refine r_newB dX1_init_39 (by decide) (Nat.le_of_ble_eq_true rfl) (Nat.le_of_ble_eq_true rfl) (fun q5 => ?_)
  refine r_putFX (ty := (.array .byte)) (w' := [(q, .inr (0, [.int 0, .ref q1, .ref q2, .ref q3, .ref q4, .ref q5, .null, .int 0, .null, .int 0, .null, .null])), (q1, .inl (gI G, 16, .inl (fun _ => 0))), (q2, .inl (gI G, 16, .inl (fun _ => 0))), (q3, .inl (gB G, 16, .inl (fun _ => 0))), (q4, .inl (gI G, 16, .inl (fun _ => 0))), (q5, .inl (gB G, 16, .inl (fun _ => 0)))]) hin 0 5 rfl (by decide) q40 rfl rfl (by decide +kernel) rfl rfl (Nat.le_of_ble_eq_true rfl) rfl dX1_init_41 ?_
  refine r_aload_n dX1_init_44 0 rfl ?_
  refine r_bipush (v := nI 16) dX1_init_45 (by decide) ?_
  refine r_newB dX1_init_47 (by decide) (Nat.le_of_ble_eq_true rfl) (Nat.le_of_ble_eq_true rfl) (fun q6 => ?_)
  refine r_putFX (ty := (.array .byte)) (w' := [(q, .inr (0, [.int 0, .ref q1, .ref q2, .ref q3, .ref q4, .ref q5, .ref q6, .int 0, .null, .int 0, .null, .null])), (q1, .inl (gI G, 16, .inl (fun _ => 0))), (q2, .inl (gI G, 16, .inl (fun _ => 0))), (q3, .inl (gB G, 16, .inl (fun _ => 0))), (q4, .inl (gI G, 16, .inl (fun _ => 0))), (q5, .inl (gB G, 16, .inl (fun _ => 0))), (q6, .inl (gB G, 16, .inl (fun _ => 0)))]) hin 0 6 rfl (by decide) q41 rfl rfl (by decide +kernel) rfl rfl (Nat.le_of_ble_eq_true rfl) rfl dX1_init_49 ?_
  refine r_aload_n dX1_init_52 0 rfl ?_
  refine r_bipush (v := nI 16) dX1_init_53 (by decide) ?_
  refine r_newB dX1_init_55 (by decide) (Nat.le_of_ble_eq_true rfl) (Nat.le_of_ble_eq_true rfl) (fun q7 => ?_)
  refine r_putFX (ty := (.array .byte)) (w' := [(q, .inr (0, [.int 0, .ref q1, .ref q2, .ref q3, .ref q4, .ref q5, .ref q6, .int 0, .ref q7, .int 0, .null, .null])), (q1, .inl (gI G, 16, .inl (fun _ => 0))), (q2, .inl (gI G, 16, .inl (fun _ => 0))), (q3, .inl (gB G, 16, .inl (fun _ => 0))), (q4, .inl (gI G, 16, .inl (fun _ => 0))), (q5, .inl (gB G, 16, .inl (fun _ => 0))), (q6, .inl (gB G, 16, .inl (fun _ => 0))), (q7, .inl (gB G, 16, .inl (fun _ => 0)))]) hin 0 8 rfl (by decide) q43 rfl rfl (by decide +kernel) rfl rfl (Nat.le_of_ble_eq_true rfl) rfl dX1_init_57 ?_
  refine r_aload_n dX1_init_60 0 rfl ?_
  refine r_bipush (v := nI 16) dX1_init_61 (by decide) ?_
  refine r_newB dX1_init_63 (by decide) (Nat.le_of_ble_eq_true rfl) (Nat.le_of_ble_eq_true rfl) (fun q8 => ?_)
  refine r_putFX (ty := (.array .byte)) (w' := [(q, .inr (0, [.int 0, .ref q1, .ref q2, .ref q3, .ref q4, .ref q5, .ref q6, .int 0, .ref q7, .int 0, .ref q8, .null])), (q1, .inl (gI G, 16, .inl (fun _ => 0))), (q2, .inl (gI G, 16, .inl (fun _ => 0))), (q3, .inl (gB G, 16, .inl (fun _ => 0))), (q4, .inl (gI G, 16, .inl (fun _ => 0))), (q5, .inl (gB G, 16, .inl (fun _ => 0))), (q6, .inl (gB G, 16, .inl (fun _ => 0))), (q7, .inl (gB G, 16, .inl (fun _ => 0))), (q8, .inl (gB G, 16, .inl (fun _ => 0)))]) hin 0 10 rfl (by decide) q45 rfl rfl (by decide +kernel) rfl rfl (Nat.le_of_ble_eq_true rfl) rfl dX1_init_65 ?_
  refine r_aload_n dX1_init_68 0 rfl ?_
  refine r_bipush (v := nI 16) dX1_init_69 (by decide) ?_
  refine r_newI dX1_init_71 (by decide) (Nat.le_of_ble_eq_true rfl) (Nat.le_of_ble_eq_true rfl) (fun q9 => ?_)
  refine r_putFX (ty := (.array .int)) (w' := [(q, .inr (0, [.int 0, .ref q1, .ref q2, .ref q3, .ref q4, .ref q5, .ref q6, .int 0, .ref q7, .int 0, .ref q8, .ref q9])), (q1, .inl (gI G, 16, .inl (fun _ => 0))), (q2, .inl (gI G, 16, .inl (fun _ => 0))), (q3, .inl (gB G, 16, .inl (fun _ => 0))), (q4, .inl (gI G, 16, .inl (fun _ => 0))), (q5, .inl (gB G, 16, .inl (fun _ => 0))), (q6, .inl (gB G, 16, .inl (fun _ => 0))), (q7, .inl (gB G, 16, .inl (fun _ => 0))), (q8, .inl (gB G, 16, .inl (fun _ => 0))), (q9, .inl (gI G, 16, .inl (fun _ => 0)))]) hin 0 11 rfl (by decide) q46 rfl rfl (by decide +kernel) rfl rfl (Nat.le_of_ble_eq_true rfl) rfl dX1_init_73 ?_
  exact initX_tail G (ad10 q q1 q2 q3 q4 q5 q6 q7 q8 q9) X x (fun pc lv h => hret pc lv _ rfl h)
set_option maxHeartbeats 4000000 in
set_option maxRecDepth 100000 in
theorem metM_init (G : GG) (q : Nat) (x : Int32) : KMc G yX2_init cX2_init 2 rX2_init [.ref q, .int x] [(q, .inr (1, [.int 0, .null, .null, .null]))] (fun a => MW G a (cl x) (fun _ => false) (fun _ => false) (fun _ => 0)) q 3 528 := by
  refine KMc.of (own := RX2) (by decide) rfl (Nat.le_of_ble_eq_true rfl) rfl ?_
  intro X hin hret
  show At G cX2_init RX2 2 rX2_init X 0 0 [(q, .inr (1, [.int 0, .null, .null, .null]))] 0 [(0, .ref q), (1, .int x)] []
  refine r_aload_n dX2_init_0 0 rfl ?_
  refine r_objInit q194 rfl (Nat.le_of_ble_eq_true rfl) (Nat.le_of_ble_eq_true rfl) dX2_init_1 ?_
  refine r_aload_n dX2_init_4 0 rfl ?_
  refine r_sipush (v := nI 256) dX2_init_5 (by decide) ?_
  refine r_newZ dX2_init_8 (by decide) (Nat.le_of_ble_eq_true rfl) (Nat.le_of_ble_eq_true rfl) (fun q1 => ?_)
  refine r_putM (ty := (.array .boolean)) (w' := [(q, .inr (1, [.int 0, .ref q1, .null, .null])), (q1, .inl (gZ G, 256, .inl (fun _ => 0)))]) 0 1 rfl (by decide) q196 rfl (by decide +kernel) rfl rfl (Nat.le_of_ble_eq_true rfl) rfl dX2_init_10 ?_
  refine r_aload_n dX2_init_13 0 rfl ?_
  refine r_sipush (v := nI 256) dX2_init_14 (by decide) ?_
  refine r_newZ dX2_init_17 (by decide) (Nat.le_of_ble_eq_true rfl) (Nat.le_of_ble_eq_true rfl) (fun q2 => ?_)
  refine r_putM (ty := (.array .boolean)) (w' := [(q, .inr (1, [.int 0, .ref q1, .ref q2, .null])), (q1, .inl (gZ G, 256, .inl (fun _ => 0))), (q2, .inl (gZ G, 256, .inl (fun _ => 0)))]) 0 2 rfl (by decide) q197 rfl (by decide +kernel) rfl rfl (Nat.le_of_ble_eq_true rfl) rfl dX2_init_19 ?_
  refine r_aload_n dX2_init_22 0 rfl ?_
  refine r_bipush (v := nI 16) dX2_init_23 (by decide) ?_
  refine r_newI dX2_init_25 (by decide) (Nat.le_of_ble_eq_true rfl) (Nat.le_of_ble_eq_true rfl) (fun q3 => ?_)
  refine r_putM (ty := (.array .int)) (w' := [(q, .inr (1, [.int 0, .ref q1, .ref q2, .ref q3])), (q1, .inl (gZ G, 256, .inl (fun _ => 0))), (q2, .inl (gZ G, 256, .inl (fun _ => 0))), (q3, .inl (gI G, 16, .inl (fun _ => 0)))]) 0 3 rfl (by decide) q198 rfl (by decide +kernel) rfl rfl (Nat.le_of_ble_eq_true rfl) rfl dX2_init_27 ?_
  have J52 : At G cX2_init RX2 2 rX2_init X 3 528 [(q, .inr (1, [.int 0, .ref q1, .ref q2, .ref q3])), (q1, .inl (gZ G, 256, .inl (fun _ => 0))), (q2, .inl (gZ G, 256, .inl (fun _ => 0))), (q3, .inl (gI G, 16, .inl (fun _ => 0)))] 52 [(0, .ref q), (1, .int x)] [.int (nI (cl x)), .ref q] := by
    refine r_putM (ty := .int) (w' := [(q, .inr (1, [.int (nI (cl x)), .ref q1, .ref q2, .ref q3])), (q1, .inl (gZ G, 256, .inl (fun _ => 0))), (q2, .inl (gZ G, 256, .inl (fun _ => 0))), (q3, .inl (gI G, 16, .inl (fun _ => 0)))]) 0 0 rfl (by decide) q195 rfl (by decide +kernel) rfl rfl (Nat.le_of_ble_eq_true rfl) rfl dX2_init_52 ?_
    exact hret _ _ (ad4 q q1 q2 q3) rfl dX2_init_55
  refine r_aload_n dX2_init_30 0 rfl ?_
  refine r_iload_n dX2_init_31 1 rfl ?_
  refine r_iconst (v := nI 2) dX2_init_32 (by decide) ?_
  refine r_icmp_ge (tgt := 40) dX2_init_33 (by decide) (fun c_33 => ?_) (fun c_33 => ?_)
  · refine r_iload_n dX2_init_40 1 rfl ?_
    refine r_bipush (v := nI 16) dX2_init_41 (by decide) ?_
    refine r_icmp_le (tgt := 51) dX2_init_43 (by decide) (fun c_43 => ?_) (fun c_43 => ?_)
    · refine r_iload_n dX2_init_51 1 rfl ?_
      refine At.top (cl_mid c_33 c_43).1 ?_
      exact J52
    · refine r_bipush (v := nI 16) dX2_init_46 (by decide) ?_
      refine r_goto (tgt := 52) dX2_init_48 (by decide) ?_
      refine At.top (cl_hi c_33 c_43) ?_
      exact J52
  · refine r_iconst (v := nI 2) dX2_init_36 (by decide) ?_
    refine r_goto (tgt := 52) dX2_init_37 (by decide) ?_
    refine At.top (cl_lo c_33) ?_
    exact J52
end
section
/-! the law's own rows: the script, calls with a part of the world, new objects -/
theorem fr_cut {A : Nat → Prop} {D : va_G} {cl : List vw_C} {u1 u2 : va_W} {H : Heap} (hP : va_P D cl (u1 ++ u2) H) (hD : va_D A (u1 ++ u2)) : va_P D cl u1 H ∧ va_P D cl u2 H ∧ va_D A u1 ∧ va_D A u2 ∧ ∀ (i j : Nat) (p q : Nat × va_E), u1[i]? = some p → u2[j]? = some q → p.1 ≠ q.1 := by
  have k1 : ∀ (k : Nat) (q : Nat × va_E), u1[k]? = some q → (u1 ++ u2)[k]? = some q := fun k q h => by
    have hl := (List.getElem?_eq_some_iff.mp h).1
    rw [List.getElem?_append_left hl]; exact h
  have k2 : ∀ (k : Nat) (q : Nat × va_E), u2[k]? = some q → (u1 ++ u2)[u1.length + k]? = some q := fun k q h => by
    rw [List.getElem?_append_right (by omega), Nat.add_sub_cancel_left]; exact h
  refine ⟨fun k q h => hP _ q (k1 k q h), fun k q h => hP _ q (k2 k q h), ⟨fun i j p q hi hj e => hD.1 i j p q (k1 i p hi) (k1 j q hj) e, fun k q h => hD.2 _ q (k1 k q h)⟩, ⟨fun i j p q hi hj e => ?_, fun k q h => hD.2 _ q (k2 k q h)⟩, fun i j p q hi hj e => ?_⟩
  · have := hD.1 _ _ p q (k2 i p hi) (k2 j q hj) e
    omega
  · have h1 := hD.1 _ _ p q (k1 i p hi) (k2 j q hj) e
    have hl := (List.getElem?_eq_some_iff.mp hi).1
    omega
theorem fr_swap {A : Nat → Prop} {D : va_G} {cl : List vw_C} {u1 u2 : va_W} {H : Heap} (hP : va_P D cl (u1 ++ u2) H) (hD : va_D A (u1 ++ u2)) : va_P D cl (u2 ++ u1) H ∧ va_D A (u2 ++ u1) := by
  obtain ⟨p1, p2, d1, d2, dj⟩ := fr_cut hP hD
  exact ⟨p2.app p1, d2.app d1 (fun i j p q hi hj e => dj j i q p hj hi e.symm)⟩
theorem fr_paste {A : Nat → Prop} {D : va_G} {cl : List vw_C} {u1 u1' u2 : va_W} {H H1 : Heap} (hP : va_P D cl (u1 ++ u2) H) (hD : va_D A (u1 ++ u2)) (hF : ∀ q, va_A u1 H.size q → A q) (hk : ∀ q : Nat, q < H.size → ¬ va_A u1 H.size q → H1[q]? = H[q]?) (hP1 : va_P D cl u1' H1) (hD1 : va_D (va_A u1 H.size) u1') : va_P D cl (u1' ++ u2) H1 ∧ va_D A (u1' ++ u2) := by
  obtain ⟨p1, p2, d1, d2, dj⟩ := fr_cut hP hD
  have out : ∀ (k : Nat) (q : Nat × va_E), u2[k]? = some q → ¬ va_A u1 H.size q.1 := fun k q hq h => by
    rcases h with ⟨i, e, h⟩ | h
    · exact dj i k (q.1, e) q h hq rfl
    · have := (p2 k q hq).lt
      omega
  refine ⟨hP1.app (p2.kept (fun k q hq => hk q.1 (p2 k q hq).lt (out k q hq))), (hD1.weaken (fun _ q _ h => hF q.1 h)).app d2 (fun i j p q hi hj e => ?_)⟩
  exact out j q hj (by rw [← e]; exact hD1.2 i p hi)
section RL
variable {G : GG} {cc : ByteArray} {own : String} {nL : Nat} {R : Room} {X : Cx} {kc ks : Nat} {w w1 w1' w2 w2' : va_W} {pc : Nat} {lv : List (Nat × Value)} {st : List Value}
theorem At.swap (kk : At G cc own nL R X kc ks (w2 ++ w1) pc lv st) : At G cc own nL R X kc ks (w1 ++ w2) pc lv st := by
  obtain ⟨p, e, s, m, args, below, meth, c, A, Q⟩ := X
  intro F H locs ls hP hD hS hl
  obtain ⟨hP', hD'⟩ := fr_swap hP hD
  exact kk F H locs ls hP' hD' hS hl
/-- a call by the first part of the world -/
theorem r_lcallL {y : MethodName} {b : ByteArray} {L n idx ci a : Nat} {ty : FieldType} {rm : Room} {As rest : List Value} {v : Int32} {C : String} {q : vw_C} {fs : List Value} (hM : KMi G y b L ty rm (.ref a :: As) w1 w1' v) (hC : Cw R own C idx y b L (some ty) rm n) (hq : vwCl[ci]? = some q) (hqC : q.1 = C) (q0 : Nat) (he : w1[q0]? = some (a, .inr (ci, fs))) (hn : As.length = n) (hs : st = As.reverse ++ .ref a :: rest) (hroom : (rest.map fun v => v.category).sum ≤ 8) (hf : kc ≤ R.cells ∧ ks ≤ R.slots) (hdg : decode cc pc = .ok (.invokevirtual idx, 3))
    (kk : At G cc own nL R X kc ks (w1' ++ w2) (pc + 3) lv (.int v :: rest)) : At G cc own nL R X kc ks (w1 ++ w2) pc lv st := by
  subst hs
  obtain ⟨p, e, s, m, args, below, meth, c, A, Q⟩ := X
  intro F H locs ls hP hD hS hl
  have F0' := F
  obtain ⟨hx, hb, hml, hown, hts, hA, hK⟩ := F
  obtain ⟨c1, ⟨c2, c3⟩, c4, c5, c6⟩ := hC
  obtain ⟨p1, p2, d1, d2, dj⟩ := fr_cut hP hD
  have hFc : ∀ q, va_A w1 H.size q → A q := by
    intro q h
    rcases h with ⟨k, e, h⟩ | h
    · exact d1.2 k (q, e) h
    · exact hA q (Nat.le_trans hS.1 h)
  have hrc := va_recv hK p1 hq he
  rw [hqC] at hrc
  refine va_calli (va_runV (As := As) (rest := rest) ⟨hx, hb, hml, hown, hts⟩ (hM H.size) (cwV n hts c1 rfl c2 c3 c4 ⟨c5, c6⟩) ⟨KPre.blind, hrc, fun U hU hW => ⟨rfl, by rw [hU], by rw [hU]; exact p1, va_K.moved hW.alike hK, d1.weaken (fun _ _ _ _ => trivial)⟩⟩ rfl hn hl.1 rfl (lv_room hroom) hdg ⟨hf.1, hf.2⟩) hS (fun q _ h => hFc q h) hFc (fun r u t H1 locs1 ht hvm hw hB hz1 hk1 hS1 => ?_)
  obtain ⟨hP1, hK1, hD1⟩ := hB
  rw [ht] at hP1
  rw [hw]
  obtain ⟨hP', hD'⟩ := fr_paste hP hD hFc hk1 hP1 hD1
  exact kk F0' H1 locs1 ls hP' hD' hS1 hl
/-- a call by the second part -/
theorem r_lcallR {y : MethodName} {b : ByteArray} {L n idx ci a : Nat} {ty : FieldType} {rm : Room} {As rest : List Value} {v : Int32} {C : String} {q : vw_C} {fs : List Value} (hM : KMi G y b L ty rm (.ref a :: As) w2 w2' v) (hC : Cw R own C idx y b L (some ty) rm n) (hq : vwCl[ci]? = some q) (hqC : q.1 = C) (q0 : Nat) (he : w2[q0]? = some (a, .inr (ci, fs))) (hn : As.length = n) (hs : st = As.reverse ++ .ref a :: rest) (hroom : (rest.map fun v => v.category).sum ≤ 8) (hf : kc ≤ R.cells ∧ ks ≤ R.slots) (hdg : decode cc pc = .ok (.invokevirtual idx, 3))
    (kk : At G cc own nL R X kc ks (w1 ++ w2') (pc + 3) lv (.int v :: rest)) : At G cc own nL R X kc ks (w1 ++ w2) pc lv st :=
  At.swap (r_lcallL hM hC hq hqC q0 he hn hs hroom hf hdg (At.swap kk))
/-- a constructor's call: the bare object is the second part -/
theorem r_linit {y : MethodName} {b : ByteArray} {L n idx a mc ms : Nat} {rm : Room} {As rest : List Value} {V : (Nat → Nat) → va_W} (hM : KMc G y b L rm (.ref a :: As) w2 V a mc ms) (hG : GoodIn lw_all (ws_ y b L none)) (h1 : Cond.initialized y.cls ∈ lw_all) (h2 : Cond.methodLink own idx y ∈ lw_all) (h3 : Cond.instanceMethod y ∈ lw_all) (hy : y.name = "<init>") (hrm : rm.cells = mc ∧ rm.slots = ms) (hd : y.cls ≠ "java/lang/invoke/MethodHandle" ∧ y.cls ≠ "java/lang/invoke/VarHandle" ∧ (parseMethodDescriptor y.desc).map (fun d => d.parameters.length) = some n) (hR : rm.frames + 1 ≤ R.frames ∧ 8 + (L + 11) + rm.locals ≤ R.locals) (hn : As.length = n) (hs : st = As.reverse ++ .ref a :: rest) (hroom : (rest.map fun v => v.category).sum ≤ 8) (hf : kc + mc ≤ R.cells ∧ ks + ms ≤ R.slots) (hdg : decode cc pc = .ok (.invokespecial idx, 3))
    (kk : ∀ ad : Nat → Nat, ad 0 = a → At G cc own nL R X (kc + mc) (ks + ms) (w1 ++ V ad) (pc + 3) lv rest) : At G cc own nL R X kc ks (w1 ++ w2) pc lv st := by
  subst hs
  obtain ⟨p, e, s, m, args, below, meth, c, A, Q⟩ := X
  intro F H locs ls hP hD hS hl
  have F0' := F
  obtain ⟨hx, hb, hml, hown, hts, hA, hK⟩ := F
  obtain ⟨hP, hD⟩ := fr_swap hP hD
  obtain ⟨p1, p2, d1, d2, dj⟩ := fr_cut hP hD
  have hFc : ∀ q, va_A w2 H.size q → A q := by
    intro q h
    rcases h with ⟨k, e, h⟩ | h
    · exact d1.2 k (q, e) h
    · exact hA q (Nat.le_trans hS.1 h)
  refine va_callv (va_runI (As := As) (rest := rest) ⟨hx, hb, hml, hown, hts⟩ (hM H.size) (cwI n hts hG rfl hrm.1 hrm.2 (hts _ h1) (hts _ h2) (hts _ h3) hy hd hR) ⟨KPre.blind, fun U hU hW => ⟨rfl, by rw [hU], by rw [hU]; exact p1, va_K.moved hW.alike hK, d1.weaken (fun _ _ _ _ => trivial)⟩⟩ rfl hn hl.1 rfl (lv_room hroom) hdg hf) hS (fun q _ h => hFc q h) hFc (fun u t H1 locs1 ht hvm hw hB hz1 hk1 hS1 => ?_)
  obtain ⟨hP1, hK1, hD1⟩ := hB
  rw [ht] at hP1
  obtain ⟨hP', hD'⟩ := fr_paste hP hD hFc hk1 hP1 hD1
  obtain ⟨hP', hD'⟩ := fr_swap hP' hD'
  exact kk u hw F0' H1 locs1 ls hP' hD' hS1 hl
theorem r_newX {idx : Nat} (hcl : Cond.classLink own idx RX1 ∈ lw_all) (hc : kc + 1 ≤ R.cells) (hs : ks + 12 ≤ R.slots) (hdg : decode cc pc = .ok (.new idx, 3)) (kk : ∀ q : Nat, At G cc own nL R X (kc + 1) (ks + 12) (w ++ [(q, .inr (0, [.int 0, .null, .null, .null, .null, .null, .null, .int 0, .null, .int 0, .null, .null]))]) (pc + 3) lv (.ref q :: st)) : At G cc own nL R X kc ks w pc lv st := by
  obtain ⟨p, e, s, m, args, below, meth, c, A, Q⟩ := X
  intro F H locs ls hP hD hS hl
  have F0' := F
  obtain ⟨hx, hb, hml, hown, hts, hA, hK⟩ := F
  refine va_new (ci := 0) (C := RX1) (T := TX1) (N := 12) hx hb hts in_X1 tyX1 tyX1_ok hown (hts _ hcl) (hts _ q28) (hts _ q25) hK hP hD hS hA rfl (fun j hj => ?_) hc hs hdg (fun q H1 hP1 hD1 hS1 => kk q F0' H1 locs ls hP1 hD1 hS1 hl)
  match j, hj with
  | 0, _ => rfl
  | 1, _ => rfl
  | 2, _ => rfl
  | 3, _ => rfl
  | 4, _ => rfl
  | 5, _ => rfl
  | 6, _ => rfl
  | 7, _ => rfl
  | 8, _ => rfl
  | 9, _ => rfl
  | 10, _ => rfl
  | 11, _ => rfl
theorem r_newM {idx : Nat} (hcl : Cond.classLink own idx RX2 ∈ lw_all) (hc : kc + 1 ≤ R.cells) (hs : ks + 4 ≤ R.slots) (hdg : decode cc pc = .ok (.new idx, 3)) (kk : ∀ q : Nat, At G cc own nL R X (kc + 1) (ks + 4) (w ++ [(q, .inr (1, [.int 0, .null, .null, .null]))]) (pc + 3) lv (.ref q :: st)) : At G cc own nL R X kc ks w pc lv st := by
  obtain ⟨p, e, s, m, args, below, meth, c, A, Q⟩ := X
  intro F H locs ls hP hD hS hl
  have F0' := F
  obtain ⟨hx, hb, hml, hown, hts, hA, hK⟩ := F
  refine va_new (ci := 1) (C := RX2) (T := TX2) (N := 4) hx hb hts in_X2 tyX2 tyX2_ok hown (hts _ hcl) (hts _ q190) (hts _ q26) hK hP hD hS hA rfl (fun j hj => ?_) hc hs hdg (fun q H1 hP1 hD1 hS1 => kk q F0' H1 locs ls hP1 hD1 hS1 hl)
  match j, hj with
  | 0, _ => rfl
  | 1, _ => rfl
  | 2, _ => rfl
  | 3, _ => rfl
/-- the script -/
def Sc (X : Cx) (b L : Nat) (xs : Nat → Int32) : Prop := match X with
  | (_, _, s, _, _, _, _, _, A, _) => va_X b L xs s s.heap ∧ b < s.heap.size ∧ ¬ A b
theorem r_slen {b L : Nat} {xs : Nat → Int32} (hX : Sc X b L xs) (hdg : decode cc pc = .ok (.arraylength, 1)) (kk : At G cc own nL R X kc ks w (pc + 1) lv (.int (nI L) :: st)) : At G cc own nL R X kc ks w pc lv (.ref b :: st) := by
  obtain ⟨p, e, s, m, args, below, meth, c, A, Q⟩ := X
  obtain ⟨x1, x2, x3⟩ := hX
  intro F H locs ls hP hD hS hl
  exact va_slen F.1 F.2.1 x1 x2 x3 hS hdg (kk F H locs ls hP hD hS hl)
theorem r_sld {b L j : Nat} {xs : Nat → Int32} (hX : Sc X b L xs) (hj : j < L) (hL : L < 2 ^ 31) (hdg : decode cc pc = .ok (.iaload, 1)) (kk : At G cc own nL R X kc ks w (pc + 1) lv (.int (xs j) :: st)) : At G cc own nL R X kc ks w pc lv (.int (nI j) :: .ref b :: st) := by
  obtain ⟨p, e, s, m, args, below, meth, c, A, Q⟩ := X
  obtain ⟨x1, x2, x3⟩ := hX
  intro F H locs ls hP hD hS hl
  refine va_sld F.1 F.2.1 x1 x2 x3 hS (vp_in_nI hj hL) hdg ?_
  rw [nI_clamp (Nat.lt_trans hj hL)]
  exact kk F H locs ls hP hD hS hl
end RL
/-- cell(script, 0) -/
def cellv (L : Nat) (xs : Nat → Int32) : Int32 := if 0 < L then xs 0 else 0
abbrev rX0_cell : Room := { frames := 0, cells := 0, slots := 0, locals := 0 }
set_option maxHeartbeats 4000000 in
theorem met_cell (l : Launch) (b L : Nat) (xs : Nat → Int32) (hL : L < 2 ^ 31) : Met l yX0_cell (ws_ yX0_cell cX0_cell 2 (some .int)) rX0_cell (va_Pc [.ref b, .int (nI 0)] (fun U => va_X b L xs U U.heap)) (va_Qi (fun r (_ : Unit) => r = cellv L xs) (fun _ _ => True) (fun _ => False)) 0 0 (fun _ => False) := by
  refine Met.ofW (cc := cX0_cell) (maxL := 2) (ret := (some .int)) (by decide) rfl ?_
  intro p e s m args below meth c s₁ B hml hv
  obtain ⟨rfl, hX⟩ := hv
  have hx := B.exec
  have hb := B.bytes
  have hr := B.returns
  have hlocks := B.notSynchronized
  have hbl : b < s.heap.size := by
    obtain ⟨scr, h1, -⟩ := hX
    exact (Array.getElem?_eq_some_iff.mp h1).1
  have hS : va_S (fun _ => False) s.heap s.heap [] := va_S.rf
  have hl := lv_entry ([.ref b, .int (nI 0)]) (n := 2) (Nat.le_of_ble_eq_true rfl)
  rw [lg_entry_eq]
  generalize (lg_sl ([.ref b, .int (nI 0)]) ++ List.replicate (2 - (lg_sl ([.ref b, .int (nI 0)])).length) Slot.unset).toArray = ls at hl ⊢
  have hl : lv_has ls 2 [(0, .ref b), (1, .int (nI 0))] := hl
  refine lv_iload_n hx hb dX0_cell_0 rfl (lv_at hl 1 rfl) ?_
  refine lv_aload_n hx hb dX0_cell_1 rfl (lv_at hl 0 rfl) ?_
  refine va_slen hx hb hX hbl (fun h => h) hS dX0_cell_2 ?_
  refine lv_icmp_ge (tgt := 12) hx hb dX0_cell_3 (by decide) (fun c_3 => ?_) (fun c_3 => ?_)
  · have h0 : ¬ 0 < L := fun q => absurd c_3 (nI_ge q hL)
    refine lv_iconst (v := 0) hx hb dX0_cell_12 (by decide) ?_
    exact W.iret (v := 0) hx hb hr (fun t ht hW => ⟨⟨0, (), rfl, by unfold cellv; rw [if_neg h0], trivial⟩, hS.F ht⟩) hS.2.2 dX0_cell_13
  · have h0 : 0 < L := by
      rcases Nat.eq_zero_or_pos L with q | q
      · exact absurd (by rw [q]; exact Int32.le_refl _) c_3
      · exact q
    refine lv_aload_n hx hb dX0_cell_6 rfl (lv_at hl 0 rfl) ?_
    refine lv_iload_n hx hb dX0_cell_7 rfl (lv_at hl 1 rfl) ?_
    refine va_sld hx hb hX hbl (fun h => h) hS (vp_in_nI h0 hL) dX0_cell_8 ?_
    refine lv_goto (tgt := 13) hx hb dX0_cell_9 (by decide) ?_
    exact W.iret (v := xs (nI 0).toNatClampNeg) hx hb hr (fun t ht hW => ⟨⟨_, (), rfl, by unfold cellv; rw [if_pos h0]; rfl, trivial⟩, hS.F ht⟩) hS.2.2 dX0_cell_13
section RL2
variable {G : GG} {cc : ByteArray} {nL : Nat} {R : Room} {X : Cx} {kc ks : Nat} {w : va_W} {pc : Nat} {lv : List (Nat × Value)} {st : List Value}
theorem r_cell {b L : Nat} {xs : Nat → Int32} (hX : Sc X b L xs) (hL : L < 2 ^ 31) (hR : 1 ≤ R.frames ∧ 21 ≤ R.locals) (hf : kc ≤ R.cells ∧ ks ≤ R.slots) (hroom : (st.map fun v => v.category).sum ≤ 8) (hdg : decode cc pc = .ok (.invokestatic 9, 3)) (kk : At G cc RX0 nL R X kc ks w (pc + 3) lv (.int (cellv L xs) :: st)) : At G cc RX0 nL R X kc ks w pc lv (.int (nI 0) :: .ref b :: st) := by
  obtain ⟨p, e, s, m, args, below, meth, c, A, Q⟩ := X
  obtain ⟨x1, x2, x3⟩ := hX
  intro F H locs ls hP hD hS hl
  have F0' := F
  obtain ⟨hx, hb, hml, hown, hts, hA, hK⟩ := F
  have xH : va_X b L xs s H := x1.kept (hS.2.1 b x2 x3)
  refine va_calli (A1 := fun _ => False) (va_runS (As := [.ref b, .int (nI 0)]) (rest := st) ⟨hx, hb, hml, hown, hts⟩ (met_cell (gL G) b L xs hL) (va_cwS 2 hts (lw_S q186 q187 q24 q188) rfl rfl rfl (by decide +kernel) ⟨hR.1, hR.2⟩) ⟨fun a U g mk q => ⟨q.1, va_X.moved (u := U) (U := U.calling g mk a) (Vm.Alike.refl U.vm) q.2⟩, fun U hU hW => ⟨rfl, by show va_X b L xs U U.heap; rw [hU]; exact va_X.moved hW.alike xH⟩⟩ rfl rfl hl.1 rfl (lv_room hroom) hdg ⟨hf.1, hf.2⟩) hS (fun q _ h => h.elim) (fun q h => h.elim) (fun r u t H1 locs1 ht hvm hw hB hz1 hk1 hS1 => ?_)
  rw [hw]
  exact kk F0' H1 locs1 ls (hP.kept (fun k q hq => hk1 q.1 (hP k q hq).lt (fun h => h))) hD hS1 hl
end RL2
end
section
/-- both objects answer the call alike, and stay related -/
def StepI (G : GG) (INV : va_W → va_W → Prop) (y1 : MethodName) (b1 : ByteArray) (L1 : Nat) (r1 : Room) (y2 : MethodName) (b2 : ByteArray) (L2 : Nat) (r2 : Room) (ty : FieldType) (a1 a2 : Nat) (As : List Value) : Prop := ∀ w1 w2, INV w1 w2 → ∃ (v : Int32) (w1' w2' : va_W), KMi G y1 b1 L1 ty r1 (.ref a1 :: As) w1 w1' v ∧ KMi G y2 b2 L2 ty r2 (.ref a2 :: As) w2 w2' v ∧ INV w1' w2'
def St_addEdge (G : GG) (INV : va_W → va_W → Prop) (a1 a2 : Nat) : Prop := ∀ x y : Int32, StepI G INV yX1_addEdge cX1_addEdge 5 rX1_addEdge yX2_addEdge cX2_addEdge 5 rX2_addEdge .int a1 a2 [.int x, .int y]
def St_removeEdge (G : GG) (INV : va_W → va_W → Prop) (a1 a2 : Nat) : Prop := ∀ x y : Int32, StepI G INV yX1_removeEdge cX1_removeEdge 5 rX1_removeEdge yX2_removeEdge cX2_removeEdge 5 rX2_removeEdge .int a1 a2 [.int x, .int y]
def St_components (G : GG) (INV : va_W → va_W → Prop) (a1 a2 : Nat) : Prop := StepI G INV yX1_components cX1_components 1 rX1_components yX2_components cX2_components 4 rX2_components .int a1 a2 []
def St_leader (G : GG) (INV : va_W → va_W → Prop) (a1 a2 : Nat) : Prop := ∀ x : Int32, StepI G INV yX1_leader cX1_leader 2 rX1_leader yX2_leader cX2_leader 2 rX2_leader .int a1 a2 [.int x]
def St_componentSize (G : GG) (INV : va_W → va_W → Prop) (a1 a2 : Nat) : Prop := ∀ x : Int32, StepI G INV yX1_componentSize cX1_componentSize 3 rX1_componentSize yX2_componentSize cX2_componentSize 4 rX2_componentSize .int a1 a2 [.int x]
def St_reaches (G : GG) (INV : va_W → va_W → Prop) (a1 a2 : Nat) : Prop := ∀ x y : Int32, StepI G INV yX1_reaches cX1_reaches 6 rX1_reaches yX2_reaches cX2_reaches 3 rX2_reaches .boolean a1 a2 [.int x, .int y]
def St_height (G : GG) (INV : va_W → va_W → Prop) (a1 a2 : Nat) : Prop := ∀ x : Int32, StepI G INV yX1_height cX1_height 7 rX1_height yX2_height cX2_height 4 rX2_height .int a1 a2 [.int x]
def St_cycle (G : GG) (INV : va_W → va_W → Prop) (a1 a2 : Nat) : Prop := ∀ x : Int32, StepI G INV yX1_cycle cX1_cycle 6 rX1_cycle yX2_cycle cX2_cycle 6 rX2_cycle .int a1 a2 [.int x]
def St_outerEdges (G : GG) (INV : va_W → va_W → Prop) (a1 a2 : Nat) : Prop := StepI G INV yX1_outerEdges cX1_outerEdges 3 rX1_outerEdges yX2_outerEdges cX2_outerEdges 3 rX2_outerEdges .int a1 a2 []
def St_inOneLine (G : GG) (INV : va_W → va_W → Prop) (a1 a2 : Nat) : Prop := StepI G INV yX1_inOneLine cX1_inOneLine 4 rX1_inOneLine yX2_inOneLine cX2_inOneLine 3 rX2_inOneLine .boolean a1 a2 []
def StAll (G : GG) (INV : va_W → va_W → Prop) (a1 a2 : Nat) : Prop := St_addEdge G INV a1 a2 ∧ St_removeEdge G INV a1 a2 ∧ St_components G INV a1 a2 ∧ St_leader G INV a1 a2 ∧ St_componentSize G INV a1 a2 ∧ St_reaches G INV a1 a2 ∧ St_height G INV a1 a2 ∧ St_cycle G INV a1 a2 ∧ St_outerEdges G INV a1 a2 ∧ St_inOneLine G INV a1 a2
theorem cwXL_addEdge : Cw room_1 RX0 RX1 21 yX1_addEdge cX1_addEdge 5 (some .int) rX1_addEdge 2 := ⟨lw_V q74 q75 q76 q25 q77, ⟨rfl, rfl⟩, by decide +kernel, Nat.le_of_ble_eq_true rfl, Nat.le_of_ble_eq_true rfl⟩
theorem cwML_addEdge : Cw room_1 RX0 RX2 25 yX2_addEdge cX2_addEdge 5 (some .int) rX2_addEdge 2 := ⟨lw_V q209 q210 q211 q26 q212, ⟨rfl, rfl⟩, by decide +kernel, Nat.le_of_ble_eq_true rfl, Nat.le_of_ble_eq_true rfl⟩
theorem cwXL_removeEdge : Cw room_1 RX0 RX1 26 yX1_removeEdge cX1_removeEdge 5 (some .int) rX1_removeEdge 2 := ⟨lw_V q134 q135 q136 q25 q137, ⟨rfl, rfl⟩, by decide +kernel, Nat.le_of_ble_eq_true rfl, Nat.le_of_ble_eq_true rfl⟩
theorem cwML_removeEdge : Cw room_1 RX0 RX2 29 yX2_removeEdge cX2_removeEdge 5 (some .int) rX2_removeEdge 2 := ⟨lw_V q237 q238 q239 q26 q240, ⟨rfl, rfl⟩, by decide +kernel, Nat.le_of_ble_eq_true rfl, Nat.le_of_ble_eq_true rfl⟩
theorem cwXL_components : Cw room_1 RX0 RX1 30 yX1_components cX1_components 1 (some .int) rX1_components 0 := ⟨lw_V q154 q155 q156 q25 q157, ⟨rfl, rfl⟩, by decide +kernel, Nat.le_of_ble_eq_true rfl, Nat.le_of_ble_eq_true rfl⟩
theorem cwML_components : Cw room_1 RX0 RX2 34 yX2_components cX2_components 4 (some .int) rX2_components 0 := ⟨lw_V q241 q218 q219 q26 q220, ⟨rfl, rfl⟩, by decide +kernel, Nat.le_of_ble_eq_true rfl, Nat.le_of_ble_eq_true rfl⟩
theorem cwXL_leader : Cw room_1 RX0 RX1 35 yX1_leader cX1_leader 2 (some .int) rX1_leader 1 := ⟨lw_V q158 q159 q160 q25 q161, ⟨rfl, rfl⟩, by decide +kernel, Nat.le_of_ble_eq_true rfl, Nat.le_of_ble_eq_true rfl⟩
theorem cwML_leader : Cw room_1 RX0 RX2 39 yX2_leader cX2_leader 2 (some .int) rX2_leader 1 := ⟨lw_V q242 q243 q244 q26 q245, ⟨rfl, rfl⟩, by decide +kernel, Nat.le_of_ble_eq_true rfl, Nat.le_of_ble_eq_true rfl⟩
theorem cwXL_componentSize : Cw room_1 RX0 RX1 40 yX1_componentSize cX1_componentSize 3 (some .int) rX1_componentSize 1 := ⟨lw_V q162 q163 q164 q25 q165, ⟨rfl, rfl⟩, by decide +kernel, Nat.le_of_ble_eq_true rfl, Nat.le_of_ble_eq_true rfl⟩
theorem cwML_componentSize : Cw room_1 RX0 RX2 43 yX2_componentSize cX2_componentSize 4 (some .int) rX2_componentSize 1 := ⟨lw_V q246 q247 q248 q26 q249, ⟨rfl, rfl⟩, by decide +kernel, Nat.le_of_ble_eq_true rfl, Nat.le_of_ble_eq_true rfl⟩
theorem cwXL_reaches : Cw room_1 RX0 RX1 44 yX1_reaches cX1_reaches 6 (some .boolean) rX1_reaches 2 := ⟨lw_V q166 q167 q168 q25 q169, ⟨rfl, rfl⟩, by decide +kernel, Nat.le_of_ble_eq_true rfl, Nat.le_of_ble_eq_true rfl⟩
theorem cwML_reaches : Cw room_1 RX0 RX2 48 yX2_reaches cX2_reaches 3 (some .boolean) rX2_reaches 2 := ⟨lw_V q250 q251 q252 q26 q253, ⟨rfl, rfl⟩, by decide +kernel, Nat.le_of_ble_eq_true rfl, Nat.le_of_ble_eq_true rfl⟩
theorem cwXL_height : Cw room_1 RX0 RX1 49 yX1_height cX1_height 7 (some .int) rX1_height 1 := ⟨lw_V q170 q171 q172 q25 q173, ⟨rfl, rfl⟩, by decide +kernel, Nat.le_of_ble_eq_true rfl, Nat.le_of_ble_eq_true rfl⟩
theorem cwML_height : Cw room_1 RX0 RX2 52 yX2_height cX2_height 4 (some .int) rX2_height 1 := ⟨lw_V q254 q255 q256 q26 q257, ⟨rfl, rfl⟩, by decide +kernel, Nat.le_of_ble_eq_true rfl, Nat.le_of_ble_eq_true rfl⟩
theorem cwXL_cycle : Cw room_1 RX0 RX1 53 yX1_cycle cX1_cycle 6 (some .int) rX1_cycle 1 := ⟨lw_V q174 q175 q176 q25 q177, ⟨rfl, rfl⟩, by decide +kernel, Nat.le_of_ble_eq_true rfl, Nat.le_of_ble_eq_true rfl⟩
theorem cwML_cycle : Cw room_1 RX0 RX2 56 yX2_cycle cX2_cycle 6 (some .int) rX2_cycle 1 := ⟨lw_V q262 q263 q264 q26 q265, ⟨rfl, rfl⟩, by decide +kernel, Nat.le_of_ble_eq_true rfl, Nat.le_of_ble_eq_true rfl⟩
theorem cwXL_outerEdges : Cw room_1 RX0 RX1 57 yX1_outerEdges cX1_outerEdges 3 (some .int) rX1_outerEdges 0 := ⟨lw_V q178 q179 q180 q25 q181, ⟨rfl, rfl⟩, by decide +kernel, Nat.le_of_ble_eq_true rfl, Nat.le_of_ble_eq_true rfl⟩
theorem cwML_outerEdges : Cw room_1 RX0 RX2 60 yX2_outerEdges cX2_outerEdges 3 (some .int) rX2_outerEdges 0 := ⟨lw_V q266 q267 q268 q26 q269, ⟨rfl, rfl⟩, by decide +kernel, Nat.le_of_ble_eq_true rfl, Nat.le_of_ble_eq_true rfl⟩
theorem cwXL_inOneLine : Cw room_1 RX0 RX1 61 yX1_inOneLine cX1_inOneLine 4 (some .boolean) rX1_inOneLine 0 := ⟨lw_V q182 q183 q184 q25 q185, ⟨rfl, rfl⟩, by decide +kernel, Nat.le_of_ble_eq_true rfl, Nat.le_of_ble_eq_true rfl⟩
theorem cwML_inOneLine : Cw room_1 RX0 RX2 65 yX2_inOneLine cX2_inOneLine 3 (some .boolean) rX2_inOneLine 0 := ⟨lw_V q270 q271 q272 q26 q273, ⟨rfl, rfl⟩, by decide +kernel, Nat.le_of_ble_eq_true rfl, Nat.le_of_ble_eq_true rfl⟩
theorem law_gt {i L : Nat} (hi : i < 2 ^ 20) (hL : L < 2 ^ 20) : nI L - nI 3 < nI i ↔ L < i + 3 := by
  rw [Int32.lt_iff_toInt_lt, pk_sub_toInt (by omega) (by omega), nI_toInt (by omega)]
  omega
set_option maxHeartbeats 8000000 in
set_option maxRecDepth 100000 in
theorem law_loop (G : GG) (X : Cx) (b L : Nat) (xs : Nat → Int32) (a1 a2 : Nat) (INV : va_W → va_W → Prop) (hX : Sc X b L xs) (hL : L ≤ 193) (h1 : ∀ w1 w2, INV w1 w2 → ∃ fs, w1[0]? = some (a1, .inr (0, fs))) (h2 : ∀ w1 w2, INV w1 w2 → ∃ fs, w2[0]? = some (a2, .inr (1, fs))) (hS : StAll G INV a1 a2) (hret : ∀ w pc lv, decode cL_law pc = .ok (.ireturn, 1) → At G cL_law RX0 4 room_1 X 14 688 w pc lv [.int (nI 1)]) :
    ∀ (fu i : Nat) (w1 w2 : va_W), L + 3 < i + fu → i ≤ L + 3 → INV w1 w2 → At G cL_law RX0 4 room_1 X 14 688 (w1 ++ w2) 28 [(0, .ref b), (1, .ref a1), (2, .ref a2), (3, .int (nI i))] [] := by
  obtain ⟨s_addEdge, s_removeEdge, s_components, s_leader, s_componentSize, s_reaches, s_height, s_cycle, s_outerEdges, s_inOneLine⟩ := hS
  intro fu
  induction fu with
  | zero => intro i w1 w2 hf hi hI; exfalso; omega
  | succ fu ih =>
    intro i w1 w2 hf hi hI
    have back : ∀ w1' w2', INV w1' w2' → i + 3 ≤ L → At G cL_law RX0 4 room_1 X 14 688 (w1' ++ w2') 326 [(0, .ref b), (1, .ref a1), (2, .ref a2), (3, .int (nI i))] [] := by
      intro w1' w2' hI' hb
      refine r_iinc (v := nI (i + 3)) (k := 3) (lv' := [(0, .ref b), (1, .ref a1), (2, .ref a2), (3, .int (nI (i + 3)))]) dL_law_326 rfl (nI_add _ 3) (by decide) [1, 2, 3, 0] rfl ?_
      refine r_goto (tgt := 28) dL_law_329 (by decide) ?_
      exact ih (i + 3) w1' w2' (by omega) (by omega) hI'
    refine r_iload_n dL_law_28 3 rfl ?_
    refine r_aload_n dL_law_29 0 rfl ?_
    refine r_slen hX dL_law_30 ?_
    refine r_iconst (v := nI 3) dL_law_31 (by decide) ?_
    refine r_isub (v := nI L - nI 3) dL_law_32 rfl ?_
    refine r_icmp_gt (tgt := 332) dL_law_33 (by decide) (fun c_33 => ?_) (fun c_33 => ?_)
    · refine r_iconst (v := nI 1) dL_law_332 (by decide) ?_
      exact hret _ _ _ dL_law_333
    · have hb : i + 3 ≤ L := by
        have := mt (law_gt (i := i) (L := L) (by omega) (by omega)).mpr c_33
        omega
      refine r_aload_n dL_law_36 0 rfl ?_
      refine r_iload_n dL_law_37 3 rfl ?_
      refine r_sld hX (by omega) (by omega) dL_law_38 ?_
      refine r_bipush (v := nI 15) dL_law_39 (by decide) ?_
      obtain ⟨j, hj, ej⟩ := pk_andE (xs i) (m := nI 15) 4 (by decide +kernel)
      refine r_iand (v := nI j) dL_law_41 ej ?_
      have hj' : j < 16 := hj
      obtain ⟨fs1, e1⟩ := h1 w1 w2 hI
      obtain ⟨fs2, e2⟩ := h2 w1 w2 hI
      obtain rfl | rfl | rfl | rfl | rfl | rfl | rfl | rfl | rfl | rfl | hj10 : j = 0 ∨ j = 1 ∨ j = 2 ∨ j = 3 ∨ j = 4 ∨ j = 5 ∨ j = 6 ∨ j = 7 ∨ j = 8 ∨ j = 9 ∨ 10 ≤ j := by omega
      · refine r_tableIn (tgt := 96) (off := 54) dL_law_42 (by decide) (by decide) (by decide) (by decide) ?_
        obtain ⟨v, w1', w2', k1, k2, hI'⟩ := s_addEdge (xs (i + 1)) (xs (i + 2)) w1 w2 hI
        refine r_aload_n dL_law_96 1 rfl ?_
        refine r_aload_n dL_law_97 0 rfl ?_
        refine r_iload_n dL_law_98 3 rfl ?_
        refine r_iconst (v := nI 1) dL_law_99 (by decide) ?_
        refine r_iadd (v := nI (i + 1)) dL_law_100 (nI_add _ _) ?_
        refine r_sld hX (by omega) (by omega) dL_law_101 ?_
        refine r_aload_n dL_law_102 0 rfl ?_
        refine r_iload_n dL_law_103 3 rfl ?_
        refine r_iconst (v := nI 2) dL_law_104 (by decide) ?_
        refine r_iadd (v := nI (i + 2)) dL_law_105 (nI_add _ _) ?_
        refine r_sld hX (by omega) (by omega) dL_law_106 ?_
        refine r_lcallL (As := [.int (xs (i + 1)), .int (xs (i + 2))]) (rest := []) (ci := 0) k1 cwXL_addEdge rfl rfl 0 e1 rfl rfl (Nat.le_of_ble_eq_true rfl) ⟨Nat.le_of_ble_eq_true rfl, Nat.le_of_ble_eq_true rfl⟩ dL_law_107 ?_
        refine r_aload_n dL_law_110 2 rfl ?_
        refine r_aload_n dL_law_111 0 rfl ?_
        refine r_iload_n dL_law_112 3 rfl ?_
        refine r_iconst (v := nI 1) dL_law_113 (by decide) ?_
        refine r_iadd (v := nI (i + 1)) dL_law_114 (nI_add _ _) ?_
        refine r_sld hX (by omega) (by omega) dL_law_115 ?_
        refine r_aload_n dL_law_116 0 rfl ?_
        refine r_iload_n dL_law_117 3 rfl ?_
        refine r_iconst (v := nI 2) dL_law_118 (by decide) ?_
        refine r_iadd (v := nI (i + 2)) dL_law_119 (nI_add _ _) ?_
        refine r_sld hX (by omega) (by omega) dL_law_120 ?_
        refine r_lcallR (As := [.int (xs (i + 1)), .int (xs (i + 2))]) (rest := [.int v]) (ci := 1) k2 cwML_addEdge rfl rfl 0 e2 rfl rfl (Nat.le_of_ble_eq_true rfl) ⟨Nat.le_of_ble_eq_true rfl, Nat.le_of_ble_eq_true rfl⟩ dL_law_121 ?_
        refine r_icmp_eq (tgt := 326) dL_law_124 (by decide) (fun _ => ?_) (fun c => absurd rfl c)
        exact back w1' w2' hI' hb
      · refine r_tableIn (tgt := 129) (off := 87) dL_law_42 (by decide) (by decide) (by decide) (by decide) ?_
        obtain ⟨v, w1', w2', k1, k2, hI'⟩ := s_removeEdge (xs (i + 1)) (xs (i + 2)) w1 w2 hI
        refine r_aload_n dL_law_129 1 rfl ?_
        refine r_aload_n dL_law_130 0 rfl ?_
        refine r_iload_n dL_law_131 3 rfl ?_
        refine r_iconst (v := nI 1) dL_law_132 (by decide) ?_
        refine r_iadd (v := nI (i + 1)) dL_law_133 (nI_add _ _) ?_
        refine r_sld hX (by omega) (by omega) dL_law_134 ?_
        refine r_aload_n dL_law_135 0 rfl ?_
        refine r_iload_n dL_law_136 3 rfl ?_
        refine r_iconst (v := nI 2) dL_law_137 (by decide) ?_
        refine r_iadd (v := nI (i + 2)) dL_law_138 (nI_add _ _) ?_
        refine r_sld hX (by omega) (by omega) dL_law_139 ?_
        refine r_lcallL (As := [.int (xs (i + 1)), .int (xs (i + 2))]) (rest := []) (ci := 0) k1 cwXL_removeEdge rfl rfl 0 e1 rfl rfl (Nat.le_of_ble_eq_true rfl) ⟨Nat.le_of_ble_eq_true rfl, Nat.le_of_ble_eq_true rfl⟩ dL_law_140 ?_
        refine r_aload_n dL_law_143 2 rfl ?_
        refine r_aload_n dL_law_144 0 rfl ?_
        refine r_iload_n dL_law_145 3 rfl ?_
        refine r_iconst (v := nI 1) dL_law_146 (by decide) ?_
        refine r_iadd (v := nI (i + 1)) dL_law_147 (nI_add _ _) ?_
        refine r_sld hX (by omega) (by omega) dL_law_148 ?_
        refine r_aload_n dL_law_149 0 rfl ?_
        refine r_iload_n dL_law_150 3 rfl ?_
        refine r_iconst (v := nI 2) dL_law_151 (by decide) ?_
        refine r_iadd (v := nI (i + 2)) dL_law_152 (nI_add _ _) ?_
        refine r_sld hX (by omega) (by omega) dL_law_153 ?_
        refine r_lcallR (As := [.int (xs (i + 1)), .int (xs (i + 2))]) (rest := [.int v]) (ci := 1) k2 cwML_removeEdge rfl rfl 0 e2 rfl rfl (Nat.le_of_ble_eq_true rfl) ⟨Nat.le_of_ble_eq_true rfl, Nat.le_of_ble_eq_true rfl⟩ dL_law_154 ?_
        refine r_icmp_eq (tgt := 326) dL_law_157 (by decide) (fun _ => ?_) (fun c => absurd rfl c)
        exact back w1' w2' hI' hb
      · refine r_tableIn (tgt := 162) (off := 120) dL_law_42 (by decide) (by decide) (by decide) (by decide) ?_
        obtain ⟨v, w1', w2', k1, k2, hI'⟩ := s_components  w1 w2 hI
        refine r_aload_n dL_law_162 1 rfl ?_
        refine r_lcallL (As := []) (rest := []) (ci := 0) k1 cwXL_components rfl rfl 0 e1 rfl rfl (Nat.le_of_ble_eq_true rfl) ⟨Nat.le_of_ble_eq_true rfl, Nat.le_of_ble_eq_true rfl⟩ dL_law_163 ?_
        refine r_aload_n dL_law_166 2 rfl ?_
        refine r_lcallR (As := []) (rest := [.int v]) (ci := 1) k2 cwML_components rfl rfl 0 e2 rfl rfl (Nat.le_of_ble_eq_true rfl) ⟨Nat.le_of_ble_eq_true rfl, Nat.le_of_ble_eq_true rfl⟩ dL_law_167 ?_
        refine r_icmp_eq (tgt := 326) dL_law_170 (by decide) (fun _ => ?_) (fun c => absurd rfl c)
        exact back w1' w2' hI' hb
      · refine r_tableIn (tgt := 175) (off := 133) dL_law_42 (by decide) (by decide) (by decide) (by decide) ?_
        obtain ⟨v, w1', w2', k1, k2, hI'⟩ := s_leader (xs (i + 1)) w1 w2 hI
        refine r_aload_n dL_law_175 1 rfl ?_
        refine r_aload_n dL_law_176 0 rfl ?_
        refine r_iload_n dL_law_177 3 rfl ?_
        refine r_iconst (v := nI 1) dL_law_178 (by decide) ?_
        refine r_iadd (v := nI (i + 1)) dL_law_179 (nI_add _ _) ?_
        refine r_sld hX (by omega) (by omega) dL_law_180 ?_
        refine r_lcallL (As := [.int (xs (i + 1))]) (rest := []) (ci := 0) k1 cwXL_leader rfl rfl 0 e1 rfl rfl (Nat.le_of_ble_eq_true rfl) ⟨Nat.le_of_ble_eq_true rfl, Nat.le_of_ble_eq_true rfl⟩ dL_law_181 ?_
        refine r_aload_n dL_law_184 2 rfl ?_
        refine r_aload_n dL_law_185 0 rfl ?_
        refine r_iload_n dL_law_186 3 rfl ?_
        refine r_iconst (v := nI 1) dL_law_187 (by decide) ?_
        refine r_iadd (v := nI (i + 1)) dL_law_188 (nI_add _ _) ?_
        refine r_sld hX (by omega) (by omega) dL_law_189 ?_
        refine r_lcallR (As := [.int (xs (i + 1))]) (rest := [.int v]) (ci := 1) k2 cwML_leader rfl rfl 0 e2 rfl rfl (Nat.le_of_ble_eq_true rfl) ⟨Nat.le_of_ble_eq_true rfl, Nat.le_of_ble_eq_true rfl⟩ dL_law_190 ?_
        refine r_icmp_eq (tgt := 326) dL_law_193 (by decide) (fun _ => ?_) (fun c => absurd rfl c)
        exact back w1' w2' hI' hb
      · refine r_tableIn (tgt := 198) (off := 156) dL_law_42 (by decide) (by decide) (by decide) (by decide) ?_
        obtain ⟨v, w1', w2', k1, k2, hI'⟩ := s_componentSize (xs (i + 1)) w1 w2 hI
        refine r_aload_n dL_law_198 1 rfl ?_
        refine r_aload_n dL_law_199 0 rfl ?_
        refine r_iload_n dL_law_200 3 rfl ?_
        refine r_iconst (v := nI 1) dL_law_201 (by decide) ?_
        refine r_iadd (v := nI (i + 1)) dL_law_202 (nI_add _ _) ?_
        refine r_sld hX (by omega) (by omega) dL_law_203 ?_
        refine r_lcallL (As := [.int (xs (i + 1))]) (rest := []) (ci := 0) k1 cwXL_componentSize rfl rfl 0 e1 rfl rfl (Nat.le_of_ble_eq_true rfl) ⟨Nat.le_of_ble_eq_true rfl, Nat.le_of_ble_eq_true rfl⟩ dL_law_204 ?_
        refine r_aload_n dL_law_207 2 rfl ?_
        refine r_aload_n dL_law_208 0 rfl ?_
        refine r_iload_n dL_law_209 3 rfl ?_
        refine r_iconst (v := nI 1) dL_law_210 (by decide) ?_
        refine r_iadd (v := nI (i + 1)) dL_law_211 (nI_add _ _) ?_
        refine r_sld hX (by omega) (by omega) dL_law_212 ?_
        refine r_lcallR (As := [.int (xs (i + 1))]) (rest := [.int v]) (ci := 1) k2 cwML_componentSize rfl rfl 0 e2 rfl rfl (Nat.le_of_ble_eq_true rfl) ⟨Nat.le_of_ble_eq_true rfl, Nat.le_of_ble_eq_true rfl⟩ dL_law_213 ?_
        refine r_icmp_eq (tgt := 326) dL_law_216 (by decide) (fun _ => ?_) (fun c => absurd rfl c)
        exact back w1' w2' hI' hb
      · refine r_tableIn (tgt := 221) (off := 179) dL_law_42 (by decide) (by decide) (by decide) (by decide) ?_
        obtain ⟨v, w1', w2', k1, k2, hI'⟩ := s_reaches (xs (i + 1)) (xs (i + 2)) w1 w2 hI
        refine r_aload_n dL_law_221 1 rfl ?_
        refine r_aload_n dL_law_222 0 rfl ?_
        refine r_iload_n dL_law_223 3 rfl ?_
        refine r_iconst (v := nI 1) dL_law_224 (by decide) ?_
        refine r_iadd (v := nI (i + 1)) dL_law_225 (nI_add _ _) ?_
        refine r_sld hX (by omega) (by omega) dL_law_226 ?_
        refine r_aload_n dL_law_227 0 rfl ?_
        refine r_iload_n dL_law_228 3 rfl ?_
        refine r_iconst (v := nI 2) dL_law_229 (by decide) ?_
        refine r_iadd (v := nI (i + 2)) dL_law_230 (nI_add _ _) ?_
        refine r_sld hX (by omega) (by omega) dL_law_231 ?_
        refine r_lcallL (As := [.int (xs (i + 1)), .int (xs (i + 2))]) (rest := []) (ci := 0) k1 cwXL_reaches rfl rfl 0 e1 rfl rfl (Nat.le_of_ble_eq_true rfl) ⟨Nat.le_of_ble_eq_true rfl, Nat.le_of_ble_eq_true rfl⟩ dL_law_232 ?_
        refine r_aload_n dL_law_235 2 rfl ?_
        refine r_aload_n dL_law_236 0 rfl ?_
        refine r_iload_n dL_law_237 3 rfl ?_
        refine r_iconst (v := nI 1) dL_law_238 (by decide) ?_
        refine r_iadd (v := nI (i + 1)) dL_law_239 (nI_add _ _) ?_
        refine r_sld hX (by omega) (by omega) dL_law_240 ?_
        refine r_aload_n dL_law_241 0 rfl ?_
        refine r_iload_n dL_law_242 3 rfl ?_
        refine r_iconst (v := nI 2) dL_law_243 (by decide) ?_
        refine r_iadd (v := nI (i + 2)) dL_law_244 (nI_add _ _) ?_
        refine r_sld hX (by omega) (by omega) dL_law_245 ?_
        refine r_lcallR (As := [.int (xs (i + 1)), .int (xs (i + 2))]) (rest := [.int v]) (ci := 1) k2 cwML_reaches rfl rfl 0 e2 rfl rfl (Nat.le_of_ble_eq_true rfl) ⟨Nat.le_of_ble_eq_true rfl, Nat.le_of_ble_eq_true rfl⟩ dL_law_246 ?_
        refine r_icmp_eq (tgt := 326) dL_law_249 (by decide) (fun _ => ?_) (fun c => absurd rfl c)
        exact back w1' w2' hI' hb
      · refine r_tableIn (tgt := 254) (off := 212) dL_law_42 (by decide) (by decide) (by decide) (by decide) ?_
        obtain ⟨v, w1', w2', k1, k2, hI'⟩ := s_height (xs (i + 1)) w1 w2 hI
        refine r_aload_n dL_law_254 1 rfl ?_
        refine r_aload_n dL_law_255 0 rfl ?_
        refine r_iload_n dL_law_256 3 rfl ?_
        refine r_iconst (v := nI 1) dL_law_257 (by decide) ?_
        refine r_iadd (v := nI (i + 1)) dL_law_258 (nI_add _ _) ?_
        refine r_sld hX (by omega) (by omega) dL_law_259 ?_
        refine r_lcallL (As := [.int (xs (i + 1))]) (rest := []) (ci := 0) k1 cwXL_height rfl rfl 0 e1 rfl rfl (Nat.le_of_ble_eq_true rfl) ⟨Nat.le_of_ble_eq_true rfl, Nat.le_of_ble_eq_true rfl⟩ dL_law_260 ?_
        refine r_aload_n dL_law_263 2 rfl ?_
        refine r_aload_n dL_law_264 0 rfl ?_
        refine r_iload_n dL_law_265 3 rfl ?_
        refine r_iconst (v := nI 1) dL_law_266 (by decide) ?_
        refine r_iadd (v := nI (i + 1)) dL_law_267 (nI_add _ _) ?_
        refine r_sld hX (by omega) (by omega) dL_law_268 ?_
        refine r_lcallR (As := [.int (xs (i + 1))]) (rest := [.int v]) (ci := 1) k2 cwML_height rfl rfl 0 e2 rfl rfl (Nat.le_of_ble_eq_true rfl) ⟨Nat.le_of_ble_eq_true rfl, Nat.le_of_ble_eq_true rfl⟩ dL_law_269 ?_
        refine r_icmp_eq (tgt := 326) dL_law_272 (by decide) (fun _ => ?_) (fun c => absurd rfl c)
        exact back w1' w2' hI' hb
      · refine r_tableIn (tgt := 277) (off := 235) dL_law_42 (by decide) (by decide) (by decide) (by decide) ?_
        obtain ⟨v, w1', w2', k1, k2, hI'⟩ := s_cycle (xs (i + 1)) w1 w2 hI
        refine r_aload_n dL_law_277 1 rfl ?_
        refine r_aload_n dL_law_278 0 rfl ?_
        refine r_iload_n dL_law_279 3 rfl ?_
        refine r_iconst (v := nI 1) dL_law_280 (by decide) ?_
        refine r_iadd (v := nI (i + 1)) dL_law_281 (nI_add _ _) ?_
        refine r_sld hX (by omega) (by omega) dL_law_282 ?_
        refine r_lcallL (As := [.int (xs (i + 1))]) (rest := []) (ci := 0) k1 cwXL_cycle rfl rfl 0 e1 rfl rfl (Nat.le_of_ble_eq_true rfl) ⟨Nat.le_of_ble_eq_true rfl, Nat.le_of_ble_eq_true rfl⟩ dL_law_283 ?_
        refine r_aload_n dL_law_286 2 rfl ?_
        refine r_aload_n dL_law_287 0 rfl ?_
        refine r_iload_n dL_law_288 3 rfl ?_
        refine r_iconst (v := nI 1) dL_law_289 (by decide) ?_
        refine r_iadd (v := nI (i + 1)) dL_law_290 (nI_add _ _) ?_
        refine r_sld hX (by omega) (by omega) dL_law_291 ?_
        refine r_lcallR (As := [.int (xs (i + 1))]) (rest := [.int v]) (ci := 1) k2 cwML_cycle rfl rfl 0 e2 rfl rfl (Nat.le_of_ble_eq_true rfl) ⟨Nat.le_of_ble_eq_true rfl, Nat.le_of_ble_eq_true rfl⟩ dL_law_292 ?_
        refine r_icmp_eq (tgt := 326) dL_law_295 (by decide) (fun _ => ?_) (fun c => absurd rfl c)
        exact back w1' w2' hI' hb
      · refine r_tableIn (tgt := 300) (off := 258) dL_law_42 (by decide) (by decide) (by decide) (by decide) ?_
        obtain ⟨v, w1', w2', k1, k2, hI'⟩ := s_outerEdges  w1 w2 hI
        refine r_aload_n dL_law_300 1 rfl ?_
        refine r_lcallL (As := []) (rest := []) (ci := 0) k1 cwXL_outerEdges rfl rfl 0 e1 rfl rfl (Nat.le_of_ble_eq_true rfl) ⟨Nat.le_of_ble_eq_true rfl, Nat.le_of_ble_eq_true rfl⟩ dL_law_301 ?_
        refine r_aload_n dL_law_304 2 rfl ?_
        refine r_lcallR (As := []) (rest := [.int v]) (ci := 1) k2 cwML_outerEdges rfl rfl 0 e2 rfl rfl (Nat.le_of_ble_eq_true rfl) ⟨Nat.le_of_ble_eq_true rfl, Nat.le_of_ble_eq_true rfl⟩ dL_law_305 ?_
        refine r_icmp_eq (tgt := 326) dL_law_308 (by decide) (fun _ => ?_) (fun c => absurd rfl c)
        exact back w1' w2' hI' hb
      · refine r_tableIn (tgt := 313) (off := 271) dL_law_42 (by decide) (by decide) (by decide) (by decide) ?_
        obtain ⟨v, w1', w2', k1, k2, hI'⟩ := s_inOneLine  w1 w2 hI
        refine r_aload_n dL_law_313 1 rfl ?_
        refine r_lcallL (As := []) (rest := []) (ci := 0) k1 cwXL_inOneLine rfl rfl 0 e1 rfl rfl (Nat.le_of_ble_eq_true rfl) ⟨Nat.le_of_ble_eq_true rfl, Nat.le_of_ble_eq_true rfl⟩ dL_law_314 ?_
        refine r_aload_n dL_law_317 2 rfl ?_
        refine r_lcallR (As := []) (rest := [.int v]) (ci := 1) k2 cwML_inOneLine rfl rfl 0 e2 rfl rfl (Nat.le_of_ble_eq_true rfl) ⟨Nat.le_of_ble_eq_true rfl, Nat.le_of_ble_eq_true rfl⟩ dL_law_318 ?_
        refine r_icmp_eq (tgt := 326) dL_law_321 (by decide) (fun _ => ?_) (fun c => absurd rfl c)
        exact back w1' w2' hI' hb
      · refine r_tableOut (tgt := 326) dL_law_42 (Or.inr (by rw [nI_toInt (by omega)]; omega)) (by decide) ?_
        exact back w1 w2 hI hb
end
section
/-! THE CLAIM OUT OF ONE WALK OF THE LAW'S BODY. Your part is whole_start (and what it stands on); all else here is the same for every law, but numbers. -/
def R_law : String := "IncrementalSccLaw"
def lw_P (b : Addr) (xs : List Int32) (args : Array Value) (s : State) : Prop := args = #[.ref b] ∧ s.IntsAt b xs ∧ xs.length ≤ 193 ∧ (Jvm.Cond.and given_1 narrow_1).before args s = true
def lw_Q (_ : Array Value) (s : State) (o : Outcome) (t : State) : Prop := o = .returned (some (.int 1)) ∧ Framed s o t [] 600000 7290000
def lw_Z (below : List Frame) (a : Array Value) (s : State) : State → Prop := fun t => ∃ o, t.status = .running ∧ Ended t below o ∧ lw_Q a s o t
/-- the law's own end, with 1 on the stack, nothing written that was there before, its room as the claim has it -/
theorem lw_ret {p : Program} {l : Launch} {e : Env} {s : State} {m : MethodId} {below : List Frame} {meth : Method} {c : Code} {b : Nat} (hx : p.tables.exec = Jvm.exec) (hb : c.code = code) (hr : meth.sig.returnType = ret) (hlocks : meth.locks = false) {pc : Nat} {H : Heap} {ls : Array Slot} (hdg : decode code pc = .ok (.ireturn, 1)) : W p l e room_1 s m #[Value.ref b] below meth c H [] 600000 7290000 (lw_Z below #[Value.ref b] s) (F0 m pc ls [.int 1]) := by
  intro T hT X
  obtain ⟨fs, hret, hrun, hended, hW, hframe⟩ := X.leave (v := some (.int 1)) (hlocks := hlocks) (fun h => by rw [hr] at h; cases h)
  have hmeth' : T.vm.method? m = some meth := X.method'
  refine ⟨T.setFrames fs, ?_, .returned (some (.int 1)), hrun, hended, rfl, ⟨_, rfl⟩, hW, hframe⟩
  jvm_step X.here [X.here.top, hx, hb, hdg, hmeth', hr, ret, narrow_b1]
  (try refine ⟨rfl, ?_⟩); (try refine ⟨rfl, ?_⟩)
  first | (intro acts; rw [hret _ acts rfl rfl rfl]) | rw [hret _ _ rfl rfl rfl]
  exact Steps.refl _
/-- what holds at the law's entry: the machine, the code, the tables' words (any of lw_tbl by 'hts w (by decide +kernel)'), the script of L ints xs at the cell b, what the Statement gives of the start (any of its parts by flat_of_before) -/
def lw_At (p : Program) (s : State) (m : MethodId) (meth : Method) (c : Code) (b L : Nat) (xs : Nat → Int32) : Prop :=
  p.tables.exec = Jvm.exec ∧ c.code = code ∧ meth.sig.returnType = ret ∧ c.maxLocals = 4 ∧ s.vm.findClass R_law = some m.cls ∧ (∀ w ∈ lw_tbl, w.before #[Value.ref b] s = true) ∧ va_X b L xs s s.heap ∧ b < s.heap.size ∧ meth.locks = false ∧ (Jvm.Cond.and given_1 narrow_1).before #[Value.ref b] s = true

set_option maxHeartbeats 4000000 in
set_option maxRecDepth 100000 in
/-- the walk of the law's body, over any relation of the two worlds that the constructors begin and the ten calls keep -/
theorem whole_gen (INV : GG → (Nat → Nat) → (Nat → Nat) → va_W → va_W → Prop) (hrX : ∀ G ax am w1 w2, INV G ax am w1 w2 → ∃ fs, w1[0]? = some (ax 0, .inr (0, fs))) (hrM : ∀ G ax am w1 w2, INV G ax am w1 w2 → ∃ fs, w2[0]? = some (am 0, .inr (1, fs)))
    (hinit : ∀ G ax am x, INV G ax am (XW G ax (cl x) (fun _ => 0) (fun _ => 0) (inN (cl x)) (inB (cl x)) (inN (cl x)) (inN (cl x)) (cl x) (fun _ => 0) 0 (fun _ => 0) (fun _ => 0)) (MW G am (cl x) (fun _ => false) (fun _ => false) (fun _ => 0)))
    (hsteps : ∀ G ax am, StAll G (INV G ax am) (ax 0) (am 0))
    {p : Program} {e : Env} {s : State} {m : MethodId} {below : List Frame} {meth : Method} {c : Code} (l : Launch) {b L : Nat} {xs : Nat → Int32} (hL : L ≤ 193) (C0 : lw_At p s m meth c b L xs) : W p l e room_1 s m #[Value.ref b] below meth c s.heap [] 0 0 (lw_Z below #[Value.ref b] s) (entryFrame m ([Value.ref b] : List Value).toArray 4) := by
  obtain ⟨hx, hb, hr, hml, hown, hts0, hX, hbl, hlocks, hgv⟩ := C0
  have hts : ∀ w ∈ lw_all, w.before #[Value.ref b] s = true := fun w h => hts0 w (lw_all_tbl h)
  obtain ⟨c0_, iS0, hKn0⟩ := u_known (C := RX1) (T := TX1) (N := 12) (n := 12) hts in_X1 (hts _ q28)
  obtain ⟨c1_, iS1, hKn1⟩ := u_known (C := RX2) (T := TX2) (N := 4) (n := 4) hts in_X2 (hts _ q190)
  obtain ⟨cI, kI, compI, fI, hkI, hkindI⟩ := Cond.arrayClass_spec (hts _ q72)
  obtain ⟨cB, kB, compB, fB, hkB, hkindB⟩ := Cond.arrayClass_spec (hts _ q73)
  obtain ⟨cZ, kZ, compZ, fZ, hkZ, hkindZ⟩ := Cond.arrayClass_spec (hts _ q208)
  have aI : ArrOfT s cI .int := fun n z => ⟨fun k h => (by cases h), kI, hkI, compI, hkindI⟩
  have aB : ArrOfT s cB .byte := fun n z => ⟨fun k h => (by cases h), kB, hkB, compB, hkindB⟩
  have aZ : ArrOfT s cZ .boolean := fun n z => ⟨fun k h => (by cases h), kZ, hkZ, compZ, hkindZ⟩
  obtain ⟨G, hG⟩ : ∃ G : GG, G = (l, (fun k => if k = 0 then c0_ else c1_, fun k => if k = 0 then iS0 else iS1), cI, cB, cZ) := ⟨_, rfl⟩
  have hgl : gL G = l := by rw [hG]
  have hK : va_K (gD G) vwCl (gT G) s := by
    rw [hG]
    refine ⟨fun k q hq => ?_, fun k q hq => ?_⟩
    · match k, hq with
      | 0, hq => cases hq; exact hKn0
      | 1, hq => cases hq; exact hKn1
      | k + 2, hq => simp [vwCl] at hq
    · match k, hq with
      | 0, hq => cases hq; exact ⟨aI, fI⟩
      | 1, hq => cases hq; exact ⟨aB, fB⟩
      | 2, hq => cases hq; exact ⟨aZ, fZ⟩
      | k + 3, hq => simp [gT] at hq
  obtain ⟨X, hXe⟩ : ∃ X : Cx, X = (p, e, s, m, #[Value.ref b], below, meth, c, (fun q => s.heap.size ≤ q), lw_Z below #[Value.ref b] s) := ⟨_, rfl⟩
  have F : Fc G cL_law RX0 4 X := by
    rw [hXe]
    exact ⟨hx, hb, hml, hown, hts, fun q h => h, hK⟩
  have hSc : Sc X b L xs := by
    rw [hXe]
    exact ⟨hX, hbl, by omega⟩
  have hret : ∀ w pc lv, decode cL_law pc = .ok (.ireturn, 1) → At G cL_law RX0 4 room_1 X 14 688 w pc lv [.int (nI 1)] := by
    intro w pc lv hdg
    rw [hXe]
    intro F H locs ls hP hD hS hl
    refine va_forget (fun q hq => hS.2.2 q hq) ?_
    refine W.widen (k := 600000) (n := 7290000) (by decide) (by decide) ?_
    exact lw_ret hx hb hr hlocks hdg
  have key : At G cL_law RX0 4 room_1 X 0 0 [] 0 [(0, .ref b)] [] := by
    refine r_newX q27 (Nat.le_of_ble_eq_true rfl) (Nat.le_of_ble_eq_true rfl) dL_law_0 (fun q1 => ?_)
    refine r_dup dL_law_3 rfl ?_
    refine r_aload_n dL_law_4 0 rfl ?_
    refine r_iconst (v := nI 0) dL_law_5 (by decide) ?_
    refine r_cell hSc (by omega) ⟨Nat.le_of_ble_eq_true rfl, Nat.le_of_ble_eq_true rfl⟩ ⟨Nat.le_of_ble_eq_true rfl, Nat.le_of_ble_eq_true rfl⟩ (Nat.le_of_ble_eq_true rfl) dL_law_6 ?_
    refine r_linit (n := 1) (As := [.int (cellv L xs)]) (rest := [.ref q1]) (metX_init G q1 (cellv L xs)) (lw_meth q31) q25 q29 q30 rfl ⟨rfl, rfl⟩ (by decide +kernel) ⟨Nat.le_of_ble_eq_true rfl, Nat.le_of_ble_eq_true rfl⟩ rfl rfl (Nat.le_of_ble_eq_true rfl) ⟨Nat.le_of_ble_eq_true rfl, Nat.le_of_ble_eq_true rfl⟩ dL_law_9 (fun ax hax => ?_)
    refine r_astore_n (lv' := [(0, .ref b), (1, .ref q1)]) dL_law_12 (by decide) [1, 0] rfl ?_
    refine r_newM q189 (Nat.le_of_ble_eq_true rfl) (Nat.le_of_ble_eq_true rfl) dL_law_13 (fun q2 => ?_)
    refine r_dup dL_law_16 rfl ?_
    refine r_aload_n dL_law_17 0 rfl ?_
    refine r_iconst (v := nI 0) dL_law_18 (by decide) ?_
    refine r_cell hSc (by omega) ⟨Nat.le_of_ble_eq_true rfl, Nat.le_of_ble_eq_true rfl⟩ ⟨Nat.le_of_ble_eq_true rfl, Nat.le_of_ble_eq_true rfl⟩ (Nat.le_of_ble_eq_true rfl) dL_law_19 ?_
    refine r_linit (n := 1) (As := [.int (cellv L xs)]) (rest := [.ref q2]) (metM_init G q2 (cellv L xs)) (lw_meth q193) q26 q191 q192 rfl ⟨rfl, rfl⟩ (by decide +kernel) ⟨Nat.le_of_ble_eq_true rfl, Nat.le_of_ble_eq_true rfl⟩ rfl rfl (Nat.le_of_ble_eq_true rfl) ⟨Nat.le_of_ble_eq_true rfl, Nat.le_of_ble_eq_true rfl⟩ dL_law_22 (fun am ham => ?_)
    refine r_astore_n (lv' := [(0, .ref b), (1, .ref q1), (2, .ref q2)]) dL_law_25 (by decide) [1, 2, 0] rfl ?_
    refine r_iconst (v := nI 1) dL_law_26 (by decide) ?_
    refine r_istore_n (lv' := [(0, .ref b), (1, .ref q1), (2, .ref q2), (3, .int (nI 1))]) dL_law_27 (by decide) [1, 2, 3, 0] rfl ?_
    subst hax; subst ham
    exact law_loop G X b L xs (ax 0) (am 0) (INV G ax am) hSc hL (hrX G ax am) (hrM G ax am) (hsteps G ax am) hret (L + 4) 1 _ _ (by omega) (by omega) (hinit G ax am (cellv L xs))
  rw [lg_entry_eq]
  have hl' := lv_entry ([Value.ref b] : List Value) (n := 4) (Nat.le_of_ble_eq_true rfl)
  have hW := key F
  rw [hXe] at hW
  have hfin := hW s.heap [] _ (fun k q hq => by simp at hq) ⟨fun i j p q hi => by simp at hi, fun k q hq => by simp at hq⟩ va_S.rf hl'
  rw [hgl] at hfin
  exact hfin
end
section
/-! plain facts to paste, each family by itself; over the kit's nI, lN and upd -/
/-! ===== drawers: more things than places ===== -/
theorem fb_holes : ∀ (m n : Nat) (f : Nat → Nat), (∀ i, i < n → f i < m) → (∀ i j, i < j → j < n → f i ≠ f j) → n ≤ m := by
  intro m
  induction m with
  | zero =>
    intro n f h1 _
    rcases Nat.eq_zero_or_pos n with h | h
    · omega
    · exact absurd (h1 0 h) (Nat.not_lt_zero _)
  | succ m ih =>
    intro n f h1 h2
    by_cases hx : ∃ i, i < n ∧ f i = m
    · obtain ⟨a, ha, hfa⟩ := hx
      have hg := ih (n - 1) (fun i => if i < a then f i else f (i + 1)) (by
        intro i hi
        by_cases q : i < a
        · simp only [if_pos q]
          have b1 := h1 i (by omega)
          have b2 := h2 i a q ha
          omega
        · simp only [if_neg q]
          have b1 := h1 (i + 1) (by omega)
          have b2 := h2 a (i + 1) (by omega) (by omega)
          omega) (by
        intro i j hij hj
        by_cases q : i < a
        · by_cases r : j < a
          · simp only [if_pos q, if_pos r]
            exact h2 i j hij (by omega)
          · simp only [if_pos q, if_neg r]
            exact h2 i (j + 1) (by omega) (by omega)
        · have r : ¬ j < a := by omega
          simp only [if_neg q, if_neg r]
          exact h2 (i + 1) (j + 1) (by omega) (by omega))
      omega
    · have hg := ih n f (fun i hi => by
        have b1 := h1 i hi
        have b2 : f i ≠ m := fun e => hx ⟨i, hi, e⟩
        omega) h2
      omega
/-- two of them in one place -/
theorem fb_twice {m n : Nat} {f : Nat → Nat} (h : ∀ i, i < n → f i < m) (hm : m < n) : ∃ i j, i < j ∧ j < n ∧ f i = f j := by
  refine Classical.byContradiction fun hx => ?_
  have := fb_holes m n f h (fun i j hij hj e => hx ⟨i, j, hij, hj, e⟩)
  omega
/-- as many as places, none twice: each place is taken -/
theorem fb_onto {n : Nat} {f : Nat → Nat} (h : ∀ i, i < n → f i < n) (h2 : ∀ i j, i < j → j < n → f i ≠ f j) {y : Nat} (hy : y < n) : ∃ i, i < n ∧ f i = y := by
  refine Classical.byContradiction fun hx => ?_
  have hne : ∀ i, i < n → f i ≠ y := fun i hi e => hx ⟨i, hi, e⟩
  have := fb_holes (n - 1) n (fun i => if f i < y then f i else f i - 1) (by
    intro i hi
    have b1 := h i hi
    have b2 := hne i hi
    by_cases q : f i < y
    · simp only [if_pos q]; omega
    · simp only [if_neg q]; omega) (by
    intro i j hij hj
    have b1 := hne i (by omega)
    have b2 := hne j hj
    have b3 := h2 i j hij hj
    by_cases q : f i < y
    · by_cases r : f j < y
      · simp only [if_pos q, if_pos r]; exact b3
      · simp only [if_pos q, if_neg r]; omega
    · by_cases r : f j < y
      · simp only [if_neg q, if_pos r]; omega
      · simp only [if_neg q, if_neg r]; omega)
  omega
/-! ===== how many places have a property ===== -/
def fb_ct (p : Nat → Bool) : Nat → Nat
  | 0 => 0
  | n + 1 => fb_ct p n + (if p n then 1 else 0)
theorem fb_ct_succ (p : Nat → Bool) (n : Nat) : fb_ct p (n + 1) = fb_ct p n + (if p n then 1 else 0) := rfl
theorem fb_ct_le (p : Nat → Bool) : ∀ n, fb_ct p n ≤ n
  | 0 => Nat.le_refl _
  | n + 1 => by
    have h := fb_ct_le p n
    rw [fb_ct_succ]
    split <;> omega
theorem fb_ct_step (p : Nat → Bool) (m : Nat) : ∀ n, fb_ct p m ≤ fb_ct p (m + n)
  | 0 => Nat.le_refl _
  | n + 1 => by
    have h := fb_ct_step p m n
    show fb_ct p m ≤ fb_ct p (m + n + 1)
    rw [fb_ct_succ]
    omega
theorem fb_ct_mono (p : Nat → Bool) {m n : Nat} (h : m ≤ n) : fb_ct p m ≤ fb_ct p n := by
  have := fb_ct_step p m (n - m)
  rwa [Nat.add_sub_cancel' h] at this
theorem fb_ct_cong {p q : Nat → Bool} : ∀ {n : Nat}, (∀ k, k < n → p k = q k) → fb_ct p n = fb_ct q n
  | 0, _ => rfl
  | n + 1, h => by
    rw [fb_ct_succ, fb_ct_succ, fb_ct_cong (fun k hk => h k (by omega)), h n (by omega)]
/-- one place changed -/
theorem fb_ct_out (p : Nat → Bool) (b : Bool) {i n : Nat} (h : n ≤ i) : fb_ct (fun k => if k = i then b else p k) n = fb_ct p n :=
  fb_ct_cong fun k hk => if_neg (by omega)
theorem fb_ct_upd (p : Nat → Bool) (b : Bool) {i : Nat} : ∀ {n : Nat}, i < n → fb_ct (fun k => if k = i then b else p k) n + (if p i then 1 else 0) = fb_ct p n + (if b then 1 else 0)
  | 0, h => absurd h (Nat.not_lt_zero i)
  | n + 1, h => by
    rw [fb_ct_succ, fb_ct_succ]
    rcases Nat.lt_or_ge i n with q | q
    · have := fb_ct_upd p b q
      have e : (if n = i then b else p n) = p n := if_neg (by omega)
      rw [e]
      omega
    · have e : i = n := by omega
      subst e
      rw [fb_ct_out p b (Nat.le_refl _)]
      simp only [if_true]
      omega
theorem fb_ct_sub {p q : Nat → Bool} : ∀ {n : Nat}, (∀ k, k < n → p k = true → q k = true) → fb_ct p n ≤ fb_ct q n
  | 0, _ => Nat.le_refl _
  | n + 1, h => by
    have h1 := fb_ct_sub (n := n) (p := p) (q := q) (fun k hk => h k (by omega))
    have h2 := h n (by omega)
    rw [fb_ct_succ, fb_ct_succ]
    cases hp : p n <;> cases hq : q n <;> simp_all <;> omega
theorem fb_ct_or {p q : Nat → Bool} : ∀ {n : Nat}, (∀ k, k < n → ¬ (p k = true ∧ q k = true)) → fb_ct (fun k => p k || q k) n = fb_ct p n + fb_ct q n
  | 0, _ => rfl
  | n + 1, h => by
    have h1 := fb_ct_or (n := n) (p := p) (q := q) (fun k hk => h k (by omega))
    have h2 := h n (by omega)
    rw [fb_ct_succ, fb_ct_succ, fb_ct_succ, h1]
    cases hp : p n <;> cases hq : q n <;> simp_all <;> omega
theorem fb_ct_not (p : Nat → Bool) : ∀ n, fb_ct p n + fb_ct (fun k => !p k) n = n
  | 0 => rfl
  | n + 1 => by
    have h := fb_ct_not p n
    rw [fb_ct_succ, fb_ct_succ]
    cases p n <;> simp <;> omega
theorem fb_ct_split (p : Nat → Bool) (m : Nat) : ∀ n, fb_ct p (m + n) = fb_ct p m + fb_ct (fun k => p (m + k)) n
  | 0 => rfl
  | n + 1 => by
    have h := fb_ct_split p m n
    show fb_ct p (m + n + 1) = _
    rw [fb_ct_succ, fb_ct_succ, h, Nat.add_assoc]
theorem fb_ct_zero {p : Nat → Bool} : ∀ {n : Nat}, fb_ct p n = 0 ↔ ∀ k, k < n → p k = false
  | 0 => ⟨fun _ k hk => absurd hk (Nat.not_lt_zero k), fun _ => rfl⟩
  | n + 1 => by
    have h := fb_ct_zero (p := p) (n := n)
    rw [fb_ct_succ]
    constructor
    · intro e k hk
      have e1 : fb_ct p n = 0 := by omega
      rcases Nat.lt_or_ge k n with q | q
      · exact h.mp e1 k q
      · have ek : k = n := by omega
        subst ek
        cases hp : p k
        · rfl
        · simp [hp] at e
    · intro a
      rw [h.mpr (fun k hk => a k (by omega)), a n (by omega)]
      rfl
theorem fb_ct_pos {p : Nat → Bool} {n : Nat} : 0 < fb_ct p n ↔ ∃ k, k < n ∧ p k = true := by
  constructor
  · intro h
    refine Classical.byContradiction fun hx => ?_
    have := fb_ct_zero.mpr (fun k hk => by
      cases hp : p k
      · rfl
      · exact absurd ⟨k, hk, hp⟩ hx : ∀ k, k < n → p k = false)
    omega
  · rintro ⟨k, hk, hp⟩
    rcases Nat.eq_zero_or_pos (fb_ct p n) with e | e
    · have := fb_ct_zero.mp e k hk
      rw [this] at hp
      cases hp
    · exact e
theorem fb_ct_all {p : Nat → Bool} {n : Nat} : fb_ct p n = n ↔ ∀ k, k < n → p k = true := by
  have h := fb_ct_not p n
  constructor
  · intro e k hk
    have z : fb_ct (fun k => !p k) n = 0 := by omega
    have := fb_ct_zero.mp z k hk
    cases hp : p k
    · simp [hp] at this
    · rfl
  · intro a
    have z : fb_ct (fun k => !p k) n = 0 := fb_ct_zero.mpr (fun k hk => by simp [a k hk])
    omega
/-- the k-th place with the property -/
theorem fb_ct_kth {p : Nat → Bool} {k : Nat} : ∀ {n : Nat}, k < fb_ct p n → ∃ i, i < n ∧ p i = true ∧ fb_ct p i = k
  | 0, h => absurd h (Nat.not_lt_zero k)
  | n + 1, h => by
    rcases Nat.lt_or_ge k (fb_ct p n) with q | q
    · obtain ⟨i, h1, h2⟩ := fb_ct_kth q
      exact ⟨i, by omega, h2⟩
    · rw [fb_ct_succ] at h
      cases hp : p n
      · simp [hp] at h; omega
      · simp [hp] at h
        exact ⟨n, by omega, hp, by omega⟩
theorem fb_ct_kth_one {p : Nat → Bool} {i j : Nat} (hi : p i = true) (hj : p j = true) (e : fb_ct p i = fb_ct p j) : i = j := by
  have key : ∀ a b : Nat, a < b → p a = true → fb_ct p a < fb_ct p b := by
    intro a b hab ha
    have h := fb_ct_mono p (show a + 1 ≤ b from hab)
    rw [fb_ct_succ, ha] at h
    simp at h
    omega
  rcases Nat.lt_trichotomy i j with q | q | q
  · have := key i j q hi; omega
  · exact q
  · have := key j i q hj; omega
/-! ===== sums over a range: one place changed, parts, bounds ===== -/
def fb_sm (f : Nat → Nat) : Nat → Nat
  | 0 => 0
  | n + 1 => fb_sm f n + f n
theorem fb_sm_succ (f : Nat → Nat) (n : Nat) : fb_sm f (n + 1) = fb_sm f n + f n := rfl
theorem fb_sm_cong {f g : Nat → Nat} : ∀ {n : Nat}, (∀ k, k < n → f k = g k) → fb_sm f n = fb_sm g n
  | 0, _ => rfl
  | n + 1, h => by rw [fb_sm_succ, fb_sm_succ, fb_sm_cong (fun k hk => h k (by omega)), h n (by omega)]
theorem fb_sm_out (f : Nat → Nat) (v : Nat) {i n : Nat} (h : n ≤ i) : fb_sm (fun k => if k = i then v else f k) n = fb_sm f n :=
  fb_sm_cong fun k hk => if_neg (by omega)
theorem fb_sm_upd (f : Nat → Nat) (v : Nat) {i : Nat} : ∀ {n : Nat}, i < n → fb_sm (fun k => if k = i then v else f k) n + f i = fb_sm f n + v
  | 0, h => absurd h (Nat.not_lt_zero i)
  | n + 1, h => by
    rw [fb_sm_succ, fb_sm_succ]
    rcases Nat.lt_or_ge i n with q | q
    · have := fb_sm_upd f v q
      have e : (if n = i then v else f n) = f n := if_neg (by omega)
      rw [e]
      omega
    · have e : i = n := by omega
      subst e
      rw [fb_sm_out f v (Nat.le_refl _)]
      simp only [if_true]
      omega
theorem fb_sm_add (f g : Nat → Nat) : ∀ n, fb_sm (fun k => f k + g k) n = fb_sm f n + fb_sm g n
  | 0 => rfl
  | n + 1 => by
    have h := fb_sm_add f g n
    rw [fb_sm_succ, fb_sm_succ, fb_sm_succ, h]
    omega
theorem fb_sm_le {f g : Nat → Nat} : ∀ {n : Nat}, (∀ k, k < n → f k ≤ g k) → fb_sm f n ≤ fb_sm g n
  | 0, _ => Nat.le_refl _
  | n + 1, h => by
    have h1 := fb_sm_le (n := n) (f := f) (g := g) (fun k hk => h k (by omega))
    have h2 := h n (by omega)
    rw [fb_sm_succ, fb_sm_succ]
    omega
theorem fb_sm_const (c : Nat) : ∀ n, fb_sm (fun _ => c) n = n * c
  | 0 => by rw [Nat.zero_mul]; rfl
  | n + 1 => by rw [fb_sm_succ, fb_sm_const c n, Nat.succ_mul]
theorem fb_sm_bound {f : Nat → Nat} {c n : Nat} (h : ∀ k, k < n → f k ≤ c) : fb_sm f n ≤ n * c := by
  rw [← fb_sm_const c n]
  exact fb_sm_le h
theorem fb_sm_mono (f : Nat → Nat) (m : Nat) : ∀ n, fb_sm f m ≤ fb_sm f (m + n)
  | 0 => Nat.le_refl _
  | n + 1 => by
    have h := fb_sm_mono f m n
    show fb_sm f m ≤ fb_sm f (m + n + 1)
    rw [fb_sm_succ]
    omega
theorem fb_sm_part (f : Nat → Nat) {i n : Nat} (h : i < n) : fb_sm f i + f i ≤ fb_sm f n := by
  have := fb_sm_mono f (i + 1) (n - (i + 1))
  rw [fb_sm_succ, show i + 1 + (n - (i + 1)) = n by omega] at this
  exact this
theorem fb_sm_split (f : Nat → Nat) (m : Nat) : ∀ n, fb_sm f (m + n) = fb_sm f m + fb_sm (fun k => f (m + k)) n
  | 0 => rfl
  | n + 1 => by
    have h := fb_sm_split f m n
    show fb_sm f (m + n + 1) = _
    rw [fb_sm_succ, fb_sm_succ, h, Nat.add_assoc]
theorem fb_sm_zero {f : Nat → Nat} {n : Nat} (h : fb_sm f n = 0) : ∀ k, k < n → f k = 0 := fun k hk => by
  have := fb_sm_part f hk
  omega
end
section
/-! walks, reach, together; distances -/
def Wk (E : Nat → Nat → Prop) : Nat → Nat → Nat → Prop
  | 0, u, v => u = v
  | k + 1, u, v => ∃ w, Wk E k u w ∧ E w v
def Rc (E : Nat → Nat → Prop) (u v : Nat) : Prop := ∃ k, Wk E k u v
def Tg (E : Nat → Nat → Prop) (u v : Nat) : Prop := Rc E u v ∧ Rc E v u
theorem Wk.trans {E : Nat → Nat → Prop} {u v : Nat} {j : Nat} (h : Wk E j u v) : ∀ {k w : Nat}, Wk E k v w → Wk E (j + k) u w
  | 0, w, h2 => by
    have : v = w := h2
    subst this; exact h
  | k + 1, w, h2 => by
    obtain ⟨x, h3, h4⟩ := h2
    exact ⟨x, Wk.trans h h3, h4⟩
theorem Rc.refl {E : Nat → Nat → Prop} (u : Nat) : Rc E u u := ⟨0, rfl⟩
theorem Rc.trans {E : Nat → Nat → Prop} {u v w : Nat} (h : Rc E u v) (h2 : Rc E v w) : Rc E u w := by
  obtain ⟨j, h⟩ := h
  obtain ⟨k, h2⟩ := h2
  exact ⟨j + k, h.trans h2⟩
theorem Rc.one {E : Nat → Nat → Prop} {u v : Nat} (h : E u v) : Rc E u v := ⟨1, u, rfl, h⟩
theorem Rc.step {E : Nat → Nat → Prop} {u v w : Nat} (h : Rc E u v) (h2 : E v w) : Rc E u w := h.trans (Rc.one h2)
theorem Rc.ind {E : Nat → Nat → Prop} {u : Nat} {P : Nat → Prop} (h0 : P u) (hs : ∀ a b, Rc E u a → P a → E a b → P b) {v : Nat} (h : Rc E u v) : P v := by
  obtain ⟨k, h⟩ := h
  have key : ∀ k v, Wk E k u v → P v := by
    intro k
    induction k with
    | zero => intro v h; have : u = v := h; subst this; exact h0
    | succ k ih =>
      intro v h
      obtain ⟨w, h1, h2⟩ := h
      exact hs w v ⟨k, h1⟩ (ih w h1) h2
  exact key k v h
/-- from the front -/
theorem Wk.front {E : Nat → Nat → Prop} : ∀ {k u v : Nat}, Wk E (k + 1) u v → ∃ w, E u w ∧ Wk E k w v
  | 0, u, v, h => by
    obtain ⟨w, h1, h2⟩ := h
    have : u = w := h1
    subst this
    exact ⟨v, h2, rfl⟩
  | k + 1, u, v, h => by
    obtain ⟨w, h1, h2⟩ := h
    obtain ⟨x, h3, h4⟩ := Wk.front h1
    exact ⟨x, h3, w, h4, h2⟩
theorem Wk.cons {E : Nat → Nat → Prop} {k u w v : Nat} (h : E u w) (h2 : Wk E k w v) : Wk E (k + 1) u v := by
  have := Wk.trans (show Wk E 1 u w from ⟨u, rfl, h⟩) h2
  rw [Nat.add_comm]; exact this
theorem Rc.indr {E : Nat → Nat → Prop} {v : Nat} {P : Nat → Prop} (h0 : P v) (hs : ∀ a b, E a b → Rc E b v → P b → P a) {u : Nat} (h : Rc E u v) : P u := by
  obtain ⟨k, h⟩ := h
  have key : ∀ k u, Wk E k u v → P u := by
    intro k
    induction k with
    | zero => intro u h; have : u = v := h; subst this; exact h0
    | succ k ih =>
      intro u h
      obtain ⟨w, h1, h2⟩ := Wk.front h
      exact hs u w h1 ⟨k, h2⟩ (ih w h2)
  exact key k u h
theorem Wk.mono {E E' : Nat → Nat → Prop} (h : ∀ a b, E a b → E' a b) : ∀ {k u v : Nat}, Wk E k u v → Wk E' k u v
  | 0, _, _, w => w
  | _ + 1, _, _, ⟨x, w, e⟩ => ⟨x, Wk.mono h w, h _ _ e⟩
theorem Rc.mono {E E' : Nat → Nat → Prop} (h : ∀ a b, E a b → E' a b) {u v : Nat} (w : Rc E u v) : Rc E' u v := by
  obtain ⟨k, w⟩ := w
  exact ⟨k, w.mono h⟩
theorem Rc.congr {E E' : Nat → Nat → Prop} (h : ∀ a b, E a b ↔ E' a b) (u v : Nat) : Rc E u v ↔ Rc E' u v := ⟨Rc.mono (fun a b => (h a b).mp), Rc.mono (fun a b => (h a b).mpr)⟩
theorem Tg.refl {E : Nat → Nat → Prop} (u : Nat) : Tg E u u := ⟨Rc.refl u, Rc.refl u⟩
theorem Tg.symm {E : Nat → Nat → Prop} {u v : Nat} (h : Tg E u v) : Tg E v u := ⟨h.2, h.1⟩
theorem Tg.trans {E : Nat → Nat → Prop} {u v w : Nat} (h : Tg E u v) (h2 : Tg E v w) : Tg E u w := ⟨h.1.trans h2.1, h2.2.trans h.2⟩
theorem Tg.congr {E E' : Nat → Nat → Prop} (h : ∀ a b, E a b ↔ E' a b) (u v : Nat) : Tg E u v ↔ Tg E' u v := by
  unfold Tg
  rw [Rc.congr h, Rc.congr h]
/-- the other way round -/
theorem Rc.rev {E E' : Nat → Nat → Prop} (h : ∀ a b, E a b → E' b a) {u v : Nat} (w : Rc E u v) : Rc E' v u :=
  Rc.ind (P := fun x => Rc E' x u) (Rc.refl u) (fun a b _ ih e => (Rc.one (h a b e)).trans ih) w
/-- a walk that ends in a set, where the set takes in all that leads into it, stays in it: here for 'together' -/
theorem Rc.stay {E : Nat → Nat → Prop} {u v : Nat} (h : Rc E u v) (h2 : Rc E v u) : Rc (fun a b => E a b ∧ Tg E u a ∧ Tg E u b) u v := by
  have key : ∀ k v, Wk E k u v → Rc E v u → Rc (fun a b => E a b ∧ Tg E u a ∧ Tg E u b) u v := by
    intro k
    induction k with
    | zero => intro v h _; have : u = v := h; subst this; exact Rc.refl _
    | succ k ih =>
      intro v h hb
      obtain ⟨w, h1, e⟩ := h
      have hw : Rc E w u := (Rc.one e).trans hb
      exact (ih w h1 hw).step ⟨e, ⟨⟨k, h1⟩, hw⟩, ⟨(Rc.one e |> Rc.trans ⟨k, h1⟩), hb⟩⟩
  obtain ⟨k, h⟩ := h
  exact key k v h h2
/-! distance -/
def Ds (E : Nat → Nat → Prop) (k u v : Nat) : Prop := Wk E k u v ∧ ∀ j, j < k → ¬ Wk E j u v
theorem Ds.of {E : Nat → Nat → Prop} {u v : Nat} (h : Rc E u v) : ∃ k, Ds E k u v := pk_least (fun k => Wk E k u v) h
theorem Ds.pred {E : Nat → Nat → Prop} {k u v : Nat} (h : Ds E (k + 1) u v) : ∃ w, Ds E k u w ∧ E w v := by
  obtain ⟨⟨w, h1, h2⟩, h3⟩ := h
  exact ⟨w, ⟨h1, fun j hj h4 => h3 (j + 1) (by omega) ⟨w, h4, h2⟩⟩, h2⟩
theorem Ds.part {E : Nat → Nat → Prop} {u : Nat} : ∀ {d v : Nat}, Ds E d u v → ∀ i, i ≤ d → ∃ x, Ds E i u x
  | 0, v, h, i, hi => by
    have : i = 0 := by omega
    subst this; exact ⟨v, h⟩
  | d + 1, v, h, i, hi => by
    rcases Nat.lt_or_ge i (d + 1) with q | q
    · obtain ⟨w, hw, _⟩ := h.pred
      exact Ds.part hw i (by omega)
    · have : i = d + 1 := by omega
      subst this; exact ⟨v, h⟩
theorem Ds.one {E : Nat → Nat → Prop} {u v i j : Nat} (h : Ds E i u v) (h2 : Ds E j u v) : i = j := by
  rcases Nat.lt_trichotomy i j with q | q | q
  · exact absurd h.1 (h2.2 i q)
  · exact q
  · exact absurd h2.1 (h.2 j q)
theorem Wk.lt {E : Nat → Nat → Prop} {N u : Nat} (hu : u < N) (hE : ∀ a b, E a b → b < N) : ∀ {k v : Nat}, Wk E k u v → v < N
  | 0, v, h => by have : u = v := h; subst this; exact hu
  | k + 1, v, h => by obtain ⟨w, _, e⟩ := h; exact hE _ _ e
theorem Ds.short {E : Nat → Nat → Prop} {N d u v : Nat} (hu : u < N) (hE : ∀ a b, E a b → b < N) (h : Ds E d u v) : d < N := by
  have hx : ∀ i, ∃ x, i ≤ d → Ds E i u x := fun i => by
    by_cases q : i ≤ d
    · obtain ⟨x, hx⟩ := h.part i q
      exact ⟨x, fun _ => hx⟩
    · exact ⟨0, fun q2 => absurd q2 q⟩
  have := fb_holes N (d + 1) (fun i => Classical.choose (hx i)) (fun i hi => Wk.lt hu hE (Classical.choose_spec (hx i) (by omega)).1) (fun i j hij hj e => by
    have h1 := Classical.choose_spec (hx i) (by omega)
    have h2 := Classical.choose_spec (hx j) (by omega)
    have e' : Classical.choose (hx i) = Classical.choose (hx j) := e
    rw [e'] at h1
    have := h1.one h2
    omega)
  omega
/-! a walk of at least one step -/
def D1 (E : Nat → Nat → Prop) (k u v : Nat) : Prop := 1 ≤ k ∧ Wk E k u v ∧ ∀ j, 1 ≤ j → j < k → ¬ Wk E j u v
theorem D1.pred {E : Nat → Nat → Prop} {k u v : Nat} (hk : 1 ≤ k) (h : D1 E (k + 1) u v) : ∃ w, D1 E k u w ∧ E w v := by
  obtain ⟨_, ⟨w, h1, h2⟩, h3⟩ := h
  exact ⟨w, ⟨hk, h1, fun j hj hj2 h4 => h3 (j + 1) (by omega) (by omega) ⟨w, h4, h2⟩⟩, h2⟩
theorem D1.part {E : Nat → Nat → Prop} {u : Nat} : ∀ {d v : Nat}, D1 E d u v → ∀ i, 1 ≤ i → i ≤ d → ∃ x, D1 E i u x
  | 0, v, h, i, h1, hi => by omega
  | d + 1, v, h, i, h1, hi => by
    rcases Nat.lt_or_ge i (d + 1) with q | q
    · obtain ⟨w, hw, _⟩ := h.pred (by omega)
      exact D1.part hw i h1 (by omega)
    · have : i = d + 1 := by omega
      subst this; exact ⟨v, h⟩
theorem D1.one {E : Nat → Nat → Prop} {u v i j : Nat} (h : D1 E i u v) (h2 : D1 E j u v) : i = j := by
  rcases Nat.lt_trichotomy i j with q | q | q
  · exact absurd h.2.1 (h2.2.2 i h.1 q)
  · exact q
  · exact absurd h2.2.1 (h.2.2 j h2.1 q)
theorem D1.short {E : Nat → Nat → Prop} {N d u v : Nat} (hu : u < N) (hE : ∀ a b, E a b → b < N) (h : D1 E d u v) : d ≤ N := by
  have hx : ∀ i, ∃ x, i < d → D1 E (i + 1) u x := fun i => by
    by_cases q : i < d
    · obtain ⟨x, hx⟩ := h.part (i + 1) (by omega) (by omega)
      exact ⟨x, fun _ => hx⟩
    · exact ⟨0, fun q2 => absurd q2 q⟩
  exact fb_holes N d (fun i => Classical.choose (hx i)) (fun i hi => Wk.lt hu hE (Classical.choose_spec (hx i) hi).2.1) (fun i j hij hj e => by
    have h1 := Classical.choose_spec (hx i) (by omega)
    have h2 := Classical.choose_spec (hx j) hj
    have e' : Classical.choose (hx i) = Classical.choose (hx j) := e
    rw [e'] at h1
    have := h1.one h2
    omega)
theorem D1.of {E : Nat → Nat → Prop} {u v d : Nat} (h1 : 1 ≤ d) (h : Wk E d u v) : ∃ k, D1 E k u v := by
  obtain ⟨k, ⟨hk1, hk2⟩, hk3⟩ := pk_least (fun k => 1 ≤ k ∧ Wk E k u v) ⟨d, h1, h⟩
  exact ⟨k, hk1, hk2, fun j hj hj2 q => hk3 j hj2 ⟨hj, q⟩⟩
/-! one edge more, one edge less -/
theorem Rc.add_cut {E E' : Nat → Nat → Prop} {u v : Nat} (h : ∀ a b, E' a b → E a b ∨ (a = u ∧ b = v)) {x : Nat} (w : Rc E' v x) : Rc E v x :=
  Rc.ind (P := fun x => Rc E v x) (Rc.refl v) (fun a b _ ih e => by
    rcases h a b e with e | ⟨_, e⟩
    · exact ih.step e
    · rw [e]; exact Rc.refl v) w
theorem Rc.add_cutr {E E' : Nat → Nat → Prop} {u v : Nat} (h : ∀ a b, E' a b → E a b ∨ (a = u ∧ b = v)) {x : Nat} (w : Rc E' x u) : Rc E x u :=
  Rc.indr (P := fun x => Rc E x u) (Rc.refl u) (fun a b e _ ih => by
    rcases h a b e with e | ⟨e, _⟩
    · exact (Rc.one e).trans ih
    · rw [e]; exact Rc.refl u) w
/-- through the new edge, or without it -/
theorem Rc.add_split {E E' : Nat → Nat → Prop} {u v : Nat} (h : ∀ a b, E' a b → E a b ∨ (a = u ∧ b = v)) {x y : Nat} (w : Rc E' x y) : Rc E x y ∨ (Rc E x u ∧ Rc E v y) :=
  Rc.ind (P := fun y => Rc E x y ∨ (Rc E x u ∧ Rc E v y)) (Or.inl (Rc.refl x)) (fun a b _ ih e => by
    rcases h a b e with e | ⟨e1, e2⟩
    · rcases ih with q | ⟨q1, q2⟩
      · exact Or.inl (q.step e)
      · exact Or.inr ⟨q1, q2.step e⟩
    · subst e1; subst e2
      rcases ih with q | ⟨q1, q2⟩
      · exact Or.inr ⟨q, Rc.refl _⟩
      · exact Or.inr ⟨q1, Rc.refl _⟩) w
end
section
/-! the bits of the mirrors -/
theorem bt_tgOf (tg : Nat → Int32) (x : Int32) (i : Nat) : ∀ k, bt (tgOf tg x k) i = true ↔ ∃ u, u < k ∧ bt x u = true ∧ bt (tg u) i = true
  | 0 => by
    constructor
    · intro h
      have e : bt (tgOf tg x 0) i = false := b_0 i
      rw [e] at h; cases h
    · rintro ⟨u, h, _⟩; omega
  | k + 1 => by
    have ih := bt_tgOf tg x i k
    rw [tgOf]
    by_cases h : bt x k = true
    · rw [if_pos h, b_or, Bool.or_eq_true, ih]
      constructor
      · rintro (⟨u, h1, h2⟩ | h1)
        · exact ⟨u, by omega, h2⟩
        · exact ⟨k, by omega, h, h1⟩
      · rintro ⟨u, h1, h2, h3⟩
        rcases Nat.lt_or_ge u k with q | q
        · exact Or.inl ⟨u, q, h2, h3⟩
        · have : u = k := by omega
          subst this; exact Or.inr h3
    · rw [if_neg h, ih]
      constructor
      · rintro ⟨u, h1, h2⟩; exact ⟨u, by omega, h2⟩
      · rintro ⟨u, h1, h2, h3⟩
        rcases Nat.lt_or_ge u k with q | q
        · exact ⟨u, q, h2, h3⟩
        · have : u = k := by omega
          subst this; exact absurd h2 h
theorem bt_ldsOf (ld : Nat → Nat) (x : Int32) (i : Nat) : ∀ k, (∀ u, u < k → ld u < 32) → (bt (ldsOf ld x k) i = true ↔ ∃ u, u < k ∧ bt x u = true ∧ i = ld u)
  | 0, _ => by
    constructor
    · intro h
      have e : bt (ldsOf ld x 0) i = false := b_0 i
      rw [e] at h; cases h
    · rintro ⟨u, h, _⟩; omega
  | k + 1, hl => by
    have ih := bt_ldsOf ld x i k (fun u hu => hl u (by omega))
    rw [ldsOf]
    by_cases h : bt x k = true
    · rw [if_pos h, b_or, Bool.or_eq_true, ih, bt_sg (hl k (by omega)), decide_eq_true_eq]
      constructor
      · rintro (⟨u, h1, h2⟩ | h1)
        · exact ⟨u, by omega, h2⟩
        · exact ⟨k, by omega, h, h1⟩
      · rintro ⟨u, h1, h2, h3⟩
        rcases Nat.lt_or_ge u k with q | q
        · exact Or.inl ⟨u, q, h2, h3⟩
        · have : u = k := by omega
          subst this; exact Or.inr h3
    · rw [if_neg h, ih]
      constructor
      · rintro ⟨u, h1, h2⟩; exact ⟨u, by omega, h2⟩
      · rintro ⟨u, h1, h2, h3⟩
        rcases Nat.lt_or_ge u k with q | q
        · exact ⟨u, q, h2, h3⟩
        · have : u = k := by omega
          subst this; exact absurd h2 h
theorem bc_ct (x : Int32) : ∀ k, bc x k = fb_ct (bt x) k
  | 0 => rfl
  | k + 1 => by
    rw [bc, fb_ct_succ, bc_ct x k]
    cases bt x k <;> rfl
theorem lwG_spec (x : Int32) : ∀ f u, (∀ j, j < u → bt x j = false) → (∃ i, i ≤ u + f ∧ bt x i = true) → bt x (lwG x f u) = true ∧ ∀ j, j < lwG x f u → bt x j = false
  | 0, u, h, ⟨i, hi, hb⟩ => by
    rw [lwG]
    rcases Nat.lt_or_ge i u with q | q
    · rw [h i q] at hb; cases hb
    · have : i = u := by omega
      subst this; exact ⟨hb, h⟩
  | f + 1, u, h, ⟨i, hi, hb⟩ => by
    rw [lwG]
    by_cases q : bt x u = true
    · rw [if_pos q]; exact ⟨q, h⟩
    · rw [if_neg q]
      refine lwG_spec x f (u + 1) (fun j hj => ?_) ⟨i, by omega, hb⟩
      rcases Nat.lt_or_ge j u with r | r
      · exact h j r
      · have : j = u := by omega
        subst this
        cases e : bt x j
        · rfl
        · exact absurd e q
theorem low_spec {x : Int32} {i : Nat} (hi : i < 16) (hb : bt x i = true) : bt x (low x) = true ∧ ∀ j, j < low x → bt x j = false :=
  lwG_spec x 15 0 (fun j hj => by omega) ⟨i, by omega, hb⟩
theorem low_le {x : Int32} {i : Nat} (hi : i < 16) (hb : bt x i = true) : low x ≤ i := by
  rcases Nat.lt_or_ge i (low x) with q | q
  · rw [(low_spec hi hb).2 i q] at hb; cases hb
  · exact q
theorem bt_lbt (ln : Nat → Nat) (c : Nat) : ∀ f i x, (∀ j, i ≤ j → j < i + f → ln j < 32) → (bt (lbt ln f i x) c = true ↔ bt x c = true ∨ ∃ j, i ≤ j ∧ j < i + f ∧ c = ln j)
  | 0, i, x, _ => by
    rw [lbt]
    constructor
    · exact Or.inl
    · rintro (h | ⟨j, h1, h2, _⟩)
      · exact h
      · omega
  | f + 1, i, x, hl => by
    rw [lbt, bt_lbt ln c f (i + 1) _ (fun j h1 h2 => hl j (by omega) (by omega)), b_or, Bool.or_eq_true, bt_sg (hl i (by omega) (by omega)), decide_eq_true_eq]
    constructor
    · rintro ((h | h) | ⟨j, h1, h2, h3⟩)
      · exact Or.inl h
      · exact Or.inr ⟨i, by omega, by omega, h⟩
      · exact Or.inr ⟨j, by omega, by omega, h3⟩
    · rintro (h | ⟨j, h1, h2, h3⟩)
      · exact Or.inl (Or.inl h)
      · rcases Nat.lt_or_ge i j with q | q
        · exact Or.inr ⟨j, by omega, by omega, h3⟩
        · have : j = i := by omega
          subst this; exact Or.inl (Or.inr h3)
theorem mlM_at (mb : Nat → Int32) (x : Int32) (c : Nat) : ∀ k, mlM mb x k c = if c < k ∧ bt x c = true then 0 else mb c
  | 0 => by rw [mlM, if_neg (fun h => by omega)]
  | k + 1 => by
    have ih := mlM_at mb x c k
    rw [mlM]
    by_cases h : bt x k = true
    · rw [if_pos h]
      unfold upd
      by_cases q : c = k
      · subst q
        rw [if_pos rfl, if_pos ⟨by omega, h⟩]
      · rw [if_neg q, ih]
        by_cases r : c < k ∧ bt x c = true
        · rw [if_pos r, if_pos ⟨by omega, r.2⟩]
        · rw [if_neg r, if_neg (fun z => r ⟨by omega, z.2⟩)]
    · rw [if_neg h, ih]
      by_cases r : c < k ∧ bt x c = true
      · rw [if_pos r, if_pos ⟨by omega, r.2⟩]
      · rw [if_neg r]
        rw [if_neg (fun z => ?_)]
        rcases Nat.lt_or_ge c k with q | q
        · exact r ⟨q, z.2⟩
        · have : c = k := by omega
          subst this; exact h z.2
theorem bt_mlA (mb : Nat → Int32) (x : Int32) (i : Nat) : ∀ k, bt (mlA mb x k) i = true ↔ ∃ c, c < k ∧ bt x c = true ∧ bt (mb c) i = true
  | 0 => by
    constructor
    · intro h
      have e : bt (mlA mb x 0) i = false := b_0 i
      rw [e] at h; cases h
    · rintro ⟨u, h, _⟩; omega
  | k + 1 => by
    have ih := bt_mlA mb x i k
    rw [mlA]
    by_cases h : bt x k = true
    · have e : mlM mb x k k = mb k := by rw [mlM_at, if_neg (fun z => by omega)]
      rw [if_pos h, b_or, Bool.or_eq_true, ih, e]
      constructor
      · rintro (⟨u, h1, h2⟩ | h1)
        · exact ⟨u, by omega, h2⟩
        · exact ⟨k, by omega, h, h1⟩
      · rintro ⟨u, h1, h2, h3⟩
        rcases Nat.lt_or_ge u k with q | q
        · exact Or.inl ⟨u, q, h2, h3⟩
        · have : u = k := by omega
          subst this; exact Or.inr h3
    · rw [if_neg h, ih]
      constructor
      · rintro ⟨u, h1, h2⟩; exact ⟨u, by omega, h2⟩
      · rintro ⟨u, h1, h2, h3⟩
        rcases Nat.lt_or_ge u k with q | q
        · exact ⟨u, q, h2, h3⟩
        · have : u = k := by omega
          subst this; exact absurd h2 h
theorem clm_at (ld : Nat → Nat) (x : Int32) (c j : Nat) : ∀ k, clm ld x c k j = if j < k ∧ bt x j = true then c else ld j
  | 0 => by rw [clm, if_neg (fun h => by omega)]
  | k + 1 => by
    have ih := clm_at ld x c j k
    rw [clm]
    by_cases h : bt x k = true
    · rw [if_pos h]
      by_cases q : j = k
      · subst q
        rw [va_up_self, if_pos ⟨by omega, h⟩]
      · rw [va_up_ne _ _ q, ih]
        by_cases r : j < k ∧ bt x j = true
        · rw [if_pos r, if_pos ⟨by omega, r.2⟩]
        · rw [if_neg r, if_neg (fun z => r ⟨by omega, z.2⟩)]
    · rw [if_neg h, ih]
      by_cases r : j < k ∧ bt x j = true
      · rw [if_pos r, if_pos ⟨by omega, r.2⟩]
      · rw [if_neg r]
        rw [if_neg (fun z => ?_)]
        rcases Nat.lt_or_ge j k with q | q
        · exact r ⟨q, z.2⟩
        · have : j = k := by omega
          subst this; exact h z.2
theorem sgF_eq (P : Nat → Bool) (ln : Nat → Nat) : ∀ f i, sgF P ln f i = ((List.range' i f).map ln).filter P
  | 0, i => rfl
  | f + 1, i => by
    rw [sgF, sgF_eq P ln f (i + 1)]
    show _ = List.filter P (ln i :: ((List.range' (i + 1) f).map ln))
    rw [List.filter_cons]
theorem sgF_true (ln : Nat → Nat) (f i : Nat) : sgF (fun _ => true) ln f i = (List.range' i f).map ln := by
  rw [sgF_eq]
  exact List.filter_eq_self.mpr (fun _ _ => rfl)
theorem adL_at (nx ln : Nat → Nat) (j : Nat) : ∀ k, adL nx ln k j = if j < k then nx j else ln j
  | 0 => by rw [adL, if_neg (by omega)]
  | k + 1 => by
    rw [adL]
    by_cases q : j = k
    · subst q; rw [va_up_self, if_pos (by omega)]
    · rw [va_up_ne _ _ q, adL_at nx ln j k]
      by_cases r : j < k
      · rw [if_pos r, if_pos (by omega)]
      · rw [if_neg r, if_neg (by omega)]
theorem adP_at (nx pl : Nat → Nat) : ∀ k, (∀ i j, i < j → j < k → nx i ≠ nx j) → ∀ i, i < k → adP nx pl k (nx i) = i
  | 0, _, i, h => by omega
  | k + 1, hd, i, h => by
    rw [adP]
    by_cases q : i = k
    · subst q; exact va_up_self _ _ _
    · rw [va_up_ne _ _ (hd i k (by omega) (by omega))]
      exact adP_at nx pl k (fun a b h1 h2 => hd a b h1 (by omega)) i (by omega)
theorem bt_cyI (ed : Nat → Bool) (x : Int32) (i : Nat) : ∀ k, bt (cyI ed x k) i = true ↔ ∃ m, m < k ∧ ed m = true ∧ bt x (m / 16) = true ∧ i = m % 16
  | 0 => by
    constructor
    · intro h
      have e : bt (cyI ed x 0) i = false := b_0 i
      rw [e] at h; cases h
    · rintro ⟨u, h, _⟩; omega
  | k + 1 => by
    have ih := bt_cyI ed x i k
    rw [cyI]
    by_cases h : ed k = true ∧ bt x (k / 16) = true
    · rw [if_pos h, b_or, Bool.or_eq_true, ih, bt_sg (by omega), decide_eq_true_eq]
      constructor
      · rintro (⟨u, h1, h2⟩ | h1)
        · exact ⟨u, by omega, h2⟩
        · exact ⟨k, by omega, h.1, h.2, h1⟩
      · rintro ⟨u, h1, h2, h3, h4⟩
        rcases Nat.lt_or_ge u k with q | q
        · exact Or.inl ⟨u, q, h2, h3, h4⟩
        · have : u = k := by omega
          subst this; exact Or.inr h4
    · rw [if_neg h, ih]
      constructor
      · rintro ⟨u, h1, h2⟩; exact ⟨u, by omega, h2⟩
      · rintro ⟨u, h1, h2, h3, h4⟩
        rcases Nat.lt_or_ge u k with q | q
        · exact ⟨u, q, h2, h3, h4⟩
        · have : u = k := by omega
          subst this; exact absurd ⟨h2, h3⟩ h
end
section
/-! waves: what spreadWithin, gatherWithin and cycle find -/
/-- an edge of tg that ends within W -/
def EW (n : Nat) (tg : Nat → Int32) (W : Int32) : Nat → Nat → Prop := fun a b => a < n ∧ bt (tg a) b = true ∧ bt W b = true
theorem wave_next {n : Nat} {tg : Nat → Int32} {W met wave : Int32} {v : Nat} : bt ((tgOf tg wave n &&& W) &&& (met ^^^ (-1))) v = true ↔ (∃ w, bt wave w = true ∧ EW n tg W w v) ∧ bt met v = false := by
  rw [bt_diff, b_and, Bool.and_eq_true, Bool.and_eq_true, bt_tgOf, Bool.not_eq_true']
  constructor
  · rintro ⟨⟨⟨u, h1, h2, h3⟩, h4⟩, h5⟩
    exact ⟨⟨u, h2, h1, h3, h4⟩, h5⟩
  · rintro ⟨⟨u, h2, h1, h3, h4⟩, h5⟩
    exact ⟨⟨⟨u, h1, h2, h3⟩, h4⟩, h5⟩
theorem spr_go {n : Nat} {tg : Nat → Int32} {W : Int32} {s : Nat} (hn : n ≤ 16) (hs : s < n) (hW : ∀ b, bt W b = true → b < n) : ∀ f k met wave, k + f = 16 → (∀ v, bt met v = true ↔ ∃ j, j ≤ k ∧ Wk (EW n tg W) j s v) → (∀ v, bt wave v = true ↔ Ds (EW n tg W) k s v) → ∀ v, bt (spr tg n W f met wave) v = true ↔ Rc (EW n tg W) s v
  | 0, k, met, wave, hk, hm, hw, v => by
    rw [spr, hm]
    constructor
    · rintro ⟨j, _, h⟩; exact ⟨j, h⟩
    · intro h
      obtain ⟨d, hd⟩ := Ds.of h
      have := hd.short hs (fun a b e => hW b e.2.2)
      exact ⟨d, by omega, hd.1⟩
  | f + 1, k, met, wave, hk, hm, hw, v => by
    rw [spr]
    by_cases h0 : wave = 0
    · rw [if_pos h0, hm]
      constructor
      · rintro ⟨j, _, h⟩; exact ⟨j, h⟩
      · intro h
        obtain ⟨d, hd⟩ := Ds.of h
        rcases Nat.lt_or_ge k d with q | q
        · obtain ⟨x, hx⟩ := hd.part k (by omega)
          have := (hw x).mpr hx
          rw [h0, b_0] at this; cases this
        · exact ⟨d, q, hd.1⟩
    · rw [if_neg h0]
      have hnew : ∀ v, bt ((tgOf tg wave n &&& W) &&& (met ^^^ (-1))) v = true ↔ Ds (EW n tg W) (k + 1) s v := by
        intro v
        rw [wave_next]
        constructor
        · rintro ⟨⟨w, h1, h2⟩, h3⟩
          refine ⟨⟨w, ((hw w).mp h1).1, h2⟩, fun j hj hx => ?_⟩
          rw [(hm v).mpr ⟨j, by omega, hx⟩] at h3; cases h3
        · intro h
          obtain ⟨w, h1, h2⟩ := h.pred
          refine ⟨⟨w, (hw w).mpr h1, h2⟩, ?_⟩
          cases e : bt met v
          · rfl
          · obtain ⟨j, hj, hx⟩ := (hm v).mp e
            exact absurd hx (h.2 j (by omega))
      refine spr_go hn hs hW f (k + 1) _ _ (by omega) (fun v => ?_) hnew v
      rw [b_or, Bool.or_eq_true, hm, hnew]
      constructor
      · rintro (⟨j, h1, h2⟩ | h)
        · exact ⟨j, by omega, h2⟩
        · exact ⟨k + 1, by omega, h.1⟩
      · rintro ⟨j, h1, h2⟩
        by_cases q : ∃ i, i ≤ k ∧ Wk (EW n tg W) i s v
        · exact Or.inl q
        · have : j = k + 1 := by
            rcases Nat.lt_or_ge k j with r | r
            · omega
            · exact absurd ⟨j, r, h2⟩ q
          subst this
          exact Or.inr ⟨h2, fun i hi hx => q ⟨i, by omega, hx⟩⟩
theorem spr_spec {n : Nat} {tg : Nat → Int32} {W : Int32} {s : Nat} (hn : n ≤ 16) (hs : s < n) (hW : ∀ b, bt W b = true → b < n) (v : Nat) : bt (spr tg n W 16 (sg s) (sg s)) v = true ↔ Rc (EW n tg W) s v := by
  refine spr_go hn hs hW 16 0 _ _ (by omega) (fun v => ?_) (fun v => ?_) v
  · rw [bt_sg (by omega), decide_eq_true_eq]
    constructor
    · intro h; exact ⟨0, by omega, h.symm⟩
    · rintro ⟨j, hj, h⟩
      have : j = 0 := by omega
      subst this
      have e : s = v := h
      exact e.symm
  · rw [bt_sg (by omega), decide_eq_true_eq]
    constructor
    · intro h; exact ⟨h.symm, fun j hj => by omega⟩
    · intro h
      have e : s = v := h.1
      exact e.symm
/-- what a shortest round through u is -/
def CycIs (E : Nat → Nat → Prop) (u : Nat) (r : Int32) : Prop := (∃ d, D1 E d u u ∧ r = nI d) ∨ ((∀ d, 1 ≤ d → ¬ Wk E d u u) ∧ r = -2)
theorem CycIs.one {E : Nat → Nat → Prop} {u : Nat} {r r2 : Int32} (h : CycIs E u r) (h2 : CycIs E u r2) : r = r2 := by
  rcases h with ⟨d, h, e⟩ | ⟨h, e⟩ <;> rcases h2 with ⟨d2, h2, e2⟩ | ⟨h2, e2⟩
  · rw [e, e2, h.one h2]
  · exact absurd h.2.1 (h2 d h.1)
  · exact absurd h2.2.1 (h d2 h2.1)
  · rw [e, e2]
theorem cyc_go {n : Nat} {tg : Nat → Int32} {W : Int32} {u : Nat} (hn : n ≤ 16) (hu : u < n) (hW : ∀ b, bt W b = true → b < n) : ∀ f k wave met, 1 ≤ k → k + f = 17 → (∀ v, bt met v = true ↔ ∃ j, 1 ≤ j ∧ j ≤ k ∧ Wk (EW n tg W) j u v) → (∀ v, bt wave v = true ↔ D1 (EW n tg W) k u v) → (∀ j, 1 ≤ j → j < k → ¬ Wk (EW n tg W) j u u) → CycIs (EW n tg W) u (cyc tg n W u f k wave met)
  | 0, k, wave, met, hk1, hk, hm, hw, hno => by
    rw [cyc]
    refine Or.inr ⟨fun d hd h => ?_, rfl⟩
    obtain ⟨k0, h0⟩ := D1.of hd h
    have := h0.short hu (fun a b e => hW b e.2.2)
    exact hno k0 h0.1 (by omega) h0.2.1
  | f + 1, k, wave, met, hk1, hk, hm, hw, hno => by
    rw [cyc]
    by_cases h0 : wave = 0
    · rw [if_pos h0]
      refine Or.inr ⟨fun d hd h => ?_, rfl⟩
      obtain ⟨k0, h1⟩ := D1.of hd h
      rcases Nat.lt_or_ge k0 k with q | q
      · exact hno k0 h1.1 q h1.2.1
      · obtain ⟨x, hx⟩ := h1.part k hk1 q
        have := (hw x).mpr hx
        rw [h0, b_0] at this; cases this
    · rw [if_neg h0]
      by_cases hb : bt met u = true
      · rw [if_pos hb]
        obtain ⟨j, hj1, hj2, hx⟩ := (hm u).mp hb
        have : j = k := by
          rcases Nat.lt_or_ge j k with q | q
          · exact absurd hx (hno j hj1 q)
          · omega
        subst this
        exact Or.inl ⟨j, ⟨hj1, hx, hno⟩, rfl⟩
      · rw [if_neg hb]
        have hnew : ∀ v, bt ((tgOf tg wave n &&& W) &&& (met ^^^ (-1))) v = true ↔ D1 (EW n tg W) (k + 1) u v := by
          intro v
          rw [wave_next]
          constructor
          · rintro ⟨⟨w, h1, h2⟩, h3⟩
            refine ⟨by omega, ⟨w, ((hw w).mp h1).2.1, h2⟩, fun j hj hj2 hx => ?_⟩
            rw [(hm v).mpr ⟨j, hj, by omega, hx⟩] at h3; cases h3
          · intro h
            obtain ⟨w, h1, h2⟩ := h.pred hk1
            refine ⟨⟨w, (hw w).mpr h1, h2⟩, ?_⟩
            cases e : bt met v
            · rfl
            · obtain ⟨j, hj1, hj, hx⟩ := (hm v).mp e
              exact absurd hx (h.2.2 j hj1 (by omega))
        refine cyc_go hn hu hW f (k + 1) _ _ (by omega) (by omega) (fun v => ?_) hnew (fun j hj1 hj2 hx => ?_)
        · rw [b_or, Bool.or_eq_true, hm, hnew]
          constructor
          · rintro (⟨j, h1, h2, h3⟩ | h)
            · exact ⟨j, h1, by omega, h3⟩
            · exact ⟨k + 1, by omega, by omega, h.2.1⟩
          · rintro ⟨j, h1, h2, h3⟩
            by_cases q : ∃ i, 1 ≤ i ∧ i ≤ k ∧ Wk (EW n tg W) i u v
            · exact Or.inl q
            · have : j = k + 1 := by
                rcases Nat.lt_or_ge k j with r | r
                · omega
                · exact absurd ⟨j, h1, r, h3⟩ q
              subst this
              exact Or.inr ⟨h1, h3, fun i hi hi2 hx => q ⟨i, hi, by omega, hx⟩⟩
        · rcases Nat.lt_or_ge j k with q | q
          · exact hno j hj1 q hx
          · have : j = k := by omega
            subst this
            exact hb ((hm u).mpr ⟨j, hj1, Nat.le_refl _, hx⟩)
theorem cyc_spec {n : Nat} {tg : Nat → Int32} {W : Int32} {u : Nat} (hn : n ≤ 16) (hu : u < n) (hW : ∀ b, bt W b = true → b < n) : CycIs (EW n tg W) u (cyc tg n W u 16 1 (tg u &&& W) (tg u &&& W)) := by
  have e1 : ∀ v, bt (tg u &&& W) v = true ↔ Wk (EW n tg W) 1 u v := by
    intro v
    rw [b_and, Bool.and_eq_true]
    constructor
    · rintro ⟨h1, h2⟩; exact ⟨u, rfl, hu, h1, h2⟩
    · rintro ⟨w, h1, h2⟩
      have : u = w := h1
      subst this; exact h2.2
  refine cyc_go hn hu hW 16 1 _ _ (Nat.le_refl _) (by omega) (fun v => ?_) (fun v => ?_) (fun j h1 h2 => by omega)
  · rw [e1]
    constructor
    · intro h; exact ⟨1, Nat.le_refl _, Nat.le_refl _, h⟩
    · rintro ⟨j, h1, h2, h3⟩
      have : j = 1 := by omega
      subst this; exact h3
  · rw [e1]
    constructor
    · intro h; exact ⟨Nat.le_refl _, h, fun j h1 h2 => by omega⟩
    · intro h; exact h.2.1
end
section
/-! what the reference finds -/
def EM (n : Nat) (ed : Nat → Bool) : Nat → Nat → Prop := fun a b => a < 16 ∧ b < n ∧ ed (16 * a + b) = true
theorem lnI_mono (ed : Nat → Bool) (uv : Nat) (re : Nat → Bool) (g : Bool) (k j : Nat) (h : (lnI ed uv re g k).1 j = true) : (lnI ed uv re g (k + 1)).1 j = true := by
  rw [lnI]
  split
  · show va_up _ _ _ j = true
    unfold va_up
    split
    · rfl
    · exact h
  · exact h
theorem lnI_mono0 (ed : Nat → Bool) (uv : Nat) (re : Nat → Bool) (g : Bool) (j : Nat) (h : re j = true) : ∀ k, (lnI ed uv re g k).1 j = true
  | 0 => h
  | k + 1 => lnI_mono ed uv re g k j (lnI_mono0 ed uv re g j h k)
theorem lnI_same (ed : Nat → Bool) (uv : Nat) (re : Nat → Bool) (g : Bool) : ∀ k, (lnI ed uv re g k).2 = false → (lnI ed uv re g k).1 = re ∧ g = false
  | 0, h => ⟨rfl, h⟩
  | k + 1, h => by
    by_cases q : ((lnI ed uv re g k).1 uv = true ∧ ed (16 * (uv % 16) + k) = true) ∧ (lnI ed uv re g k).1 (16 * (uv / 16) + k) = false
    · rw [lnI, if_pos q] at h; cases h
    · rw [lnI, if_neg q] at h ⊢
      exact lnI_same ed uv re g k h
theorem lnI_goes (ed : Nat → Bool) (uv : Nat) (re : Nat → Bool) (g : Bool) (hr : re uv = true) : ∀ k w, w < k → ed (16 * (uv % 16) + w) = true → (lnI ed uv re g k).1 (16 * (uv / 16) + w) = true
  | k + 1, w, hw, he => by
    rcases Nat.lt_or_ge w k with q | q
    · exact lnI_mono ed uv re g k _ (lnI_goes ed uv re g hr k w q he)
    · have : w = k := by omega
      subst this
      cases e : (lnI ed uv re g w).1 (16 * (uv / 16) + w)
      · rw [lnI, if_pos ⟨⟨lnI_mono0 ed uv re g uv hr w, he⟩, e⟩]
        exact va_up_self _ _ _
      · exact lnI_mono ed uv re g w _ e
def Sound (n : Nat) (ed re : Nat → Bool) : Prop := ∀ a b, a < 16 → b < 16 → re (16 * a + b) = true → Rc (EM n ed) a b
theorem lnI_sound {n : Nat} {ed re : Nat → Bool} {uv : Nat} (g : Bool) (hn : n ≤ 16) (huv : uv < 256) (h : Sound n ed re) : ∀ k, k ≤ n → Sound n ed (lnI ed uv re g k).1
  | 0, _ => h
  | k + 1, hk => by
    have ih := lnI_sound g hn huv h k (by omega)
    rw [lnI]
    split
    · rename_i q
      intro a b ha hb hx
      have hx : va_up (lnI ed uv re g k).1 (16 * (uv / 16) + k) true (16 * a + b) = true := hx
      by_cases r : 16 * a + b = 16 * (uv / 16) + k
      · have ea : a = uv / 16 := by omega
        have eb : b = k := by omega
        subst ea; subst eb
        refine (ih (uv / 16) (uv % 16) (by omega) (by omega) ?_).step ⟨by omega, by omega, q.1.2⟩
        rw [show 16 * (uv / 16) + uv % 16 = uv by omega]
        exact q.1.1
      · rw [va_up_ne _ _ r] at hx
        exact ih a b ha hb hx
    · exact ih
theorem lnO_mono (ed : Nat → Bool) (n : Nat) (re : Nat → Bool) (j : Nat) (h : re j = true) : ∀ k, (lnO ed n re k).1 j = true
  | 0 => h
  | k + 1 => by rw [lnO]; exact lnI_mono0 ed k _ _ j (lnO_mono ed n re j h k) n
theorem lnO_same (ed : Nat → Bool) (n : Nat) (re : Nat → Bool) : ∀ k, (lnO ed n re k).2 = false → (lnO ed n re k).1 = re
  | 0, _ => rfl
  | k + 1, h => by
    rw [lnO] at h ⊢
    obtain ⟨h1, h2⟩ := lnI_same ed k _ _ n h
    rw [h1]
    exact lnO_same ed n re k h2
theorem lnO_goes (ed : Nat → Bool) (n : Nat) (re : Nat → Bool) {uv : Nat} (hr : re uv = true) {w : Nat} (hw : w < n) (he : ed (16 * (uv % 16) + w) = true) : ∀ k, uv < k → (lnO ed n re k).1 (16 * (uv / 16) + w) = true
  | k + 1, hk => by
    rw [lnO]
    rcases Nat.lt_or_ge uv k with q | q
    · exact lnI_mono0 ed k _ _ _ (lnO_goes ed n re hr hw he k q) n
    · have : uv = k := by omega
      subst this
      exact lnI_goes ed uv _ _ (lnO_mono ed n re uv hr uv) n w hw he
theorem lnO_sound {n : Nat} {ed re : Nat → Bool} (hn : n ≤ 16) (h : Sound n ed re) : ∀ k, k ≤ 256 → Sound n ed (lnO ed n re k).1
  | 0, _ => h
  | k + 1, hk => by
    rw [lnO]
    exact lnI_sound _ hn (by omega) (lnO_sound hn h k (by omega)) n (Nat.le_refl _)
theorem frI_at (re : Nat → Bool) (j : Nat) : ∀ k, j < k → frI re k j = decide (j / 16 = j % 16)
  | k + 1, h => by
    rw [frI]
    by_cases q : j = k
    · subst q; exact va_up_self _ _ _
    · rw [va_up_ne _ _ q]; exact frI_at re j k (by omega)
theorem frG_spec {n : Nat} {ed : Nat → Bool} (hn : n ≤ 16) : ∀ f k re g, k + f = 17 → Sound n ed re → (∀ u v j, u < 16 → v < 16 → j ≤ k → Wk (EM n ed) j u v → re (16 * u + v) = true) → (g = false → ∀ u v w, u < 16 → v < 16 → w < n → re (16 * u + v) = true → ed (16 * v + w) = true → re (16 * u + w) = true) → ∀ u v, u < 16 → v < 16 → (frG ed n f re g (16 * u + v) = true ↔ Rc (EM n ed) u v)
  | 0, k, re, g, hk, hs, hc, hf, u, v, hu, hv => by
    rw [frG]
    refine ⟨hs u v hu hv, fun h => ?_⟩
    obtain ⟨d, hd⟩ := Ds.of h
    have := hd.short hu (fun a b e => by have := e.2.1; omega)
    exact hc u v d hu hv (by omega) hd.1
  | f + 1, k, re, g, hk, hs, hc, hf, u, v, hu, hv => by
    rw [frG]
    by_cases q : g = true
    · rw [if_pos q]
      have go : ∀ u v w, u < 16 → v < 16 → w < n → re (16 * u + v) = true → ed (16 * v + w) = true → (lnO ed n re 256).1 (16 * u + w) = true := by
        intro u v w hu hv hw h1 h2
        have := lnO_goes ed n re (uv := 16 * u + v) h1 hw (by rw [show (16 * u + v) % 16 = v by omega]; exact h2) 256 (by omega)
        rw [show (16 * u + v) / 16 = u by omega] at this
        exact this
      refine frG_spec hn f (k + 1) _ _ (by omega) (lnO_sound hn hs 256 (Nat.le_refl _)) (fun u v j hu hv hj hx => ?_) (fun hg u v w hu hv hw h1 h2 => ?_) u v hu hv
      · rcases Nat.lt_or_ge k j with r | r
        · have : j = k + 1 := by omega
          subst this
          obtain ⟨w, h1, h2⟩ := hx
          exact go u w v hu h2.1 h2.2.1 (hc u w k hu h2.1 (Nat.le_refl _) h1) h2.2.2
        · exact lnO_mono ed n re _ (hc u v j hu hv r hx) 256
      · rw [lnO_same ed n re 256 hg] at h1
        exact go u v w hu hv hw h1 h2
    · rw [if_neg q]
      refine ⟨hs u v hu hv, fun h => ?_⟩
      have hg : g = false := by cases g <;> simp_all
      have key : v < 16 ∧ re (16 * u + v) = true := by
        refine Rc.ind (P := fun x => x < 16 ∧ re (16 * u + x) = true) ⟨hu, hc u u 0 hu hu (by omega) rfl⟩ (fun a b _ ih e => ?_) h
        exact ⟨by have := e.2.1; omega, hf hg u a b hu ih.1 e.2.1 ih.2 e.2.2⟩
      exact key.2
theorem fr_spec {n : Nat} (ed re : Nat → Bool) (hn : n ≤ 16) {u v : Nat} (hu : u < 16) (hv : v < 16) : fr ed n re (16 * u + v) = true ↔ Rc (EM n ed) u v := by
  unfold fr
  refine frG_spec hn 17 0 _ true (by omega) (fun a b ha hb h => ?_) (fun a b j ha hb hj h => ?_) (fun h => by cases h) u v hu hv
  · rw [frI_at re _ 256 (by omega)] at h
    have : (16 * a + b) / 16 = (16 * a + b) % 16 := by simpa using h
    have : a = b := by omega
    subst this; exact Rc.refl _
  · have : j = 0 := by omega
    subst this
    have e : a = b := h
    subst e
    rw [frI_at re _ 256 (by omega), decide_eq_true_eq]
    omega
theorem tog_spec {n : Nat} (ed re : Nat → Bool) (hn : n ≤ 16) {u v : Nat} (hu : u < 16) (hv : v < 16) : tog (fr ed n re) u v = true ↔ Tg (EM n ed) u v := by
  unfold tog Tg
  rw [Bool.and_eq_true, fr_spec ed re hn hu hv, fr_spec ed re hn hv hu]
theorem loG_spec {re : Nat → Bool} {u c : Nat} (hc : c ≤ u) (ht : c = u ∨ tog re u c = true) : ∀ f v, v + f = u → v ≤ c → (∀ j, v ≤ j → j < c → tog re u j = false) → loG re u f v = c
  | 0, v, hf, hv, hj => by rw [loG]; omega
  | f + 1, v, hf, hv, hj => by
    rw [loG]
    rcases Nat.lt_or_ge v c with q | q
    · rw [if_neg (b_nf (hj v (Nat.le_refl _) q))]
      exact loG_spec hc ht f (v + 1) (by omega) (by omega) (fun j h1 h2 => hj j (by omega) h2)
    · have : v = c := by omega
      subst this
      rcases ht with r | r
      · omega
      · rw [if_pos r]
theorem lo_spec {re : Nat → Bool} {u c : Nat} (hc : c ≤ u) (ht : c = u ∨ tog re u c = true) (hj : ∀ j, j < c → tog re u j = false) : lo re u = c :=
  loG_spec hc ht u 0 (by omega) (by omega) (fun j _ h => hj j h)
theorem coC_ct (re : Nat → Bool) : ∀ k, coC re k = fb_ct (fun u => decide (lo re u = u)) k
  | 0 => rfl
  | k + 1 => by
    rw [coC, fb_ct_succ, coC_ct re k]
    by_cases h : lo re k = k
    · simp [h]
    · simp [h]
theorem szC_ct (re : Nat → Bool) (u : Nat) : ∀ k, szC re u k = fb_ct (fun v => tog re u v) k
  | 0 => rfl
  | k + 1 => by
    rw [szC, fb_ct_succ, szC_ct re u k]
    by_cases h : tog re u k = true
    · simp [h]
    · simp [h]
theorem oeM_ct (ed re : Nat → Bool) : ∀ k, oeM ed re k = fb_ct (fun m => ed m && !tog re (m / 16) (m % 16)) k
  | 0 => rfl
  | k + 1 => by
    rw [oeM, fb_ct_succ, oeM_ct ed re k]
    by_cases h : ed k = true ∧ tog re (k / 16) (k % 16) = false
    · rw [if_pos h]; simp [h.1, h.2]
    · rw [if_neg h]
      have : (ed k && !tog re (k / 16) (k % 16)) = false := by
        cases e1 : ed k <;> cases e2 : tog re (k / 16) (k % 16) <;> simp_all
      simp [this]
theorem ilI_spec {re : Nat → Bool} {u : Nat} : ∀ f v, ilI re u f v = true ↔ ∀ w, v ≤ w → w < v + f → re (16 * u + w) = true ∨ re (16 * w + u) = true
  | 0, v => by
    rw [ilI]
    exact ⟨fun _ w h1 h2 => by omega, fun _ => rfl⟩
  | f + 1, v => by
    rw [ilI]
    by_cases h : re (16 * u + v) = false ∧ re (16 * v + u) = false
    · rw [if_pos h]
      constructor
      · intro q; cases q
      · intro q
        rcases q v (Nat.le_refl _) (by omega) with r | r
        · rw [h.1] at r; cases r
        · rw [h.2] at r; cases r
    · rw [if_neg h, ilI_spec f (v + 1)]
      constructor
      · intro q w h1 h2
        rcases Nat.lt_or_ge v w with r | r
        · exact q w (by omega) (by omega)
        · have : w = v := by omega
          subst this
          cases e1 : re (16 * u + w) <;> cases e2 : re (16 * w + u) <;> simp_all
      · intro q w h1 h2
        exact q w (by omega) (by omega)
theorem ilO_spec {re : Nat → Bool} {n : Nat} : ∀ f u, ilO re n f u = true ↔ ∀ a, u ≤ a → a < u + f → ∀ w, w < n → re (16 * a + w) = true ∨ re (16 * w + a) = true
  | 0, u => by
    rw [ilO]
    exact ⟨fun _ w h1 h2 => by omega, fun _ => rfl⟩
  | f + 1, u => by
    rw [ilO]
    by_cases h : ilI re u n 0 = true
    · rw [if_pos h, ilO_spec f (u + 1)]
      have h' := (ilI_spec n 0).mp h
      constructor
      · intro q a h1 h2
        rcases Nat.lt_or_ge u a with r | r
        · exact q a (by omega) (by omega)
        · have : a = u := by omega
          subst this
          exact fun w hw => h' w (by omega) (by omega)
      · intro q a h1 h2
        exact q a (by omega) (by omega)
    · rw [if_neg h]
      constructor
      · intro q; cases q
      · intro q
        exact absurd ((ilI_spec n 0).mpr (fun w _ h2 => q u (Nat.le_refl _) (by omega) w (by omega))) h
theorem cyG_go {n : Nat} {ed : Nat → Bool} {u : Nat} (hn : n ≤ 16) (hu : u < n) (he : ∀ m, m < 256 → ed m = true → m % 16 < n) : ∀ f k x, 1 ≤ k → k + f = n + 1 → (∀ v, bt x v = true ↔ Wk (EM n ed) (k - 1) u v) → (∀ j, 1 ≤ j → j < k → ¬ Wk (EM n ed) j u u) → CycIs (EM n ed) u (cyG ed u f k x)
  | 0, k, x, hk1, hk, hx, hno => by
    rw [cyG]
    refine Or.inr ⟨fun d hd h => ?_, rfl⟩
    obtain ⟨k0, h0⟩ := D1.of hd h
    have := h0.short hu (fun a b e => e.2.1)
    exact hno k0 h0.1 (by omega) h0.2.1
  | f + 1, k, x, hk1, hk, hx, hno => by
    rw [cyG]
    have hnew : ∀ v, bt (cyI ed x 256) v = true ↔ Wk (EM n ed) k u v := by
      intro v
      rw [bt_cyI]
      obtain ⟨k', rfl⟩ : ∃ k', k = k' + 1 := ⟨k - 1, by omega⟩
      rw [Nat.add_sub_cancel] at hx
      constructor
      · rintro ⟨m, h1, h2, h3, h4⟩
        refine ⟨m / 16, (hx _).mp h3, by omega, ?_, ?_⟩
        · rw [h4]; exact he m h1 h2
        · rw [h4, show 16 * (m / 16) + m % 16 = m by omega]; exact h2
      · rintro ⟨w, h1, h2, h3, h4⟩
        exact ⟨16 * w + v, by omega, h4, by rw [show (16 * w + v) / 16 = w by omega]; exact (hx _).mpr h1, by omega⟩
    by_cases h : bt (cyI ed x 256) u = true
    · rw [if_pos h]
      exact Or.inl ⟨k, ⟨hk1, (hnew u).mp h, hno⟩, rfl⟩
    · rw [if_neg h]
      refine cyG_go hn hu he f (k + 1) _ (by omega) (by omega) (fun v => by rw [Nat.add_sub_cancel]; exact hnew v) (fun j h1 h2 hx2 => ?_)
      rcases Nat.lt_or_ge j k with q | q
      · exact hno j h1 q hx2
      · have : j = k := by omega
        subst this
        exact h ((hnew u).mpr hx2)
theorem cyG_spec {n : Nat} {ed : Nat → Bool} {u : Nat} (hn : n ≤ 16) (hu : u < n) (he : ∀ m, m < 256 → ed m = true → m % 16 < n) : CycIs (EM n ed) u (cyG ed u n 1 (sg u)) := by
  refine cyG_go hn hu he n 1 _ (Nat.le_refl _) (by omega) (fun v => ?_) (fun j h1 h2 => by omega)
  rw [bt_sg (by omega), decide_eq_true_eq]
  exact ⟨fun h => h.symm, fun h => (show u = v from h).symm⟩
/-! heights -/
theorem rsH_in {ed re : Nat → Bool} {hi : Nat → Nat} {u v h1 : Nat} (e : (if tog re u v = true ∧ hi v < hi u then hi u else hi v) = h1) : rsH ed re hi u v = if ed (16 * u + v) = true ∧ tog re u v = false ∧ h1 < hi u + 1 then hi u + 1 else h1 := by
  unfold rsH
  dsimp only
  rw [e]
theorem rsH_ge1 {ed re : Nat → Bool} {hi : Nat → Nat} {u v : Nat} (h : tog re u v = true) : hi u ≤ rsH ed re hi u v := by
  by_cases q : hi v < hi u
  · rw [rsH_in (if_pos ⟨h, q⟩), if_neg (fun z => b_nf z.2.1 h)]; exact Nat.le_refl _
  · rw [rsH_in (if_neg (fun z => q z.2)), if_neg (fun z => b_nf z.2.1 h)]; omega
theorem rsH_ge2 {ed re : Nat → Bool} {hi : Nat → Nat} {u v : Nat} (h : ed (16 * u + v) = true) (h2 : tog re u v = false) : hi u + 1 ≤ rsH ed re hi u v := by
  rw [rsH_in (if_neg (fun z => b_nf h2 z.1))]
  by_cases q : hi v < hi u + 1
  · rw [if_pos ⟨h, h2, q⟩]; exact Nat.le_refl _
  · rw [if_neg (fun z => q z.2.2)]; omega
theorem rsH_leH {ed re : Nat → Bool} {hi H : Nat → Nat} {u v : Nat} (ha : tog re u v = true → H u ≤ H v) (hb : ed (16 * u + v) = true → tog re u v = false → H u + 1 ≤ H v) (hu : hi u ≤ H u) (hv : hi v ≤ H v) : rsH ed re hi u v ≤ H v := by
  by_cases q : tog re u v = true ∧ hi v < hi u
  · rw [rsH_in (if_pos q), if_neg (fun z => b_nf z.2.1 q.1)]
    have := ha q.1; omega
  · rw [rsH_in (if_neg q)]
    by_cases r : ed (16 * u + v) = true ∧ tog re u v = false ∧ hi v < hi u + 1
    · rw [if_pos r]; have := hb r.1 r.2.1; omega
    · rw [if_neg r]; exact hv
theorem rsI_mono (ed re : Nat → Bool) (u : Nat) (hi : Nat → Nat) (g : Bool) (k j : Nat) : (rsI ed re u hi g k).1 j ≤ (rsI ed re u hi g (k + 1)).1 j := by
  rw [rsI]
  split
  · rename_i q
    show _ ≤ va_up _ _ _ j
    unfold va_up
    split
    · rename_i r; subst r; omega
    · exact Nat.le_refl _
  · exact Nat.le_refl _
theorem rsI_mono0 (ed re : Nat → Bool) (u : Nat) (hi : Nat → Nat) (g : Bool) (j : Nat) : ∀ k, hi j ≤ (rsI ed re u hi g k).1 j
  | 0 => Nat.le_refl _
  | k + 1 => Nat.le_trans (rsI_mono0 ed re u hi g j k) (rsI_mono ed re u hi g k j)
theorem rsI_same (ed re : Nat → Bool) (u : Nat) (hi : Nat → Nat) (g : Bool) : ∀ k, (rsI ed re u hi g k).2 = false → (rsI ed re u hi g k).1 = hi ∧ g = false
  | 0, h => ⟨rfl, h⟩
  | k + 1, h => by
    by_cases q : (rsI ed re u hi g k).1 k < rsH ed re (rsI ed re u hi g k).1 u k
    · rw [rsI, if_pos q] at h; cases h
    · rw [rsI, if_neg q] at h ⊢
      exact rsI_same ed re u hi g k h
theorem rsI_at (ed re : Nat → Bool) (u : Nat) (hi : Nat → Nat) (g : Bool) (k : Nat) : rsH ed re (rsI ed re u hi g k).1 u k ≤ (rsI ed re u hi g (k + 1)).1 k := by
  rw [rsI]
  split
  · show _ ≤ va_up _ _ _ k
    rw [va_up_self]; exact Nat.le_refl _
  · rename_i q; omega
theorem rsI_goes (ed re : Nat → Bool) (u : Nat) (hi : Nat → Nat) (g : Bool) (v : Nat) : ∀ k, v < k → (tog re u v = true → hi u ≤ (rsI ed re u hi g k).1 v) ∧ (ed (16 * u + v) = true → tog re u v = false → hi u + 1 ≤ (rsI ed re u hi g k).1 v)
  | k + 1, h => by
    rcases Nat.lt_or_ge v k with q | q
    · obtain ⟨h1, h2⟩ := rsI_goes ed re u hi g v k q
      have := rsI_mono ed re u hi g k v
      exact ⟨fun z => Nat.le_trans (h1 z) this, fun z z2 => Nat.le_trans (h2 z z2) this⟩
    · have : v = k := by omega
      subst this
      have h1 := rsI_at ed re u hi g v
      have h2 := rsI_mono0 ed re u hi g u v
      refine ⟨fun z => ?_, fun z z2 => ?_⟩
      · have := rsH_ge1 (ed := ed) (hi := (rsI ed re u hi g v).1) z
        omega
      · have := rsH_ge2 (hi := (rsI ed re u hi g v).1) z z2
        omega
def HUp (n : Nat) (ed re : Nat → Bool) (H : Nat → Nat) : Prop := ∀ u v, u < n → v < n → (tog re u v = true → H u ≤ H v) ∧ (ed (16 * u + v) = true → tog re u v = false → H u + 1 ≤ H v)
theorem rsI_leH {n : Nat} {ed re : Nat → Bool} {u : Nat} {hi H : Nat → Nat} {g : Bool} (hH : HUp n ed re H) (hu : u < n) (h : ∀ j, j < n → hi j ≤ H j) : ∀ k, k ≤ n → ∀ j, j < n → (rsI ed re u hi g k).1 j ≤ H j
  | 0, _, j, hj => h j hj
  | k + 1, hk, j, hj => by
    have ih := rsI_leH (g := g) hH hu h k (by omega)
    rw [rsI]
    split
    · show va_up _ _ _ j ≤ _
      by_cases q : j = k
      · subst q
        rw [va_up_self]
        exact rsH_leH (hH u j hu hj).1 (hH u j hu hj).2 (ih u hu) (ih j hj)
      · rw [va_up_ne _ _ q]; exact ih j hj
    · exact ih j hj
theorem rsO_mono (ed re : Nat → Bool) (n : Nat) (hi : Nat → Nat) (j : Nat) : ∀ k, hi j ≤ (rsO ed re n hi k).1 j
  | 0 => Nat.le_refl _
  | k + 1 => by
    rw [rsO]
    exact Nat.le_trans (rsO_mono ed re n hi j k) (rsI_mono0 ed re k _ _ j n)
theorem rsO_same (ed re : Nat → Bool) (n : Nat) (hi : Nat → Nat) : ∀ k, (rsO ed re n hi k).2 = false → (rsO ed re n hi k).1 = hi
  | 0, _ => rfl
  | k + 1, h => by
    rw [rsO] at h ⊢
    obtain ⟨h1, h2⟩ := rsI_same ed re k _ _ n h
    rw [h1]
    exact rsO_same ed re n hi k h2
theorem rsO_goes (ed re : Nat → Bool) (n : Nat) (hi : Nat → Nat) {u v : Nat} (hv : v < n) : ∀ k, u < k → (tog re u v = true → hi u ≤ (rsO ed re n hi k).1 v) ∧ (ed (16 * u + v) = true → tog re u v = false → hi u + 1 ≤ (rsO ed re n hi k).1 v)
  | k + 1, h => by
    rw [rsO]
    rcases Nat.lt_or_ge u k with q | q
    · obtain ⟨h1, h2⟩ := rsO_goes ed re n hi hv k q
      have := rsI_mono0 ed re k (rsO ed re n hi k).1 (rsO ed re n hi k).2 v n
      exact ⟨fun z => Nat.le_trans (h1 z) this, fun z z2 => Nat.le_trans (h2 z z2) this⟩
    · have : u = k := by omega
      subst this
      obtain ⟨h1, h2⟩ := rsI_goes ed re u (rsO ed re n hi u).1 (rsO ed re n hi u).2 v n hv
      have := rsO_mono ed re n hi u u
      exact ⟨fun z => Nat.le_trans this (h1 z), fun z z2 => by have := h2 z z2; omega⟩
theorem rsO_leH {n : Nat} {ed re : Nat → Bool} {hi H : Nat → Nat} (hH : HUp n ed re H) (h : ∀ j, j < n → hi j ≤ H j) : ∀ k, k ≤ n → ∀ j, j < n → (rsO ed re n hi k).1 j ≤ H j
  | 0, _, j, hj => h j hj
  | k + 1, hk, j, hj => by
    rw [rsO]
    exact rsI_leH hH (by omega) (rsO_leH hH h k (by omega)) n (Nat.le_refl _) j hj
/-- each height above 0 has a ground -/
def HGr (n : Nat) (ed re : Nat → Bool) (H : Nat → Nat) : Prop := ∀ v, v < n → H v = 0 ∨ ∃ w w', w < n ∧ w' < n ∧ tog re w' v = true ∧ ed (16 * w + w') = true ∧ tog re w w' = false ∧ H v = H w + 1
theorem hG_spec {n : Nat} {ed re : Nat → Bool} {H : Nat → Nat} (hH : HUp n ed re H) (hR : HGr n ed re H) (h15 : ∀ v, v < n → H v ≤ 15) : ∀ f k hi g, k + f = 40 → (∀ j, j < n → hi j ≤ H j) → (∀ v, v < n → 2 * H v ≤ k → H v ≤ hi v) → (∀ w v, w < n → v < n → ed (16 * w + v) = true → tog re w v = false → 2 * H w + 1 ≤ k → H w + 1 ≤ hi v) → (g = false → HUp n ed re hi) → ∀ v, v < n → hG ed re n f hi g v = H v
  | 0, k, hi, g, hk, hle, h1, h2, hf, v, hv => by
    rw [hG]
    have := h15 v hv
    have := h1 v hv (by omega)
    have := hle v hv
    omega
  | f + 1, k, hi, g, hk, hle, h1, h2, hf, v, hv => by
    rw [hG]
    by_cases q : g = true
    · rw [if_pos q]
      refine hG_spec hH hR h15 f (k + 1) _ _ (by omega) (rsO_leH hH hle n (Nat.le_refl _)) (fun v hv hk2 => ?_) (fun w v hw hv e t hk2 => ?_) (fun hg => ?_) v hv
      · rcases hR v hv with z | ⟨w, w', hw, hw', t1, e1, t2, e2⟩
        · omega
        · have a1 := h2 w w' hw hw' e1 t2 (by omega)
          have a2 := (rsO_goes ed re n hi hv (u := w') n hw').1 t1
          omega
      · have a1 := h1 w hw (by omega)
        have a2 := (rsO_goes ed re n hi hv (u := w) n hw).2 e t
        omega
      · have e := rsO_same ed re n hi n hg
        intro u v hu hv
        have := rsO_goes ed re n hi hv (u := u) n hu
        rw [e] at this ⊢
        exact this
    · rw [if_neg q]
      have hg : g = false := by cases g <;> simp_all
      have hU := hf hg
      have key : ∀ d v, v < n → H v ≤ d → H v ≤ hi v := by
        intro d
        induction d with
        | zero => intro v hv hd; omega
        | succ d ih =>
          intro v hv hd
          rcases hR v hv with z | ⟨w, w', hw, hw', t1, e1, t2, e2⟩
          · omega
          · have a1 := ih w hw (by omega)
            have a2 := (hU w w' hw hw').2 e1 t2
            have a3 := (hU w' v hw' hv).1 t1
            omega
      have := key (H v) v hv (Nat.le_refl _)
      have := hle v hv
      omega
theorem hG_ok {n : Nat} {ed re : Nat → Bool} {H : Nat → Nat} (hi : Nat → Nat) (hH : HUp n ed re H) (hR : HGr n ed re H) (h15 : ∀ v, v < n → H v ≤ 15) {v : Nat} (hv : v < n) : hG ed re n 40 (hz hi n) true v = H v := by
  refine hG_spec hH hR h15 40 0 _ true (by omega) (fun j hj => ?_) (fun v hv h => by omega) (fun w v hw hv e t h => by omega) (fun h => by cases h) v hv
  rw [hz_le hi n j hj]; omega
end
section
/-! what holds between the calls -/
def Ed (n : Nat) (tg : Nat → Int32) : Nat → Nat → Prop := fun a b => a < n ∧ b < n ∧ bt (tg a) b = true
/-- the edges, three times -/
def Base (n : Nat) (tg sr : Nat → Int32) (ed : Nat → Bool) : Prop := (2 ≤ n ∧ n ≤ 16) ∧ (∀ u v, u < n → bt (tg u) v = true → v < n) ∧ (∀ u v, v < n → (bt (sr v) u = true ↔ u < n ∧ bt (tg u) v = true)) ∧ (∀ u v, u < n → v < n → (bt (tg u) v = true ↔ ed (16 * u + v) = true)) ∧ (∀ m, m < 256 → ed m = true → m / 16 < n ∧ m % 16 < n)
/-- leaders and members -/
def Comp (n : Nat) (E : Nat → Nat → Prop) (ld : Nat → Nat) (mb : Nat → Int32) : Prop := (∀ u, u < n → ld u < n ∧ Tg E u (ld u) ∧ ∀ v, v < n → Tg E u v → ld u ≤ v) ∧ (∀ c, c < n → ld c = c → ∀ v, bt (mb c) v = true ↔ v < n ∧ ld v = c)
/-- a may stand ahead of b: no edge leads from b's component to a's -/
def Rl (E : Nat → Nat → Prop) (ld : Nat → Nat) (a b : Nat) : Prop := a ≠ b ∧ ∀ x y, E x y → ld x = b → ld y = a → False
def Lok (n : Nat) (E : Nat → Nat → Prop) (ld : Nat → Nat) (L : List Nat) : Prop := (∀ c, c ∈ L ↔ c < n ∧ ld c = c) ∧ L.Pairwise (Rl E ld)
def Line (n : Nat) (E : Nat → Nat → Prop) (ld pl ln : Nat → Nat) (len : Nat) : Prop := Lok n E ld ((List.range len).map ln) ∧ ∀ i, i < len → pl (ln i) = i
theorem Comp.lt {n : Nat} {E : Nat → Nat → Prop} {ld : Nat → Nat} {mb : Nat → Int32} (h : Comp n E ld mb) {u : Nat} (hu : u < n) : ld u < n := (h.1 u hu).1
theorem Comp.iff {n : Nat} {E : Nat → Nat → Prop} {ld : Nat → Nat} {mb : Nat → Int32} (h : Comp n E ld mb) {u v : Nat} (hu : u < n) (hv : v < n) : Tg E u v ↔ ld u = ld v := by
  obtain ⟨a1, a2, a3⟩ := h.1 u hu
  obtain ⟨b1, b2, b3⟩ := h.1 v hv
  constructor
  · intro t
    have h1 := a3 (ld v) b1 (t.trans b2)
    have h2 := b3 (ld u) a1 (t.symm.trans a2)
    omega
  · intro e
    rw [e] at a2
    exact a2.trans b2.symm
theorem Comp.ldld {n : Nat} {E : Nat → Nat → Prop} {ld : Nat → Nat} {mb : Nat → Int32} (h : Comp n E ld mb) {u : Nat} (hu : u < n) : ld (ld u) = ld u :=
  ((h.iff hu (h.lt hu)).mp (h.1 u hu).2.1).symm
theorem Comp.le {n : Nat} {E : Nat → Nat → Prop} {ld : Nat → Nat} {mb : Nat → Int32} (h : Comp n E ld mb) {u : Nat} (hu : u < n) : ld u ≤ u := (h.1 u hu).2.2 u hu (Tg.refl u)
theorem Comp.mem {n : Nat} {E : Nat → Nat → Prop} {ld : Nat → Nat} {mb : Nat → Int32} (h : Comp n E ld mb) {u v : Nat} (hu : u < n) : bt (mb (ld u)) v = true ↔ v < n ∧ ld v = ld u := h.2 (ld u) (h.lt hu) (h.ldld hu) v
theorem ct_filter (p : Nat → Bool) : ∀ n, fb_ct p n = ((List.range n).filter p).length
  | 0 => rfl
  | n + 1 => by
    rw [fb_ct_succ, List.range_succ, List.filter_append, List.length_append, ct_filter p n]
    congr 1
    by_cases h : p n = true
    · simp [h]
    · simp [h]
theorem ct_list {L : List Nat} {n : Nat} {p : Nat → Bool} (hd : L.Nodup) (hm : ∀ c, c ∈ L ↔ c < n ∧ p c = true) : L.length = fb_ct p n := by
  rw [ct_filter]
  refine ((List.perm_ext_iff_of_nodup hd (List.Pairwise.filter p List.nodup_range)).mpr (fun c => ?_)).length_eq
  rw [hm, List.mem_filter, List.mem_range]
theorem Lok.nodup {n : Nat} {E : Nat → Nat → Prop} {ld : Nat → Nat} {L : List Nat} (h : Lok n E ld L) : L.Nodup := List.Pairwise.imp (fun r => r.1) h.2
theorem Lok.len {n : Nat} {E : Nat → Nat → Prop} {ld : Nat → Nat} {L : List Nat} (h : Lok n E ld L) : L.length = fb_ct (fun c => decide (ld c = c)) n :=
  ct_list h.nodup (fun c => by rw [h.1, decide_eq_true_eq])
theorem Line.len {n : Nat} {E : Nat → Nat → Prop} {ld pl ln : Nat → Nat} {len : Nat} (h : Line n E ld pl ln len) : len = fb_ct (fun c => decide (ld c = c)) n := by
  have := h.1.len
  rw [List.length_map, List.length_range] at this
  exact this
theorem Line.le {n : Nat} {E : Nat → Nat → Prop} {ld pl ln : Nat → Nat} {len : Nat} (h : Line n E ld pl ln len) : len ≤ n := by
  rw [h.len]; exact fb_ct_le _ _
theorem Line.at {n : Nat} {E : Nat → Nat → Prop} {ld pl ln : Nat → Nat} {len : Nat} (h : Line n E ld pl ln len) {i : Nat} (hi : i < len) : ln i < n ∧ ld (ln i) = ln i :=
  (h.1.1 (ln i)).mp (List.mem_map.mpr ⟨i, List.mem_range.mpr hi, rfl⟩)
theorem Line.pos {n : Nat} {E : Nat → Nat → Prop} {ld pl ln : Nat → Nat} {len : Nat} (h : Line n E ld pl ln len) {c : Nat} (hc : c < n) (hl : ld c = c) : pl c < len ∧ ln (pl c) = c := by
  obtain ⟨i, h1, h2⟩ := List.mem_map.mp ((h.1.1 c).mpr ⟨hc, hl⟩)
  have hi := List.mem_range.mp h1
  have := h.2 i hi
  rw [h2] at this
  rw [this]
  exact ⟨hi, h2⟩
theorem Line.rl {n : Nat} {E : Nat → Nat → Prop} {ld pl ln : Nat → Nat} {len : Nat} (h : Line n E ld pl ln len) {i j : Nat} (hij : i < j) (hj : j < len) : Rl E ld (ln i) (ln j) := by
  have := List.pairwise_iff_getElem.mp h.1.2 i j (by simp; omega) (by simp; omega) hij
  simpa using this
theorem Line.up {n : Nat} {E : Nat → Nat → Prop} {ld pl ln : Nat → Nat} {len : Nat} {mb : Nat → Int32} (h : Line n E ld pl ln len) (hC : Comp n E ld mb) {x y : Nat} (hx : x < n) (hy : y < n) (e : E x y) : pl (ld x) ≤ pl (ld y) := by
  obtain ⟨p1, p2⟩ := h.pos (hC.lt hx) (hC.ldld hx)
  obtain ⟨q1, q2⟩ := h.pos (hC.lt hy) (hC.ldld hy)
  rcases Nat.lt_or_ge (pl (ld y)) (pl (ld x)) with r | r
  · have := h.rl r p1
    rw [p2, q2] at this
    exact (this.2 x y e rfl rfl).elim
  · exact r
theorem Line.upR {n : Nat} {E : Nat → Nat → Prop} {ld pl ln : Nat → Nat} {len : Nat} {mb : Nat → Int32} (h : Line n E ld pl ln len) (hC : Comp n E ld mb) (hE : ∀ a b, E a b → a < n ∧ b < n) {x y : Nat} (r : Rc E x y) : pl (ld x) ≤ pl (ld y) :=
  Rc.ind (P := fun z => pl (ld x) ≤ pl (ld z)) (Nat.le_refl _) (fun a b _ ih e => Nat.le_trans ih (h.up hC (hE a b e).1 (hE a b e).2 e)) r
theorem Line.inj {n : Nat} {E : Nat → Nat → Prop} {ld pl ln : Nat → Nat} {len : Nat} {mb : Nat → Int32} (h : Line n E ld pl ln len) (hC : Comp n E ld mb) {x y : Nat} (hx : x < n) (hy : y < n) (e : pl (ld x) = pl (ld y)) : ld x = ld y := by
  obtain ⟨p1, p2⟩ := h.pos (hC.lt hx) (hC.ldld hx)
  obtain ⟨q1, q2⟩ := h.pos (hC.lt hy) (hC.ldld hy)
  rw [← p2, ← q2, e]
/-- behind adoptLine -/
theorem Line.adopt {n : Nat} {E : Nat → Nat → Prop} {ld : Nat → Nat} {T : List Nat} (h : Lok n E ld T) (nx pl ln : Nat → Nat) : Line n E ld (adP (apl nx 0 T) pl T.length) (adL (apl nx 0 T) ln T.length) T.length := by
  have e0 : ∀ i (hi : i < T.length), adL (apl nx 0 T) ln T.length i = T[i] := fun i hi => by rw [adL_at, if_pos hi, apl0_at T nx hi]
  have e1 : (List.range T.length).map (adL (apl nx 0 T) ln T.length) = T := by
    apply List.ext_getElem
    · simp
    · intro i h1 h2
      rw [List.getElem_map, List.getElem_range]
      exact e0 i h2
  have hd := List.pairwise_iff_getElem.mp h.nodup
  refine ⟨by rw [e1]; exact h, fun i hi => ?_⟩
  rw [e0 i hi, ← apl0_at T nx hi]
  refine adP_at (apl nx 0 T) pl T.length (fun a b hab hb => ?_) i hi
  rw [apl0_at T nx (by omega), apl0_at T nx hb]
  exact hd a b (by omega) hb hab
/-- all that holds between the calls -/
def Inv (n : Nat) (tg sr : Nat → Int32) (ld : Nat → Nat) (mb : Nat → Int32) (pl ln : Nat → Nat) (len : Nat) (hs : Nat → Nat) (ed : Nat → Bool) : Prop := Base n tg sr ed ∧ Comp n (Ed n tg) ld mb ∧ Line n (Ed n tg) ld pl ln len ∧ ∀ j, hs j < 100
def INV (G : GG) (ax am : Nat → Nat) (w1 w2 : va_W) : Prop := ∃ (n : Nat) (tg sr : Nat → Int32) (ld : Nat → Nat) (mb : Nat → Int32) (pl ln : Nat → Nat) (len : Nat) (nx : Nat → Nat) (nl : Nat) (hs : Nat → Nat) (ps : Nat → Int32) (ed re : Nat → Bool) (hi : Nat → Nat), w1 = XW G ax n tg sr ld mb pl ln len nx nl hs ps ∧ w2 = MW G am n ed re hi ∧ Inv n tg sr ld mb pl ln len hs ed
theorem Ed.in {n : Nat} {tg : Nat → Int32} (a b : Nat) (e : Ed n tg a b) : a < n ∧ b < n := ⟨e.1, e.2.1⟩
theorem Base.em {n : Nat} {tg sr : Nat → Int32} {ed : Nat → Bool} (h : Base n tg sr ed) (a b : Nat) : EM n ed a b ↔ Ed n tg a b := by
  obtain ⟨⟨h1, h2⟩, h3, h4, h5, h6⟩ := h
  unfold EM Ed
  constructor
  · rintro ⟨a1, a2, a3⟩
    obtain ⟨b1, b2⟩ := h6 (16 * a + b) (by omega) a3
    have e : (16 * a + b) / 16 = a := by omega
    rw [e] at b1
    exact ⟨b1, a2, (h5 a b b1 a2).mpr a3⟩
  · rintro ⟨a1, a2, a3⟩
    exact ⟨by omega, a2, (h5 a b a1 a2).mp a3⟩
theorem Base.rc {n : Nat} {tg sr : Nat → Int32} {ed : Nat → Bool} (h : Base n tg sr ed) (re : Nat → Bool) {u v : Nat} (hu : u < n) (hv : v < n) : fr ed n re (16 * u + v) = true ↔ Rc (Ed n tg) u v := by
  rw [fr_spec ed re h.1.2 (by have := h.1.2; omega) (by have := h.1.2; omega)]
  exact Rc.congr h.em u v
theorem Base.tg {n : Nat} {tg sr : Nat → Int32} {ed : Nat → Bool} (h : Base n tg sr ed) (re : Nat → Bool) {u v : Nat} (hu : u < n) (hv : v < n) : tog (fr ed n re) u v = true ↔ Tg (Ed n tg) u v := by
  rw [tog_spec ed re h.1.2 (by have := h.1.2; omega) (by have := h.1.2; omega)]
  exact Tg.congr h.em u v
theorem Base.lo {n : Nat} {tg sr : Nat → Int32} {ed : Nat → Bool} {ld : Nat → Nat} {mb : Nat → Int32} (h : Base n tg sr ed) (hC : Comp n (Ed n tg) ld mb) (re : Nat → Bool) {u : Nat} (hu : u < n) : lo (fr ed n re) u = ld u := by
  obtain ⟨a1, a2, a3⟩ := hC.1 u hu
  refine lo_spec (hC.le hu) (Or.inr ((h.tg re hu a1).mpr a2)) (fun j hj => ?_)
  cases e : tog (fr ed n re) u j
  · rfl
  · have := a3 j (by omega) ((h.tg re hu (by omega)).mp e)
    omega
theorem Base.co {n : Nat} {tg sr : Nat → Int32} {ed : Nat → Bool} {ld : Nat → Nat} {mb : Nat → Int32} (h : Base n tg sr ed) (hC : Comp n (Ed n tg) ld mb) (re : Nat → Bool) {pl ln : Nat → Nat} {len : Nat} (hL : Line n (Ed n tg) ld pl ln len) : coC (fr ed n re) n = len := by
  rw [coC_ct, hL.len]
  exact fb_ct_cong (fun k hk => by rw [h.lo hC re hk])
end
section
/-! along the line: forwardUpTo, backwardDownTo -/
theorem fwS_bit {n : Nat} {tg : Nat → Int32} {ld : Nat → Nat} {mb : Nat → Int32} {c : Nat} {met : Int32} (hl : ∀ u, u < n → ld u < 32) {d : Nat} : bt (fwS tg n ld mb c met) d = true ↔ bt met d = true ∨ (bt met c = true ∧ ∃ x y, x < n ∧ y < n ∧ bt (mb c) x = true ∧ bt (tg x) y = true ∧ d = ld y) := by
  unfold fwS
  by_cases h : bt met c = true
  · rw [if_pos h, b_or, Bool.or_eq_true, bt_ldsOf ld _ d n hl]
    constructor
    · rintro (q | ⟨y, h1, h2, h3⟩)
      · exact Or.inl q
      · obtain ⟨x, h4, h5, h6⟩ := (bt_tgOf tg _ y n).mp h2
        exact Or.inr ⟨h, x, y, h4, h1, h5, h6, h3⟩
    · rintro (q | ⟨_, x, y, h4, h1, h5, h6, h3⟩)
      · exact Or.inl q
      · exact Or.inr ⟨y, h1, (bt_tgOf tg _ y n).mpr ⟨x, h4, h5, h6⟩, h3⟩
  · rw [if_neg h]
    constructor
    · exact Or.inl
    · rintro (q | ⟨q, _⟩)
      · exact q
      · exact absurd q h
section FW
variable {n : Nat} {E : Nat → Nat → Prop} {tg' sr' : Nat → Int32} {ld : Nat → Nat} {mb : Nat → Int32} {pl ln : Nat → Nat} {len a p1 : Nat}
def FwOk (n : Nat) (tg' : Nat → Int32) (ld pl : Nat → Nat) (a i : Nat) (met : Int32) : Prop := (∀ c, bt met c = true → c < n ∧ ld c = c ∧ Rc (Ed n tg') a c) ∧ bt met a = true ∧ ∀ d, d < n → ld d = d → pl a ≤ pl d → pl d < i → bt met d = true → ∀ x y, Ed n tg' x y → ld x = d → bt met (ld y) = true
theorem fwd_go (hn : n ≤ 16) (hC : Comp n E ld mb) (hL : Line n E ld pl ln len) (hEE : ∀ x y, E x y → Ed n tg' x y) (K : ∀ x y, Ed n tg' x y → pl (ld x) ≤ pl (ld y) ∨ ld y = a) (hp1 : p1 < len) : ∀ g i met, i + g = p1 + 1 → pl a ≤ i → FwOk n tg' ld pl a i met → FwOk n tg' ld pl a (p1 + 1) (fwd tg' n ld mb ln g i met)
  | 0, i, met, hg, hi, h => by
    rw [fwd, ← hg]; exact h
  | g + 1, i, met, hg, hi, h => by
    rw [fwd]
    obtain ⟨hS, ha, hCl⟩ := h
    have hil : i < len := by omega
    obtain ⟨c1, c2⟩ := hL.at hil
    have c3 := hL.2 i hil
    have hb := fun d => fwS_bit (n := n) (tg := tg') (ld := ld) (mb := mb) (c := ln i) (met := met) (fun u hu => by have := hC.lt hu; omega) (d := d)
    have hmem := hC.2 (ln i) c1 c2
    refine fwd_go hn hC hL hEE K hp1 g (i + 1) _ (by omega) (by omega) ⟨fun d hd => ?_, (hb a).mpr (Or.inl ha), fun d d1 d2 d3 d4 hd x y e ex => ?_⟩
    · rcases (hb d).mp hd with q | ⟨q, x, y, hx, hy, h1, h2, h3⟩
      · exact hS d q
      · subst h3
        refine ⟨hC.lt hy, hC.ldld hy, ?_⟩
        have r1 := (hS (ln i) q).2.2
        have ex := ((hmem x).mp h1).2
        have r2 : Rc (Ed n tg') (ln i) x := by
          have := (hC.1 x hx).2.1.2
          rw [ex] at this
          exact this.mono hEE
        have r3 : Rc (Ed n tg') y (ld y) := (hC.1 y hy).2.1.1.mono hEE
        exact ((r1.trans r2).step ⟨hx, hy, h2⟩).trans r3
    · rcases Nat.lt_or_ge (pl d) i with q | q
      · have hmd : bt met d = true := by
          rcases (hb d).mp hd with r | ⟨r, x', y', hx', hy', h1, h2, h3⟩
          · exact r
          · have ex' := ((hmem x').mp h1).2
            rcases K x' y' ⟨hx', hy', h2⟩ with z | z
            · rw [ex', c3, ← h3] at z; omega
            · rw [h3, z]; exact ha
        exact (hb (ld y)).mpr (Or.inl (hCl d d1 d2 d3 q hmd x y e ex))
      · have e1 : d = ln i := by
          obtain ⟨z1, z2⟩ := hL.pos d1 d2
          rw [← z2, show pl d = i by omega]
        have hmc : bt met (ln i) = true := by
          cases hz : bt met (ln i)
          · have : bt (fwS tg' n ld mb (ln i) met) d = bt met (ln i) := by
              unfold fwS
              rw [if_neg (b_nf hz), e1]
            rw [this, hz] at hd; cases hd
          · rfl
        exact (hb (ld y)).mpr (Or.inr ⟨hmc, x, y, e.1, e.2.1, (hmem x).mpr ⟨e.1, by rw [ex, e1]⟩, e.2.2, rfl⟩)
theorem fwd_spec (hn : n ≤ 16) (hC : Comp n E ld mb) (hL : Line n E ld pl ln len) (hEE : ∀ x y, E x y → Ed n tg' x y) (K : ∀ x y, Ed n tg' x y → pl (ld x) ≤ pl (ld y) ∨ ld y = a) (hp1 : p1 < len) (ha : a < n) (hla : ld a = a) (hle : pl a ≤ p1 + 1) : FwOk n tg' ld pl a (p1 + 1) (fwd tg' n ld mb ln (p1 + 1 - pl a) (pl a) (sg a)) := by
  have hb : ∀ d, bt (sg a) d = true ↔ d = a := fun d => by rw [bt_sg (by omega), decide_eq_true_eq]
  refine fwd_go hn hC hL hEE K hp1 _ _ _ (by omega) (Nat.le_refl _) ⟨fun c hc => ?_, (hb a).mpr rfl, fun d _ _ d3 d4 => by omega⟩
  rw [(hb c).mp hc]
  exact ⟨ha, hla, Rc.refl _⟩
/-- what is reached in the graph of the line, as far as p1 -/
theorem FwOk.reach (hC : Comp n E ld mb) (hL : Line n E ld pl ln len) (hE : ∀ x y, E x y → x < n ∧ y < n) (hEE : ∀ x y, E x y → Ed n tg' x y) (hla : ld a = a) {F : Int32} (h : FwOk n tg' ld pl a (p1 + 1) F) {y : Nat} (r : Rc E a y) (hy : pl (ld y) ≤ p1) : bt F (ld y) = true := by
  refine Rc.ind (P := fun z => pl (ld z) ≤ p1 → bt F (ld z) = true) (fun _ => by rw [hla]; exact h.2.1) (fun x z hr ih e hz => ?_) r hy
  obtain ⟨hx, hz'⟩ := hE x z e
  have u1 := hL.up hC hx hz' e
  have u2 := hL.upR hC hE hr
  rw [hla] at u2
  exact h.2.2 (ld x) (hC.lt hx) (hC.ldld hx) u2 (by omega) (ih (by omega)) x z (hEE x z e) rfl
/-! backward -/
def BwOk (n : Nat) (tg' : Nat → Int32) (ld pl : Nat → Nat) (b j : Nat) (met : Int32) : Prop := (∀ c, bt met c = true → c < n ∧ ld c = c ∧ Rc (Ed n tg') c b) ∧ bt met b = true ∧ ∀ d, d < n → ld d = d → j ≤ pl d → pl d ≤ pl b → bt met d = true → ∀ x y, Ed n tg' x y → ld y = d → bt met (ld x) = true
theorem bwd_go {b p0 : Nat} (hn : n ≤ 16) (hC : Comp n E ld mb) (hL : Line n E ld pl ln len) (hEE : ∀ x y, E x y → Ed n tg' x y) (hsr : ∀ u v, v < n → (bt (sr' v) u = true ↔ u < n ∧ bt (tg' u) v = true)) (K : ∀ x y, Ed n tg' x y → pl (ld x) ≤ pl (ld y) ∨ ld x = b) (hb : b < n) (hlb : ld b = b) : ∀ g j met, j = p0 + g → j ≤ pl b + 1 → BwOk n tg' ld pl b j met → BwOk n tg' ld pl b p0 (bwd sr' n ld mb ln g j met)
  | 0, j, met, hg, hj, h => by
    rw [bwd, show p0 = j by omega]; exact h
  | g + 1, j, met, hg, hj, h => by
    rw [bwd]
    obtain ⟨hS, ha, hCl⟩ := h
    have hpb := (hL.pos hb hlb).1
    have hil : j - 1 < len := by omega
    obtain ⟨c1, c2⟩ := hL.at hil
    have c3 := hL.2 (j - 1) hil
    have hbt := fun d => fwS_bit (n := n) (tg := sr') (ld := ld) (mb := mb) (c := ln (j - 1)) (met := met) (fun u hu => by have := hC.lt hu; omega) (d := d)
    have hmem := hC.2 (ln (j - 1)) c1 c2
    refine bwd_go hn hC hL hEE hsr K hb hlb g (j - 1) _ (by omega) (by omega) ⟨fun d hd => ?_, (hbt b).mpr (Or.inl ha), fun d d1 d2 d3 d4 hd x y e ey => ?_⟩
    · rcases (hbt d).mp hd with q | ⟨q, y, x, hy, hx, h1, h2, h3⟩
      · exact hS d q
      · subst h3
        refine ⟨hC.lt hx, hC.ldld hx, ?_⟩
        have r1 := (hS (ln (j - 1)) q).2.2
        have ey := ((hmem y).mp h1).2
        have r2 : Rc (Ed n tg') y (ln (j - 1)) := by
          have := (hC.1 y hy).2.1.1
          rw [ey] at this
          exact this.mono hEE
        have r3 : Rc (Ed n tg') (ld x) x := (hC.1 x hx).2.1.2.mono hEE
        have h4 := (hsr x y hy).mp h2
        exact (r3.step ⟨hx, hy, h4.2⟩).trans (r2.trans r1)
    · rcases Nat.lt_or_ge (pl d) j with q | q
      · have e1 : d = ln (j - 1) := by
          obtain ⟨z1, z2⟩ := hL.pos d1 d2
          rw [← z2, show pl d = j - 1 by omega]
        have hmc : bt met (ln (j - 1)) = true := by
          cases hz : bt met (ln (j - 1))
          · have : bt (fwS sr' n ld mb (ln (j - 1)) met) d = bt met (ln (j - 1)) := by
              unfold fwS
              rw [if_neg (b_nf hz), e1]
            rw [this, hz] at hd; cases hd
          · rfl
        exact (hbt (ld x)).mpr (Or.inr ⟨hmc, y, x, e.2.1, e.1, (hmem y).mpr ⟨e.2.1, by rw [ey, e1]⟩, (hsr x y e.2.1).mpr ⟨e.1, e.2.2⟩, rfl⟩)
      · have hmd : bt met d = true := by
          rcases (hbt d).mp hd with r | ⟨r, y', x', hy', hx', h1, h2, h3⟩
          · exact r
          · have ey' := ((hmem y').mp h1).2
            have h4 := (hsr x' y' hy').mp h2
            rcases K x' y' ⟨hx', hy', h4.2⟩ with z | z
            · rw [ey', c3, ← h3] at z; omega
            · rw [h3, z]; exact ha
        exact (hbt (ld x)).mpr (Or.inl (hCl d d1 d2 q d4 hmd x y e ey))
theorem bwd_spec {b p0 : Nat} (hn : n ≤ 16) (hC : Comp n E ld mb) (hL : Line n E ld pl ln len) (hEE : ∀ x y, E x y → Ed n tg' x y) (hsr : ∀ u v, v < n → (bt (sr' v) u = true ↔ u < n ∧ bt (tg' u) v = true)) (K : ∀ x y, Ed n tg' x y → pl (ld x) ≤ pl (ld y) ∨ ld x = b) (hb : b < n) (hlb : ld b = b) (hle : p0 ≤ pl b + 1) : BwOk n tg' ld pl b p0 (bwd sr' n ld mb ln (pl b + 1 - p0) (pl b + 1) (sg b)) := by
  have hbt : ∀ d, bt (sg b) d = true ↔ d = b := fun d => by rw [bt_sg (by omega), decide_eq_true_eq]
  refine bwd_go hn hC hL hEE hsr K hb hlb _ _ _ (by omega) (Nat.le_refl _) ⟨fun c hc => ?_, (hbt b).mpr rfl, fun d _ _ d3 d4 => by omega⟩
  rw [(hbt c).mp hc]
  exact ⟨hb, hlb, Rc.refl _⟩
theorem BwOk.reach {b p0 : Nat} (hC : Comp n E ld mb) (hL : Line n E ld pl ln len) (hE : ∀ x y, E x y → x < n ∧ y < n) (hEE : ∀ x y, E x y → Ed n tg' x y) (hlb : ld b = b) {F : Int32} (h : BwOk n tg' ld pl b p0 F) {x : Nat} (r : Rc E x b) (hx : p0 ≤ pl (ld x)) : bt F (ld x) = true := by
  refine Rc.indr (P := fun z => p0 ≤ pl (ld z) → bt F (ld z) = true) (fun _ => by rw [hlb]; exact h.2.1) (fun y z e hr ih hz => ?_) r hx
  obtain ⟨hy, hz'⟩ := hE y z e
  have u1 := hL.up hC hy hz' e
  have u2 := hL.upR hC hE hr
  rw [hlb] at u2
  exact h.2.2 (ld z) (hC.lt hz') (hC.ldld hz') (by omega) u2 (ih (by omega)) y z (hEE y z e) rfl
end FW
end
section
/-! the asks: both answer alike -/
theorem ct_ext {p q : Nat → Bool} {n N : Nat} (hN : n ≤ N) (h1 : ∀ k, k < n → p k = q k) (h2 : ∀ k, n ≤ k → k < N → p k = false) : fb_ct p N = fb_ct q n := by
  obtain ⟨m, rfl⟩ : ∃ m, N = n + m := ⟨N - n, by omega⟩
  rw [fb_ct_split, fb_ct_cong h1]
  have : fb_ct (fun k => p (n + k)) m = 0 := fb_ct_zero.mpr (fun k hk => h2 (n + k) (by omega) (by omega))
  omega
theorem b_iff {a b : Bool} (h : a = true ↔ b = true) : a = b := by cases a <;> cases b <;> simp_all
theorem Inv.size {n : Nat} {tg sr : Nat → Int32} {ld : Nat → Nat} {mb : Nat → Int32} {ed : Nat → Bool} (hB : Base n tg sr ed) (hC : Comp n (Ed n tg) ld mb) (re : Nat → Bool) {u : Nat} (hu : u < n) : bc (mb (ld u)) 16 = szC (fr ed n re) u n := by
  rw [bc_ct, szC_ct]
  refine ct_ext hB.1.2 (fun k hk => b_iff ?_) (fun k h1 h2 => ?_)
  · rw [hC.mem hu, hB.tg re hu hk, hC.iff hu hk]
    exact ⟨fun h => h.2.symm, fun h => ⟨hk, h.symm⟩⟩
  · cases e : bt (mb (ld u)) k
    · rfl
    · have := ((hC.mem hu).mp e).1; omega
theorem Inv.reach {n : Nat} {tg sr : Nat → Int32} {ld : Nat → Nat} {mb : Nat → Int32} {ed : Nat → Bool} {pl ln : Nat → Nat} {len : Nat} (hB : Base n tg sr ed) (hC : Comp n (Ed n tg) ld mb) (hL : Line n (Ed n tg) ld pl ln len) {u v : Nat} (hu : u < n) (hv : v < n) (hle : pl (ld u) ≤ pl (ld v)) : bt (fwd tg n ld mb ln (pl (ld v) + 1 - pl (ld u)) (pl (ld u)) (sg (ld u))) (ld v) = true ↔ Rc (Ed n tg) u v := by
  have hF := fwd_spec (a := ld u) (p1 := pl (ld v)) hB.1.2 hC hL (fun x y e => e) (fun x y e => Or.inl (hL.up hC e.1 e.2.1 e)) (hL.pos (hC.lt hv) (hC.ldld hv)).1 (hC.lt hu) (hC.ldld hu) (by omega)
  have tu := (hC.1 u hu).2.1
  have tv := (hC.1 v hv).2.1
  constructor
  · intro h
    exact (tu.1.trans (hF.1 _ h).2.2).trans tv.2
  · intro h
    exact hF.reach hC hL Ed.in (fun x y e => e) (hC.ldld hu) (tu.2.trans h) (Nat.le_refl _)
theorem CycIs.congr {E E' : Nat → Nat → Prop} {u : Nat} {r : Int32} (h : ∀ k, Wk E k u u ↔ Wk E' k u u) (c : CycIs E u r) : CycIs E' u r := by
  rcases c with ⟨d, ⟨h1, h2, h3⟩, e⟩ | ⟨h1, e⟩
  · exact Or.inl ⟨d, ⟨h1, (h d).mp h2, fun j hj hj2 q => h3 j hj hj2 ((h j).mpr q)⟩, e⟩
  · exact Or.inr ⟨fun d hd q => h1 d hd ((h d).mpr q), e⟩
theorem Inv.cyc {n : Nat} {tg sr : Nat → Int32} {ld : Nat → Nat} {mb : Nat → Int32} {ed : Nat → Bool} (hB : Base n tg sr ed) (hC : Comp n (Ed n tg) ld mb) {u : Nat} (hu : u < n) : cyc tg n (mb (ld u)) u 16 1 (tg u &&& mb (ld u)) (tg u &&& mb (ld u)) = cyG ed u n 1 (sg u) := by
  have h1 := cyc_spec (tg := tg) (W := mb (ld u)) hB.1.2 hu (fun b hb => ((hC.mem hu).mp hb).1)
  have h2 := cyG_spec (ed := ed) hB.1.2 hu (fun m hm he => (hB.2.2.2.2 m hm he).2)
  refine h1.one (CycIs.congr (fun k => ?_) h2)
  have key : ∀ k v, Wk (Ed n tg) k u v → Rc (Ed n tg) v u → Wk (EW n tg (mb (ld u))) k u v := by
    intro k
    induction k with
    | zero => intro v h _; exact h
    | succ k ih =>
      intro v h hr
      obtain ⟨w, h3, e⟩ := h
      have hw : Rc (Ed n tg) w u := (Rc.one e).trans hr
      refine ⟨w, ih w h3 hw, e.1, e.2.2, (hC.mem hu).mpr ⟨e.2.1, ?_⟩⟩
      exact (hC.iff e.2.1 hu).mp ⟨hr, (Rc.step ⟨k, h3⟩ e)⟩
  constructor
  · intro h
    exact key k u (Wk.mono (fun a b e => (hB.em a b).mp e) h) (Rc.refl u)
  · intro h
    refine Wk.mono (fun a b e => (hB.em a b).mpr ⟨e.1, hB.2.1 a b e.1 e.2.1, e.2.1⟩) h
theorem ct_rows (p : Nat → Bool) : ∀ m, fb_ct p (16 * m) = fb_sm (fun u => fb_ct (fun v => p (16 * u + v)) 16) m
  | 0 => rfl
  | m + 1 => by
    rw [fb_sm_succ, ← ct_rows p m, show 16 * (m + 1) = 16 * m + 16 by omega, fb_ct_split]
theorem oeC_sm (tg : Nat → Int32) (ld : Nat → Nat) (mb : Nat → Int32) : ∀ k, oeC tg ld mb k = fb_sm (fun u => bc (tg u &&& (mb (ld u) ^^^ (-1))) 16) k
  | 0 => rfl
  | k + 1 => by rw [oeC, fb_sm_succ, oeC_sm tg ld mb k]
theorem Inv.outer {n : Nat} {tg sr : Nat → Int32} {ld : Nat → Nat} {mb : Nat → Int32} {ed : Nat → Bool} (hB : Base n tg sr ed) (hC : Comp n (Ed n tg) ld mb) (re : Nat → Bool) : oeC tg ld mb n = oeM ed (fr ed n re) 256 := by
  obtain ⟨⟨b1, b2⟩, b3, b4, b5, b6⟩ := hB
  have hB : Base n tg sr ed := ⟨⟨b1, b2⟩, b3, b4, b5, b6⟩
  rw [oeM_ct, show (256 : Nat) = 16 * 16 by omega, ct_rows, oeC_sm]
  obtain ⟨m, hm⟩ : ∃ m, 16 = n + m := ⟨16 - n, by omega⟩
  have e1 : fb_sm (fun u => fb_ct (fun v => ed (16 * u + v) && !tog (fr ed n re) ((16 * u + v) / 16) ((16 * u + v) % 16)) 16) 16 = fb_sm (fun u => fb_ct (fun v => ed (16 * u + v) && !tog (fr ed n re) ((16 * u + v) / 16) ((16 * u + v) % 16)) 16) (n + m) := by rw [← hm]
  rw [e1, fb_sm_split]
  have z : fb_sm (fun k => fb_ct (fun v => ed (16 * (n + k) + v) && !tog (fr ed n re) ((16 * (n + k) + v) / 16) ((16 * (n + k) + v) % 16)) 16) m = 0 := by
    have : fb_sm (fun k => fb_ct (fun v => ed (16 * (n + k) + v) && !tog (fr ed n re) ((16 * (n + k) + v) / 16) ((16 * (n + k) + v) % 16)) 16) m = fb_sm (fun _ => 0) m := by
      refine fb_sm_cong (fun k hk => fb_ct_zero.mpr (fun v hv => ?_))
      cases e : ed (16 * (n + k) + v)
      · rfl
      · have := (b6 _ (by omega) e).1
        omega
    rw [this, fb_sm_const]; omega
  rw [z, Nat.add_zero]
  refine fb_sm_cong (fun u hu => ?_)
  rw [bc_ct]
  refine fb_ct_cong (fun v hv => b_iff ?_)
  rw [bt_diff, show (16 * u + v) / 16 = u by omega, show (16 * u + v) % 16 = v by omega, Bool.and_eq_true, Bool.and_eq_true, Bool.not_eq_true', Bool.not_eq_true']
  constructor
  · rintro ⟨h1, h2⟩
    have hv' := b3 u v hu h1
    refine ⟨(b5 u v hu hv').mp h1, ?_⟩
    cases e : tog (fr ed n re) u v
    · rfl
    · have := (hC.iff hu hv').mp ((hB.tg re hu hv').mp e)
      rw [(hC.mem hu).mpr ⟨hv', this.symm⟩] at h2; cases h2
  · rintro ⟨h1, h2⟩
    have hv' : v < n := by
      have := (b6 _ (by omega) h1).2
      omega
    refine ⟨(b5 u v hu hv').mpr h1, ?_⟩
    cases e : bt (mb (ld u)) v
    · rfl
    · have := (hB.tg re hu hv').mpr ((hC.iff hu hv').mpr ((hC.mem hu).mp e).2.symm)
      rw [this] at h2; cases h2
theorem iol_spec {tg : Nat → Int32} {n : Nat} {mb : Nat → Int32} {ln : Nat → Nat} : ∀ f i, iol tg n mb ln f i = true ↔ ∀ j, i ≤ j → j < i + f → ¬ tgOf tg (mb (ln j)) n &&& mb (ln (j + 1)) = 0
  | 0, i => by
    rw [iol]
    exact ⟨fun _ j h1 h2 => by omega, fun _ => rfl⟩
  | f + 1, i => by
    rw [iol]
    by_cases h : tgOf tg (mb (ln i)) n &&& mb (ln (i + 1)) = 0
    · rw [if_pos h]
      constructor
      · intro q; cases q
      · intro q; exact absurd h (q i (Nat.le_refl _) (by omega))
    · rw [if_neg h, iol_spec f (i + 1)]
      constructor
      · intro q j h1 h2
        rcases Nat.lt_or_ge i j with r | r
        · exact q j (by omega) (by omega)
        · have : j = i := by omega
          subst this; exact h
      · intro q j h1 h2
        exact q j (by omega) (by omega)
theorem Inv.one {n : Nat} {tg sr : Nat → Int32} {ld : Nat → Nat} {mb : Nat → Int32} {ed : Nat → Bool} {pl ln : Nat → Nat} {len : Nat} (hB : Base n tg sr ed) (hC : Comp n (Ed n tg) ld mb) (hL : Line n (Ed n tg) ld pl ln len) (re : Nat → Bool) : iol tg n mb ln (len - 1) 0 = ilO (fr ed n re) n n 0 := by
  apply b_iff
  rw [iol_spec, ilO_spec]
  have cross : ∀ j, j + 1 < len → (¬ tgOf tg (mb (ln j)) n &&& mb (ln (j + 1)) = 0 ↔ ∃ x y, Ed n tg x y ∧ ld x = ln j ∧ ld y = ln (j + 1)) := by
    intro j hj
    obtain ⟨a1, a2⟩ := hL.at (show j < len by omega)
    obtain ⟨b1, b2⟩ := hL.at hj
    constructor
    · intro h
      obtain ⟨y, hy⟩ := bt_ne h
      rw [b_and, Bool.and_eq_true, bt_tgOf, hC.2 _ b1 b2] at hy
      obtain ⟨⟨x, h1, h2, h3⟩, h4, h5⟩ := hy
      exact ⟨x, y, ⟨h1, h4, h3⟩, ((hC.2 _ a1 a2 x).mp h2).2, h5⟩
    · rintro ⟨x, y, e, h1, h2⟩ h0
      have : bt (tgOf tg (mb (ln j)) n &&& mb (ln (j + 1))) y = true := by
        rw [b_and, Bool.and_eq_true, bt_tgOf, hC.2 _ b1 b2]
        exact ⟨⟨x, e.1, (hC.2 _ a1 a2 x).mpr ⟨e.1, h1⟩, e.2.2⟩, e.2.1, h2⟩
      rw [h0, b_0] at this; cases this
  constructor
  · intro h
    have chain : ∀ k i, i + k < len → Rc (Ed n tg) (ln i) (ln (i + k)) := by
      intro k
      induction k with
      | zero => intro i hi; exact Rc.refl _
      | succ k ih =>
        intro i hi
        obtain ⟨x, y, e, h1, h2⟩ := (cross (i + k) (by omega)).mp (h (i + k) (by omega) (by omega))
        have r1 : Rc (Ed n tg) (ln (i + k)) x := by rw [← h1]; exact (hC.1 x e.1).2.1.2
        have r2 : Rc (Ed n tg) y (ln (i + k + 1)) := by rw [← h2]; exact (hC.1 y e.2.1).2.1.1
        exact (ih i (by omega)).trans ((r1.step e).trans r2)
    have le : ∀ u v, u < n → v < n → pl (ld u) ≤ pl (ld v) → Rc (Ed n tg) u v := by
      intro u v hu hv hle
      obtain ⟨p1, p2⟩ := hL.pos (hC.lt hu) (hC.ldld hu)
      obtain ⟨q1, q2⟩ := hL.pos (hC.lt hv) (hC.ldld hv)
      have := chain (pl (ld v) - pl (ld u)) (pl (ld u)) (by omega)
      rw [show pl (ld u) + (pl (ld v) - pl (ld u)) = pl (ld v) by omega, p2, q2] at this
      exact ((hC.1 u hu).2.1.1.trans this).trans (hC.1 v hv).2.1.2
    intro a _ ha w hw
    have ha' : a < n := by omega
    rcases Nat.le_total (pl (ld a)) (pl (ld w)) with q | q
    · exact Or.inl ((hB.rc re ha' hw).mpr (le a w ha' hw q))
    · exact Or.inr ((hB.rc re hw ha').mpr (le w a hw ha' q))
  · intro h j _ hj
    have hj' : j + 1 < len := by omega
    obtain ⟨a1, a2⟩ := hL.at (show j < len by omega)
    obtain ⟨b1, b2⟩ := hL.at hj'
    have p1 := hL.2 j (by omega)
    have p2 := hL.2 (j + 1) hj'
    rw [cross j hj']
    have r : Rc (Ed n tg) (ln j) (ln (j + 1)) := by
      rcases h (ln j) (by omega) (by omega) (ln (j + 1)) b1 with q | q
      · exact (hB.rc re a1 b1).mp q
      · have := hL.upR hC Ed.in ((hB.rc re b1 a1).mp q)
        rw [a2, b2] at this
        omega
    have key : pl (ld (ln j)) = j → ∃ x y, Ed n tg x y ∧ ld x = ln j ∧ ld y = ln (j + 1) := by
      refine Rc.indr (P := fun z => pl (ld z) = j → ∃ x y, Ed n tg x y ∧ ld x = ln j ∧ ld y = ln (j + 1)) (fun z => by rw [b2] at z; omega) (fun x y e hr ih hx => ?_) r
      have u1 := hL.up hC e.1 e.2.1 e
      have u2 := hL.upR hC Ed.in hr
      rw [b2, p2] at u2
      rcases Nat.lt_or_ge j (pl (ld y)) with q | q
      · refine ⟨x, y, e, ?_, ?_⟩
        · obtain ⟨z1, z2⟩ := hL.pos (hC.lt e.1) (hC.ldld e.1)
          rw [← z2, hx]
        · obtain ⟨z1, z2⟩ := hL.pos (hC.lt e.2.1) (hC.ldld e.2.1)
          rw [← z2, show pl (ld y) = j + 1 by omega]
      · exact ih (by omega)
    exact key (by rw [a2]; exact p1)
/-! heights -/
theorem hIn_ge {hs ld : Nat → Nat} {x : Int32} : ∀ k w, w < k → bt x w = true → hs (ld w) + 1 ≤ hIn hs ld x k
  | k + 1, w, hw, hb => by
    rw [hIn]
    rcases Nat.lt_or_ge w k with q | q
    · have ih := hIn_ge (hs := hs) (ld := ld) k w q hb
      split
      · rename_i r; have := r.2; omega
      · exact ih
    · have : w = k := by omega
      subst this
      split
      · exact Nat.le_refl _
      · rename_i r
        have : ¬ hIn hs ld x w ≤ hs (ld w) := fun z => r ⟨hb, z⟩
        omega
theorem hIn_gr {hs ld : Nat → Nat} {x : Int32} : ∀ k, hIn hs ld x k = 0 ∨ ∃ w, w < k ∧ bt x w = true ∧ hIn hs ld x k = hs (ld w) + 1
  | 0 => Or.inl rfl
  | k + 1 => by
    rw [hIn]
    split
    · rename_i r
      exact Or.inr ⟨k, by omega, r.1, rfl⟩
    · rcases hIn_gr (hs := hs) (ld := ld) (x := x) k with q | ⟨w, h1, h2, h3⟩
      · exact Or.inl q
      · exact Or.inr ⟨w, by omega, h2, h3⟩
section HT
variable {n : Nat} {tg sr : Nat → Int32} {ld : Nat → Nat} {mb : Nat → Int32} {ed : Nat → Bool} {pl ln hs : Nat → Nat} {len : Nat}
theorem hOut_keep (hL : Line n (Ed n tg) ld pl ln len) {j : Nat} : ∀ i, j < i → i ≤ len → hOut sr n ld mb ln hs i (ln j) = hOut sr n ld mb ln hs (j + 1) (ln j)
  | i + 1, h1, h2 => by
    rcases Nat.lt_or_ge j i with q | q
    · have e : hOut sr n ld mb ln hs (i + 1) (ln j) = hOut sr n ld mb ln hs i (ln j) := by
        rw [hOut, va_up_ne _ _ (fun z => ?_)]
        have a1 := hL.2 i (by omega)
        have a2 := hL.2 j (by omega)
        rw [z] at a2; omega
      rw [e]; exact hOut_keep hL i q (by omega)
    · have : j = i := by omega
      subst this; rfl
theorem hOut_old : ∀ i x, (∀ j, j < i → x ≠ ln j) → hOut sr n ld mb ln hs i x = hs x
  | 0, x, _ => rfl
  | i + 1, x, h => by
    rw [hOut, va_up_ne _ _ (h i (by omega))]
    exact hOut_old i x (fun j hj => h j (by omega))
theorem before_bit (hB : Base n tg sr ed) (hC : Comp n (Ed n tg) ld mb) {c : Nat} (hc : c < n) (hl : ld c = c) {x : Nat} : bt (tgOf sr (mb c) n &&& (mb c ^^^ (-1))) x = true ↔ ∃ y, Ed n tg x y ∧ ld y = c ∧ ld x ≠ c := by
  rw [bt_diff, Bool.and_eq_true, Bool.not_eq_true', bt_tgOf]
  constructor
  · rintro ⟨⟨y, h1, h2, h3⟩, h4⟩
    obtain ⟨a1, a2⟩ := (hB.2.2.1 x y h1).mp h3
    refine ⟨y, ⟨a1, h1, a2⟩, ((hC.2 c hc hl y).mp h2).2, fun z => ?_⟩
    rw [(hC.2 c hc hl x).mpr ⟨a1, z⟩] at h4; cases h4
  · rintro ⟨y, e, h1, h2⟩
    refine ⟨⟨y, e.2.1, (hC.2 c hc hl y).mpr ⟨e.2.1, h1⟩, (hB.2.2.1 x y e.2.1).mpr ⟨e.1, e.2.2⟩⟩, ?_⟩
    cases q : bt (mb c) x
    · rfl
    · exact absurd ((hC.2 c hc hl x).mp q).2 h2
theorem hOut_val (hB : Base n tg sr ed) (hC : Comp n (Ed n tg) ld mb) (hL : Line n (Ed n tg) ld pl ln len) {j : Nat} (hj : j < len) : hOut sr n ld mb ln hs len (ln j) = hIn (hOut sr n ld mb ln hs j) ld (tgOf sr (mb (ln j)) n &&& (mb (ln j) ^^^ (-1))) n := by
  rw [hOut_keep hL len hj (Nat.le_refl _), hOut, va_up_self]
/-- what lies before a component has its last height when the component's turn comes -/
theorem hOut_before (hB : Base n tg sr ed) (hC : Comp n (Ed n tg) ld mb) (hL : Line n (Ed n tg) ld pl ln len) {x y : Nat} (e : Ed n tg x y) (hne : ld x ≠ ld y) : pl (ld x) < pl (ld y) ∧ hOut sr n ld mb ln hs (pl (ld y)) (ld x) = hOut sr n ld mb ln hs len (ld x) := by
  have u1 := hL.up hC e.1 e.2.1 e
  have u2 : pl (ld x) ≠ pl (ld y) := fun z => hne (hL.inj hC e.1 e.2.1 z)
  obtain ⟨p1, p2⟩ := hL.pos (hC.lt e.1) (hC.ldld e.1)
  obtain ⟨q1, q2⟩ := hL.pos (hC.lt e.2.1) (hC.ldld e.2.1)
  have k1 := hOut_keep (sr := sr) (mb := mb) (hs := hs) hL (j := pl (ld x)) (pl (ld y)) (by omega) (by omega)
  have k2 := hOut_keep (sr := sr) (mb := mb) (hs := hs) hL (j := pl (ld x)) len p1 (Nat.le_refl _)
  rw [p2] at k1 k2
  exact ⟨by omega, by rw [k1, k2]⟩
theorem hOut_up (hB : Base n tg sr ed) (hC : Comp n (Ed n tg) ld mb) (hL : Line n (Ed n tg) ld pl ln len) {x y : Nat} (e : Ed n tg x y) (hne : ld x ≠ ld y) : hOut sr n ld mb ln hs len (ld x) + 1 ≤ hOut sr n ld mb ln hs len (ld y) := by
  obtain ⟨h1, h2⟩ := hOut_before (hs := hs) hB hC hL e hne
  obtain ⟨q1, q2⟩ := hL.pos (hC.lt e.2.1) (hC.ldld e.2.1)
  have hv := hOut_val (hs := hs) hB hC hL q1
  rw [q2] at hv
  rw [hv, ← h2]
  exact hIn_ge n x e.1 ((before_bit hB hC (hC.lt e.2.1) (hC.ldld e.2.1)).mpr ⟨y, e, rfl, hne⟩)
theorem hOut_gr (hB : Base n tg sr ed) (hC : Comp n (Ed n tg) ld mb) (hL : Line n (Ed n tg) ld pl ln len) {v : Nat} (hv : v < n) : hOut sr n ld mb ln hs len (ld v) = 0 ∨ ∃ x y, Ed n tg x y ∧ ld y = ld v ∧ ld x ≠ ld v ∧ hOut sr n ld mb ln hs len (ld v) = hOut sr n ld mb ln hs len (ld x) + 1 := by
  obtain ⟨q1, q2⟩ := hL.pos (hC.lt hv) (hC.ldld hv)
  have hh := hOut_val (hs := hs) hB hC hL q1
  rw [q2] at hh
  rcases hIn_gr (hs := hOut sr n ld mb ln hs (pl (ld v))) (ld := ld) (x := tgOf sr (mb (ld v)) n &&& (mb (ld v) ^^^ (-1))) n with z | ⟨x, h1, h2, h3⟩
  · exact Or.inl (by rw [hh, z])
  · obtain ⟨y, e, h4, h5⟩ := (before_bit hB hC (hC.lt hv) (hC.ldld hv)).mp h2
    obtain ⟨_, k2⟩ := hOut_before (hs := hs) (mb := mb) hB hC hL e (by rw [h4]; exact h5)
    rw [h4] at k2
    exact Or.inr ⟨x, y, e, h4, h5, by rw [hh, h3, k2]⟩
theorem hOut_le (hB : Base n tg sr ed) (hC : Comp n (Ed n tg) ld mb) (hL : Line n (Ed n tg) ld pl ln len) : ∀ d v, v < n → pl (ld v) ≤ d → hOut sr n ld mb ln hs len (ld v) ≤ d := by
  intro d
  induction d with
  | zero =>
    intro v hv hd
    rcases hOut_gr (hs := hs) hB hC hL hv with z | ⟨x, y, e, h1, h2, h3⟩
    · omega
    · have := (hOut_before (hs := hs) (mb := mb) hB hC hL e (by rw [h1]; exact h2)).1
      rw [h1] at this; omega
  | succ d ih =>
    intro v hv hd
    rcases hOut_gr (hs := hs) hB hC hL hv with z | ⟨x, y, e, h1, h2, h3⟩
    · omega
    · have := (hOut_before (hs := hs) (mb := mb) hB hC hL e (by rw [h1]; exact h2)).1
      rw [h1] at this
      have := ih x e.1 (by omega)
      omega
theorem hOut_small (hB : Base n tg sr ed) (hC : Comp n (Ed n tg) ld mb) (hL : Line n (Ed n tg) ld pl ln len) (hh : ∀ j, hs j < 100) : ∀ i, i ≤ len → ∀ x, hOut sr n ld mb ln hs i x < 100 := by
  intro i hi x
  by_cases q : ∃ j, j < i ∧ x = ln j
  · obtain ⟨j, hj, rfl⟩ := q
    rw [hOut_keep hL i hj hi, ← hOut_keep hL len (show j < len by omega) (Nat.le_refl _)]
    obtain ⟨a1, a2⟩ := hL.at (show j < len by omega)
    have := hOut_le (hs := hs) hB hC hL (pl (ld (ln j))) (ln j) a1 (Nat.le_refl _)
    rw [a2] at this
    have h2 := hL.2 j (by omega)
    have h3 := hL.le
    have h4 := hB.1.2
    omega
  · rw [hOut_old i x (fun j hj z => q ⟨j, hj, z⟩)]; exact hh x
theorem Inv.high (hB : Base n tg sr ed) (hC : Comp n (Ed n tg) ld mb) (hL : Line n (Ed n tg) ld pl ln len) (re : Nat → Bool) (hi : Nat → Nat) {u : Nat} (hu : u < n) : hG ed (fr ed n re) n 40 (hz hi n) true u = hOut sr n ld mb ln hs len (ld u) := by
  refine hG_ok (H := fun v => hOut sr n ld mb ln hs len (ld v)) hi (fun x y hx hy => ⟨fun t => ?_, fun e t => ?_⟩) (fun v hv => ?_) (fun v hv => ?_) hu
  · show hOut sr n ld mb ln hs len (ld x) ≤ hOut sr n ld mb ln hs len (ld y)
    rw [(hC.iff hx hy).mp ((hB.tg re hx hy).mp t)]; exact Nat.le_refl _
  · refine hOut_up hB hC hL ⟨hx, hy, (hB.2.2.2.1 x y hx hy).mpr e⟩ (fun z => ?_)
    rw [(hB.tg re hx hy).mpr ((hC.iff hx hy).mpr z)] at t; cases t
  · rcases hOut_gr (hs := hs) hB hC hL hv with z | ⟨x, y, e, h1, h2, h3⟩
    · exact Or.inl z
    · refine Or.inr ⟨x, y, e.1, e.2.1, (hB.tg re e.2.1 hv).mpr ((hC.iff e.2.1 hv).mpr h1), (hB.2.2.2.1 x y e.1 e.2.1).mp e.2.2, ?_, h3⟩
      cases q : tog (fr ed n re) x y
      · rfl
      · exact absurd (((hC.iff e.1 e.2.1).mp ((hB.tg re e.1 e.2.1).mp q)).trans h1) h2
  · have := hOut_le (hs := hs) hB hC hL (pl (ld v)) v hv (Nat.le_refl _)
    have h2 := (hL.pos (hC.lt hv) (hC.ldld hv)).1
    have h3 := hL.le
    have h4 := hB.1.2
    show hOut sr n ld mb ln hs len (ld v) ≤ 15
    omega
end HT
end
section
/-! addEdge: the plain law -/
theorem b_nt {b : Bool} (h : ¬ b = true) : b = false := by cases b <;> simp_all
theorem bt_add {tg : Nat → Int32} {u v : Nat} (hv : v < 32) (a b : Nat) : bt (upd tg u (tg u ||| sg v) a) b = true ↔ bt (tg a) b = true ∨ (a = u ∧ b = v) := by
  unfold upd
  by_cases h : a = u
  · rw [if_pos h, b_or, Bool.or_eq_true, bt_sg hv, decide_eq_true_eq, h]
    exact ⟨fun z => z.elim Or.inl (fun z => Or.inr ⟨rfl, z⟩), fun z => z.elim Or.inl (fun z => Or.inr z.2)⟩
  · rw [if_neg h]
    exact ⟨Or.inl, fun z => z.elim id (fun z => absurd z.1 h)⟩
theorem bt_del {tg : Nat → Int32} {u v : Nat} (hv : v < 32) (a b : Nat) : bt (upd tg u (tg u &&& (sg v ^^^ (-1))) a) b = true ↔ bt (tg a) b = true ∧ ¬ (a = u ∧ b = v) := by
  unfold upd
  by_cases h : a = u
  · rw [if_pos h, bt_diff, Bool.and_eq_true, Bool.not_eq_true', bt_sg hv, decide_eq_false_iff_not, h]
    exact ⟨fun z => ⟨z.1, fun y => z.2 y.2⟩, fun z => ⟨z.1, fun y => z.2 ⟨rfl, y⟩⟩⟩
  · rw [if_neg h]
    exact ⟨fun z => ⟨z, fun y => h y.1⟩, fun z => z.1⟩
theorem Base.add {n : Nat} {tg sr : Nat → Int32} {ed : Nat → Bool} (h : Base n tg sr ed) {u v : Nat} (hu : u < n) (hv : v < n) : Base n (upd tg u (tg u ||| sg v)) (upd sr v (sr v ||| sg u)) (va_up ed (16 * u + v) true) := by
  obtain ⟨⟨h1, h2⟩, h3, h4, h5, h6⟩ := h
  have t := fun a b => bt_add (tg := tg) (u := u) (v := v) (by omega) a b
  have s := fun a b => bt_add (tg := sr) (u := v) (v := u) (by omega) a b
  refine ⟨⟨h1, h2⟩, fun a b ha hb => ?_, fun a b hb => ?_, fun a b ha hb => ?_, fun m hm he => ?_⟩
  · rcases (t a b).mp hb with z | z
    · exact h3 a b ha z
    · rw [z.2]; exact hv
  · rw [s, t, h4 a b hb]
    constructor
    · rintro (z | ⟨z1, z2⟩)
      · exact ⟨z.1, Or.inl z.2⟩
      · exact ⟨by rw [z2]; exact hu, Or.inr ⟨z2, z1⟩⟩
    · rintro ⟨z0, z | ⟨z1, z2⟩⟩
      · exact Or.inl ⟨z0, z⟩
      · exact Or.inr ⟨z2, z1⟩
  · rw [t, h5 a b ha hb]
    by_cases z : 16 * a + b = 16 * u + v
    · rw [z, va_up_self]
      exact ⟨fun _ => rfl, fun _ => Or.inr ⟨by omega, by omega⟩⟩
    · rw [va_up_ne _ _ z]
      exact ⟨fun y => y.elim id (fun y => (z (by rw [y.1, y.2])).elim), Or.inl⟩
  · by_cases z : m = 16 * u + v
    · omega
    · rw [va_up_ne _ _ z] at he
      exact h6 m hm he
theorem Base.del {n : Nat} {tg sr : Nat → Int32} {ed : Nat → Bool} (h : Base n tg sr ed) {u v : Nat} (hu : u < n) (hv : v < n) : Base n (upd tg u (tg u &&& (sg v ^^^ (-1)))) (upd sr v (sr v &&& (sg u ^^^ (-1)))) (va_up ed (16 * u + v) false) := by
  obtain ⟨⟨h1, h2⟩, h3, h4, h5, h6⟩ := h
  have t := fun a b => bt_del (tg := tg) (u := u) (v := v) (by omega) a b
  have s := fun a b => bt_del (tg := sr) (u := v) (v := u) (by omega) a b
  refine ⟨⟨h1, h2⟩, fun a b ha hb => ?_, fun a b hb => ?_, fun a b ha hb => ?_, fun m hm he => ?_⟩
  · exact h3 a b ha ((t a b).mp hb).1
  · rw [s, t, h4 a b hb]
    constructor
    · rintro ⟨⟨z1, z2⟩, z3⟩
      exact ⟨z1, z2, fun y => z3 ⟨y.2, y.1⟩⟩
    · rintro ⟨z1, z2, z3⟩
      exact ⟨⟨z1, z2⟩, fun y => z3 ⟨y.2, y.1⟩⟩
  · rw [t, h5 a b ha hb]
    by_cases z : 16 * a + b = 16 * u + v
    · rw [z, va_up_self]
      exact ⟨fun y => (y.2 ⟨by omega, by omega⟩).elim, fun y => by cases y⟩
    · rw [va_up_ne _ _ z]
      exact ⟨fun y => y.1, fun y => ⟨y, fun w => z (by rw [w.1, w.2])⟩⟩
  · by_cases z : m = 16 * u + v
    · rw [z, va_up_self] at he; cases he
    · rw [va_up_ne _ _ z] at he
      exact h6 m hm he
theorem Ed_add {n : Nat} {tg : Nat → Int32} {u v : Nat} (hn : n ≤ 16) (hu : u < n) (hv : v < n) (a b : Nat) : Ed n (upd tg u (tg u ||| sg v)) a b ↔ Ed n tg a b ∨ (a = u ∧ b = v) := by
  unfold Ed
  rw [bt_add (by omega)]
  constructor
  · rintro ⟨h1, h2, h3 | h3⟩
    · exact Or.inl ⟨h1, h2, h3⟩
    · exact Or.inr h3
  · rintro (⟨h1, h2, h3⟩ | ⟨h1, h2⟩)
    · exact ⟨h1, h2, Or.inl h3⟩
    · exact ⟨by omega, by omega, Or.inr ⟨h1, h2⟩⟩
theorem Ed_del {n : Nat} {tg : Nat → Int32} {u v : Nat} (hn : n ≤ 16) (hv : v < n) (a b : Nat) : Ed n (upd tg u (tg u &&& (sg v ^^^ (-1)))) a b ↔ Ed n tg a b ∧ ¬ (a = u ∧ b = v) := by
  unfold Ed
  rw [bt_del (by omega)]
  constructor
  · rintro ⟨h1, h2, h3, h4⟩; exact ⟨⟨h1, h2, h3⟩, h4⟩
  · rintro ⟨⟨h1, h2, h3⟩, h4⟩; exact ⟨h1, h2, h3, h4⟩
theorem Comp.make {n : Nat} {E : Nat → Nat → Prop} {ld : Nat → Nat} {mb : Nat → Int32} (h1 : ∀ u, u < n → ld u ≤ u ∧ Tg E u (ld u)) (h2 : ∀ u v, u < n → v < n → Tg E u v → ld u = ld v) (h3 : ∀ c, c < n → ld c = c → ∀ v, bt (mb c) v = true ↔ v < n ∧ ld v = c) : Comp n E ld mb :=
  ⟨fun u hu => ⟨by have := (h1 u hu).1; omega, (h1 u hu).2, fun v hv t => by have := (h1 v hv).1; have := h2 u v hu hv t; omega⟩, h3⟩
theorem Comp.same {n : Nat} {E E' : Nat → Nat → Prop} {ld : Nat → Nat} {mb : Nat → Int32} (h : Comp n E ld mb) (ht : ∀ x y, x < n → y < n → (Tg E' x y ↔ Tg E x y)) : Comp n E' ld mb :=
  Comp.make (fun u hu => ⟨h.le hu, (ht _ _ hu (h.lt hu)).mpr (h.1 u hu).2.1⟩) (fun u v hu hv t => (h.iff hu hv).mp ((ht u v hu hv).mp t)) h.2
theorem Line.imp {n : Nat} {E E' : Nat → Nat → Prop} {ld pl ln : Nat → Nat} {len : Nat} (h : Line n E ld pl ln len) (hr : ∀ i j, i < j → j < len → Rl E' ld (ln i) (ln j)) : Line n E' ld pl ln len := by
  refine ⟨⟨h.1.1, List.pairwise_iff_getElem.mpr (fun i j hi hj hij => ?_)⟩, h.2⟩
  have hj' : j < len := by simpa using hj
  have := hr i j hij hj'
  simpa using this
/-- the new edge leads on in the line: nothing changes -/
theorem add_fwd {n : Nat} {E E' : Nat → Nat → Prop} {ld : Nat → Nat} {mb : Nat → Int32} {pl ln : Nat → Nat} {len : Nat} (hC : Comp n E ld mb) (hL : Line n E ld pl ln len) (hm : ∀ a b, E a b → E' a b) (hup : ∀ x y, E' x y → pl (ld x) ≤ pl (ld y)) : Comp n E' ld mb ∧ Line n E' ld pl ln len := by
  have hR : ∀ x y, Rc E' x y → pl (ld x) ≤ pl (ld y) := fun x y r => Rc.ind (P := fun z => pl (ld x) ≤ pl (ld z)) (Nat.le_refl _) (fun a b _ ih e => Nat.le_trans ih (hup a b e)) r
  refine ⟨hC.same (fun x y hx hy => ⟨fun t => ?_, fun t => ⟨t.1.mono hm, t.2.mono hm⟩⟩), hL.imp (fun i j hij hj => ⟨(hL.rl hij hj).1, fun x y e ex ey => ?_⟩)⟩
  · exact (hC.iff hx hy).mpr (hL.inj hC hx hy (Nat.le_antisymm (hR x y t.1) (hR y x t.2)))
  · have := hup x y e
    rw [ex, ey, hL.2 i (by omega), hL.2 j hj] at this
    omega
theorem sgF_mem {P : Nat → Bool} {ln : Nat → Nat} {f i c : Nat} : c ∈ sgF P ln f i ↔ ∃ j, i ≤ j ∧ j < i + f ∧ ln j = c ∧ P c = true := by
  rw [sgF_eq, List.mem_filter, List.mem_map]
  constructor
  · rintro ⟨⟨j, h1, h2⟩, h3⟩
    obtain ⟨h4, h5⟩ := List.mem_range'_1.mp h1
    exact ⟨j, h4, h5, h2, h3⟩
  · rintro ⟨j, h4, h5, h2, h3⟩
    exact ⟨⟨j, List.mem_range'_1.mpr ⟨h4, h5⟩, h2⟩, h3⟩
theorem sgF_pw {P : Nat → Bool} {pl ln : Nat → Nat} {len : Nat} (h : ∀ i, i < len → pl (ln i) = i) : ∀ f i, i + f ≤ len → (sgF P ln f i).Pairwise (fun a b => pl a < pl b)
  | 0, i, _ => List.Pairwise.nil
  | f + 1, i, hf => by
    have ih := sgF_pw (P := P) h f (i + 1) (by omega)
    rw [sgF]
    split
    · refine List.pairwise_cons.mpr ⟨fun c hc => ?_, ih⟩
      obtain ⟨j, h1, h2, h3, _⟩ := sgF_mem.mp hc
      rw [← h3, h i (by omega), h j (by omega)]; omega
    · exact ih
section RP
variable {n : Nat} {E E' : Nat → Nat → Prop} {ld : Nat → Nat} {mb : Nat → Int32} {pl ln : Nat → Nat} {len u v w : Nat} {F M : Int32} {nl : Nat → Nat}
/-- the new order, as a number: ahead of the two places, not reached, melted, reached, behind -/
def Sk (F M : Int32) (ld pl : Nat → Nat) (lo hi x : Nat) : Nat :=
  if pl (ld x) < lo then pl (ld x) else if hi < pl (ld x) then 64 + pl (ld x) else if bt M (ld x) = true then 32 else if bt F (ld x) = true then 48 + pl (ld x) else 16 + pl (ld x)
theorem Sk_cases (F M : Int32) (ld pl : Nat → Nat) (lo hi x : Nat) : (pl (ld x) < lo ∧ Sk F M ld pl lo hi x = pl (ld x)) ∨ (lo ≤ pl (ld x) ∧ hi < pl (ld x) ∧ Sk F M ld pl lo hi x = 64 + pl (ld x)) ∨ (lo ≤ pl (ld x) ∧ pl (ld x) ≤ hi ∧ bt M (ld x) = true ∧ Sk F M ld pl lo hi x = 32) ∨ (lo ≤ pl (ld x) ∧ pl (ld x) ≤ hi ∧ bt M (ld x) = false ∧ bt F (ld x) = true ∧ Sk F M ld pl lo hi x = 48 + pl (ld x)) ∨ (lo ≤ pl (ld x) ∧ pl (ld x) ≤ hi ∧ bt M (ld x) = false ∧ bt F (ld x) = false ∧ Sk F M ld pl lo hi x = 16 + pl (ld x)) := by
  by_cases h1 : pl (ld x) < lo
  · exact Or.inl ⟨h1, by unfold Sk; rw [if_pos h1]⟩
  · refine Or.inr ?_
    by_cases h2 : hi < pl (ld x)
    · exact Or.inl ⟨by omega, h2, by unfold Sk; rw [if_neg h1, if_pos h2]⟩
    · refine Or.inr ?_
      by_cases h3 : bt M (ld x) = true
      · exact Or.inl ⟨by omega, by omega, h3, by unfold Sk; rw [if_neg h1, if_neg h2, if_pos h3]⟩
      · refine Or.inr ?_
        by_cases h4 : bt F (ld x) = true
        · exact Or.inl ⟨by omega, by omega, b_nt h3, h4, by unfold Sk; rw [if_neg h1, if_neg h2, if_neg h3, if_pos h4]⟩
        · exact Or.inr ⟨by omega, by omega, b_nt h3, b_nt h4, by unfold Sk; rw [if_neg h1, if_neg h2, if_neg h3, if_neg h4]⟩
/-- what forward, melting are -/
def RpOk (n : Nat) (E : Nat → Nat → Prop) (ld pl : Nat → Nat) (u v : Nat) (F M : Int32) : Prop := (∀ c, bt F c = true → c < n ∧ ld c = c ∧ Rc E (ld v) c) ∧ (∀ y, y < n → Rc E (ld v) y → pl (ld y) ≤ pl (ld u) → bt F (ld y) = true) ∧ (∀ c, bt M c = true ↔ c < n ∧ ld c = c ∧ Rc E (ld v) c ∧ Rc E c (ld u))
theorem RpOk.mf (hC : Comp n E ld mb) (h : RpOk n E ld pl u v F M) {c : Nat} (hm : bt M c = true) (hp : pl c ≤ pl (ld u)) : bt F c = true := by
  obtain ⟨h1, h2, h3, h4⟩ := (h.2.2 c).mp hm
  have := h.2.1 c h1 h3 (by rw [h2]; exact hp)
  rw [h2] at this; exact this
theorem RpOk.pm (hC : Comp n E ld mb) (hL : Line n E ld pl ln len) (hE : ∀ x y, E x y → x < n ∧ y < n) (hu : u < n) (hv : v < n) (h : RpOk n E ld pl u v F M) {c : Nat} (hm : bt M c = true) : pl (ld v) ≤ pl c ∧ pl c ≤ pl (ld u) := by
  obtain ⟨h1, h2, h3, h4⟩ := (h.2.2 c).mp hm
  have a1 := hL.upR hC hE h3
  have a2 := hL.upR hC hE h4
  rw [hC.ldld hv, h2] at a1
  rw [hC.ldld hu, h2] at a2
  exact ⟨a1, a2⟩
theorem Sk_up (hn : n ≤ 16) (hC : Comp n E ld mb) (hL : Line n E ld pl ln len) (hE : ∀ x y, E x y → x < n ∧ y < n) (hE' : ∀ x y, E' x y ↔ E x y ∨ (x = u ∧ y = v)) (hu : u < n) (hv : v < n) (hlt : pl (ld v) < pl (ld u)) (h : RpOk n E ld pl u v F M) {x y : Nat} (e : E' x y) : Sk F M ld pl (pl (ld v)) (pl (ld u)) x ≤ Sk F M ld pl (pl (ld v)) (pl (ld u)) y := by
  have hlen := hL.le
  obtain ⟨hF, hF2, hM⟩ := h
  have h : RpOk n E ld pl u v F M := ⟨hF, hF2, hM⟩
  rcases (hE' x y).mp e with e | ⟨ex, ey⟩
  · obtain ⟨hx, hy⟩ := hE x y e
    have up := hL.up hC hx hy e
    have p1 := (hL.pos (hC.lt hx) (hC.ldld hx)).1
    have p2 := (hL.pos (hC.lt hy) (hC.ldld hy)).1
    have cF : bt F (ld x) = true → pl (ld y) ≤ pl (ld u) → bt F (ld y) = true := fun h1 h2 => hF2 y hy (((hF _ h1).2.2.trans (hC.1 x hx).2.1.2).step e) h2
    have cM : bt M (ld y) = true → bt F (ld x) = true → bt M (ld x) = true := fun h1 h2 => (hM _).mpr ⟨hC.lt hx, hC.ldld hx, (hF _ h2).2.2, (((hC.1 x hx).2.1.2.step e).trans (hC.1 y hy).2.1.1).trans ((hM _).mp h1).2.2.2⟩
    rcases Sk_cases F M ld pl (pl (ld v)) (pl (ld u)) x with ⟨a1, a2⟩ | ⟨a1, a2, a3⟩ | ⟨a1, a2, a3, a4⟩ | ⟨a1, a2, a3, a4, a5⟩ | ⟨a1, a2, a3, a4, a5⟩
    · rcases Sk_cases F M ld pl (pl (ld v)) (pl (ld u)) y with ⟨b1, b2⟩ | ⟨b1, b2, b3⟩ | ⟨b1, b2, b3, b4⟩ | ⟨b1, b2, b3, b4, b5⟩ | ⟨b1, b2, b3, b4, b5⟩ <;> omega
    · rcases Sk_cases F M ld pl (pl (ld v)) (pl (ld u)) y with ⟨b1, b2⟩ | ⟨b1, b2, b3⟩ | ⟨b1, b2, b3, b4⟩ | ⟨b1, b2, b3, b4, b5⟩ | ⟨b1, b2, b3, b4, b5⟩ <;> omega
    · rcases Sk_cases F M ld pl (pl (ld v)) (pl (ld u)) y with ⟨b1, b2⟩ | ⟨b1, b2, b3⟩ | ⟨b1, b2, b3, b4⟩ | ⟨b1, b2, b3, b4, b5⟩ | ⟨b1, b2, b3, b4, b5⟩
      · omega
      · omega
      · omega
      · omega
      · have := cF (h.mf hC a3 a2) b2
        rw [b4] at this; cases this
    · rcases Sk_cases F M ld pl (pl (ld v)) (pl (ld u)) y with ⟨b1, b2⟩ | ⟨b1, b2, b3⟩ | ⟨b1, b2, b3, b4⟩ | ⟨b1, b2, b3, b4, b5⟩ | ⟨b1, b2, b3, b4, b5⟩
      · omega
      · omega
      · have := cM b3 a4
        rw [a3] at this; cases this
      · omega
      · have := cF a4 b2
        rw [b4] at this; cases this
    · rcases Sk_cases F M ld pl (pl (ld v)) (pl (ld u)) y with ⟨b1, b2⟩ | ⟨b1, b2, b3⟩ | ⟨b1, b2, b3, b4⟩ | ⟨b1, b2, b3, b4, b5⟩ | ⟨b1, b2, b3, b4, b5⟩ <;> omega
  · rw [ex, ey]
    have p1 := (hL.pos (hC.lt hu) (hC.ldld hu)).1
    have h1 : bt F (ld v) = true := hF2 v hv (hC.1 v hv).2.1.2 (by omega)
    have h2 : bt F (ld u) = true → bt M (ld u) = true := fun z => (hM _).mpr ⟨hC.lt hu, hC.ldld hu, (hF _ z).2.2, Rc.refl _⟩
    rcases Sk_cases F M ld pl (pl (ld v)) (pl (ld u)) u with ⟨a1, a2⟩ | ⟨a1, a2, a3⟩ | ⟨a1, a2, a3, a4⟩ | ⟨a1, a2, a3, a4, a5⟩ | ⟨a1, a2, a3, a4, a5⟩
    · omega
    · omega
    · rcases Sk_cases F M ld pl (pl (ld v)) (pl (ld u)) v with ⟨b1, b2⟩ | ⟨b1, b2, b3⟩ | ⟨b1, b2, b3, b4⟩ | ⟨b1, b2, b3, b4, b5⟩ | ⟨b1, b2, b3, b4, b5⟩
      · omega
      · omega
      · omega
      · omega
      · rw [b4] at h1; cases h1
    · have := h2 a4
      rw [a3] at this; cases this
    · rcases Sk_cases F M ld pl (pl (ld v)) (pl (ld u)) v with ⟨b1, b2⟩ | ⟨b1, b2, b3⟩ | ⟨b1, b2, b3, b4⟩ | ⟨b1, b2, b3, b4, b5⟩ | ⟨b1, b2, b3, b4, b5⟩
      · omega
      · omega
      · omega
      · omega
      · rw [b4] at h1; cases h1
theorem Sk_inj (hn : n ≤ 16) (hC : Comp n E ld mb) (hL : Line n E ld pl ln len) {lo hi x y : Nat} (hx : x < n) (hy : y < n) (e : Sk F M ld pl lo hi x = Sk F M ld pl lo hi y) : ld x = ld y ∨ (bt M (ld x) = true ∧ bt M (ld y) = true) := by
  have hlen := hL.le
  have p1 := (hL.pos (hC.lt hx) (hC.ldld hx)).1
  have p2 := (hL.pos (hC.lt hy) (hC.ldld hy)).1
  have key : pl (ld x) = pl (ld y) ∨ (bt M (ld x) = true ∧ bt M (ld y) = true) := by
    rcases Sk_cases F M ld pl lo hi x with ⟨a1, a2⟩ | ⟨a1, a2, a3⟩ | ⟨a1, a2, a3, a4⟩ | ⟨a1, a2, a3, a4, a5⟩ | ⟨a1, a2, a3, a4, a5⟩ <;> rcases Sk_cases F M ld pl lo hi y with ⟨b1, b2⟩ | ⟨b1, b2, b3⟩ | ⟨b1, b2, b3, b4⟩ | ⟨b1, b2, b3, b4, b5⟩ | ⟨b1, b2, b3, b4, b5⟩ <;> first | exact Or.inr ⟨a3, b3⟩ | (refine Or.inl ?_; omega)
  rcases key with z | z
  · exact Or.inl (hL.inj hC hx hy z)
  · exact Or.inr z
theorem rep_comp {mb' : Nat → Int32} (hn : n ≤ 16) (hC : Comp n E ld mb) (hL : Line n E ld pl ln len) (hE : ∀ x y, E x y → x < n ∧ y < n) (hE' : ∀ x y, E' x y ↔ E x y ∨ (x = u ∧ y = v)) (hu : u < n) (hv : v < n) (hlt : pl (ld v) < pl (ld u)) (h : RpOk n E ld pl u v F M) (hw : ∀ x, x < n → bt M (ld x) = true → w ≤ x ∧ bt M (ld w) = true) (hnl : ∀ x, x < n → nl x = if bt M (ld x) = true then w else ld x) (h3 : ∀ c, c < n → nl c = c → ∀ v, bt (mb' c) v = true ↔ v < n ∧ nl v = c) : Comp n E' nl mb' := by
  have hm : ∀ a b, E a b → E' a b := fun a b e => (hE' a b).mpr (Or.inl e)
  have hR : ∀ x y, Rc E' x y → Sk F M ld pl (pl (ld v)) (pl (ld u)) x ≤ Sk F M ld pl (pl (ld v)) (pl (ld u)) y := fun x y r => Rc.ind (P := fun z => Sk F M ld pl (pl (ld v)) (pl (ld u)) x ≤ Sk F M ld pl (pl (ld v)) (pl (ld u)) z) (Nat.le_refl _) (fun a b _ ih e => Nat.le_trans ih (Sk_up hn hC hL hE hE' hu hv hlt h e)) r
  have tM : ∀ x, x < n → bt M (ld x) = true → Tg E' x (ld v) := fun x hx hx2 => by
    obtain ⟨_, _, r1, r2⟩ := (h.2.2 _).mp hx2
    have tx := (hC.1 x hx).2.1
    have tu := (hC.1 u hu).2.1
    have tv := (hC.1 v hv).2.1
    refine ⟨?_, (r1.trans tx.2).mono hm⟩
    exact (((tx.1.trans r2).trans tu.2).mono hm).trans ((Rc.one ((hE' u v).mpr (Or.inr ⟨rfl, rfl⟩))).trans (tv.1.mono hm))
  refine Comp.make (fun x hx => ?_) (fun x y hx hy t => ?_) h3
  · rw [hnl x hx]
    by_cases q : bt M (ld x) = true
    · rw [if_pos q]
      obtain ⟨w1, w2⟩ := hw x hx q
      exact ⟨w1, (tM x hx q).trans (tM w (by omega) w2).symm⟩
    · rw [if_neg q]
      have tx := (hC.1 x hx).2.1
      exact ⟨hC.le hx, tx.1.mono hm, tx.2.mono hm⟩
  · rw [hnl x hx, hnl y hy]
    rcases Sk_inj hn hC hL hx hy (Nat.le_antisymm (hR x y t.1) (hR y x t.2)) with z | z
    · rw [z]
    · rw [if_pos z.1, if_pos z.2]
theorem lok_of_key {S : Nat → Nat} {T : List Nat} (hE : ∀ x y, E x y → x < n ∧ y < n) (hup : ∀ x y, E x y → S x ≤ S y) (hc : ∀ x, x < n → S (nl x) = S x) (hT : ∀ c, c ∈ T ↔ c < n ∧ nl c = c) (hp : T.Pairwise (fun a b => S a < S b)) : Lok n E nl T := by
  refine ⟨hT, List.Pairwise.imp (fun {a b} h => ⟨fun z => ?_, fun x y e ex ey => ?_⟩) hp⟩
  · have h' : S a < S b := h
    rw [z] at h'; omega
  · have h' : S a < S b := h
    have h1 := hup x y e
    obtain ⟨hx, hy⟩ := hE x y e
    rw [← hc x hx, ← hc y hy, ex, ey] at h1
    omega
theorem rep_line {mm : Nat → Int32} (hn : n ≤ 16) (hC : Comp n E ld mb) (hL : Line n E ld pl ln len) (hE : ∀ x y, E x y → x < n ∧ y < n) (hE' : ∀ x y, E' x y ↔ E x y ∨ (x = u ∧ y = v)) (hu : u < n) (hv : v < n) (hlt : pl (ld v) < pl (ld u)) (h : RpOk n E ld pl u v F M) (hw : ∀ x, x < n → bt M (ld x) = true → w ≤ x ∧ bt M (ld w) = true) (hnl : ∀ x, x < n → nl x = if bt M (ld x) = true then w else ld x) (hww : low (mlA mm M n) = w) (hM0 : ¬ M = 0 → w < n ∧ bt M (ld w) = true) : Lok n E' nl (rpL F M mm n ln (pl (ld v)) (pl (ld u)) len) := by
  have hlen := hL.le
  have pv := (hL.pos (hC.lt hv) (hC.ldld hv)).1
  have pu := (hL.pos (hC.lt hu) (hC.ldld hu)).1
  have hSM : ∀ x, x < n → bt M (ld x) = true → Sk F M ld pl (pl (ld v)) (pl (ld u)) x = 32 := fun x hx q => by
    obtain ⟨r1, r2⟩ := h.pm hC hL hE hu hv q
    rcases Sk_cases F M ld pl (pl (ld v)) (pl (ld u)) x with ⟨a1, a2⟩ | ⟨a1, a2, a3⟩ | ⟨a1, a2, a3, a4⟩ | ⟨a1, a2, a3, a4, a5⟩ | ⟨a1, a2, a3, a4, a5⟩
    · omega
    · omega
    · exact a4
    · rw [q] at a3; cases a3
    · rw [q] at a3; cases a3
  have hM0' : ∀ c, bt M c = true → ¬ M = 0 := fun c hc z => by rw [z, b_0] at hc; cases hc
  -- the parts of the new line
  have q1 : ∀ c, c ∈ sgF (fun _ => true) ln (pl (ld v)) 0 ↔ c < n ∧ ld c = c ∧ pl c < pl (ld v) := fun c => by
    rw [sgF_mem]
    constructor
    · rintro ⟨j, h1, h2, h3, _⟩
      have hj : j < len := by omega
      obtain ⟨a1, a2⟩ := hL.at hj
      have a3 := hL.2 j hj
      rw [h3] at a1 a2 a3
      exact ⟨a1, a2, by omega⟩
    · rintro ⟨h1, h2, h3⟩
      obtain ⟨a1, a2⟩ := hL.pos h1 h2
      exact ⟨pl c, by omega, by omega, a2, rfl⟩
  have q5 : ∀ c, c ∈ sgF (fun _ => true) ln (len - (pl (ld u) + 1)) (pl (ld u) + 1) ↔ c < n ∧ ld c = c ∧ pl (ld u) < pl c := fun c => by
    rw [sgF_mem]
    constructor
    · rintro ⟨j, h1, h2, h3, _⟩
      have hj : j < len := by omega
      obtain ⟨a1, a2⟩ := hL.at hj
      have a3 := hL.2 j hj
      rw [h3] at a1 a2 a3
      exact ⟨a1, a2, by omega⟩
    · rintro ⟨h1, h2, h3⟩
      obtain ⟨a1, a2⟩ := hL.pos h1 h2
      exact ⟨pl c, by omega, by omega, a2, rfl⟩
  have qm : ∀ (P : Nat → Bool) (c : Nat), c ∈ sgF P ln (pl (ld u) + 1 - pl (ld v)) (pl (ld v)) ↔ c < n ∧ ld c = c ∧ pl (ld v) ≤ pl c ∧ pl c ≤ pl (ld u) ∧ P c = true := fun P c => by
    rw [sgF_mem]
    constructor
    · rintro ⟨j, h1, h2, h3, h4⟩
      have hj : j < len := by omega
      obtain ⟨a1, a2⟩ := hL.at hj
      have a3 := hL.2 j hj
      rw [h3] at a1 a2 a3
      exact ⟨a1, a2, by omega, by omega, h4⟩
    · rintro ⟨h1, h2, h3, h4, h5⟩
      obtain ⟨a1, a2⟩ := hL.pos h1 h2
      exact ⟨pl c, by omega, by omega, a2, h5⟩
  have q2 := qm (fun c => !bt F c)
  have q4 := qm (fun c => bt (F &&& (M ^^^ (-1))) c)
  have q3 : ∀ c : Nat, c ∈ (if M = 0 then ([] : List Nat) else [low (mlA mm M n)]) ↔ ¬ M = 0 ∧ c = w := fun c => by
    by_cases z : M = 0
    · rw [if_pos z]
      exact ⟨fun y => absurd y List.not_mem_nil, fun y => absurd z y.1⟩
    · rw [if_neg z, hww, List.mem_singleton]
      exact ⟨fun y => ⟨z, y⟩, fun y => y.2⟩
  -- their keys
  have k1 : ∀ c, c < n ∧ ld c = c ∧ pl c < pl (ld v) → Sk F M ld pl (pl (ld v)) (pl (ld u)) c = pl c := fun c ⟨h1, h2, h3⟩ => by
    have z := Sk_cases F M ld pl (pl (ld v)) (pl (ld u)) c
    rw [h2] at z
    rcases z with ⟨a1, a2⟩ | ⟨a1, a2, a3⟩ | ⟨a1, a2, a3, a4⟩ | ⟨a1, a2, a3, a4, a5⟩ | ⟨a1, a2, a3, a4, a5⟩ <;> omega
  have k5 : ∀ c, c < n ∧ ld c = c ∧ pl (ld u) < pl c → Sk F M ld pl (pl (ld v)) (pl (ld u)) c = 64 + pl c := fun c ⟨h1, h2, h3⟩ => by
    have z := Sk_cases F M ld pl (pl (ld v)) (pl (ld u)) c
    rw [h2] at z
    rcases z with ⟨a1, a2⟩ | ⟨a1, a2, a3⟩ | ⟨a1, a2, a3, a4⟩ | ⟨a1, a2, a3, a4, a5⟩ | ⟨a1, a2, a3, a4, a5⟩ <;> omega
  have k2 : ∀ c, c < n ∧ ld c = c ∧ pl (ld v) ≤ pl c ∧ pl c ≤ pl (ld u) ∧ (!bt F c) = true → bt M c = false ∧ Sk F M ld pl (pl (ld v)) (pl (ld u)) c = 16 + pl c := fun c ⟨h1, h2, h3, h4, h5⟩ => by
    have h6 : bt F c = false := by simpa using h5
    have z := Sk_cases F M ld pl (pl (ld v)) (pl (ld u)) c
    rw [h2] at z
    rcases z with ⟨a1, a2⟩ | ⟨a1, a2, a3⟩ | ⟨a1, a2, a3, a4⟩ | ⟨a1, a2, a3, a4, a5⟩ | ⟨a1, a2, a3, a4, a5⟩
    · omega
    · omega
    · have := h.mf hC a3 a2
      rw [h6] at this; cases this
    · rw [h6] at a4; cases a4
    · exact ⟨a3, a5⟩
  have k4 : ∀ c, c < n ∧ ld c = c ∧ pl (ld v) ≤ pl c ∧ pl c ≤ pl (ld u) ∧ bt (F &&& (M ^^^ (-1))) c = true → bt M c = false ∧ Sk F M ld pl (pl (ld v)) (pl (ld u)) c = 48 + pl c := fun c ⟨h1, h2, h3, h4, h5⟩ => by
    rw [bt_diff, Bool.and_eq_true, Bool.not_eq_true'] at h5
    have z := Sk_cases F M ld pl (pl (ld v)) (pl (ld u)) c
    rw [h2] at z
    rcases z with ⟨a1, a2⟩ | ⟨a1, a2, a3⟩ | ⟨a1, a2, a3, a4⟩ | ⟨a1, a2, a3, a4, a5⟩ | ⟨a1, a2, a3, a4, a5⟩
    · omega
    · omega
    · rw [h5.2] at a3; cases a3
    · exact ⟨a3, a5⟩
    · rw [h5.1] at a4; cases a4
  have k3 : ∀ c, ¬ M = 0 ∧ c = w → Sk F M ld pl (pl (ld v)) (pl (ld u)) c = 32 := fun c ⟨h1, h2⟩ => by
    obtain ⟨w1, w2⟩ := hM0 h1
    rw [h2]; exact hSM w w1 w2
  have p16 : ∀ c, c < n → ld c = c → pl c < 16 := fun c h1 h2 => by
    have := (hL.pos h1 h2).1; omega
  refine lok_of_key (S := Sk F M ld pl (pl (ld v)) (pl (ld u))) (fun x y e => ?_) (fun x y e => Sk_up hn hC hL hE hE' hu hv hlt h e) (fun x hx => ?_) (fun c => ?_) ?_
  · rcases (hE' x y).mp e with e | ⟨ex, ey⟩
    · exact hE x y e
    · rw [ex, ey]; exact ⟨hu, hv⟩
  · rw [hnl x hx]
    by_cases q : bt M (ld x) = true
    · rw [if_pos q, hSM x hx q]
      obtain ⟨w1, w2⟩ := hw x hx q
      exact hSM w (by omega) w2
    · rw [if_neg q]
      unfold Sk
      rw [hC.ldld hx]
  · unfold rpL rpA rpB
    rw [List.mem_append, List.mem_append, List.mem_append, List.mem_append, q1, q2, q3, q4, q5]
    constructor
    · have plain : c < n → ld c = c → bt M c = false → c < n ∧ nl c = c := fun h1 h2 h3 => ⟨h1, by rw [hnl c h1, h2, if_neg (b_nf h3)]⟩
      rintro ((z | z) | (z | (z | z)))
      · refine plain z.1 z.2.1 (b_nt (fun q => ?_))
        have := (h.pm hC hL hE hu hv q).1
        omega
      · exact plain z.1 z.2.1 (k2 c z).1
      · obtain ⟨w1, w2⟩ := hM0 z.1
        rw [z.2]
        exact ⟨w1, by rw [hnl w w1, if_pos w2]⟩
      · exact plain z.1 z.2.1 (k4 c z).1
      · refine plain z.1 z.2.1 (b_nt (fun q => ?_))
        have := (h.pm hC hL hE hu hv q).2
        omega
    · rintro ⟨h1, h2⟩
      rw [hnl c h1] at h2
      by_cases q : bt M (ld c) = true
      · rw [if_pos q] at h2
        exact Or.inr (Or.inl ⟨hM0' _ q, h2.symm⟩)
      · rw [if_neg q] at h2
        rw [h2] at q
        rcases Nat.lt_or_ge (pl c) (pl (ld v)) with r | r
        · exact Or.inl (Or.inl ⟨h1, h2, r⟩)
        · rcases Nat.lt_or_ge (pl (ld u)) (pl c) with r2 | r2
          · exact Or.inr (Or.inr (Or.inr ⟨h1, h2, r2⟩))
          · cases e : bt F c
            · exact Or.inl (Or.inr ⟨h1, h2, r, r2, by simp [e]⟩)
            · exact Or.inr (Or.inr (Or.inl ⟨h1, h2, r, r2, by rw [bt_diff, e, b_nt q]; rfl⟩))
  · unfold rpL rpA rpB
    refine List.pairwise_append.mpr ⟨List.pairwise_append.mpr ⟨?_, ?_, fun a ha b hb => ?_⟩, List.pairwise_append.mpr ⟨?_, List.pairwise_append.mpr ⟨?_, ?_, fun a ha b hb => ?_⟩, fun a ha b hb => ?_⟩, fun a ha b hb => ?_⟩
    · refine List.Pairwise.imp_of_mem (fun {a b} ha hb r => ?_) (sgF_pw (P := fun _ => true) hL.2 (pl (ld v)) 0 (by omega))
      rw [k1 a ((q1 a).mp ha), k1 b ((q1 b).mp hb)]; exact r
    · refine List.Pairwise.imp_of_mem (fun {a b} ha hb r => ?_) (sgF_pw (P := fun c => !bt F c) hL.2 (pl (ld u) + 1 - pl (ld v)) (pl (ld v)) (by omega))
      have r' : pl a < pl b := r
      rw [(k2 a ((q2 a).mp ha)).2, (k2 b ((q2 b).mp hb)).2]; omega
    · have a1 := (q1 a).mp ha
      have b1 := (q2 b).mp hb
      rw [k1 a a1, (k2 b b1).2]
      have := p16 a a1.1 a1.2.1
      omega
    · by_cases z : M = 0
      · rw [if_pos z]; exact List.Pairwise.nil
      · rw [if_neg z]; exact List.pairwise_singleton _ _
    · refine List.Pairwise.imp_of_mem (fun {a b} ha hb r => ?_) (sgF_pw (P := fun c => bt (F &&& (M ^^^ (-1))) c) hL.2 (pl (ld u) + 1 - pl (ld v)) (pl (ld v)) (by omega))
      have r' : pl a < pl b := r
      rw [(k4 a ((q4 a).mp ha)).2, (k4 b ((q4 b).mp hb)).2]; omega
    · refine List.Pairwise.imp_of_mem (fun {a b} ha hb r => ?_) (sgF_pw (P := fun _ => true) hL.2 (len - (pl (ld u) + 1)) (pl (ld u) + 1) (by omega))
      have r' : pl a < pl b := r
      rw [k5 a ((q5 a).mp ha), k5 b ((q5 b).mp hb)]; omega
    · have a1 := (q4 a).mp ha
      have b1 := (q5 b).mp hb
      rw [(k4 a a1).2, k5 b b1]
      have := p16 a a1.1 a1.2.1
      omega
    · have a1 := (q3 a).mp ha
      rw [k3 a a1]
      rcases List.mem_append.mp hb with hb | hb
      · have b1 := (q4 b).mp hb
        rw [(k4 b b1).2]; omega
      · have b1 := (q5 b).mp hb
        rw [k5 b b1]; omega
    · have a0 : Sk F M ld pl (pl (ld v)) (pl (ld u)) a < 32 := by
        rcases List.mem_append.mp ha with ha | ha
        · have a1 := (q1 a).mp ha
          rw [k1 a a1]
          have := p16 a a1.1 a1.2.1
          omega
        · have a1 := (q2 a).mp ha
          rw [(k2 a a1).2]
          have := p16 a a1.1 a1.2.1
          omega
      rcases List.mem_append.mp hb with hb | hb
      · rw [k3 b ((q3 b).mp hb)]; exact a0
      · rcases List.mem_append.mp hb with hb | hb
        · have b1 := (q4 b).mp hb
          rw [(k4 b b1).2]; omega
        · have b1 := (q5 b).mp hb
          rw [k5 b b1]; omega
theorem ct_one {n w : Nat} (hw : w < n) : fb_ct (fun c => decide (c = w)) n = 1 := by
  have h1 : fb_ct (fun k => if k = w then true else false) n + 0 = fb_ct (fun _ => false) n + 1 := fb_ct_upd (fun _ => false) true hw
  have h2 : fb_ct (fun _ => false) n = 0 := fb_ct_zero.mpr (fun _ _ => rfl)
  have h3 : fb_ct (fun k => if k = w then true else false) n = fb_ct (fun c => decide (c = w)) n := fb_ct_cong (fun k _ => by
    by_cases z : k = w
    · simp [z]
    · simp [z])
  rw [h2, h3] at h1
  omega
theorem rep_count (hw : w < n) (hwM : bt M (ld w) = true) (hnl : ∀ x, x < n → nl x = if bt M (ld x) = true then w else ld x) (hMl : ∀ c, bt M c = true → ld c = c) : fb_ct (fun c => decide (nl c = c)) n + fb_ct (bt M) n = fb_ct (fun c => decide (ld c = c)) n + 1 := by
  have e1 : fb_ct (fun c => decide (nl c = c)) n = fb_ct (fun c => (decide (ld c = c) && !bt M c) || decide (c = w)) n := by
    refine fb_ct_cong (fun c hc => b_iff ?_)
    rw [decide_eq_true_eq, Bool.or_eq_true, Bool.and_eq_true, decide_eq_true_eq, decide_eq_true_eq, Bool.not_eq_true', hnl c hc]
    by_cases h : bt M (ld c) = true
    · rw [if_pos h]
      constructor
      · intro z; exact Or.inr z.symm
      · rintro (⟨z1, z2⟩ | z)
        · rw [z1, z2] at h; cases h
        · exact z.symm
    · rw [if_neg h]
      constructor
      · intro z
        rw [z] at h
        exact Or.inl ⟨z, b_nt h⟩
      · rintro (⟨z1, z2⟩ | z)
        · exact z1
        · rw [z] at h; exact absurd hwM h
  have e2 : fb_ct (fun c => decide (ld c = c)) n = fb_ct (fun c => (decide (ld c = c) && !bt M c) || bt M c) n := by
    refine fb_ct_cong (fun c hc => b_iff ?_)
    rw [decide_eq_true_eq, Bool.or_eq_true, Bool.and_eq_true, decide_eq_true_eq, Bool.not_eq_true']
    constructor
    · intro z
      cases e : bt M c
      · exact Or.inl ⟨z, rfl⟩
      · exact Or.inr rfl
    · rintro (⟨z1, z2⟩ | z)
      · exact z1
      · exact hMl c z
  have o1 : fb_ct (fun c => (decide (ld c = c) && !bt M c) || decide (c = w)) n = fb_ct (fun c => decide (ld c = c) && !bt M c) n + fb_ct (fun c => decide (c = w)) n := fb_ct_or (fun c hc z => by
    have z2 : c = w := by simpa using z.2
    have z1 : (decide (ld c = c) && !bt M c) = true := z.1
    rw [Bool.and_eq_true, decide_eq_true_eq, Bool.not_eq_true', z2] at z1
    rw [z1.1, z1.2] at hwM; cases hwM)
  have o2 : fb_ct (fun c => (decide (ld c = c) && !bt M c) || bt M c) n = fb_ct (fun c => decide (ld c = c) && !bt M c) n + fb_ct (bt M) n := fb_ct_or (fun c hc z => by
    have z1 : (decide (ld c = c) && !bt M c) = true := z.1
    have z2 : bt M c = true := z.2
    rw [Bool.and_eq_true, decide_eq_true_eq, Bool.not_eq_true', z2] at z1
    cases z1.2)
  have o3 := ct_one hw
  rw [e1, e2, o1, o2, o3]
  omega
end RP
end
section
/-! addEdge where the line is repaired: all that the call changes -/
section AD
variable {n : Nat} {tg sr tg' sr' : Nat → Int32} {ld : Nat → Nat} {mb : Nat → Int32} {ed : Nat → Bool} {pl ln : Nat → Nat} {len u v : Nat} {F M : Int32}
theorem rep_ok (hB : Base n tg sr ed) (hC : Comp n (Ed n tg) ld mb) (hL : Line n (Ed n tg) ld pl ln len) (hu : u < n) (hv : v < n) (hlt : pl (ld v) < pl (ld u)) (e1 : upd tg u (tg u ||| sg v) = tg') (e2 : upd sr v (sr v ||| sg u) = sr') (hF : fwd tg' n ld mb ln (pl (ld u) + 1 - pl (ld v)) (pl (ld v)) (sg (ld v)) = F) (hM : (if bt F (ld u) = true then (F &&& bwd sr' n ld mb ln (pl (ld u) + 1 - pl (ld v)) (pl (ld u) + 1) (sg (ld u))) &&& lbt ln (pl (ld u) + 1 - pl (ld v)) (pl (ld v)) 0 else 0) = M) : RpOk n (Ed n tg) ld pl u v F M := by
  have hn := hB.1.2
  have hB' := hB.add hu hv
  rw [e1, e2] at hB'
  have hE' : ∀ x y, Ed n tg' x y ↔ Ed n tg x y ∨ (x = u ∧ y = v) := fun x y => by rw [← e1]; exact Ed_add hn hu hv x y
  have hEE : ∀ x y, Ed n tg x y → Ed n tg' x y := fun x y e => (hE' x y).mpr (Or.inl e)
  have K : ∀ x y, Ed n tg' x y → pl (ld x) ≤ pl (ld y) ∨ (x = u ∧ y = v) := fun x y e => by
    rcases (hE' x y).mp e with e | e
    · exact Or.inl (hL.up hC e.1 e.2.1 e)
    · exact Or.inr e
  have hlen := hL.le
  obtain ⟨pu, pu2⟩ := hL.pos (hC.lt hu) (hC.ldld hu)
  obtain ⟨pv, pv2⟩ := hL.pos (hC.lt hv) (hC.ldld hv)
  have tv := (hC.1 v hv).2.1
  have tu := (hC.1 u hu).2.1
  have f0 := fwd_spec (a := ld v) (p1 := pl (ld u)) hn hC hL hEE (fun x y e => (K x y e).imp id (fun z => by rw [z.2])) pu (hC.lt hv) (hC.ldld hv) (by omega)
  have b0 := bwd_spec (b := ld u) (p0 := pl (ld v)) hn hC hL hEE hB'.2.2.1 (fun x y e => (K x y e).imp id (fun z => by rw [z.1])) (hC.lt hu) (hC.ldld hu) (by omega)
  rw [hF] at f0
  have cutF : ∀ c, Rc (Ed n tg') (ld v) c → Rc (Ed n tg) (ld v) c := fun c r => tv.2.trans (Rc.add_cut (u := u) (fun a b e => (hE' a b).mp e) ((tv.1.mono hEE).trans r))
  have cutB : ∀ c, Rc (Ed n tg') c (ld u) → Rc (Ed n tg) c (ld u) := fun c r => (Rc.add_cutr (v := v) (fun a b e => (hE' a b).mp e) (r.trans (tu.2.mono hEE))).trans tu.1
  have hF1 : ∀ c, bt F c = true → c < n ∧ ld c = c ∧ Rc (Ed n tg) (ld v) c := fun c hc => ⟨(f0.1 c hc).1, (f0.1 c hc).2.1, cutF c (f0.1 c hc).2.2⟩
  have hF2 : ∀ y, y < n → Rc (Ed n tg) (ld v) y → pl (ld y) ≤ pl (ld u) → bt F (ld y) = true := fun y _ r hy => f0.reach hC hL Ed.in hEE (hC.ldld hv) r hy
  refine ⟨hF1, hF2, fun c => ?_⟩
  have hlb := bt_lbt ln c (pl (ld u) + 1 - pl (ld v)) (pl (ld v)) 0 (fun j h1 h2 => by have := (hL.at (show j < len by omega)).1; omega)
  constructor
  · intro hc
    rw [← hM] at hc
    by_cases q : bt F (ld u) = true
    · rw [if_pos q, b_and, b_and, Bool.and_eq_true, Bool.and_eq_true] at hc
      obtain ⟨⟨c1, c2⟩, c3⟩ := hc
      obtain ⟨d1, d2, d3⟩ := hF1 c c1
      exact ⟨d1, d2, d3, cutB c (b0.1 c c2).2.2⟩
    · rw [if_neg q, b_0] at hc; cases hc
  · rintro ⟨c1, c2, c3, c4⟩
    have a1 := hL.upR hC Ed.in c3
    have a2 := hL.upR hC Ed.in c4
    rw [hC.ldld hv, c2] at a1
    rw [hC.ldld hu, c2] at a2
    have q : bt F (ld u) = true := by
      have := hF2 (ld u) (hC.lt hu) (c3.trans c4) (by rw [hC.ldld hu]; exact Nat.le_refl _)
      rw [hC.ldld hu] at this; exact this
    rw [← hM, if_pos q, b_and, b_and, Bool.and_eq_true, Bool.and_eq_true, hlb]
    refine ⟨⟨?_, ?_⟩, Or.inr ⟨pl c, a1, by omega, (hL.pos c1 c2).2.symm⟩⟩
    · have := hF2 c c1 c3 (by rw [c2]; exact a2)
      rw [c2] at this; exact this
    · have := b0.reach hC hL Ed.in hEE (hC.ldld hu) c4 (by rw [c2]; exact a1)
      rw [c2] at this; exact this
theorem add_rep (hB : Base n tg sr ed) (hC : Comp n (Ed n tg) ld mb) (hL : Line n (Ed n tg) ld pl ln len) (hu : u < n) (hv : v < n) (hlt : pl (ld v) < pl (ld u)) (e1 : upd tg u (tg u ||| sg v) = tg') (h : RpOk n (Ed n tg) ld pl u v F M) {T : List Nat} (hT : rpL F M mb n ln (pl (ld v)) (pl (ld u)) len = T) {nl : Nat → Nat} {mb' : Nat → Int32} (hnle : (if M = 0 then ld else clm ld (mlA mb M n) (low (mlA mb M n)) n) = nl) (hmbe : (if M = 0 then mb else upd (mlM mb M n) (low (mlA mb M n)) (mlA mb M n)) = mb') :
    Comp n (Ed n tg') nl mb' ∧ Lok n (Ed n tg') nl T ∧ (M = 0 → T.length = len) ∧ (¬ M = 0 → 1 ≤ bc M 16 ∧ T.length + bc M 16 = len + 1) := by
  have hn := hB.1.2
  have hE' : ∀ x y, Ed n tg' x y ↔ Ed n tg x y ∨ (x = u ∧ y = v) := fun x y => by rw [← e1]; exact Ed_add hn hu hv x y
  obtain ⟨al, hal⟩ : ∃ al, mlA mb M n = al := ⟨_, rfl⟩
  obtain ⟨w, hww⟩ : ∃ w, low al = w := ⟨_, rfl⟩
  rw [hal, hww] at hnle hmbe
  have hall : ∀ i, bt al i = true ↔ i < n ∧ bt M (ld i) = true := fun i => by
    rw [← hal, bt_mlA]
    constructor
    · rintro ⟨c, c1, c2, c3⟩
      obtain ⟨_, d2, _, _⟩ := (h.2.2 c).mp c2
      obtain ⟨i1, i2⟩ := (hC.2 c c1 d2 i).mp c3
      exact ⟨i1, by rw [i2]; exact c2⟩
    · rintro ⟨i1, i2⟩
      exact ⟨ld i, hC.lt i1, i2, (hC.mem i1).mpr ⟨i1, rfl⟩⟩
  have hw : ∀ x, x < n → bt M (ld x) = true → w ≤ x ∧ bt M (ld w) = true := fun x hx q => by
    have hb := (hall x).mpr ⟨hx, q⟩
    rw [← hww]
    exact ⟨low_le (by omega) hb, ((hall _).mp (low_spec (by omega) hb).1).2⟩
  have hnl : ∀ x, x < n → nl x = if bt M (ld x) = true then w else ld x := fun x hx => by
    rw [← hnle]
    by_cases z : M = 0
    · rw [if_pos z, if_neg (fun q => by rw [z, b_0] at q; cases q)]
    · rw [if_neg z, clm_at]
      by_cases q : bt M (ld x) = true
      · rw [if_pos q, if_pos ⟨hx, (hall x).mpr ⟨hx, q⟩⟩]
      · rw [if_neg q, if_neg (fun y => q ((hall x).mp y.2).2)]
  have hM0 : ¬ M = 0 → w < n ∧ bt M (ld w) = true := fun z => by
    obtain ⟨c, hc⟩ := bt_ne z
    obtain ⟨c1, c2, _, _⟩ := (h.2.2 c).mp hc
    obtain ⟨w1, w2⟩ := hw c c1 (by rw [c2]; exact hc)
    exact ⟨by omega, w2⟩
  have h3 : ∀ c, c < n → nl c = c → ∀ z, bt (mb' c) z = true ↔ z < n ∧ nl z = c := fun c hc hcc z => by
    by_cases m0 : M = 0
    · rw [if_pos m0] at hnle hmbe
      subst hnle; subst hmbe
      exact hC.2 c hc hcc z
    · by_cases q : bt M (ld c) = true
      · have ew : c = w := by rw [hnl c hc, if_pos q] at hcc; exact hcc.symm
        have e : mb' c = al := by
          rw [← hmbe, if_neg m0]
          unfold upd
          rw [if_pos ew]
        rw [e, hall]
        constructor
        · rintro ⟨z1, z2⟩; exact ⟨z1, by rw [hnl z z1, if_pos z2, ew]⟩
        · rintro ⟨z1, z2⟩
          refine ⟨z1, ?_⟩
          rw [hnl z z1] at z2
          by_cases r : bt M (ld z) = true
          · exact r
          · rw [if_neg r] at z2
            have t := hC.ldld z1
            rw [z2] at t
            rw [t] at q
            rw [z2] at r
            exact absurd q r
      · rw [hnl c hc, if_neg q] at hcc
        have q' : ¬ bt M c = true := by rw [hcc] at q; exact q
        have cw : c ≠ w := fun z => q (by rw [z]; exact (hM0 m0).2)
        have e : mb' c = mb c := by
          rw [← hmbe, if_neg m0]
          unfold upd
          rw [if_neg cw, mlM_at, if_neg (fun y => q' y.2)]
        rw [e, hC.2 c hc hcc]
        constructor
        · rintro ⟨z1, z2⟩; exact ⟨z1, by rw [hnl z z1, z2, if_neg q']⟩
        · rintro ⟨z1, z2⟩
          refine ⟨z1, ?_⟩
          rw [hnl z z1] at z2
          by_cases r : bt M (ld z) = true
          · rw [if_pos r] at z2; exact absurd z2.symm cw
          · rw [if_neg r] at z2; exact z2
  have hComp := rep_comp hn hC hL Ed.in hE' hu hv hlt h hw hnl h3
  have hLok := rep_line (mm := mb) hn hC hL Ed.in hE' hu hv hlt h hw hnl (by rw [hal]; exact hww) hM0
  rw [hT] at hLok
  have hc1 := hLok.len
  have hc2 := hL.len
  have hbc : bc M 16 = fb_ct (bt M) n := by
    rw [bc_ct]
    refine ct_ext hn (fun k _ => rfl) (fun k h1 _ => b_nt (fun q => ?_))
    have := ((h.2.2 k).mp q).1
    omega
  refine ⟨hComp, hLok, fun m0 => ?_, fun m0 => ?_⟩
  · rw [if_pos m0] at hnle
    rw [← hnle] at hc1
    omega
  · have hct := rep_count (hM0 m0).1 (hM0 m0).2 hnl (fun c hc => ((h.2.2 c).mp hc).2.1)
    obtain ⟨c, hc⟩ := bt_ne m0
    have hp : 0 < fb_ct (bt M) n := fb_ct_pos.mpr ⟨c, ((h.2.2 c).mp hc).1, hc⟩
    rw [hbc]
    omega
end AD
end
section
/-! split: the pieces, and their order -/
/-- a set of vertices that takes in, with one, all that go together with it -/
def Cls (n : Nat) (E : Nat → Nat → Prop) (R : Int32) : Prop := (∀ x, bt R x = true → x < n) ∧ ∀ x y, bt R x = true → Tg E x y → bt R y = true
theorem Cls.piece {n : Nat} {tg sr : Nat → Int32} {R : Int32} {s : Nat} (hn : n ≤ 16) (hsr : ∀ u v, v < n → (bt (sr v) u = true ↔ u < n ∧ bt (tg u) v = true)) (hR : Cls n (Ed n tg) R) (hs : bt R s = true) (v : Nat) : bt (spr tg n R 16 (sg s) (sg s) &&& spr sr n R 16 (sg s) (sg s)) v = true ↔ Tg (Ed n tg) s v := by
  rw [b_and, Bool.and_eq_true, spr_spec hn (hR.1 s hs) hR.1, spr_spec hn (hR.1 s hs) hR.1]
  constructor
  · rintro ⟨h1, h2⟩
    refine ⟨h1.mono (fun a b e => ⟨e.1, hR.1 b e.2.2, e.2.1⟩), h2.rev (fun a b e => ?_)⟩
    obtain ⟨h3, h4⟩ := (hsr b a e.1).mp e.2.1
    exact ⟨h3, e.1, h4⟩
  · rintro ⟨h1, h2⟩
    refine ⟨(Rc.stay h1 h2).mono (fun a b e => ⟨e.1.1, e.1.2.2, hR.2 s b hs e.2.2⟩), (Rc.stay h2 h1).rev (fun a b e => ?_)⟩
    exact ⟨e.1.2.1, (hsr a b e.1.2.1).mpr ⟨e.1.1, e.1.2.2⟩, hR.2 s a hs (Tg.trans ⟨h1, h2⟩ e.2.1)⟩
/-- a set fallen into pieces -/
def Pcs (E : Nat → Nat → Prop) (R : Int32) (PS : List Int32) : Prop := (∀ P ∈ PS, ∃ s, bt R s = true ∧ ∀ v, bt P v = true ↔ Tg E s v) ∧ (∀ x, bt R x = true → ∃ P ∈ PS, bt P x = true) ∧ PS.Pairwise (fun P Q => ∀ x, bt P x = true → bt Q x = true → False)
theorem spL_len (tg sr : Nat → Int32) (n : Nat) : ∀ f R, (spL tg sr n f R).length ≤ f
  | 0, R => Nat.le_refl _
  | f + 1, R => by
    rw [spL]
    by_cases h : R = 0
    · rw [if_pos h]; exact Nat.zero_le _
    · rw [if_neg h, List.length_cons]
      have := spL_len tg sr n f (R &&& (spP tg sr n R ^^^ (-1)))
      omega
theorem spL_ok {n : Nat} {tg sr : Nat → Int32} (hn : n ≤ 16) (hsr : ∀ u v, v < n → (bt (sr v) u = true ↔ u < n ∧ bt (tg u) v = true)) : ∀ f R, Cls n (Ed n tg) R → fb_ct (bt R) 16 ≤ f → Pcs (Ed n tg) R (spL tg sr n f R)
  | 0, R, hR, hf => by
    have hz : ∀ k, k < 16 → bt R k = false := fb_ct_zero.mp (by omega)
    have hz' : ∀ x, ¬ bt R x = true := fun x hx => by
      rw [hz x (by have := hR.1 x hx; omega)] at hx; cases hx
    rw [spL]
    exact ⟨fun P hP => absurd hP List.not_mem_nil, fun x hx => absurd hx (hz' x), List.Pairwise.nil⟩
  | f + 1, R, hR, hf => by
    rw [spL]
    by_cases h0 : R = 0
    · rw [if_pos h0]
      refine ⟨fun P hP => absurd hP List.not_mem_nil, fun x hx => ?_, List.Pairwise.nil⟩
      rw [h0, b_0] at hx; cases hx
    · rw [if_neg h0]
      obtain ⟨i, hi⟩ := bt_ne h0
      have hi16 : i < 16 := by have := hR.1 i hi; omega
      have hs := (low_spec hi16 hi).1
      have hl : low R < 16 := by have := hR.1 _ hs; omega
      have hp : ∀ v, bt (spP tg sr n R) v = true ↔ Tg (Ed n tg) (low R) v := fun v => hR.piece hn hsr hs v
      have hR' : Cls n (Ed n tg) (R &&& (spP tg sr n R ^^^ (-1))) := by
        refine ⟨fun x hx => ?_, fun x y hx t => ?_⟩
        · rw [bt_diff, Bool.and_eq_true] at hx
          exact hR.1 x hx.1
        · rw [bt_diff, Bool.and_eq_true, Bool.not_eq_true'] at hx ⊢
          refine ⟨hR.2 x y hx.1 t, b_nt (fun q => ?_)⟩
          have := (hp x).mpr (((hp y).mp q).trans t.symm)
          rw [hx.2] at this; cases this
      have hct : fb_ct (bt (R &&& (spP tg sr n R ^^^ (-1)))) 16 ≤ f := by
        have d : fb_ct (fun k => bt (R &&& (spP tg sr n R ^^^ (-1))) k || decide (k = low R)) 16 = fb_ct (bt (R &&& (spP tg sr n R ^^^ (-1)))) 16 + fb_ct (fun k => decide (k = low R)) 16 := by
          refine fb_ct_or (fun k hk z => ?_)
          have z1 := z.1
          have z2 : k = low R := by simpa using z.2
          rw [z2, bt_diff, (hp (low R)).mpr (Tg.refl _), Bool.and_eq_true] at z1
          exact absurd z1.2 (by decide)
        have d2 : fb_ct (fun k => bt (R &&& (spP tg sr n R ^^^ (-1))) k || decide (k = low R)) 16 ≤ fb_ct (bt R) 16 := by
          refine fb_ct_sub (fun k hk z => ?_)
          rw [Bool.or_eq_true, decide_eq_true_eq] at z
          rcases z with z | z
          · rw [bt_diff, Bool.and_eq_true] at z
            exact z.1
          · rw [z]; exact hs
        have d3 := ct_one hl
        omega
      obtain ⟨g1, g2, g3⟩ := spL_ok hn hsr f _ hR' hct
      refine ⟨fun P hP => ?_, fun x hx => ?_, List.pairwise_cons.mpr ⟨fun Q hQ x h1 h2 => ?_, g3⟩⟩
      · rcases List.mem_cons.mp hP with e | hP
        · subst e
          exact ⟨low R, hs, hp⟩
        · obtain ⟨s, s1, s2⟩ := g1 P hP
          rw [bt_diff, Bool.and_eq_true] at s1
          exact ⟨s, s1.1, s2⟩
      · cases e : bt (spP tg sr n R) x
        · obtain ⟨P, p1, p2⟩ := g2 x (by rw [bt_diff, hx, e]; rfl)
          exact ⟨P, List.mem_cons_of_mem _ p1, p2⟩
        · exact ⟨_, List.mem_cons_self, e⟩
      · obtain ⟨s, s1, s2⟩ := g1 Q hQ
        rw [bt_diff, Bool.and_eq_true, Bool.not_eq_true'] at s1
        have := (hp s).mpr (((hp x).mp h1).trans ((s2 x).mp h2).symm)
        rw [s1.2] at this; cases this
/-- two pieces with a vertex in common are one -/
theorem Pcs.one {E : Nat → Nat → Prop} {R : Int32} {PS : List Int32} (h : Pcs E R PS) {P Q : Int32} (hP : P ∈ PS) (hQ : Q ∈ PS) {x : Nat} (h1 : bt P x = true) (h2 : bt Q x = true) : P = Q := by
  obtain ⟨s, _, s2⟩ := h.1 P hP
  obtain ⟨t, _, t2⟩ := h.1 Q hQ
  have e := ((s2 x).mp h1).trans ((t2 x).mp h2).symm
  apply bt_ext
  intro i
  rw [s2, t2]
  exact ⟨fun z => e.symm.trans z, fun z => e.trans z⟩
theorem Pcs.tg {E : Nat → Nat → Prop} {R : Int32} {PS : List Int32} (h : Pcs E R PS) {P : Int32} (hP : P ∈ PS) {x : Nat} (h1 : bt P x = true) (v : Nat) : bt P v = true ↔ Tg E x v := by
  obtain ⟨s, _, s2⟩ := h.1 P hP
  have e := (s2 x).mp h1
  rw [s2]
  exact ⟨fun z => e.symm.trans z, fun z => e.trans z⟩
theorem Pcs.sub {E : Nat → Nat → Prop} {n : Nat} {R : Int32} {PS : List Int32} (h : Pcs E R PS) (hR : Cls n E R) {P : Int32} (hP : P ∈ PS) {x : Nat} (h1 : bt P x = true) : bt R x = true := by
  obtain ⟨s, s1, s2⟩ := h.1 P hP
  exact hR.2 s x s1 ((s2 x).mp h1)
theorem Pcs.nodup {E : Nat → Nat → Prop} {R : Int32} {PS : List Int32} (h : Pcs E R PS) : PS.Nodup := by
  refine List.Pairwise.imp_of_mem (fun {P Q} hP hQ r => ?_) h.2.2
  intro e
  obtain ⟨s, _, s2⟩ := h.1 P hP
  have s3 := (s2 s).mpr (Tg.refl s)
  exact r s s3 (by rw [← e]; exact s3)
theorem srcP_spec {sr : Nat → Int32} {n : Nat} {pc : Nat → Int32} {wt : Int32} : ∀ f q, (∃ j, q ≤ j ∧ j < q + f ∧ ¬ pc j &&& wt = 0 ∧ (tgOf sr (pc j) n &&& wt) &&& (pc j ^^^ (-1)) = 0) → ∃ j, q ≤ j ∧ j < q + f ∧ ¬ pc j &&& wt = 0 ∧ (tgOf sr (pc j) n &&& wt) &&& (pc j ^^^ (-1)) = 0 ∧ srcP sr n pc wt f q = pc j
  | 0, q, ⟨j, h1, h2, _⟩ => by omega
  | f + 1, q, ⟨j, h1, h2, h3, h4⟩ => by
    rw [srcP]
    by_cases a : pc q &&& wt = 0
    · rw [if_pos a]
      have hne : j ≠ q := fun z => h3 (by rw [z]; exact a)
      obtain ⟨k, k1, k2, k3, k4, k5⟩ := srcP_spec f (q + 1) ⟨j, by omega, by omega, h3, h4⟩
      exact ⟨k, by omega, by omega, k3, k4, k5⟩
    · rw [if_neg a]
      by_cases b : (tgOf sr (pc q) n &&& wt) &&& (pc q ^^^ (-1)) = 0
      · rw [if_pos b]
        exact ⟨q, by omega, by omega, a, b, rfl⟩
      · rw [if_neg b]
        have hne : j ≠ q := fun z => b (by rw [← z]; exact h4)
        obtain ⟨k, k1, k2, k3, k4, k5⟩ := srcP_spec f (q + 1) ⟨j, by omega, by omega, h3, h4⟩
        exact ⟨k, by omega, by omega, k3, k4, k5⟩
/-- what of the waiting leads to x -/
noncomputable def prd (E : Nat → Nat → Prop) (wt : Int32) (x : Nat) : Nat → Bool := fun y => @decide (bt wt y = true ∧ Rc E y x) (Classical.propDecidable _)
theorem prd_iff (E : Nat → Nat → Prop) (wt : Int32) (x y : Nat) : prd E wt x y = true ↔ bt wt y = true ∧ Rc E y x := by
  unfold prd
  exact @decide_eq_true_iff _ (Classical.propDecidable _)
/-- among the waiting there is one whom only its own lead to -/
theorem src_ex {E : Nat → Nat → Prop} {n : Nat} {wt : Int32} (hw : ∀ x, bt wt x = true → x < n) {x0 : Nat} (h0 : bt wt x0 = true) : ∃ x, bt wt x = true ∧ ∀ y, bt wt y = true → Rc E y x → Rc E x y := by
  obtain ⟨k, ⟨x, hx, hk⟩, hmin⟩ := pk_least (fun k => ∃ x, bt wt x = true ∧ fb_ct (prd E wt x) n = k) ⟨_, x0, h0, rfl⟩
  refine ⟨x, hx, fun y hy r => ?_⟩
  apply Classical.byContradiction
  intro hno
  have d : fb_ct (fun k => prd E wt y k || decide (k = x)) n = fb_ct (prd E wt y) n + fb_ct (fun k => decide (k = x)) n := by
    refine fb_ct_or (fun k _ z => ?_)
    have z2 : k = x := by simpa using z.2
    have z1 := (prd_iff E wt y k).mp z.1
    rw [z2] at z1
    exact hno z1.2
  have d2 : fb_ct (fun k => prd E wt y k || decide (k = x)) n ≤ fb_ct (prd E wt x) n := by
    refine fb_ct_sub (fun k _ z => ?_)
    rw [Bool.or_eq_true, decide_eq_true_eq] at z
    rcases z with z | z
    · have z1 := (prd_iff E wt y k).mp z
      exact (prd_iff E wt x k).mpr ⟨z1.1, z1.2.trans r⟩
    · rw [z]; exact (prd_iff E wt x x).mpr ⟨hx, Rc.refl x⟩
  have d3 := ct_one (hw x hx)
  exact hmin (fb_ct (prd E wt y) n) (by omega) ⟨y, hy, rfl⟩
/-- P may stand ahead of Q -/
def Ahd (E : Nat → Nat → Prop) (P Q : Int32) : Prop := (∀ x, bt P x = true → bt Q x = true → False) ∧ ∀ x y, E x y → bt Q x = true → bt P y = true → False
theorem spO_ok {n : Nat} {tg sr : Nat → Int32} {W : Int32} {PS : List Int32} {pc : Nat → Int32} (hn : n ≤ 16) (hsr : ∀ u v, v < n → (bt (sr v) u = true ↔ u < n ∧ bt (tg u) v = true)) (hW : Cls n (Ed n tg) W) (hP : Pcs (Ed n tg) W PS) (hpc : ∀ j (h : j < PS.length), pc j = PS[j]) : ∀ f wt (R : List Int32), R.length = f → R.Nodup → (∀ P ∈ R, P ∈ PS) → (∀ x, bt wt x = true ↔ ∃ P ∈ R, bt P x = true) → (spO sr n pc PS.length f wt).Perm R ∧ (spO sr n pc PS.length f wt).Pairwise (Ahd (Ed n tg))
  | 0, wt, R, hl, hnd, hin, hwt => by
    have : R = [] := List.eq_nil_of_length_eq_zero hl
    subst this
    rw [spO]
    exact ⟨List.Perm.refl _, List.Pairwise.nil⟩
  | f + 1, wt, R, hl, hnd, hin, hwt => by
    have hwn : ∀ x, bt wt x = true → x < n := fun x hx => by
      obtain ⟨P, p1, p2⟩ := (hwt x).mp hx
      exact hW.1 x (hP.sub hW (hin P p1) p2)
    -- one that is waiting
    obtain ⟨x0, h0⟩ : ∃ x0, bt wt x0 = true := by
      cases R with
      | nil => simp at hl
      | cons P R' =>
        obtain ⟨s, _, s2⟩ := hP.1 P (hin P List.mem_cons_self)
        exact ⟨s, (hwt s).mpr ⟨P, List.mem_cons_self, (s2 s).mpr (Tg.refl s)⟩⟩
    obtain ⟨x, hx, hsrc⟩ := src_ex (E := Ed n tg) hwn h0
    obtain ⟨P1, p1, p2⟩ := (hwt x).mp hx
    obtain ⟨j, hj, ej⟩ := List.getElem_of_mem (hin P1 p1)
    have epc : pc j = P1 := by rw [hpc j hj, ej]
    have c1 : ¬ pc j &&& wt = 0 := by
      intro z
      have t : bt (pc j &&& wt) x = true := by rw [b_and, epc, p2, hx]; rfl
      rw [z, b_0] at t; cases t
    have c2 : (tgOf sr (pc j) n &&& wt) &&& (pc j ^^^ (-1)) = 0 := by
      rw [bt_zero]
      intro y
      refine b_nt (fun q => ?_)
      rw [bt_diff, b_and, Bool.and_eq_true, Bool.and_eq_true, Bool.not_eq_true', bt_tgOf, epc] at q
      obtain ⟨⟨⟨z, z1, z2, z3⟩, q2⟩, q3⟩ := q
      obtain ⟨y1, y2⟩ := (hsr y z z1).mp z3
      have tz := (hP.tg (hin P1 p1) p2 z).mp z2
      have r : Rc (Ed n tg) y x := (Rc.one ⟨y1, z1, y2⟩).trans tz.2
      have t := (hP.tg (hin P1 p1) p2 y).mpr ⟨hsrc y q2 r, r⟩
      rw [q3] at t; cases t
    obtain ⟨k, _, k2, k3, k4, k5⟩ := srcP_spec (sr := sr) (n := n) (pc := pc) (wt := wt) PS.length 0 ⟨j, by omega, by omega, c1, c2⟩
    have k2' : k < PS.length := by omega
    obtain ⟨P0, e0⟩ : ∃ P0, P0 = pc k := ⟨_, rfl⟩
    have m0 : P0 ∈ PS := by rw [e0, hpc k k2']; exact List.getElem_mem k2'
    rw [← e0] at k3 k4 k5
    have mR : P0 ∈ R := by
      obtain ⟨y, hy⟩ := bt_ne k3
      rw [b_and, Bool.and_eq_true] at hy
      obtain ⟨P2, a1, a2⟩ := (hwt y).mp hy.2
      rw [hP.one m0 (hin P2 a1) hy.1 a2]; exact a1
    rw [spO, k5]
    have hwt' : ∀ x, bt (wt &&& (P0 ^^^ (-1))) x = true ↔ ∃ P ∈ R.erase P0, bt P x = true := fun x => by
      rw [bt_diff, Bool.and_eq_true, Bool.not_eq_true', hwt]
      constructor
      · rintro ⟨⟨P, a1, a2⟩, a3⟩
        refine ⟨P, (List.Nodup.mem_erase_iff hnd).mpr ⟨fun z => ?_, a1⟩, a2⟩
        rw [z, a3] at a2; cases a2
      · rintro ⟨P, a1, a2⟩
        obtain ⟨b1, b2⟩ := (List.Nodup.mem_erase_iff hnd).mp a1
        refine ⟨⟨P, b2, a2⟩, b_nt (fun q => b1 (hP.one (hin P b2) m0 a2 q))⟩
    obtain ⟨g1, g2⟩ := spO_ok hn hsr hW hP hpc f (wt &&& (P0 ^^^ (-1))) (R.erase P0) (by have := List.length_erase_of_mem mR; omega) (List.Pairwise.sublist List.erase_sublist hnd) (fun P h => hin P (List.mem_of_mem_erase h)) hwt'
    refine ⟨(List.Perm.cons P0 g1).trans (List.perm_cons_erase mR).symm, List.pairwise_cons.mpr ⟨fun Q hQ => ?_, g2⟩⟩
    have hQ' := (List.Perm.mem_iff g1).mp hQ
    have hQw : ∀ x, bt Q x = true → bt wt x = true ∧ bt P0 x = false := fun x hx => by
      have := (hwt' x).mpr ⟨Q, hQ', hx⟩
      rw [bt_diff, Bool.and_eq_true, Bool.not_eq_true'] at this
      exact this
    refine ⟨fun x h1 h2 => ?_, fun x y e h1 h2 => ?_⟩
    · rw [(hQw x h2).2] at h1; cases h1
    · obtain ⟨a1, a2⟩ := hQw x h1
      have : bt ((tgOf sr P0 n &&& wt) &&& (P0 ^^^ (-1))) x = true := by
        rw [bt_diff, b_and, Bool.and_eq_true, Bool.and_eq_true, Bool.not_eq_true', bt_tgOf]
        exact ⟨⟨⟨y, e.2.1, h2, (hsr x y e.2.1).mpr ⟨e.1, e.2.2⟩⟩, a1⟩, a2⟩
      rw [k4, b_0] at this; cases this
end
section
/-! removeEdge: the plain law -/
theorem clL_out {n : Nat} : ∀ (L : List Int32) (ld : Nat → Nat) (x : Nat), (∀ P ∈ L, bt P x = false) → clL n L ld x = ld x
  | [], ld, x, _ => rfl
  | q :: L, ld, x, h => by
    rw [clL, clL_out L _ x (fun P hP => h P (List.mem_cons_of_mem _ hP)), clm_at, if_neg (fun z => b_nf (h q List.mem_cons_self) z.2)]
theorem clL_in {n : Nat} : ∀ (L : List Int32) (ld : Nat → Nat) (x : Nat) (P : Int32), x < n → P ∈ L → bt P x = true → (∀ Q ∈ L, bt Q x = true → Q = P) → clL n L ld x = low P
  | [], _, _, _, _, hP, _, _ => absurd hP List.not_mem_nil
  | q :: L, ld, x, P, hx, hP, hb, hu => by
    rw [clL]
    by_cases z : ∃ Q, Q ∈ L ∧ bt Q x = true
    · obtain ⟨Q, q1, q2⟩ := z
      rw [← hu Q (List.mem_cons_of_mem _ q1) q2]
      exact clL_in L _ x Q hx q1 q2 (fun Q' h1 h2 => (hu Q' (List.mem_cons_of_mem _ h1) h2).trans (hu Q (List.mem_cons_of_mem _ q1) q2).symm)
    · have hq : q = P := by
        rcases List.mem_cons.mp hP with e | e
        · exact e.symm
        · exact absurd ⟨P, e, hb⟩ z
      rw [clL_out L _ x (fun Q hQ => b_nt (fun y => z ⟨Q, hQ, y⟩)), clm_at, hq, if_pos ⟨hx, hb⟩]
theorem clB_out : ∀ (L : List Int32) (mb : Nat → Int32) (c : Nat), (∀ P ∈ L, c ≠ low P) → clB L mb c = mb c
  | [], mb, c, _ => rfl
  | q :: L, mb, c, h => by
    rw [clB, clB_out L _ c (fun P hP => h P (List.mem_cons_of_mem _ hP))]
    unfold upd
    rw [if_neg (h q List.mem_cons_self)]
theorem clB_in : ∀ (L : List Int32) (mb : Nat → Int32) (c : Nat) (P : Int32), P ∈ L → c = low P → (∀ Q ∈ L, c = low Q → Q = P) → clB L mb c = P
  | [], _, _, _, hP, _, _ => absurd hP List.not_mem_nil
  | q :: L, mb, c, P, hP, hb, hu => by
    rw [clB]
    by_cases z : ∃ Q, Q ∈ L ∧ c = low Q
    · obtain ⟨Q, q1, q2⟩ := z
      have e := hu Q (List.mem_cons_of_mem _ q1) q2
      rw [e] at q1
      exact clB_in L _ c P q1 hb (fun Q' h1 h2 => hu Q' (List.mem_cons_of_mem _ h1) h2)
    · have hq : q = P := by
        rcases List.mem_cons.mp hP with e | e
        · exact e.symm
        · exact absurd ⟨P, e, hb⟩ z
      rw [clB_out L _ c (fun Q hQ y => z ⟨Q, hQ, y⟩)]
      unfold upd
      rw [hq, if_pos hb]
theorem Rc.lt {E : Nat → Nat → Prop} {n x y : Nat} (hE : ∀ a b, E a b → a < n ∧ b < n) (hx : x < n) (r : Rc E x y) : y < n := by
  obtain ⟨k, r⟩ := r
  exact Wk.lt hx (fun a b e => (hE a b e).2) r
section RM
variable {n : Nat} {E E' : Nat → Nat → Prop} {ld : Nat → Nat} {mb : Nat → Int32} {pl ln : Nat → Nat} {len u v : Nat}
/-- what doesn't go together with u stays as it was -/
theorem del_tg (hC : Comp n E ld mb) (hE : ∀ x y, E x y → x < n ∧ y < n) (hE' : ∀ x y, E' x y ↔ E x y ∧ ¬ (x = u ∧ y = v)) {x y : Nat} (hx : x < n) (hne : ∀ a b, a = u → b = v → ld a = ld b → ld x ≠ ld a) : Tg E' x y ↔ Tg E x y := by
  have hm : ∀ a b, E' a b → E a b := fun a b e => ((hE' a b).mp e).1
  have one : ∀ x y, x < n → ld x = ld x → (∀ a b, a = u → b = v → ld a = ld b → ld x ≠ ld a) → Rc E x y → Rc E y x → Rc E' x y := by
    intro x y hx _ hne h1 h2
    refine (Rc.stay h1 h2).mono (fun a b e => (hE' a b).mpr ⟨e.1, fun z => ?_⟩)
    obtain ⟨ha, hb⟩ := hE a b e.1
    have ea := (hC.iff hx ha).mp e.2.1
    have eb := (hC.iff hx hb).mp e.2.2
    exact hne a b z.1 z.2 (ea.symm.trans eb) ea
  constructor
  · intro t; exact ⟨t.1.mono hm, t.2.mono hm⟩
  · intro t
    have hy := Rc.lt hE hx t.1
    have exy := (hC.iff hx hy).mp t
    exact ⟨one x y hx rfl hne t.1 t.2, one y x hy rfl (fun a b h1 h2 h3 => by rw [← exy]; exact hne a b h1 h2 h3) t.2 t.1⟩
/-- an edge between two components is taken away -/
theorem del_out (hC : Comp n E ld mb) (hL : Line n E ld pl ln len) (hE : ∀ x y, E x y → x < n ∧ y < n) (hE' : ∀ x y, E' x y ↔ E x y ∧ ¬ (x = u ∧ y = v)) (hne : ld u ≠ ld v) : Comp n E' ld mb ∧ Line n E' ld pl ln len :=
  ⟨hC.same (fun x y hx _ => del_tg hC hE hE' hx (fun a b h1 h2 h3 _ => hne (by rw [← h1, ← h2]; exact h3))), hL.imp (fun i j hij hj => ⟨(hL.rl hij hj).1, fun x y e => (hL.rl hij hj).2 x y ((hE' x y).mp e).1⟩)⟩
/-- its end is still reached without it -/
theorem del_still (hC : Comp n E ld mb) (hL : Line n E ld pl ln len) (hE' : ∀ x y, E' x y ↔ E x y ∧ ¬ (x = u ∧ y = v)) (hr : Rc E' u v) : Comp n E' ld mb ∧ Line n E' ld pl ln len := by
  have hm : ∀ a b, E' a b → E a b := fun a b e => ((hE' a b).mp e).1
  have hR : ∀ x y, Rc E x y → Rc E' x y := fun x y r => Rc.ind (P := fun z => Rc E' x z) (Rc.refl x) (fun a b _ ih e => by
    by_cases z : a = u ∧ b = v
    · rw [z.1] at ih
      rw [z.2]; exact ih.trans hr
    · exact ih.step ((hE' a b).mpr ⟨e, z⟩)) r
  exact ⟨hC.same (fun x y _ _ => ⟨fun t => ⟨t.1.mono hm, t.2.mono hm⟩, fun t => ⟨hR x y t.1, hR y x t.2⟩⟩), hL.imp (fun i j hij hj => ⟨(hL.rl hij hj).1, fun x y e => (hL.rl hij hj).2 x y (hm x y e)⟩)⟩
/-- the component falls into pieces -/
theorem del_split {PS OO : List Int32} {T : List Nat} {nl : Nat → Nat} {mb' : Nat → Int32} (hn : n ≤ 16) (hC : Comp n E ld mb) (hL : Line n E ld pl ln len) (hE : ∀ x y, E x y → x < n ∧ y < n) (hE' : ∀ x y, E' x y ↔ E x y ∧ ¬ (x = u ∧ y = v)) (hu : u < n) (hW : Cls n E' (mb (ld u))) (hP : Pcs E' (mb (ld u)) PS) (hperm : OO.Perm PS) (hord : OO.Pairwise (Ahd E')) (hT : (sgF (fun _ => true) ln (pl (ld u)) 0 ++ OO.map low) ++ sgF (fun _ => true) ln (len - (pl (ld u) + 1)) (pl (ld u) + 1) = T) (hnl : clL n OO ld = nl) (hmb : clB OO (upd mb (ld u) 0) = mb') : Comp n E' nl mb' ∧ Lok n E' nl T ∧ T.length + 1 = len + PS.length := by
  have hm : ∀ a b, E' a b → E a b := fun a b e => ((hE' a b).mp e).1
  have hEn : ∀ x y, E' x y → x < n ∧ y < n := fun x y e => hE x y (hm x y e)
  have hOO : ∀ P, P ∈ OO ↔ P ∈ PS := fun P => List.Perm.mem_iff hperm
  have hlen := hL.le
  obtain ⟨pu, pu2⟩ := hL.pos (hC.lt hu) (hC.ldld hu)
  have mem := fun x => hC.mem (v := x) hu
  have sub : ∀ P, P ∈ OO → ∀ x, bt P x = true → x < n ∧ ld x = ld u := fun P h x hx => (mem x).mp (hP.sub hW ((hOO P).mp h) hx)
  have lw : ∀ P, P ∈ OO → bt P (low P) = true ∧ low P < n ∧ ld (low P) = ld u := fun P h => by
    obtain ⟨s, _, s2⟩ := hP.1 P ((hOO P).mp h)
    have s3 := (s2 s).mpr (Tg.refl s)
    have h1 := (low_spec (by have := (sub P h s s3).1; omega) s3).1
    exact ⟨h1, sub P h _ h1⟩
  have one : ∀ P Q, P ∈ OO → Q ∈ OO → ∀ x, bt P x = true → bt Q x = true → P = Q := fun P Q h1 h2 x hx hy => hP.one ((hOO P).mp h1) ((hOO Q).mp h2) hx hy
  have hIn : ∀ x, x < n → ld x = ld u → ∃ P, P ∈ OO ∧ bt P x = true ∧ nl x = low P ∧ (∀ z, bt P z = true ↔ Tg E' x z) := fun x hx h => by
    obtain ⟨P, p1, p2⟩ := hP.2.1 x ((mem x).mpr ⟨hx, h⟩)
    have p1' := (hOO P).mpr p1
    refine ⟨P, p1', p2, ?_, fun z => hP.tg p1 p2 z⟩
    rw [← hnl]
    exact clL_in OO ld x P hx p1' p2 (fun Q q1 q2 => one Q P q1 p1' x q2 p2)
  have hOut : ∀ x, x < n → ld x ≠ ld u → nl x = ld x := fun x hx h => by
    rw [← hnl]
    exact clL_out OO ld x (fun P hP => b_nt (fun q => h (sub P hP x q).2))
  have hld : ∀ x, x < n → nl x < n ∧ ld (nl x) = ld x := fun x hx => by
    by_cases h : ld x = ld u
    · obtain ⟨P, p1, p2, p3, _⟩ := hIn x hx h
      rw [p3, h]
      exact (lw P p1).2
    · rw [hOut x hx h]
      exact ⟨hC.lt hx, hC.ldld hx⟩
  have far : ∀ x y, x < n → ld x ≠ ld u → (Tg E' x y ↔ Tg E x y) := fun x y hx h => del_tg hC hE hE' hx (fun a b h1 _ _ => by rw [h1]; exact h)
  have h2 : ∀ x y, x < n → y < n → Tg E' x y → nl x = nl y := fun x y hx hy t => by
    have e := (hC.iff hx hy).mp ⟨t.1.mono hm, t.2.mono hm⟩
    by_cases h : ld x = ld u
    · obtain ⟨P, p1, p2, p3, p4⟩ := hIn x hx h
      obtain ⟨Q, q1, q2, q3, q4⟩ := hIn y hy (by rw [← e]; exact h)
      rw [p3, q3, one P Q p1 q1 y ((p4 y).mpr t) q2]
    · rw [hOut x hx h, hOut y hy (by rw [← e]; exact h), e]
  have q1 : ∀ c, c ∈ sgF (fun _ => true) ln (pl (ld u)) 0 ↔ c < n ∧ ld c = c ∧ pl c < pl (ld u) := fun c => by
    rw [sgF_mem]
    constructor
    · rintro ⟨j, h1, h2, h3, _⟩
      have hj : j < len := by omega
      obtain ⟨a1, a2⟩ := hL.at hj
      have a3 := hL.2 j hj
      rw [h3] at a1 a2 a3
      exact ⟨a1, a2, by omega⟩
    · rintro ⟨h1, h2, h3⟩
      obtain ⟨a1, a2⟩ := hL.pos h1 h2
      exact ⟨pl c, by omega, by omega, a2, rfl⟩
  have q5 : ∀ c, c ∈ sgF (fun _ => true) ln (len - (pl (ld u) + 1)) (pl (ld u) + 1) ↔ c < n ∧ ld c = c ∧ pl (ld u) < pl c := fun c => by
    rw [sgF_mem]
    constructor
    · rintro ⟨j, h1, h2, h3, _⟩
      have hj : j < len := by omega
      obtain ⟨a1, a2⟩ := hL.at hj
      have a3 := hL.2 j hj
      rw [h3] at a1 a2 a3
      exact ⟨a1, a2, by omega⟩
    · rintro ⟨h1, h2, h3⟩
      obtain ⟨a1, a2⟩ := hL.pos h1 h2
      exact ⟨pl c, by omega, by omega, a2, rfl⟩
  have key : ∀ a b, pl (ld a) < pl (ld b) → Rl E' nl a b := fun a b h => ⟨fun z => by rw [z] at h; omega, fun x y e ex ey => by
    obtain ⟨hx, hy⟩ := hEn x y e
    have up := hL.up hC hx hy (hm x y e)
    have l1 := (hld x hx).2
    have l2 := (hld y hy).2
    rw [ex] at l1
    rw [ey] at l2
    rw [← l1, ← l2] at up
    omega⟩
  have pin : ∀ P, P ∈ OO → ∀ x, x < n → nl x = low P → bt P x = true := fun P h x hx e => by
    have l := (hld x hx).2
    rw [e, (lw P h).2.2] at l
    obtain ⟨Q, q1, q2, q3, _⟩ := hIn x hx l.symm
    have t := (lw Q q1).1
    rw [← q3, e] at t
    rw [one P Q h q1 _ (lw P h).1 t]; exact q2
  refine ⟨Comp.make (fun x hx => ?_) h2 (fun c hc hcc z => ?_), ⟨fun c => ?_, ?_⟩, ?_⟩
  · by_cases h : ld x = ld u
    · obtain ⟨P, p1, p2, p3, p4⟩ := hIn x hx h
      rw [p3]
      exact ⟨low_le (by omega) p2, (p4 _).mp (lw P p1).1⟩
    · rw [hOut x hx h]
      exact ⟨hC.le hx, (far x _ hx h).mpr (hC.1 x hx).2.1⟩
  · by_cases h : ld c = ld u
    · obtain ⟨P, p1, p2, p3, p4⟩ := hIn c hc h
      have e : mb' c = P := by
        rw [← hmb]
        refine clB_in OO _ c P p1 (hcc.symm.trans p3) (fun Q q1 q2 => ?_)
        refine one Q P q1 p1 c ?_ p2
        have := (lw Q q1).1
        rw [← q2] at this; exact this
      rw [e, p4]
      constructor
      · intro t
        have hz := Rc.lt hEn hc t.1
        exact ⟨hz, by rw [← h2 c z hc hz t]; exact hcc⟩
      · rintro ⟨hz, ez⟩
        have hl := (hld z hz).2
        rw [ez] at hl
        obtain ⟨Q, q1, q2, q3, q4⟩ := hIn z hz (by rw [← hl]; exact h)
        have := (lw Q q1).1
        rw [← q3, ez] at this
        exact ((q4 c).mp this).symm
    · have lc : ld c = c := by rw [hOut c hc h] at hcc; exact hcc
      have e : mb' c = mb c := by
        rw [← hmb, clB_out OO _ c (fun P hP y => h (by rw [y]; exact (lw P hP).2.2))]
        unfold upd
        rw [if_neg (fun y => h (by rw [y]; exact hC.ldld hu))]
      rw [e, hC.2 c hc lc]
      constructor
      · rintro ⟨hz, ez⟩
        exact ⟨hz, by rw [hOut z hz (by rw [ez, ← lc]; exact h)]; exact ez⟩
      · rintro ⟨hz, ez⟩
        have hl := (hld z hz).2
        rw [ez, lc] at hl
        exact ⟨hz, hl.symm⟩
  · rw [← hT, List.mem_append, List.mem_append, q1, q5, List.mem_map]
    constructor
    · have plain : c < n → ld c = c → pl c ≠ pl (ld u) → c < n ∧ nl c = c := fun h1 h2 h3 => ⟨h1, by rw [hOut c h1 (fun z => h3 (by rw [← z, h2]))]; exact h2⟩
      rintro ((z | ⟨P, z1, z2⟩) | z)
      · exact plain z.1 z.2.1 (by omega)
      · obtain ⟨a1, a2, a3⟩ := lw P z1
        obtain ⟨Q, b1, b2, b3, _⟩ := hIn _ a2 a3
        have e := one P Q z1 b1 _ a1 b2
        rw [← e] at b3
        rw [← z2]
        exact ⟨a2, b3⟩
      · exact plain z.1 z.2.1 (by omega)
    · rintro ⟨h1, h2⟩
      by_cases h : ld c = ld u
      · obtain ⟨P, p1, p2, p3, p4⟩ := hIn c h1 h
        exact Or.inl (Or.inr ⟨P, p1, p3.symm.trans h2⟩)
      · rw [hOut c h1 h] at h2
        have hne : pl c ≠ pl (ld u) := fun z => h (hL.inj hC h1 hu (by rw [h2]; exact z))
        rcases Nat.lt_or_ge (pl c) (pl (ld u)) with r | r
        · exact Or.inl (Or.inl ⟨h1, h2, r⟩)
        · exact Or.inr ⟨h1, h2, by omega⟩
  · rw [← hT]
    refine List.pairwise_append.mpr ⟨List.pairwise_append.mpr ⟨?_, ?_, fun a ha b hb => ?_⟩, ?_, fun a ha b hb => ?_⟩
    · refine List.Pairwise.imp_of_mem (fun {a b} ha hb r => ?_) (sgF_pw (P := fun _ => true) hL.2 (pl (ld u)) 0 (by omega))
      exact key a b (by rw [((q1 a).mp ha).2.1, ((q1 b).mp hb).2.1]; exact r)
    · refine List.pairwise_map.mpr (List.Pairwise.imp_of_mem (fun {P Q} hP' hQ r => ?_) hord)
      refine ⟨fun z => r.1 (low P) (lw P hP').1 (by rw [z]; exact (lw Q hQ).1), fun x y e ex ey => ?_⟩
      obtain ⟨hx, hy⟩ := hEn x y e
      exact r.2 x y e (pin Q hQ x hx ex) (pin P hP' y hy ey)
    · obtain ⟨P, p1, p2⟩ := List.mem_map.mp hb
      exact key a b (by rw [((q1 a).mp ha).2.1, ← p2, (lw P p1).2.2]; exact ((q1 a).mp ha).2.2)
    · refine List.Pairwise.imp_of_mem (fun {a b} ha hb r => ?_) (sgF_pw (P := fun _ => true) hL.2 (len - (pl (ld u) + 1)) (pl (ld u) + 1) (by omega))
      exact key a b (by rw [((q5 a).mp ha).2.1, ((q5 b).mp hb).2.1]; exact r)
    · have hb' := (q5 b).mp hb
      rcases List.mem_append.mp ha with ha | ha
      · have ha' := (q1 a).mp ha
        exact key a b (by rw [ha'.2.1, hb'.2.1]; omega)
      · obtain ⟨P, p1, p2⟩ := List.mem_map.mp ha
        exact key a b (by rw [hb'.2.1, ← p2, (lw P p1).2.2]; exact hb'.2.2)
  · rw [← hT, List.length_append, List.length_append, List.length_map, sgF_true, sgF_true, List.length_map, List.length_map, List.length_range', List.length_range', List.Perm.length_eq hperm]
    omega
end RM
end
section
/-! the ten calls, and the start -/
theorem INV.of {G : GG} {ax am : Nat → Nat} {n : Nat} {tg sr : Nat → Int32} {ld : Nat → Nat} {mb : Nat → Int32} {pl ln : Nat → Nat} {len : Nat} (nx : Nat → Nat) (nl : Nat) {hs : Nat → Nat} (ps : Nat → Int32) {ed : Nat → Bool} (re : Nat → Bool) (hi : Nat → Nat) (h : Inv n tg sr ld mb pl ln len hs ed) : INV G ax am (XW G ax n tg sr ld mb pl ln len nx nl hs ps) (MW G am n ed re hi) :=
  ⟨n, tg, sr, ld, mb, pl, ln, len, nx, nl, hs, ps, ed, re, hi, rfl, rfl, h⟩
theorem b_tf {b : Bool} (h : ¬ b = false) : b = true := by cases b <;> simp_all
theorem inN_at : ∀ k j, j < k → inN k j = j
  | k + 1, j, h => by
    rw [inN]
    by_cases q : j = k
    · rw [q, va_up_self]
    · rw [va_up_ne _ _ q]; exact inN_at k j (by omega)
theorem inB_at : ∀ k j, j < k → inB k j = sg j
  | k + 1, j, h => by
    rw [inB]
    unfold upd
    by_cases q : j = k
    · rw [if_pos q, q]
    · rw [if_neg q]; exact inB_at k j (by omega)
theorem Inv.start (x : Int32) : Inv (cl x) (fun _ => 0) (fun _ => 0) (inN (cl x)) (inB (cl x)) (inN (cl x)) (inN (cl x)) (cl x) (fun _ => 0) (fun _ => false) := by
  obtain ⟨h1, h2⟩ := cl_in x
  have z0 : ∀ b, ¬ bt (0 : Int32) b = true := fun b h => by rw [b_0] at h; cases h
  have no : ∀ a b, ¬ Ed (cl x) (fun _ => 0) a b := fun a b e => z0 b e.2.2
  have e := inN_at (cl x)
  refine ⟨⟨⟨h1, h2⟩, fun a b _ h => absurd h (z0 b), fun a b _ => ⟨fun h => absurd h (z0 a), fun h => absurd h.2 (z0 b)⟩, fun a b _ _ => ⟨fun h => absurd h (z0 b), fun h => Bool.noConfusion h⟩, fun m _ h => Bool.noConfusion h⟩, Comp.make (fun u hu => ?_) (fun u v hu hv t => ?_) (fun c hc hcc v => ?_), ⟨⟨fun c => ?_, ?_⟩, fun i hi => ?_⟩, fun j => by show (0 : Nat) < 100; omega⟩
  · rw [e u hu]; exact ⟨Nat.le_refl _, Tg.refl _⟩
  · have : v = u := Rc.ind (P := fun z => z = u) rfl (fun a b _ _ ab => absurd ab (no a b)) t.1
    rw [this]
  · rw [inB_at (cl x) c hc, bt_sg (by omega), decide_eq_true_eq]
    constructor
    · intro h; rw [h]; exact ⟨hc, e c hc⟩
    · rintro ⟨a1, a2⟩
      rw [e v a1] at a2; exact a2
  · rw [List.mem_map]
    constructor
    · rintro ⟨i, a1, a2⟩
      have a3 := List.mem_range.mp a1
      rw [e i a3] at a2
      rw [← a2]; exact ⟨a3, e i a3⟩
    · rintro ⟨a1, a2⟩
      exact ⟨c, List.mem_range.mpr a1, a2⟩
  · refine List.pairwise_iff_getElem.mpr (fun i j hi hj hij => ?_)
    have hj' : j < cl x := by simpa using hj
    have hi' : i < cl x := by omega
    refine ⟨?_, fun x y ab => absurd ab (no x y)⟩
    rw [List.getElem_map, List.getElem_map, List.getElem_range, List.getElem_range, e i hi', e j hj']
    omega
  · rw [e i hi, e i hi]
theorem Inv.ln16 {n : Nat} {E : Nat → Nat → Prop} {ld pl ln : Nat → Nat} {len : Nat} (hn : n ≤ 16) (hL : Line n E ld pl ln len) : ∀ i, i < len → ln i < 16 := fun i hi => by
  have := (hL.at hi).1; omega
theorem Inv.ld16 {n : Nat} {E : Nat → Nat → Prop} {ld : Nat → Nat} {mb : Nat → Int32} (hn : n ≤ 16) (hC : Comp n E ld mb) : ∀ w, w < n → ld w < 16 := fun w hw => by
  have := hC.lt hw; omega
theorem st_components (G : GG) (ax am : Nat → Nat) : St_components G (INV G ax am) (ax 0) (am 0) := by
  intro w1 w2 h
  obtain ⟨n, tg, sr, ld, mb, pl, ln, len, nx, nl, hs, ps, ed, re, hi, rfl, rfl, hB, hC, hL, hh⟩ := h
  have z := metM_components G am n ed re hi hB.1.2
  rw [hB.co hC re hL] at z
  exact ⟨_, _, _, metX_components G ax n tg sr ld mb pl ln len nx nl hs ps, z, INV.of nx nl ps _ _ ⟨hB, hC, hL, hh⟩⟩
theorem st_leader (G : GG) (ax am : Nat → Nat) : St_leader G (INV G ax am) (ax 0) (am 0) := by
  intro x w1 w2 h
  obtain ⟨n, tg, sr, ld, mb, pl, ln, len, nx, nl, hs, ps, ed, re, hi, rfl, rfl, hB, hC, hL, hh⟩ := h
  have hn := hB.1.2
  by_cases q : vI n x = true
  · obtain ⟨u, hu, rfl⟩ := vI_of hn q
    have z := metM_leader_ok G am n ed re hi u hn hu
    rw [hB.lo hC re hu] at z
    exact ⟨_, _, _, metX_leader_ok G ax n tg sr ld mb pl ln len nx nl hs ps u hn hu, z, INV.of nx nl ps _ _ ⟨hB, hC, hL, hh⟩⟩
  · exact ⟨_, _, _, metX_leader_bad G ax n tg sr ld mb pl ln len nx nl hs ps x hn (b_nt q), metM_leader_bad G am n ed re hi x hn (b_nt q), INV.of nx nl ps _ _ ⟨hB, hC, hL, hh⟩⟩
theorem st_componentSize (G : GG) (ax am : Nat → Nat) : St_componentSize G (INV G ax am) (ax 0) (am 0) := by
  intro x w1 w2 h
  obtain ⟨n, tg, sr, ld, mb, pl, ln, len, nx, nl, hs, ps, ed, re, hi, rfl, rfl, hB, hC, hL, hh⟩ := h
  have hn := hB.1.2
  by_cases q : vI n x = true
  · obtain ⟨u, hu, rfl⟩ := vI_of hn q
    have z := metM_componentSize_ok G am n ed re hi u hn hu
    rw [← Inv.size hB hC re hu] at z
    exact ⟨_, _, _, metX_componentSize_ok G ax n tg sr ld mb pl ln len nx nl hs ps u hn hu (Inv.ld16 hn hC u hu), z, INV.of nx nl ps _ _ ⟨hB, hC, hL, hh⟩⟩
  · exact ⟨_, _, _, metX_componentSize_bad G ax n tg sr ld mb pl ln len nx nl hs ps x hn (b_nt q), metM_componentSize_bad G am n ed re hi x hn (b_nt q), INV.of nx nl ps _ _ ⟨hB, hC, hL, hh⟩⟩
theorem st_reaches (G : GG) (ax am : Nat → Nat) : St_reaches G (INV G ax am) (ax 0) (am 0) := by
  intro x y w1 w2 h
  obtain ⟨n, tg, sr, ld, mb, pl, ln, len, nx, nl, hs, ps, ed, re, hi, rfl, rfl, hB, hC, hL, hh⟩ := h
  have hn := hB.1.2
  have hlen := hL.le
  by_cases bad : vI n x = false ∨ vI n y = false
  · exact ⟨_, _, _, metX_reaches_bad G ax n tg sr ld mb pl ln len nx nl hs ps x y hn bad, metM_reaches_bad G am n ed re hi x y hn bad, INV.of nx nl ps _ _ ⟨hB, hC, hL, hh⟩⟩
  · obtain ⟨u, hu, rfl⟩ := vI_of hn (b_tf (fun z => bad (Or.inl z)))
    obtain ⟨v, hv, rfl⟩ := vI_of hn (b_tf (fun z => bad (Or.inr z)))
    have pu := (hL.pos (hC.lt hu) (hC.ldld hu)).1
    have pv := (hL.pos (hC.lt hv) (hC.ldld hv)).1
    have z := metM_reaches_ok G am n ed re hi u v hn hu hv
    rcases Nat.lt_or_ge (pl (ld v)) (pl (ld u)) with q | q
    · have e : fr ed n re (16 * u + v) = false := b_nt (fun r => by
        have := hL.upR hC Ed.in ((hB.rc re hu hv).mp r)
        omega)
      rw [e, show nI (false).toNat = 0 from nI_0] at z
      exact ⟨_, _, _, metX_reaches_far G ax n tg sr ld mb pl ln len nx nl hs ps u v hn hu hv (Inv.ld16 hn hC u hu) (Inv.ld16 hn hC v hv) (by omega) (by omega) q, z, INV.of nx nl ps _ _ ⟨hB, hC, hL, hh⟩⟩
    · have e : fr ed n re (16 * u + v) = bt (fwd tg n ld mb ln (pl (ld v) + 1 - pl (ld u)) (pl (ld u)) (sg (ld u))) (ld v) := b_iff ((hB.rc re hu hv).trans (Inv.reach hB hC hL hu hv q).symm)
      rw [e] at z
      exact ⟨_, _, _, metX_reaches_ok G ax n tg sr ld mb pl ln len nx nl hs ps u v hn hu hv (Inv.ld16 hn hC u hu) (Inv.ld16 hn hC v hv) (by omega) (by omega) q (fun i hi => Inv.ln16 hn hL i (by omega)), z, INV.of nx nl ps _ _ ⟨hB, hC, hL, hh⟩⟩
theorem st_height (G : GG) (ax am : Nat → Nat) : St_height G (INV G ax am) (ax 0) (am 0) := by
  intro x w1 w2 h
  obtain ⟨n, tg, sr, ld, mb, pl, ln, len, nx, nl, hs, ps, ed, re, hi, rfl, rfl, hB, hC, hL, hh⟩ := h
  have hn := hB.1.2
  have hlen := hL.le
  by_cases q : vI n x = true
  · obtain ⟨u, hu, rfl⟩ := vI_of hn q
    have z := metM_height_ok G am n ed re hi u hn hu
    rw [Inv.high (hs := hs) hB hC hL re hi hu] at z
    exact ⟨_, _, _, metX_height_ok G ax n tg sr ld mb pl ln len nx nl hs ps u hn hu (by omega) (Inv.ln16 hn hL) (Inv.ld16 hn hC) (fun i hi j => by have := hOut_small (sr := sr) (mb := mb) hB hC hL hh i hi j; omega), z, INV.of nx nl ps _ _ ⟨hB, hC, hL, fun j => hOut_small hB hC hL hh len (Nat.le_refl _) j⟩⟩
  · exact ⟨_, _, _, metX_height_bad G ax n tg sr ld mb pl ln len nx nl hs ps x hn (b_nt q), metM_height_bad G am n ed re hi x hn (b_nt q), INV.of nx nl ps _ _ ⟨hB, hC, hL, hh⟩⟩
theorem st_cycle (G : GG) (ax am : Nat → Nat) : St_cycle G (INV G ax am) (ax 0) (am 0) := by
  intro x w1 w2 h
  obtain ⟨n, tg, sr, ld, mb, pl, ln, len, nx, nl, hs, ps, ed, re, hi, rfl, rfl, hB, hC, hL, hh⟩ := h
  have hn := hB.1.2
  by_cases q : vI n x = true
  · obtain ⟨u, hu, rfl⟩ := vI_of hn q
    have z := metM_cycle_ok G am n ed re hi u hn hu
    rw [← Inv.cyc hB hC hu] at z
    exact ⟨_, _, _, metX_cycle_ok G ax n tg sr ld mb pl ln len nx nl hs ps u hn hu (Inv.ld16 hn hC u hu), z, INV.of nx nl ps _ _ ⟨hB, hC, hL, hh⟩⟩
  · exact ⟨_, _, _, metX_cycle_bad G ax n tg sr ld mb pl ln len nx nl hs ps x hn (b_nt q), metM_cycle_bad G am n ed re hi x hn (b_nt q), INV.of nx nl ps _ _ ⟨hB, hC, hL, hh⟩⟩
theorem st_outerEdges (G : GG) (ax am : Nat → Nat) : St_outerEdges G (INV G ax am) (ax 0) (am 0) := by
  intro w1 w2 h
  obtain ⟨n, tg, sr, ld, mb, pl, ln, len, nx, nl, hs, ps, ed, re, hi, rfl, rfl, hB, hC, hL, hh⟩ := h
  have z := metM_outerEdges G am n ed re hi hB.1.2
  rw [← Inv.outer hB hC re] at z
  exact ⟨_, _, _, metX_outerEdges G ax n tg sr ld mb pl ln len nx nl hs ps hB.1.2 (Inv.ld16 hB.1.2 hC), z, INV.of nx nl ps _ _ ⟨hB, hC, hL, hh⟩⟩
theorem st_inOneLine (G : GG) (ax am : Nat → Nat) : St_inOneLine G (INV G ax am) (ax 0) (am 0) := by
  intro w1 w2 h
  obtain ⟨n, tg, sr, ld, mb, pl, ln, len, nx, nl, hs, ps, ed, re, hi, rfl, rfl, hB, hC, hL, hh⟩ := h
  have hn := hB.1.2
  have hn2 := hB.1.1
  have hlen := hL.le
  have p0 := (hL.pos (hC.lt (show 0 < n by omega)) (hC.ldld (show 0 < n by omega))).1
  have z := metM_inOneLine G am n ed re hi hn
  rw [← Inv.one hB hC hL re] at z
  exact ⟨_, _, _, metX_inOneLine G ax n tg sr ld mb pl ln len nx nl hs ps hn (by omega) (by omega) (Inv.ln16 hn hL), z, INV.of nx nl ps _ _ ⟨hB, hC, hL, hh⟩⟩
theorem st_addEdge (G : GG) (ax am : Nat → Nat) : St_addEdge G (INV G ax am) (ax 0) (am 0) := by
  intro x y w1 w2 h
  obtain ⟨n, tg, sr, ld, mb, pl, ln, len, nx, nl, hs, ps, ed, re, hi, rfl, rfl, hB, hC, hL, hh⟩ := h
  have hn := hB.1.2
  have hlen := hL.le
  by_cases bad : vI n x = false ∨ vI n y = false ∨ x = y
  · exact ⟨_, _, _, metX_addEdge_bad G ax n tg sr ld mb pl ln len nx nl hs ps x y hn bad, metM_addEdge_bad G am n ed re hi x y hn bad, INV.of nx nl ps _ _ ⟨hB, hC, hL, hh⟩⟩
  · obtain ⟨u, hu, rfl⟩ := vI_of hn (b_tf (fun z => bad (Or.inl z)))
    obtain ⟨v, hv, rfl⟩ := vI_of hn (b_tf (fun z => bad (Or.inr (Or.inl z))))
    have huv : u ≠ v := fun z => bad (Or.inr (Or.inr (by rw [z])))
    have pu := (hL.pos (hC.lt hu) (hC.ldld hu)).1
    have pv := (hL.pos (hC.lt hv) (hC.ldld hv)).1
    have eb := hB.2.2.2.1 u v hu hv
    by_cases hb : bt (tg u) v = true
    · exact ⟨_, _, _, metX_addEdge_dup G ax n tg sr ld mb pl ln len nx nl hs ps u v hn hu hv huv hb, metM_addEdge_none G am n ed re hi u v hn hu hv huv (eb.mp hb), INV.of nx nl ps _ _ ⟨hB, hC, hL, hh⟩⟩
    · have hB' := hB.add hu hv
      have z := metM_addEdge_ok G am n ed re hi u v hn hu hv huv (b_nt (fun q => hb (eb.mpr q)))
      have hE' := fun a b => Ed_add (tg := tg) hn hu hv a b
      rcases Nat.lt_or_ge (pl (ld v)) (pl (ld u)) with q | q
      · obtain ⟨F, hF⟩ : ∃ F, fwd (upd tg u (tg u ||| sg v)) n ld mb ln (pl (ld u) + 1 - pl (ld v)) (pl (ld v)) (sg (ld v)) = F := ⟨_, rfl⟩
        obtain ⟨M, hM⟩ : ∃ M, (if bt F (ld u) = true then (F &&& bwd (upd sr v (sr v ||| sg u)) n ld mb ln (pl (ld u) + 1 - pl (ld v)) (pl (ld u) + 1) (sg (ld u))) &&& lbt ln (pl (ld u) + 1 - pl (ld v)) (pl (ld v)) 0 else 0) = M := ⟨_, rfl⟩
        obtain ⟨T, hT⟩ : ∃ T, rpL F M mb n ln (pl (ld v)) (pl (ld u)) len = T := ⟨_, rfl⟩
        have hR := rep_ok hB hC hL hu hv q rfl rfl hF hM
        obtain ⟨hC', hK, g1, g2⟩ := add_rep hB hC hL hu hv q rfl hR hT rfl rfl
        have hL' := Line.adopt hK nx pl ln
        have hT16 : T.length ≤ 16 := by have := hL'.le; omega
        have hTm : ∀ c ∈ T, c < 16 := fun c hc => by have := ((hK.1 c).mp hc).1; omega
        have hval : (if M = 0 then (0 : Int32) else nI (bc M 16 - 1)) = nI len - nI T.length := by
          by_cases m0 : M = 0
          · rw [if_pos m0, g1 m0, pk_sub (Nat.le_refl _), Nat.sub_self, nI_0]
          · obtain ⟨g3, g4⟩ := g2 m0
            rw [if_neg m0, pk_sub (by omega), show bc M 16 - 1 = len - T.length by omega]
        rw [hB.co hC re hL, hB'.co hC' (fr ed n re) hL', ← hval] at z
        exact ⟨_, _, _, metX_addEdge_rep G ax n tg sr ld mb pl ln len nx nl hs ps u v _ _ F M T hn hu hv huv rfl rfl (Inv.ld16 hn hC u hu) (Inv.ld16 hn hC v hv) (b_nt hb) q (by omega) pu (Inv.ln16 hn hL) hF hM (fun m0 => (g2 m0).1) hT hT16 hTm, z, INV.of _ _ ps _ _ ⟨hB', hC', hL', hh⟩⟩
      · obtain ⟨hC', hL'⟩ := add_fwd (E' := Ed n (upd tg u (tg u ||| sg v))) hC hL (fun a b e => (hE' a b).mpr (Or.inl e)) (fun a b e => by
          rcases (hE' a b).mp e with e | ⟨e1, e2⟩
          · exact hL.up hC e.1 e.2.1 e
          · rw [e1, e2]; exact q)
        rw [hB.co hC re hL, hB'.co hC' (fr ed n re) hL', pk_sub (Nat.le_refl _), Nat.sub_self, nI_0] at z
        exact ⟨_, _, _, metX_addEdge_fwd G ax n tg sr ld mb pl ln len nx nl hs ps u v _ _ hn hu hv huv rfl rfl (Inv.ld16 hn hC u hu) (Inv.ld16 hn hC v hv) (by omega) (by omega) (b_nt hb) q, z, INV.of nx nl ps _ _ ⟨hB', hC', hL', hh⟩⟩
theorem st_removeEdge (G : GG) (ax am : Nat → Nat) : St_removeEdge G (INV G ax am) (ax 0) (am 0) := by
  intro x y w1 w2 h
  obtain ⟨n, tg, sr, ld, mb, pl, ln, len, nx, nl, hs, ps, ed, re, hi, rfl, rfl, hB, hC, hL, hh⟩ := h
  have hn := hB.1.2
  have hlen := hL.le
  by_cases bad : vI n x = false ∨ vI n y = false ∨ x = y
  · exact ⟨_, _, _, metX_removeEdge_bad G ax n tg sr ld mb pl ln len nx nl hs ps x y hn bad, metM_removeEdge_bad G am n ed re hi x y hn bad, INV.of nx nl ps _ _ ⟨hB, hC, hL, hh⟩⟩
  · obtain ⟨u, hu, rfl⟩ := vI_of hn (b_tf (fun z => bad (Or.inl z)))
    obtain ⟨v, hv, rfl⟩ := vI_of hn (b_tf (fun z => bad (Or.inr (Or.inl z))))
    have huv : u ≠ v := fun z => bad (Or.inr (Or.inr (by rw [z])))
    have pu := (hL.pos (hC.lt hu) (hC.ldld hu)).1
    have eb := hB.2.2.2.1 u v hu hv
    by_cases hb : bt (tg u) v = true
    · have hB' := hB.del hu hv
      have z := metM_removeEdge_ok G am n ed re hi u v hn hu hv huv (eb.mp hb)
      have hE' := fun a b => Ed_del (tg := tg) (u := u) hn hv a b
      by_cases q : ld u = ld v
      · cases hs1 : bt (spr (upd tg u (tg u &&& (sg v ^^^ (-1)))) n (mb (ld u)) 16 (sg u) (sg u)) v
        · have hW : Cls n (Ed n (upd tg u (tg u &&& (sg v ^^^ (-1))))) (mb (ld u)) := by
            refine ⟨fun x hx => ((hC.mem hu).mp hx).1, fun x y hx t => ?_⟩
            obtain ⟨a1, a2⟩ := (hC.mem hu).mp hx
            have hy := Rc.lt Ed.in a1 t.1
            have hm : ∀ a b, Ed n (upd tg u (tg u &&& (sg v ^^^ (-1)))) a b → Ed n tg a b := fun a b e => ((hE' a b).mp e).1
            refine (hC.mem hu).mpr ⟨hy, ?_⟩
            rw [← a2]
            exact ((hC.iff a1 hy).mp ⟨t.1.mono hm, t.2.mono hm⟩).symm
          obtain ⟨PS, hPS⟩ : ∃ PS, spL (upd tg u (tg u &&& (sg v ^^^ (-1)))) (upd sr v (sr v &&& (sg u ^^^ (-1)))) n 16 (mb (ld u)) = PS := ⟨_, rfl⟩
          obtain ⟨OO, hOO⟩ : ∃ OO, spO (upd sr v (sr v &&& (sg u ^^^ (-1)))) n (apl ps 0 PS) PS.length PS.length (mb (ld u)) = OO := ⟨_, rfl⟩
          obtain ⟨T, hT⟩ : ∃ T, (sgF (fun _ => true) ln (pl (ld u)) 0 ++ OO.map low) ++ sgF (fun _ => true) ln (len - (pl (ld u) + 1)) (pl (ld u) + 1) = T := ⟨_, rfl⟩
          have hP := spL_ok (sr := upd sr v (sr v &&& (sg u ^^^ (-1)))) hn hB'.2.2.1 16 _ hW (fb_ct_le _ _)
          have hPS16 := spL_len (upd tg u (tg u &&& (sg v ^^^ (-1)))) (upd sr v (sr v &&& (sg u ^^^ (-1)))) n 16 (mb (ld u))
          rw [hPS] at hP hPS16
          have hPS1 : 1 ≤ PS.length := by
            obtain ⟨P, p1, _⟩ := hP.2.1 u ((hC.mem hu).mpr ⟨hu, rfl⟩)
            exact List.length_pos_of_mem p1
          obtain ⟨o1, o2⟩ := spO_ok (pc := apl ps 0 PS) (sr := upd sr v (sr v &&& (sg u ^^^ (-1)))) hn hB'.2.2.1 hW hP (fun j hj => apl0_at PS ps hj) PS.length (mb (ld u)) PS rfl hP.nodup (fun P h => h) (fun x => ⟨fun h => hP.2.1 x h, fun h => by
            obtain ⟨P, p1, p2⟩ := h
            exact hP.sub hW p1 p2⟩)
          rw [hOO] at o1 o2
          obtain ⟨hC', hK, g1⟩ := del_split hn hC hL Ed.in hE' hu hW hP o1 o2 hT rfl rfl
          have hL' := Line.adopt hK nx pl ln
          have hT16 : T.length ≤ 16 := by have := hL'.le; omega
          have hTm : ∀ c ∈ T, c < 16 := fun c hc => by have := ((hK.1 c).mp hc).1; omega
          rw [hB.co hC re hL, hB'.co hC' (fr ed n re) hL', pk_sub (by omega), show T.length - len = PS.length - 1 by omega] at z
          exact ⟨_, _, _, metX_removeEdge_split G ax n tg sr ld mb pl ln len nx nl hs ps u v _ _ PS OO T hn hu hv huv rfl rfl (Inv.ld16 hn hC u hu) (Inv.ld16 hn hC v hv) hb q hs1 (by omega) pu (Inv.ln16 hn hL) hPS hPS1 hPS16 hOO hT hT16 hTm, z, INV.of _ _ _ _ _ ⟨hB', hC', hL', hh⟩⟩
        · have hr : Rc (Ed n (upd tg u (tg u &&& (sg v ^^^ (-1))))) u v := by
            have hWn : ∀ b, bt (mb (ld u)) b = true → b < n := fun b h => ((hC.mem hu).mp h).1
            exact ((spr_spec hn hu hWn v).mp hs1).mono (fun a b e => ⟨e.1, hWn b e.2.2, e.2.1⟩)
          obtain ⟨hC', hL'⟩ := del_still hC hL hE' hr
          rw [hB.co hC re hL, hB'.co hC' (fr ed n re) hL', pk_sub (Nat.le_refl _), Nat.sub_self, nI_0] at z
          exact ⟨_, _, _, metX_removeEdge_still G ax n tg sr ld mb pl ln len nx nl hs ps u v _ _ hn hu hv huv rfl rfl (Inv.ld16 hn hC u hu) (Inv.ld16 hn hC v hv) hb q hs1, z, INV.of nx nl ps _ _ ⟨hB', hC', hL', hh⟩⟩
      · obtain ⟨hC', hL'⟩ := del_out hC hL Ed.in hE' q
        rw [hB.co hC re hL, hB'.co hC' (fr ed n re) hL', pk_sub (Nat.le_refl _), Nat.sub_self, nI_0] at z
        exact ⟨_, _, _, metX_removeEdge_out G ax n tg sr ld mb pl ln len nx nl hs ps u v _ _ hn hu hv huv rfl rfl (Inv.ld16 hn hC u hu) (Inv.ld16 hn hC v hv) hb q, z, INV.of nx nl ps _ _ ⟨hB', hC', hL', hh⟩⟩
    · exact ⟨_, _, _, metX_removeEdge_none G ax n tg sr ld mb pl ln len nx nl hs ps u v hn hu hv huv (b_nt hb), metM_removeEdge_none G am n ed re hi u v hn hu hv huv (b_nt (fun q => hb (eb.mpr q))), INV.of nx nl ps _ _ ⟨hB, hC, hL, hh⟩⟩
end
section
/-- YOUR PART: from the entry, for every script of at most 193 ints, the law comes to its end with true -/
theorem whole_start {p : Program} {e : Env} {s : State} {m : MethodId} {below : List Frame} {meth : Method} {c : Code} (l : Launch) {b L : Nat} {xs : Nat → Int32} (hL : L ≤ 193) (C0 : lw_At p s m meth c b L xs) : W p l e room_1 s m #[Value.ref b] below meth c s.heap [] 0 0 (lw_Z below #[Value.ref b] s) (entryFrame m ([Value.ref b] : List Value).toArray 4) :=
  whole_gen INV (fun G ax am w1 w2 h => by
    obtain ⟨n, tg, sr, ld, mb, pl, ln, len, nx, nl, hs, ps, ed, re, hi, rfl, rfl, _⟩ := h
    exact ⟨_, rfl⟩) (fun G ax am w1 w2 h => by
    obtain ⟨n, tg, sr, ld, mb, pl, ln, len, nx, nl, hs, ps, ed, re, hi, rfl, rfl, _⟩ := h
    exact ⟨_, rfl⟩) (fun G ax am x => INV.of _ _ _ _ _ (Inv.start x)) (fun G ax am => ⟨st_addEdge G ax am, st_removeEdge G ax am, st_components G ax am, st_leader G ax am, st_componentSize G ax am, st_reaches G ax am, st_height G ax am, st_cycle G ax am, st_outerEdges G ax am, st_inOneLine G ax am⟩) l hL C0
-- tail
set_option maxHeartbeats 4000000 in
theorem lw_walk (l : Launch) (b : Addr) (xs : List Int32) : MetFree l x (headSpec (Jvm.Cond.code x code maxLocals ret :: tables_1) room_1) (lw_P b xs) (fun _ _ _ _ _ => True) lw_Q := by
  refine MetFree.of_bodyS (code := code) (maxLocals := maxLocals) (ret := ret) (by decide) ?_ ?_
  · intro args s m h hn
    obtain ⟨meth, c, h1, h2, h3, h4, h5, h6, -, -⟩ := Cond.code_spec hn (atoms_spec (ws := Jvm.Cond.code x code maxLocals ret :: tables_1) h _ List.mem_cons_self)
    exact ⟨meth, c, h1, h2, h3, h4, h5, h6⟩
  · intro p e s m args below meth c s₁ B hml0 hP _
    obtain ⟨rfl, hx, hbd, hgv⟩ := hP
    obtain ⟨scr, harrAt, hlist, hof, hsmall⟩ := hx
    obtain ⟨hcb, hkn, -, -⟩ := State.arrayAt?_spec harrAt
    have hown : s.vm.findClass R_law = some m.cls := findClass_of_methodNamed B.named
    have hts0 : ∀ c ∈ (Jvm.Cond.code x code maxLocals ret :: tables_1), c.before #[Value.ref b] s = true := atoms_spec (ws := Jvm.Cond.code x code maxLocals ret :: tables_1) B.pre
    have hts : ∀ w ∈ lw_tbl, w.before #[Value.ref b] s = true := k2_hts_sels lw_privs (fun w hw => hts0 w (List.mem_cons_of_mem _ hw)) lw_privs_ok
    have hml : c.maxLocals = 4 := B.maxLocals_eq (hts0 _ List.mem_cons_self)
    have X₀ : Stand p l e room_1 s m #[Value.ref b] below meth c s₁ [] 0 0 := Stand.of_body B
    have hh0 : s₁.heap = s.heap := by rw [B.state]; rfl
    have hsz : scr.slots.size = xs.length := by rw [← Array.length_toList, hlist, List.length_map]
    have hval : ∀ j : Nat, j < xs.length → scr.slots[j]? = some (.int (xs.getD j 0)) := fun j hj => by
      rw [← Array.getElem?_toList, hlist]
      simp [hj]
    have hbl : b < s.heap.size := (Array.getElem?_eq_some_iff.mp hcb).1
    have hX : va_X b xs.length (fun j => xs.getD j 0) s s.heap := ⟨scr, hcb, hof, hkn, hsz, hval⟩
    have K : W p l e room_1 s m #[Value.ref b] below meth c s₁.heap [] 0 0 (lw_Z below #[Value.ref b] s) (entryFrame m ([Value.ref b] : List Value).toArray 4) := by
      rw [hh0]
      exact whole_start l hbd ⟨B.exec, B.bytes, B.returns, hml, hown, hts, hX, hbl, B.notSynchronized, hgv⟩
    obtain ⟨t, a1, o, b1, b2, b3⟩ := K s₁ rfl X₀
    exact ⟨t, o, a1, b1, b2, b3⟩
theorem lw_pre_spec {args : Array Value} {s : State} (h : (Jvm.Cond.and given_1 narrow_1).before args s = true) (hr : rest_1_c.before args s = true) : ∃ (b : Addr) (xs : List Int32), lw_P b xs args s := by
  have hs := flat_of_before _ h
  have hq := flat_of_before _ hr
  have hc : (Cond.count 1).before args s = true := hs _ (by decide +kernel)
  have harr : (Cond.arrayOf (.arg 0) .int).before args s = true := hs _ (by decide +kernel)
  have hle : (Cond.le (.length (.arg 0)) (.int 193)).before args s = true := hs _ (by decide +kernel)
  have hlen : (Cond.isInt (.length (.arg 0))).before args s = true := hq _ (by decide +kernel)
  have hall : (Cond.all (.arg 0) (.isInt (.elem (.arg 0) (.index 0)))).before args s = true := hq _ (by decide +kernel)
  obtain ⟨b, xs, hb, hx⟩ := State.ints_of_pre rfl harr hlen hall
  have hsm : xs.length < 2 ^ 31 := hx.choose_spec.2.2.2
  have hev : (Term.length (.arg 0)).eval args s none [] s = some (.int xs.length.toInt32) := hx.length_eval hb
  have hv := Cond.le_ints hev (show (Term.int 193).eval args s none [] s = some (.int 193) from rfl)
  have hd : xs.length.toInt32 ≤ 193 := by
    simpa [Cond.before, Cond.holds, hv] using hle
  have hN : xs.length ≤ 193 := (Int32.ofNat_le_ofNat hsm (by decide)).mp (show Int32.ofNat xs.length ≤ Int32.ofNat 193 from hd)
  exact ⟨b, xs, Cond.one_arg hc (show args[0]? = some (.ref b) from hb), hx, hN, h⟩
theorem lw_comes (l : Launch) : Comes l x (Jvm.Cond.code x code maxLocals ret :: tables_1) room_1 (fun tb e args s => Calls_1 tb e args s ∧ rest_1 tb e args s ∧ Pre_1 tb e args s)
    (fun _ _ args s o t => lw_Q args s o t) := by
  intro p e ha hc hk s m args below hf hfit hheap happ hpre
  obtain ⟨b, xs, hP⟩ := lw_pre_spec hpre.2.2 hpre.2.1
  obtain ⟨k, o, h1, h2, h3, hQ⟩ := lw_walk l b xs p e ha hc hk s m args below hf ((Spec.applies_iff_loose hf).mp happ).1 hP trivial
  exact ⟨k, o, h1, h2, h3, hQ⟩
theorem lw_frame {s t : State} {o : Outcome} {args : Array Value} (h : Framed s o t [] 600000 7290000) :
    Framed s o t (fieldLocs frame_1_writes args s ++ arrayLocs frame_1_arrays args s ++ staticLocs frame_1_statics s) 600000 7290000 := h
theorem lw_limb (L : Cond) (hL : ∀ (args : Array Value) (s t : State), L.after args s (.returned (some (.int 1))) t = true) :
    ArmFor flags0 classFile x code maxLocals ret World_1 tables_1 room_1 Calls_1 rest_1 Pre_1
      (fun tb e a s o t => postC L tb e a s o t ∧ Framed s o t (fieldLocs frame_1_writes a s ++ arrayLocs frame_1_arrays a s ++ staticLocs frame_1_statics s) 600000 7290000) := by
  intro l _ _ _ p e ha hc hk s m args below hf hfit hheap happ hpre
  obtain ⟨k, o, h1, h2, h3, rfl, hF⟩ := lw_comes l p e ha hc hk s m args below hf hfit hheap happ hpre
  exact ⟨k, _, h1, h2, h3, hL args s _, lw_frame hF⟩
theorem i_vc : Claimed_1_1 ∧ Claimed_1_2 := ⟨lw_limb limb_1_1 (fun args s t => by simp [limb_1_1, Cond.after, Cond.holds, Cond.value]), lw_limb limb_1_2 (fun args s t => Cond.after_iff.mpr (by
  first | (rw [show limb_1_2 = Cond.eq .result (.int 1) from rfl, Cond.eq_ints (x := 1) (y := 1) rfl rfl]; simp; done) | (simp [limb_1_2, Cond.value, Term.eval]; done)))⟩
end
