section
-- ===== PART A: goes FIRST, ahead of the names: the tables' words, and 'selects' of the private methods out of them =====
/-- a private method of a class that the tables say can be made, by its rows of tables_1 -/
def lw_okq (q : MethodName × Nat) : Prop := (q.1.cls ≠ "java/lang/invoke/MethodHandle" ∧ q.1.cls ≠ "java/lang/invoke/VarHandle") ∧ Cond.instantiable q.1.cls q.2 ∈ tables_1 ∧ Cond.privateMethod q.1 ∈ tables_1 ∧ Cond.instanceMethod q.1 ∈ tables_1
set_option maxRecDepth 100000
theorem lw_t1 {w : Cond} (h : w ∈ tables_1_1) : w ∈ tables_1 := List.mem_append_left _ h
theorem lw_t2 {w : Cond} (h : w ∈ tables_1_2) : w ∈ tables_1 := List.mem_append_right _ h
theorem lw_p0 : lw_okq (⟨"WordLattice", "find", "()I"⟩, 17) := ⟨⟨by decide +kernel, by decide +kernel⟩, lw_t1 (List.mem_of_getElem? (i := 4) rfl), lw_t1 (List.mem_of_getElem? (i := 73) rfl), lw_t1 (List.mem_of_getElem? (i := 74) rfl)⟩
theorem lw_p1 : lw_okq (⟨"WordLattice", "childOf", "(II)I"⟩, 17) := ⟨⟨by decide +kernel, by decide +kernel⟩, lw_t1 (List.mem_of_getElem? (i := 4) rfl), lw_t1 (List.mem_of_getElem? (i := 77) rfl), lw_t1 (List.mem_of_getElem? (i := 78) rfl)⟩
theorem lw_p2 : lw_okq (⟨"WordLattice", "grow", "()I"⟩, 17) := ⟨⟨by decide +kernel, by decide +kernel⟩, lw_t1 (List.mem_of_getElem? (i := 4) rfl), lw_t1 (List.mem_of_getElem? (i := 81) rfl), lw_t1 (List.mem_of_getElem? (i := 82) rfl)⟩
theorem lw_p3 : lw_okq (⟨"WordLattice", "addChild", "(II)I"⟩, 17) := ⟨⟨by decide +kernel, by decide +kernel⟩, lw_t1 (List.mem_of_getElem? (i := 4) rfl), lw_t1 (List.mem_of_getElem? (i := 85) rfl), lw_t1 (List.mem_of_getElem? (i := 86) rfl)⟩
theorem lw_p4 : lw_okq (⟨"WordLattice", "moveChildren", "(II)V"⟩, 17) := ⟨⟨by decide +kernel, by decide +kernel⟩, lw_t1 (List.mem_of_getElem? (i := 4) rfl), lw_t1 (List.mem_of_getElem? (i := 89) rfl), lw_t1 (List.mem_of_getElem? (i := 90) rfl)⟩
theorem lw_p5 : lw_okq (⟨"WordLattice", "freeBase", "(I)I"⟩, 17) := ⟨⟨by decide +kernel, by decide +kernel⟩, lw_t1 (List.mem_of_getElem? (i := 4) rfl), lw_t1 (List.mem_of_getElem? (i := 93) rfl), lw_t1 (List.mem_of_getElem? (i := 94) rfl)⟩
theorem lw_p6 : lw_okq (⟨"WordLattice", "moveState", "(II)V"⟩, 17) := ⟨⟨by decide +kernel, by decide +kernel⟩, lw_t1 (List.mem_of_getElem? (i := 4) rfl), lw_t1 (List.mem_of_getElem? (i := 97) rfl), lw_t1 (List.mem_of_getElem? (i := 98) rfl)⟩
theorem lw_p7 : lw_okq (⟨"WordLattice", "release", "(I)V"⟩, 17) := ⟨⟨by decide +kernel, by decide +kernel⟩, lw_t1 (List.mem_of_getElem? (i := 4) rfl), lw_t1 (List.mem_of_getElem? (i := 101) rfl), lw_t1 (List.mem_of_getElem? (i := 102) rfl)⟩
theorem lw_p8 : lw_okq (⟨"WordLattice", "prune", "()V"⟩, 17) := ⟨⟨by decide +kernel, by decide +kernel⟩, lw_t1 (List.mem_of_getElem? (i := 4) rfl), lw_t1 (List.mem_of_getElem? (i := 109) rfl), lw_t1 (List.mem_of_getElem? (i := 110) rfl)⟩
theorem lw_p9 : lw_okq (⟨"WordLattice", "cutText", "()V"⟩, 17) := ⟨⟨by decide +kernel, by decide +kernel⟩, lw_t1 (List.mem_of_getElem? (i := 4) rfl), lw_t1 (List.mem_of_getElem? (i := 137) rfl), lw_t1 (List.mem_of_getElem? (i := 138) rfl)⟩
theorem lw_p10 : lw_okq (⟨"WordLattice", "fitPiece", "(II)V"⟩, 17) := ⟨⟨by decide +kernel, by decide +kernel⟩, lw_t1 (List.mem_of_getElem? (i := 4) rfl), lw_t1 (List.mem_of_getElem? (i := 142) rfl), lw_t1 (List.mem_of_getElem? (i := 143) rfl)⟩
theorem lw_p11 : lw_okq (⟨"WordLattice", "usePiece", "(II)V"⟩, 17) := ⟨⟨by decide +kernel, by decide +kernel⟩, lw_t1 (List.mem_of_getElem? (i := 4) rfl), lw_t1 (List.mem_of_getElem? (i := 146) rfl), lw_t1 (List.mem_of_getElem? (i := 147) rfl)⟩
theorem lw_p12 : lw_okq (⟨"WordLatticeModel", "named", "()I"⟩, 14) := ⟨⟨by decide +kernel, by decide +kernel⟩, lw_t1 (List.mem_of_getElem? (i := 165) rfl), lw_t1 (List.mem_of_getElem? (i := 222) rfl), lw_t1 (List.mem_of_getElem? (i := 223) rfl)⟩
theorem lw_p13 : lw_okq (⟨"WordLatticeModel", "begins", "(I)Z"⟩, 14) := ⟨⟨by decide +kernel, by decide +kernel⟩, lw_t1 (List.mem_of_getElem? (i := 165) rfl), lw_t1 (List.mem_of_getElem? (i := 226) rfl), lw_t1 (List.mem_of_getElem? (i := 227) rfl)⟩
theorem lw_p14 : lw_okq (⟨"WordLatticeModel", "look", "()V"⟩, 14) := ⟨⟨by decide +kernel, by decide +kernel⟩, lw_t1 (List.mem_of_getElem? (i := 165) rfl), lw_t2 (List.mem_of_getElem? (i := 18) rfl), lw_t2 (List.mem_of_getElem? (i := 19) rfl)⟩
theorem lw_p15 : lw_okq (⟨"WordLatticeModel", "costOf", "(I)I"⟩, 14) := ⟨⟨by decide +kernel, by decide +kernel⟩, lw_t1 (List.mem_of_getElem? (i := 165) rfl), lw_t2 (List.mem_of_getElem? (i := 22) rfl), lw_t2 (List.mem_of_getElem? (i := 23) rfl)⟩
def lw_privs_1 : List (MethodName × Nat) := [(⟨"WordLattice", "find", "()I"⟩, 17), (⟨"WordLattice", "childOf", "(II)I"⟩, 17), (⟨"WordLattice", "grow", "()I"⟩, 17), (⟨"WordLattice", "addChild", "(II)I"⟩, 17), (⟨"WordLattice", "moveChildren", "(II)V"⟩, 17), (⟨"WordLattice", "freeBase", "(I)I"⟩, 17), (⟨"WordLattice", "moveState", "(II)V"⟩, 17), (⟨"WordLattice", "release", "(I)V"⟩, 17), (⟨"WordLattice", "prune", "()V"⟩, 17), (⟨"WordLattice", "cutText", "()V"⟩, 17), (⟨"WordLattice", "fitPiece", "(II)V"⟩, 17), (⟨"WordLattice", "usePiece", "(II)V"⟩, 17), (⟨"WordLatticeModel", "named", "()I"⟩, 14), (⟨"WordLatticeModel", "begins", "(I)Z"⟩, 14), (⟨"WordLatticeModel", "look", "()V"⟩, 14), (⟨"WordLatticeModel", "costOf", "(I)I"⟩, 14)]
theorem lw_r1 : ∀ q ∈ lw_privs_1, lw_okq q := List.forall_mem_cons.mpr ⟨lw_p0, List.forall_mem_cons.mpr ⟨lw_p1, List.forall_mem_cons.mpr ⟨lw_p2, List.forall_mem_cons.mpr ⟨lw_p3, List.forall_mem_cons.mpr ⟨lw_p4, List.forall_mem_cons.mpr ⟨lw_p5, List.forall_mem_cons.mpr ⟨lw_p6, List.forall_mem_cons.mpr ⟨lw_p7, List.forall_mem_cons.mpr ⟨lw_p8, List.forall_mem_cons.mpr ⟨lw_p9, List.forall_mem_cons.mpr ⟨lw_p10, List.forall_mem_cons.mpr ⟨lw_p11, List.forall_mem_cons.mpr ⟨lw_p12, List.forall_mem_cons.mpr ⟨lw_p13, List.forall_mem_cons.mpr ⟨lw_p14, List.forall_mem_cons.mpr ⟨lw_p15, fun _ h => absurd h List.not_mem_nil⟩⟩⟩⟩⟩⟩⟩⟩⟩⟩⟩⟩⟩⟩⟩⟩
theorem lw_p16 : lw_okq (⟨"WordLatticeModel", "border", "(II)Z"⟩, 14) := ⟨⟨by decide +kernel, by decide +kernel⟩, lw_t1 (List.mem_of_getElem? (i := 165) rfl), lw_t2 (List.mem_of_getElem? (i := 26) rfl), lw_t2 (List.mem_of_getElem? (i := 27) rfl)⟩
theorem lw_p17 : lw_okq (⟨"WordLatticeModel", "word", "(II)I"⟩, 14) := ⟨⟨by decide +kernel, by decide +kernel⟩, lw_t1 (List.mem_of_getElem? (i := 165) rfl), lw_t2 (List.mem_of_getElem? (i := 30) rfl), lw_t2 (List.mem_of_getElem? (i := 31) rfl)⟩
theorem lw_p18 : lw_okq (⟨"WordLatticeModel", "stands", "(II)Z"⟩, 14) := ⟨⟨by decide +kernel, by decide +kernel⟩, lw_t1 (List.mem_of_getElem? (i := 165) rfl), lw_t2 (List.mem_of_getElem? (i := 34) rfl), lw_t2 (List.mem_of_getElem? (i := 35) rfl)⟩
def lw_privs_2 : List (MethodName × Nat) := [(⟨"WordLatticeModel", "border", "(II)Z"⟩, 14), (⟨"WordLatticeModel", "word", "(II)I"⟩, 14), (⟨"WordLatticeModel", "stands", "(II)Z"⟩, 14)]
theorem lw_r2 : ∀ q ∈ lw_privs_2, lw_okq q := List.forall_mem_cons.mpr ⟨lw_p16, List.forall_mem_cons.mpr ⟨lw_p17, List.forall_mem_cons.mpr ⟨lw_p18, fun _ h => absurd h List.not_mem_nil⟩⟩⟩
def lw_privs : List (MethodName × Nat) := lw_privs_1 ++ (lw_privs_2)
def lw_tbl : List Cond := k2_sels lw_privs ++ tables_1
theorem lw_privs_ok : ∀ q ∈ lw_privs, lw_okq q := by
  show ∀ q ∈ lw_privs_1 ++ (lw_privs_2), lw_okq q
  exact List.forall_mem_append.mpr ⟨lw_r1, lw_r2⟩
-- ===== ONE list of words for every method: the tables' words that hold all through a run =====
def lw_all : List Cond := lw_tbl.filter goodWord
/-- a word of the tables by its place: claim/WORDS.tsv -/
theorem lw_w {w : Cond} (i : Nat) (h : lw_tbl[i]? = some w) (g : goodWord w = true) : w ∈ lw_all := List.mem_filter.mpr ⟨List.mem_of_getElem? h, g⟩
theorem lw_all_tbl {w : Cond} (h : w ∈ lw_all) : w ∈ lw_tbl := (List.mem_filter.mp h).1
theorem lw_self : GoodIn lw_all lw_all := fun w h => ⟨h, good_of_word (List.mem_filter.mp h).2⟩
/-- a class's field words, by their places -/
theorem lw_in (ws : List Cond) (ps : List Nat) (hp : ws = ps.filterMap (fun i => lw_tbl[i]?)) (hg : ws.all goodWord = true) : ∀ w ∈ ws, w ∈ lw_all := by
  intro w h
  have h1 := List.all_eq_true.mp hg w h
  rw [hp] at h
  obtain ⟨i, -, hi⟩ := List.mem_filterMap.mp h
  exact lw_w i hi h1
/-- the words of a contract for the method y with code b, L locals, answer r -/
abbrev ws_ (y : MethodName) (b : ByteArray) (L : Nat) (r : Option FieldType) : List Cond := Cond.code y b L r :: lw_all
theorem lw_meth {y : MethodName} {b : ByteArray} {L : Nat} {r : Option FieldType} (h : Cond.code y b L r ∈ lw_all) : GoodIn lw_all (ws_ y b L r) := by
  intro w hw
  rcases List.mem_cons.mp hw with e | e
  · rw [e]
    exact lw_self _ h
  · exact lw_self _ e
theorem lw_app {a c : List Cond} (ha : ∀ w ∈ a, w ∈ lw_all) (hc : GoodIn lw_all c) : GoodIn lw_all (a ++ c) := by
  intro w hw
  rcases List.mem_append.mp hw with e | e
  · exact lw_self w (ha w e)
  · exact hc w e
/-- what a call through an object asks: cwV n hts (lw_V ..) -/
theorem lw_V {own : String} {idx : Nat} {C : String} {y : MethodName} {b : ByteArray} {L : Nat} {r : Option FieldType} (h1 : Cond.methodLink own idx y ∈ lw_all) (h2 : Cond.instanceMethod y ∈ lw_all) (h3 : Cond.selects C y y ∈ lw_all) (h4 : Cond.initialized C ∈ lw_all) (h5 : Cond.code y b L r ∈ lw_all) : GoodIn lw_all (wsV own idx C y (ws_ y b L r)) := by
  refine lw_app ?_ (lw_meth h5)
  intro w hw
  simp only [List.mem_cons, List.not_mem_nil, or_false] at hw
  rcases hw with e | e | e | e
  · rw [e]; exact h1
  · rw [e]; exact h2
  · rw [e]; exact h3
  · rw [e]; exact h4
/-- what a static call asks: va_cwS n hts (lw_S ..) -/
theorem lw_S {own : String} {idx : Nat} {y : MethodName} {b : ByteArray} {L : Nat} {r : Option FieldType} (h1 : Cond.methodLink own idx y ∈ lw_all) (h2 : Cond.static y ∈ lw_all) (h3 : Cond.initialized y.cls ∈ lw_all) (h4 : Cond.code y b L r ∈ lw_all) : GoodIn lw_all (va_wsS own idx y (ws_ y b L r)) := by
  refine lw_app ?_ (lw_meth h4)
  intro w hw
  simp only [List.mem_cons, List.not_mem_nil, or_false] at hw
  rcases hw with e | e | e
  · rw [e]; exact h1
  · rw [e]; exact h2
  · rw [e]; exact h3
/-- the words of a contract for a method WITH HANDLERS (hh: its table) -/
abbrev wsW_ (y : MethodName) (b : ByteArray) (L : Nat) (r : Option FieldType) (hh : List (Nat × Nat × Nat × Nat)) : List Cond := Cond.codeWith y b L r hh :: lw_all
theorem lw_methW {y : MethodName} {b : ByteArray} {L : Nat} {r : Option FieldType} {hh : List (Nat × Nat × Nat × Nat)} (h : Cond.codeWith y b L r hh ∈ lw_all) : GoodIn lw_all (wsW_ y b L r hh) := by
  intro w hw
  rcases List.mem_cons.mp hw with e | e
  · rw [e]
    exact lw_self _ h
  · exact lw_self _ e
/-- any list of words by their places (lw_in), good -/
theorem lw_good {ws : List Cond} (h : ∀ w ∈ ws, w ∈ lw_all) : GoodIn lw_all ws := fun w hw => lw_self w (h w hw)
/-- what a call of a method with handlers asks: vx_cwVW n hts (lw_VW ..), vx_cwSW n hts (lw_SW ..) -/
theorem lw_VW {own : String} {idx : Nat} {C : String} {y : MethodName} {b : ByteArray} {L : Nat} {r : Option FieldType} {hh : List (Nat × Nat × Nat × Nat)} (h1 : Cond.methodLink own idx y ∈ lw_all) (h2 : Cond.instanceMethod y ∈ lw_all) (h3 : Cond.selects C y y ∈ lw_all) (h4 : Cond.initialized C ∈ lw_all) (h5 : Cond.codeWith y b L r hh ∈ lw_all) : GoodIn lw_all (wsV own idx C y (wsW_ y b L r hh)) := by
  refine lw_app ?_ (lw_methW h5)
  intro w hw
  simp only [List.mem_cons, List.not_mem_nil, or_false] at hw
  rcases hw with e | e | e | e
  · rw [e]; exact h1
  · rw [e]; exact h2
  · rw [e]; exact h3
  · rw [e]; exact h4
theorem lw_SW {own : String} {idx : Nat} {y : MethodName} {b : ByteArray} {L : Nat} {r : Option FieldType} {hh : List (Nat × Nat × Nat × Nat)} (h1 : Cond.methodLink own idx y ∈ lw_all) (h2 : Cond.static y ∈ lw_all) (h3 : Cond.initialized y.cls ∈ lw_all) (h4 : Cond.codeWith y b L r hh ∈ lw_all) : GoodIn lw_all (va_wsS own idx y (wsW_ y b L r hh)) := by
  refine lw_app ?_ (lw_methW h4)
  intro w hw
  simp only [List.mem_cons, List.not_mem_nil, or_false] at hw
  rcases hw with e | e | e
  · rw [e]; exact h1
  · rw [e]; exact h2
  · rw [e]; exact h3
/-- a word by its place in its run of the tables -/
theorem lw_at {r : List Cond} (hr : ∀ w ∈ r, w ∈ lw_tbl) {w : Cond} (i : Nat) (h : r[i]? = some w) : w ∈ lw_tbl := hr w (List.mem_of_getElem? h)
theorem lw_g {w : Cond} (h : w ∈ lw_tbl) (g : goodWord w = true) : w ∈ lw_all := List.mem_filter.mpr ⟨h, g⟩
theorem lw_ms : ∀ w ∈ k2_sels lw_privs, w ∈ lw_tbl := fun w h => show w ∈ k2_sels lw_privs ++ tables_1 from List.mem_append_left _ h
theorem lw_m1 : ∀ w ∈ tables_1_1, w ∈ lw_tbl := fun w h => show w ∈ k2_sels lw_privs ++ tables_1 from List.mem_append_right (k2_sels lw_privs) (show w ∈ tables_1 from List.mem_append_left _ h)
theorem lw_m2 : ∀ w ∈ tables_1_2, w ∈ lw_tbl := fun w h => show w ∈ k2_sels lw_privs ++ tables_1 from List.mem_append_right (k2_sels lw_privs) (show w ∈ tables_1 from List.mem_append_right _ h)
theorem qs0 : (Cond.selects "WordLattice" ⟨"WordLattice", "find", "()I"⟩ ⟨"WordLattice", "find", "()I"⟩) ∈ lw_all := lw_g (lw_at lw_ms 0 rfl) rfl
theorem qs1 : (Cond.selects "WordLattice" ⟨"WordLattice", "childOf", "(II)I"⟩ ⟨"WordLattice", "childOf", "(II)I"⟩) ∈ lw_all := lw_g (lw_at lw_ms 1 rfl) rfl
theorem qs2 : (Cond.selects "WordLattice" ⟨"WordLattice", "grow", "()I"⟩ ⟨"WordLattice", "grow", "()I"⟩) ∈ lw_all := lw_g (lw_at lw_ms 2 rfl) rfl
theorem qs3 : (Cond.selects "WordLattice" ⟨"WordLattice", "addChild", "(II)I"⟩ ⟨"WordLattice", "addChild", "(II)I"⟩) ∈ lw_all := lw_g (lw_at lw_ms 3 rfl) rfl
theorem qs4 : (Cond.selects "WordLattice" ⟨"WordLattice", "moveChildren", "(II)V"⟩ ⟨"WordLattice", "moveChildren", "(II)V"⟩) ∈ lw_all := lw_g (lw_at lw_ms 4 rfl) rfl
theorem qs5 : (Cond.selects "WordLattice" ⟨"WordLattice", "freeBase", "(I)I"⟩ ⟨"WordLattice", "freeBase", "(I)I"⟩) ∈ lw_all := lw_g (lw_at lw_ms 5 rfl) rfl
theorem qs6 : (Cond.selects "WordLattice" ⟨"WordLattice", "moveState", "(II)V"⟩ ⟨"WordLattice", "moveState", "(II)V"⟩) ∈ lw_all := lw_g (lw_at lw_ms 6 rfl) rfl
theorem qs7 : (Cond.selects "WordLattice" ⟨"WordLattice", "release", "(I)V"⟩ ⟨"WordLattice", "release", "(I)V"⟩) ∈ lw_all := lw_g (lw_at lw_ms 7 rfl) rfl
theorem qs8 : (Cond.selects "WordLattice" ⟨"WordLattice", "prune", "()V"⟩ ⟨"WordLattice", "prune", "()V"⟩) ∈ lw_all := lw_g (lw_at lw_ms 8 rfl) rfl
theorem qs9 : (Cond.selects "WordLattice" ⟨"WordLattice", "cutText", "()V"⟩ ⟨"WordLattice", "cutText", "()V"⟩) ∈ lw_all := lw_g (lw_at lw_ms 9 rfl) rfl
theorem qs10 : (Cond.selects "WordLattice" ⟨"WordLattice", "fitPiece", "(II)V"⟩ ⟨"WordLattice", "fitPiece", "(II)V"⟩) ∈ lw_all := lw_g (lw_at lw_ms 10 rfl) rfl
theorem qs11 : (Cond.selects "WordLattice" ⟨"WordLattice", "usePiece", "(II)V"⟩ ⟨"WordLattice", "usePiece", "(II)V"⟩) ∈ lw_all := lw_g (lw_at lw_ms 11 rfl) rfl
theorem qs12 : (Cond.selects "WordLatticeModel" ⟨"WordLatticeModel", "named", "()I"⟩ ⟨"WordLatticeModel", "named", "()I"⟩) ∈ lw_all := lw_g (lw_at lw_ms 12 rfl) rfl
theorem qs13 : (Cond.selects "WordLatticeModel" ⟨"WordLatticeModel", "begins", "(I)Z"⟩ ⟨"WordLatticeModel", "begins", "(I)Z"⟩) ∈ lw_all := lw_g (lw_at lw_ms 13 rfl) rfl
theorem qs14 : (Cond.selects "WordLatticeModel" ⟨"WordLatticeModel", "look", "()V"⟩ ⟨"WordLatticeModel", "look", "()V"⟩) ∈ lw_all := lw_g (lw_at lw_ms 14 rfl) rfl
theorem qs15 : (Cond.selects "WordLatticeModel" ⟨"WordLatticeModel", "costOf", "(I)I"⟩ ⟨"WordLatticeModel", "costOf", "(I)I"⟩) ∈ lw_all := lw_g (lw_at lw_ms 15 rfl) rfl
theorem qs16 : (Cond.selects "WordLatticeModel" ⟨"WordLatticeModel", "border", "(II)Z"⟩ ⟨"WordLatticeModel", "border", "(II)Z"⟩) ∈ lw_all := lw_g (lw_at lw_ms 16 rfl) rfl
theorem qs17 : (Cond.selects "WordLatticeModel" ⟨"WordLatticeModel", "word", "(II)I"⟩ ⟨"WordLatticeModel", "word", "(II)I"⟩) ∈ lw_all := lw_g (lw_at lw_ms 17 rfl) rfl
theorem qs18 : (Cond.selects "WordLatticeModel" ⟨"WordLatticeModel", "stands", "(II)Z"⟩ ⟨"WordLatticeModel", "stands", "(II)Z"⟩) ∈ lw_all := lw_g (lw_at lw_ms 18 rfl) rfl
end
section
set_option maxRecDepth 100000
/-! java/lang/Object -/
def RJ0 : String := "java/lang/Object"
abbrev cJ0_init : ByteArray := object_method_1_code
def yJ0_init : MethodName := ⟨RJ0, "<init>", "()V"⟩
theorem q28 : (Jvm.Cond.instanceMethod ({ cls := "java/lang/Object", name := "<init>", desc := "()V" } : Jvm.MethodName)) ∈ lw_all := lw_g (lw_at lw_m1 9 rfl) rfl
theorem q29 : (Jvm.Cond.code ({ cls := "java/lang/Object", name := "<init>", desc := "()V" } : Jvm.MethodName) object_method_1_code (1 : Nat) (Option.none : Option Jvm.ClassFile.FieldType)) ∈ lw_all := lw_g (lw_at lw_m1 10 rfl) rfl

/-! WordLatticeLaw -/
def RX0 : String := "WordLatticeLaw"
abbrev cX0_cell : ByteArray := method_2_code
def yX0_cell : MethodName := ⟨RX0, "cell", "([II)I"⟩
theorem q19 : (Jvm.Cond.initialized "WordLatticeLaw") ∈ lw_all := lw_g (lw_at lw_m1 0 rfl) rfl
theorem q22 : (Jvm.Cond.classLink "WordLatticeLaw" (7 : Nat) "WordLattice") ∈ lw_all := lw_g (lw_at lw_m1 3 rfl) rfl
theorem q24 : (Jvm.Cond.methodLink "WordLatticeLaw" (15 : Nat) ({ cls := "WordLattice", name := "<init>", desc := "(I)V" } : Jvm.MethodName)) ∈ lw_all := lw_g (lw_at lw_m1 5 rfl) rfl
theorem q83 : (Jvm.Cond.methodLink "WordLatticeLaw" (21 : Nat) ({ cls := "WordLattice", name := "spell", desc := "(I)I" } : Jvm.MethodName)) ∈ lw_all := lw_g (lw_at lw_m1 64 rfl) rfl
theorem q87 : (Jvm.Cond.methodLink "WordLatticeLaw" (26 : Nat) ({ cls := "WordLattice", name := "learn", desc := "(II)I" } : Jvm.MethodName)) ∈ lw_all := lw_g (lw_at lw_m1 68 rfl) rfl
theorem q123 : (Jvm.Cond.methodLink "WordLatticeLaw" (31 : Nat) ({ cls := "WordLattice", name := "forget", desc := "()I" } : Jvm.MethodName)) ∈ lw_all := lw_g (lw_at lw_m1 104 rfl) rfl
theorem q131 : (Jvm.Cond.methodLink "WordLatticeLaw" (36 : Nat) ({ cls := "WordLattice", name := "lookUp", desc := "()I" } : Jvm.MethodName)) ∈ lw_all := lw_g (lw_at lw_m1 112 rfl) rfl
theorem q135 : (Jvm.Cond.methodLink "WordLatticeLaw" (40 : Nat) ({ cls := "WordLattice", name := "clearSpelling", desc := "()V" } : Jvm.MethodName)) ∈ lw_all := lw_g (lw_at lw_m1 116 rfl) rfl
theorem q139 : (Jvm.Cond.methodLink "WordLatticeLaw" (44 : Nat) ({ cls := "WordLattice", name := "link", desc := "(III)I" } : Jvm.MethodName)) ∈ lw_all := lw_g (lw_at lw_m1 120 rfl) rfl
theorem q143 : (Jvm.Cond.methodLink "WordLatticeLaw" (49 : Nat) ({ cls := "WordLattice", name := "type", desc := "(I)I" } : Jvm.MethodName)) ∈ lw_all := lw_g (lw_at lw_m1 124 rfl) rfl
theorem q147 : (Jvm.Cond.methodLink "WordLatticeLaw" (53 : Nat) ({ cls := "WordLattice", name := "clearText", desc := "()V" } : Jvm.MethodName)) ∈ lw_all := lw_g (lw_at lw_m1 128 rfl) rfl
theorem q151 : (Jvm.Cond.methodLink "WordLatticeLaw" (57 : Nat) ({ cls := "WordLattice", name := "cost", desc := "()I" } : Jvm.MethodName)) ∈ lw_all := lw_g (lw_at lw_m1 132 rfl) rfl
theorem q168 : (Jvm.Cond.methodLink "WordLatticeLaw" (61 : Nat) ({ cls := "WordLattice", name := "ways", desc := "()I" } : Jvm.MethodName)) ∈ lw_all := lw_g (lw_at lw_m1 149 rfl) rfl
theorem q172 : (Jvm.Cond.methodLink "WordLatticeLaw" (65 : Nat) ({ cls := "WordLattice", name := "start", desc := "(I)I" } : Jvm.MethodName)) ∈ lw_all := lw_g (lw_at lw_m1 153 rfl) rfl
theorem q176 : (Jvm.Cond.methodLink "WordLatticeLaw" (69 : Nat) ({ cls := "WordLattice", name := "beginning", desc := "()I" } : Jvm.MethodName)) ∈ lw_all := lw_g (lw_at lw_m1 157 rfl) rfl
theorem q180 : (Jvm.Cond.methodLink "WordLatticeLaw" (9 : Nat) ({ cls := "WordLatticeLaw", name := "cell", desc := "([II)I" } : Jvm.MethodName)) ∈ lw_all := lw_g (lw_at lw_m1 161 rfl) rfl
theorem q181 : (Jvm.Cond.static ({ cls := "WordLatticeLaw", name := "cell", desc := "([II)I" } : Jvm.MethodName)) ∈ lw_all := lw_g (lw_at lw_m1 162 rfl) rfl
theorem q182 : (Jvm.Cond.code ({ cls := "WordLatticeLaw", name := "cell", desc := "([II)I" } : Jvm.MethodName) method_2_code (2 : Nat) (Option.some Jvm.ClassFile.FieldType.int)) ∈ lw_all := lw_g (lw_at lw_m1 163 rfl) rfl
theorem q183 : (Jvm.Cond.classLink "WordLatticeLaw" (18 : Nat) "WordLatticeModel") ∈ lw_all := lw_g (lw_at lw_m1 164 rfl) rfl
theorem q185 : (Jvm.Cond.methodLink "WordLatticeLaw" (20 : Nat) ({ cls := "WordLatticeModel", name := "<init>", desc := "(I)V" } : Jvm.MethodName)) ∈ lw_all := lw_g (lw_at lw_m1 166 rfl) rfl
theorem q232 : (Jvm.Cond.methodLink "WordLatticeLaw" (25 : Nat) ({ cls := "WordLatticeModel", name := "spell", desc := "(I)I" } : Jvm.MethodName)) ∈ lw_all := lw_g (lw_at lw_m1 213 rfl) rfl
theorem q236 : (Jvm.Cond.methodLink "WordLatticeLaw" (30 : Nat) ({ cls := "WordLatticeModel", name := "learn", desc := "(II)I" } : Jvm.MethodName)) ∈ lw_all := lw_g (lw_at lw_m1 217 rfl) rfl
theorem q248 : (Jvm.Cond.methodLink "WordLatticeLaw" (35 : Nat) ({ cls := "WordLatticeModel", name := "forget", desc := "()I" } : Jvm.MethodName)) ∈ lw_all := lw_g (lw_at lw_m1 229 rfl) rfl
theorem q252 : (Jvm.Cond.methodLink "WordLatticeLaw" (39 : Nat) ({ cls := "WordLatticeModel", name := "lookUp", desc := "()I" } : Jvm.MethodName)) ∈ lw_all := lw_g (lw_at lw_m1 233 rfl) rfl
theorem q256 : (Jvm.Cond.methodLink "WordLatticeLaw" (43 : Nat) ({ cls := "WordLatticeModel", name := "clearSpelling", desc := "()V" } : Jvm.MethodName)) ∈ lw_all := lw_g (lw_at lw_m1 237 rfl) rfl
theorem q260 : (Jvm.Cond.methodLink "WordLatticeLaw" (48 : Nat) ({ cls := "WordLatticeModel", name := "link", desc := "(III)I" } : Jvm.MethodName)) ∈ lw_all := lw_g (lw_at lw_m2 1 rfl) rfl
theorem q264 : (Jvm.Cond.methodLink "WordLatticeLaw" (52 : Nat) ({ cls := "WordLatticeModel", name := "type", desc := "(I)I" } : Jvm.MethodName)) ∈ lw_all := lw_g (lw_at lw_m2 5 rfl) rfl
theorem q268 : (Jvm.Cond.methodLink "WordLatticeLaw" (56 : Nat) ({ cls := "WordLatticeModel", name := "clearText", desc := "()V" } : Jvm.MethodName)) ∈ lw_all := lw_g (lw_at lw_m2 9 rfl) rfl
theorem q272 : (Jvm.Cond.methodLink "WordLatticeLaw" (60 : Nat) ({ cls := "WordLatticeModel", name := "cost", desc := "()I" } : Jvm.MethodName)) ∈ lw_all := lw_g (lw_at lw_m2 13 rfl) rfl
theorem q296 : (Jvm.Cond.methodLink "WordLatticeLaw" (64 : Nat) ({ cls := "WordLatticeModel", name := "ways", desc := "()I" } : Jvm.MethodName)) ∈ lw_all := lw_g (lw_at lw_m2 37 rfl) rfl
theorem q300 : (Jvm.Cond.methodLink "WordLatticeLaw" (68 : Nat) ({ cls := "WordLatticeModel", name := "start", desc := "(I)I" } : Jvm.MethodName)) ∈ lw_all := lw_g (lw_at lw_m2 41 rfl) rfl
theorem q304 : (Jvm.Cond.methodLink "WordLatticeLaw" (72 : Nat) ({ cls := "WordLatticeModel", name := "beginning", desc := "()I" } : Jvm.MethodName)) ∈ lw_all := lw_g (lw_at lw_m2 45 rfl) rfl

/-! WordLattice -/
def RX1 : String := "WordLattice"
def TX1 : u_T := fun k => match k with
  | 0 => ("WordLattice", "penalty", "I", true)
  | 1 => ("WordLattice", "base", "[I", true)
  | 2 => ("WordLattice", "check", "[I", true)
  | 3 => ("WordLattice", "costOf", "[I", true)
  | 4 => ("WordLattice", "kindOf", "[I", true)
  | 5 => ("WordLattice", "wordsBelow", "[I", true)
  | 6 => ("WordLattice", "spelled", "I", false)
  | 7 => ("WordLattice", "spelling", "[I", true)
  | 8 => ("WordLattice", "letters", "I", false)
  | 9 => ("WordLattice", "text", "[I", true)
  | 10 => ("WordLattice", "linkCost", "[I", true)
  | 11 => ("WordLattice", "cutIsFresh", "Z", false)
  | 12 => ("WordLattice", "cheapest", "[I", true)
  | 13 => ("WordLattice", "number", "[I", true)
  | 14 => ("WordLattice", "firstLength", "[I", true)
  | 15 => ("WordLattice", "pieceCost", "I", false)
  | _ => ("WordLattice", "pieceKind", "I", false)
def tyX1 : Nat → FieldType := fun k => match k with
  | 0 => .int
  | 1 => .array .int
  | 2 => .array .int
  | 3 => .array .int
  | 4 => .array .int
  | 5 => .array .int
  | 6 => .int
  | 7 => .array .int
  | 8 => .int
  | 9 => .array .int
  | 10 => .array .int
  | 11 => .boolean
  | 12 => .array .int
  | 13 => .array .int
  | 14 => .array .int
  | 15 => .int
  | _ => .int
abbrev wsX10 : List Cond := u_ws RX1 TX1 17
set_option maxRecDepth 100000 in
theorem nmX1 : ∀ a, a < 17 → ∀ b, b < 17 → a ≠ b → (TX1 a).2.1 ≠ (TX1 b).2.1 := by decide +kernel
set_option maxRecDepth 100000 in
theorem tyX1_ok : ∀ k, k < 17 → parseFieldDescriptor (TX1 k).2.2.1 = some (tyX1 k) := by decide +kernel
abbrev cX1_init : ByteArray := prog_1_method_1_code
def yX1_init : MethodName := ⟨RX1, "<init>", "(I)V"⟩
abbrev cX1_spell : ByteArray := prog_1_method_2_code
def yX1_spell : MethodName := ⟨RX1, "spell", "(I)I"⟩
abbrev cX1_learn : ByteArray := prog_1_method_3_code
def yX1_learn : MethodName := ⟨RX1, "learn", "(II)I"⟩
abbrev cX1_find : ByteArray := prog_1_method_14_code
def yX1_find : MethodName := ⟨RX1, "find", "()I"⟩
abbrev cX1_childOf : ByteArray := prog_1_method_15_code
def yX1_childOf : MethodName := ⟨RX1, "childOf", "(II)I"⟩
abbrev cX1_grow : ByteArray := prog_1_method_16_code
def yX1_grow : MethodName := ⟨RX1, "grow", "()I"⟩
abbrev cX1_addChild : ByteArray := prog_1_method_17_code
def yX1_addChild : MethodName := ⟨RX1, "addChild", "(II)I"⟩
abbrev cX1_moveChildren : ByteArray := prog_1_method_18_code
def yX1_moveChildren : MethodName := ⟨RX1, "moveChildren", "(II)V"⟩
abbrev cX1_freeBase : ByteArray := prog_1_method_19_code
def yX1_freeBase : MethodName := ⟨RX1, "freeBase", "(I)I"⟩
abbrev cX1_moveState : ByteArray := prog_1_method_20_code
def yX1_moveState : MethodName := ⟨RX1, "moveState", "(II)V"⟩
abbrev cX1_release : ByteArray := prog_1_method_21_code
def yX1_release : MethodName := ⟨RX1, "release", "(I)V"⟩
abbrev cX1_forget : ByteArray := prog_1_method_4_code
def yX1_forget : MethodName := ⟨RX1, "forget", "()I"⟩
abbrev cX1_prune : ByteArray := prog_1_method_22_code
def yX1_prune : MethodName := ⟨RX1, "prune", "()V"⟩
abbrev cX1_lookUp : ByteArray := prog_1_method_5_code
def yX1_lookUp : MethodName := ⟨RX1, "lookUp", "()I"⟩
abbrev cX1_clearSpelling : ByteArray := prog_1_method_6_code
def yX1_clearSpelling : MethodName := ⟨RX1, "clearSpelling", "()V"⟩
abbrev cX1_link : ByteArray := prog_1_method_7_code
def yX1_link : MethodName := ⟨RX1, "link", "(III)I"⟩
abbrev cX1_type : ByteArray := prog_1_method_8_code
def yX1_type : MethodName := ⟨RX1, "type", "(I)I"⟩
abbrev cX1_clearText : ByteArray := prog_1_method_9_code
def yX1_clearText : MethodName := ⟨RX1, "clearText", "()V"⟩
abbrev cX1_cost : ByteArray := prog_1_method_10_code
def yX1_cost : MethodName := ⟨RX1, "cost", "()I"⟩
abbrev cX1_cutText : ByteArray := prog_1_method_24_code
def yX1_cutText : MethodName := ⟨RX1, "cutText", "()V"⟩
abbrev cX1_fitPiece : ByteArray := prog_1_method_23_code
def yX1_fitPiece : MethodName := ⟨RX1, "fitPiece", "(II)V"⟩
abbrev cX1_usePiece : ByteArray := prog_1_method_25_code
def yX1_usePiece : MethodName := ⟨RX1, "usePiece", "(II)V"⟩
abbrev cX1_ways : ByteArray := prog_1_method_11_code
def yX1_ways : MethodName := ⟨RX1, "ways", "()I"⟩
abbrev cX1_start : ByteArray := prog_1_method_12_code
def yX1_start : MethodName := ⟨RX1, "start", "(I)I"⟩
abbrev cX1_beginning : ByteArray := prog_1_method_13_code
def yX1_beginning : MethodName := ⟨RX1, "beginning", "()I"⟩
theorem q20 : (Jvm.Cond.initialized "WordLattice") ∈ lw_all := lw_g (lw_at lw_m1 1 rfl) rfl
theorem q23 : (Jvm.Cond.instantiable "WordLattice" (17 : Nat)) ∈ lw_all := lw_g (lw_at lw_m1 4 rfl) rfl
theorem q25 : (Jvm.Cond.instanceMethod ({ cls := "WordLattice", name := "<init>", desc := "(I)V" } : Jvm.MethodName)) ∈ lw_all := lw_g (lw_at lw_m1 6 rfl) rfl
theorem q26 : (Jvm.Cond.code ({ cls := "WordLattice", name := "<init>", desc := "(I)V" } : Jvm.MethodName) prog_1_method_1_code (3 : Nat) (Option.none : Option Jvm.ClassFile.FieldType)) ∈ lw_all := lw_g (lw_at lw_m1 7 rfl) rfl
theorem q27 : (Jvm.Cond.methodLink "WordLattice" (1 : Nat) ({ cls := "java/lang/Object", name := "<init>", desc := "()V" } : Jvm.MethodName)) ∈ lw_all := lw_g (lw_at lw_m1 8 rfl) rfl
theorem q30 : (Jvm.Cond.fieldLink "WordLattice" (7 : Nat) "WordLattice" "penalty" "I") ∈ lw_all := lw_g (lw_at lw_m1 11 rfl) rfl
theorem q31 : (Jvm.Cond.fieldLink "WordLattice" (13 : Nat) "WordLattice" "base" "[I") ∈ lw_all := lw_g (lw_at lw_m1 12 rfl) rfl
theorem q32 : (Jvm.Cond.fieldLink "WordLattice" (17 : Nat) "WordLattice" "check" "[I") ∈ lw_all := lw_g (lw_at lw_m1 13 rfl) rfl
theorem q33 : (Jvm.Cond.fieldLink "WordLattice" (20 : Nat) "WordLattice" "costOf" "[I") ∈ lw_all := lw_g (lw_at lw_m1 14 rfl) rfl
theorem q34 : (Jvm.Cond.fieldLink "WordLattice" (23 : Nat) "WordLattice" "kindOf" "[I") ∈ lw_all := lw_g (lw_at lw_m1 15 rfl) rfl
theorem q35 : (Jvm.Cond.fieldLink "WordLattice" (26 : Nat) "WordLattice" "wordsBelow" "[I") ∈ lw_all := lw_g (lw_at lw_m1 16 rfl) rfl
theorem q36 : (Jvm.Cond.fieldLink "WordLattice" (47 : Nat) "WordLattice" "spelled" "I") ∈ lw_all := lw_g (lw_at lw_m1 17 rfl) rfl
theorem q37 : (Jvm.Cond.fieldLink "WordLattice" (29 : Nat) "WordLattice" "spelling" "[I") ∈ lw_all := lw_g (lw_at lw_m1 18 rfl) rfl
theorem q38 : (Jvm.Cond.fieldLink "WordLattice" (64 : Nat) "WordLattice" "letters" "I") ∈ lw_all := lw_g (lw_at lw_m1 19 rfl) rfl
theorem q39 : (Jvm.Cond.fieldLink "WordLattice" (32 : Nat) "WordLattice" "text" "[I") ∈ lw_all := lw_g (lw_at lw_m1 20 rfl) rfl
theorem q40 : (Jvm.Cond.fieldLink "WordLattice" (35 : Nat) "WordLattice" "linkCost" "[I") ∈ lw_all := lw_g (lw_at lw_m1 21 rfl) rfl
theorem q41 : (Jvm.Cond.fieldLink "WordLattice" (57 : Nat) "WordLattice" "cutIsFresh" "Z") ∈ lw_all := lw_g (lw_at lw_m1 22 rfl) rfl
theorem q42 : (Jvm.Cond.fieldLink "WordLattice" (38 : Nat) "WordLattice" "cheapest" "[I") ∈ lw_all := lw_g (lw_at lw_m1 23 rfl) rfl
theorem q43 : (Jvm.Cond.fieldLink "WordLattice" (41 : Nat) "WordLattice" "number" "[I") ∈ lw_all := lw_g (lw_at lw_m1 24 rfl) rfl
theorem q44 : (Jvm.Cond.fieldLink "WordLattice" (44 : Nat) "WordLattice" "firstLength" "[I") ∈ lw_all := lw_g (lw_at lw_m1 25 rfl) rfl
theorem q45 : (Jvm.Cond.fieldLink "WordLattice" (98 : Nat) "WordLattice" "pieceCost" "I") ∈ lw_all := lw_g (lw_at lw_m1 26 rfl) rfl
theorem q46 : (Jvm.Cond.fieldLink "WordLattice" (74 : Nat) "WordLattice" "pieceKind" "I") ∈ lw_all := lw_g (lw_at lw_m1 27 rfl) rfl
theorem q47 : (Jvm.Cond.laysFinal "WordLattice" "WordLattice" "penalty" "I") ∈ lw_all := lw_g (lw_at lw_m1 28 rfl) rfl
theorem q48 : (Jvm.Cond.soleField "WordLattice" "penalty") ∈ lw_all := lw_g (lw_at lw_m1 29 rfl) rfl
theorem q49 : (Jvm.Cond.laysFinal "WordLattice" "WordLattice" "base" "[I") ∈ lw_all := lw_g (lw_at lw_m1 30 rfl) rfl
theorem q50 : (Jvm.Cond.soleField "WordLattice" "base") ∈ lw_all := lw_g (lw_at lw_m1 31 rfl) rfl
theorem q51 : (Jvm.Cond.laysFinal "WordLattice" "WordLattice" "check" "[I") ∈ lw_all := lw_g (lw_at lw_m1 32 rfl) rfl
theorem q52 : (Jvm.Cond.soleField "WordLattice" "check") ∈ lw_all := lw_g (lw_at lw_m1 33 rfl) rfl
theorem q53 : (Jvm.Cond.laysFinal "WordLattice" "WordLattice" "costOf" "[I") ∈ lw_all := lw_g (lw_at lw_m1 34 rfl) rfl
theorem q54 : (Jvm.Cond.soleField "WordLattice" "costOf") ∈ lw_all := lw_g (lw_at lw_m1 35 rfl) rfl
theorem q55 : (Jvm.Cond.laysFinal "WordLattice" "WordLattice" "kindOf" "[I") ∈ lw_all := lw_g (lw_at lw_m1 36 rfl) rfl
theorem q56 : (Jvm.Cond.soleField "WordLattice" "kindOf") ∈ lw_all := lw_g (lw_at lw_m1 37 rfl) rfl
theorem q57 : (Jvm.Cond.laysFinal "WordLattice" "WordLattice" "wordsBelow" "[I") ∈ lw_all := lw_g (lw_at lw_m1 38 rfl) rfl
theorem q58 : (Jvm.Cond.soleField "WordLattice" "wordsBelow") ∈ lw_all := lw_g (lw_at lw_m1 39 rfl) rfl
theorem q59 : (Jvm.Cond.lays "WordLattice" "WordLattice" "spelled" "I") ∈ lw_all := lw_g (lw_at lw_m1 40 rfl) rfl
theorem q60 : (Jvm.Cond.soleField "WordLattice" "spelled") ∈ lw_all := lw_g (lw_at lw_m1 41 rfl) rfl
theorem q61 : (Jvm.Cond.laysFinal "WordLattice" "WordLattice" "spelling" "[I") ∈ lw_all := lw_g (lw_at lw_m1 42 rfl) rfl
theorem q62 : (Jvm.Cond.soleField "WordLattice" "spelling") ∈ lw_all := lw_g (lw_at lw_m1 43 rfl) rfl
theorem q63 : (Jvm.Cond.lays "WordLattice" "WordLattice" "letters" "I") ∈ lw_all := lw_g (lw_at lw_m1 44 rfl) rfl
theorem q64 : (Jvm.Cond.soleField "WordLattice" "letters") ∈ lw_all := lw_g (lw_at lw_m1 45 rfl) rfl
theorem q65 : (Jvm.Cond.laysFinal "WordLattice" "WordLattice" "text" "[I") ∈ lw_all := lw_g (lw_at lw_m1 46 rfl) rfl
theorem q66 : (Jvm.Cond.soleField "WordLattice" "text") ∈ lw_all := lw_g (lw_at lw_m1 47 rfl) rfl
theorem q67 : (Jvm.Cond.laysFinal "WordLattice" "WordLattice" "linkCost" "[I") ∈ lw_all := lw_g (lw_at lw_m1 48 rfl) rfl
theorem q68 : (Jvm.Cond.soleField "WordLattice" "linkCost") ∈ lw_all := lw_g (lw_at lw_m1 49 rfl) rfl
theorem q69 : (Jvm.Cond.lays "WordLattice" "WordLattice" "cutIsFresh" "Z") ∈ lw_all := lw_g (lw_at lw_m1 50 rfl) rfl
theorem q70 : (Jvm.Cond.soleField "WordLattice" "cutIsFresh") ∈ lw_all := lw_g (lw_at lw_m1 51 rfl) rfl
theorem q71 : (Jvm.Cond.laysFinal "WordLattice" "WordLattice" "cheapest" "[I") ∈ lw_all := lw_g (lw_at lw_m1 52 rfl) rfl
theorem q72 : (Jvm.Cond.soleField "WordLattice" "cheapest") ∈ lw_all := lw_g (lw_at lw_m1 53 rfl) rfl
theorem q73 : (Jvm.Cond.laysFinal "WordLattice" "WordLattice" "number" "[I") ∈ lw_all := lw_g (lw_at lw_m1 54 rfl) rfl
theorem q74 : (Jvm.Cond.soleField "WordLattice" "number") ∈ lw_all := lw_g (lw_at lw_m1 55 rfl) rfl
theorem q75 : (Jvm.Cond.laysFinal "WordLattice" "WordLattice" "firstLength" "[I") ∈ lw_all := lw_g (lw_at lw_m1 56 rfl) rfl
theorem q76 : (Jvm.Cond.soleField "WordLattice" "firstLength") ∈ lw_all := lw_g (lw_at lw_m1 57 rfl) rfl
theorem q77 : (Jvm.Cond.lays "WordLattice" "WordLattice" "pieceCost" "I") ∈ lw_all := lw_g (lw_at lw_m1 58 rfl) rfl
theorem q78 : (Jvm.Cond.soleField "WordLattice" "pieceCost") ∈ lw_all := lw_g (lw_at lw_m1 59 rfl) rfl
theorem q79 : (Jvm.Cond.lays "WordLattice" "WordLattice" "pieceKind" "I") ∈ lw_all := lw_g (lw_at lw_m1 60 rfl) rfl
theorem q80 : (Jvm.Cond.soleField "WordLattice" "pieceKind") ∈ lw_all := lw_g (lw_at lw_m1 61 rfl) rfl
theorem q81 : (Jvm.Cond.superclass "WordLattice" "java/lang/Object") ∈ lw_all := lw_g (lw_at lw_m1 62 rfl) rfl
theorem q84 : (Jvm.Cond.instanceMethod ({ cls := "WordLattice", name := "spell", desc := "(I)I" } : Jvm.MethodName)) ∈ lw_all := lw_g (lw_at lw_m1 65 rfl) rfl
theorem q85 : (Jvm.Cond.selects "WordLattice" ({ cls := "WordLattice", name := "spell", desc := "(I)I" } : Jvm.MethodName) ({ cls := "WordLattice", name := "spell", desc := "(I)I" } : Jvm.MethodName)) ∈ lw_all := lw_g (lw_at lw_m1 66 rfl) rfl
theorem q86 : (Jvm.Cond.code ({ cls := "WordLattice", name := "spell", desc := "(I)I" } : Jvm.MethodName) prog_1_method_2_code (2 : Nat) (Option.some Jvm.ClassFile.FieldType.int)) ∈ lw_all := lw_g (lw_at lw_m1 67 rfl) rfl
theorem q88 : (Jvm.Cond.instanceMethod ({ cls := "WordLattice", name := "learn", desc := "(II)I" } : Jvm.MethodName)) ∈ lw_all := lw_g (lw_at lw_m1 69 rfl) rfl
theorem q89 : (Jvm.Cond.selects "WordLattice" ({ cls := "WordLattice", name := "learn", desc := "(II)I" } : Jvm.MethodName) ({ cls := "WordLattice", name := "learn", desc := "(II)I" } : Jvm.MethodName)) ∈ lw_all := lw_g (lw_at lw_m1 70 rfl) rfl
theorem q90 : (Jvm.Cond.code ({ cls := "WordLattice", name := "learn", desc := "(II)I" } : Jvm.MethodName) prog_1_method_3_code (5 : Nat) (Option.some Jvm.ClassFile.FieldType.int)) ∈ lw_all := lw_g (lw_at lw_m1 71 rfl) rfl
theorem q91 : (Jvm.Cond.methodLink "WordLattice" (50 : Nat) ({ cls := "WordLattice", name := "find", desc := "()I" } : Jvm.MethodName)) ∈ lw_all := lw_g (lw_at lw_m1 72 rfl) rfl
theorem q92 : (Jvm.Cond.privateMethod ({ cls := "WordLattice", name := "find", desc := "()I" } : Jvm.MethodName)) ∈ lw_tbl := lw_at lw_m1 73 rfl
theorem q93 : (Jvm.Cond.instanceMethod ({ cls := "WordLattice", name := "find", desc := "()I" } : Jvm.MethodName)) ∈ lw_all := lw_g (lw_at lw_m1 74 rfl) rfl
theorem q94 : (Jvm.Cond.code ({ cls := "WordLattice", name := "find", desc := "()I" } : Jvm.MethodName) prog_1_method_14_code (3 : Nat) (Option.some Jvm.ClassFile.FieldType.int)) ∈ lw_all := lw_g (lw_at lw_m1 75 rfl) rfl
theorem q95 : (Jvm.Cond.methodLink "WordLattice" (77 : Nat) ({ cls := "WordLattice", name := "childOf", desc := "(II)I" } : Jvm.MethodName)) ∈ lw_all := lw_g (lw_at lw_m1 76 rfl) rfl
theorem q96 : (Jvm.Cond.privateMethod ({ cls := "WordLattice", name := "childOf", desc := "(II)I" } : Jvm.MethodName)) ∈ lw_tbl := lw_at lw_m1 77 rfl
theorem q97 : (Jvm.Cond.instanceMethod ({ cls := "WordLattice", name := "childOf", desc := "(II)I" } : Jvm.MethodName)) ∈ lw_all := lw_g (lw_at lw_m1 78 rfl) rfl
theorem q98 : (Jvm.Cond.code ({ cls := "WordLattice", name := "childOf", desc := "(II)I" } : Jvm.MethodName) prog_1_method_15_code (4 : Nat) (Option.some Jvm.ClassFile.FieldType.int)) ∈ lw_all := lw_g (lw_at lw_m1 79 rfl) rfl
theorem q99 : (Jvm.Cond.methodLink "WordLattice" (54 : Nat) ({ cls := "WordLattice", name := "grow", desc := "()I" } : Jvm.MethodName)) ∈ lw_all := lw_g (lw_at lw_m1 80 rfl) rfl
theorem q100 : (Jvm.Cond.privateMethod ({ cls := "WordLattice", name := "grow", desc := "()I" } : Jvm.MethodName)) ∈ lw_tbl := lw_at lw_m1 81 rfl
theorem q101 : (Jvm.Cond.instanceMethod ({ cls := "WordLattice", name := "grow", desc := "()I" } : Jvm.MethodName)) ∈ lw_all := lw_g (lw_at lw_m1 82 rfl) rfl
theorem q102 : (Jvm.Cond.code ({ cls := "WordLattice", name := "grow", desc := "()I" } : Jvm.MethodName) prog_1_method_16_code (4 : Nat) (Option.some Jvm.ClassFile.FieldType.int)) ∈ lw_all := lw_g (lw_at lw_m1 83 rfl) rfl
theorem q103 : (Jvm.Cond.methodLink "WordLattice" (81 : Nat) ({ cls := "WordLattice", name := "addChild", desc := "(II)I" } : Jvm.MethodName)) ∈ lw_all := lw_g (lw_at lw_m1 84 rfl) rfl
theorem q104 : (Jvm.Cond.privateMethod ({ cls := "WordLattice", name := "addChild", desc := "(II)I" } : Jvm.MethodName)) ∈ lw_tbl := lw_at lw_m1 85 rfl
theorem q105 : (Jvm.Cond.instanceMethod ({ cls := "WordLattice", name := "addChild", desc := "(II)I" } : Jvm.MethodName)) ∈ lw_all := lw_g (lw_at lw_m1 86 rfl) rfl
theorem q106 : (Jvm.Cond.code ({ cls := "WordLattice", name := "addChild", desc := "(II)I" } : Jvm.MethodName) prog_1_method_17_code (4 : Nat) (Option.some Jvm.ClassFile.FieldType.int)) ∈ lw_all := lw_g (lw_at lw_m1 87 rfl) rfl
theorem q107 : (Jvm.Cond.methodLink "WordLattice" (84 : Nat) ({ cls := "WordLattice", name := "moveChildren", desc := "(II)V" } : Jvm.MethodName)) ∈ lw_all := lw_g (lw_at lw_m1 88 rfl) rfl
theorem q108 : (Jvm.Cond.privateMethod ({ cls := "WordLattice", name := "moveChildren", desc := "(II)V" } : Jvm.MethodName)) ∈ lw_tbl := lw_at lw_m1 89 rfl
theorem q109 : (Jvm.Cond.instanceMethod ({ cls := "WordLattice", name := "moveChildren", desc := "(II)V" } : Jvm.MethodName)) ∈ lw_all := lw_g (lw_at lw_m1 90 rfl) rfl
theorem q110 : (Jvm.Cond.code ({ cls := "WordLattice", name := "moveChildren", desc := "(II)V" } : Jvm.MethodName) prog_1_method_18_code (7 : Nat) (Option.none : Option Jvm.ClassFile.FieldType)) ∈ lw_all := lw_g (lw_at lw_m1 91 rfl) rfl
theorem q111 : (Jvm.Cond.methodLink "WordLattice" (87 : Nat) ({ cls := "WordLattice", name := "freeBase", desc := "(I)I" } : Jvm.MethodName)) ∈ lw_all := lw_g (lw_at lw_m1 92 rfl) rfl
theorem q112 : (Jvm.Cond.privateMethod ({ cls := "WordLattice", name := "freeBase", desc := "(I)I" } : Jvm.MethodName)) ∈ lw_tbl := lw_at lw_m1 93 rfl
theorem q113 : (Jvm.Cond.instanceMethod ({ cls := "WordLattice", name := "freeBase", desc := "(I)I" } : Jvm.MethodName)) ∈ lw_all := lw_g (lw_at lw_m1 94 rfl) rfl
theorem q114 : (Jvm.Cond.code ({ cls := "WordLattice", name := "freeBase", desc := "(I)I" } : Jvm.MethodName) prog_1_method_19_code (5 : Nat) (Option.some Jvm.ClassFile.FieldType.int)) ∈ lw_all := lw_g (lw_at lw_m1 95 rfl) rfl
theorem q115 : (Jvm.Cond.methodLink "WordLattice" (91 : Nat) ({ cls := "WordLattice", name := "moveState", desc := "(II)V" } : Jvm.MethodName)) ∈ lw_all := lw_g (lw_at lw_m1 96 rfl) rfl
theorem q116 : (Jvm.Cond.privateMethod ({ cls := "WordLattice", name := "moveState", desc := "(II)V" } : Jvm.MethodName)) ∈ lw_tbl := lw_at lw_m1 97 rfl
theorem q117 : (Jvm.Cond.instanceMethod ({ cls := "WordLattice", name := "moveState", desc := "(II)V" } : Jvm.MethodName)) ∈ lw_all := lw_g (lw_at lw_m1 98 rfl) rfl
theorem q118 : (Jvm.Cond.code ({ cls := "WordLattice", name := "moveState", desc := "(II)V" } : Jvm.MethodName) prog_1_method_20_code (4 : Nat) (Option.none : Option Jvm.ClassFile.FieldType)) ∈ lw_all := lw_g (lw_at lw_m1 99 rfl) rfl
theorem q119 : (Jvm.Cond.methodLink "WordLattice" (94 : Nat) ({ cls := "WordLattice", name := "release", desc := "(I)V" } : Jvm.MethodName)) ∈ lw_all := lw_g (lw_at lw_m1 100 rfl) rfl
theorem q120 : (Jvm.Cond.privateMethod ({ cls := "WordLattice", name := "release", desc := "(I)V" } : Jvm.MethodName)) ∈ lw_tbl := lw_at lw_m1 101 rfl
theorem q121 : (Jvm.Cond.instanceMethod ({ cls := "WordLattice", name := "release", desc := "(I)V" } : Jvm.MethodName)) ∈ lw_all := lw_g (lw_at lw_m1 102 rfl) rfl
theorem q122 : (Jvm.Cond.code ({ cls := "WordLattice", name := "release", desc := "(I)V" } : Jvm.MethodName) prog_1_method_21_code (2 : Nat) (Option.none : Option Jvm.ClassFile.FieldType)) ∈ lw_all := lw_g (lw_at lw_m1 103 rfl) rfl
theorem q124 : (Jvm.Cond.instanceMethod ({ cls := "WordLattice", name := "forget", desc := "()I" } : Jvm.MethodName)) ∈ lw_all := lw_g (lw_at lw_m1 105 rfl) rfl
theorem q125 : (Jvm.Cond.selects "WordLattice" ({ cls := "WordLattice", name := "forget", desc := "()I" } : Jvm.MethodName) ({ cls := "WordLattice", name := "forget", desc := "()I" } : Jvm.MethodName)) ∈ lw_all := lw_g (lw_at lw_m1 106 rfl) rfl
theorem q126 : (Jvm.Cond.code ({ cls := "WordLattice", name := "forget", desc := "()I" } : Jvm.MethodName) prog_1_method_4_code (2 : Nat) (Option.some Jvm.ClassFile.FieldType.int)) ∈ lw_all := lw_g (lw_at lw_m1 107 rfl) rfl
theorem q127 : (Jvm.Cond.methodLink "WordLattice" (61 : Nat) ({ cls := "WordLattice", name := "prune", desc := "()V" } : Jvm.MethodName)) ∈ lw_all := lw_g (lw_at lw_m1 108 rfl) rfl
theorem q128 : (Jvm.Cond.privateMethod ({ cls := "WordLattice", name := "prune", desc := "()V" } : Jvm.MethodName)) ∈ lw_tbl := lw_at lw_m1 109 rfl
theorem q129 : (Jvm.Cond.instanceMethod ({ cls := "WordLattice", name := "prune", desc := "()V" } : Jvm.MethodName)) ∈ lw_all := lw_g (lw_at lw_m1 110 rfl) rfl
theorem q130 : (Jvm.Cond.code ({ cls := "WordLattice", name := "prune", desc := "()V" } : Jvm.MethodName) prog_1_method_22_code (4 : Nat) (Option.none : Option Jvm.ClassFile.FieldType)) ∈ lw_all := lw_g (lw_at lw_m1 111 rfl) rfl
theorem q132 : (Jvm.Cond.instanceMethod ({ cls := "WordLattice", name := "lookUp", desc := "()I" } : Jvm.MethodName)) ∈ lw_all := lw_g (lw_at lw_m1 113 rfl) rfl
theorem q133 : (Jvm.Cond.selects "WordLattice" ({ cls := "WordLattice", name := "lookUp", desc := "()I" } : Jvm.MethodName) ({ cls := "WordLattice", name := "lookUp", desc := "()I" } : Jvm.MethodName)) ∈ lw_all := lw_g (lw_at lw_m1 114 rfl) rfl
theorem q134 : (Jvm.Cond.code ({ cls := "WordLattice", name := "lookUp", desc := "()I" } : Jvm.MethodName) prog_1_method_5_code (2 : Nat) (Option.some Jvm.ClassFile.FieldType.int)) ∈ lw_all := lw_g (lw_at lw_m1 115 rfl) rfl
theorem q136 : (Jvm.Cond.instanceMethod ({ cls := "WordLattice", name := "clearSpelling", desc := "()V" } : Jvm.MethodName)) ∈ lw_all := lw_g (lw_at lw_m1 117 rfl) rfl
theorem q137 : (Jvm.Cond.selects "WordLattice" ({ cls := "WordLattice", name := "clearSpelling", desc := "()V" } : Jvm.MethodName) ({ cls := "WordLattice", name := "clearSpelling", desc := "()V" } : Jvm.MethodName)) ∈ lw_all := lw_g (lw_at lw_m1 118 rfl) rfl
theorem q138 : (Jvm.Cond.code ({ cls := "WordLattice", name := "clearSpelling", desc := "()V" } : Jvm.MethodName) prog_1_method_6_code (1 : Nat) (Option.none : Option Jvm.ClassFile.FieldType)) ∈ lw_all := lw_g (lw_at lw_m1 119 rfl) rfl
theorem q140 : (Jvm.Cond.instanceMethod ({ cls := "WordLattice", name := "link", desc := "(III)I" } : Jvm.MethodName)) ∈ lw_all := lw_g (lw_at lw_m1 121 rfl) rfl
theorem q141 : (Jvm.Cond.selects "WordLattice" ({ cls := "WordLattice", name := "link", desc := "(III)I" } : Jvm.MethodName) ({ cls := "WordLattice", name := "link", desc := "(III)I" } : Jvm.MethodName)) ∈ lw_all := lw_g (lw_at lw_m1 122 rfl) rfl
theorem q142 : (Jvm.Cond.code ({ cls := "WordLattice", name := "link", desc := "(III)I" } : Jvm.MethodName) prog_1_method_7_code (5 : Nat) (Option.some Jvm.ClassFile.FieldType.int)) ∈ lw_all := lw_g (lw_at lw_m1 123 rfl) rfl
theorem q144 : (Jvm.Cond.instanceMethod ({ cls := "WordLattice", name := "type", desc := "(I)I" } : Jvm.MethodName)) ∈ lw_all := lw_g (lw_at lw_m1 125 rfl) rfl
theorem q145 : (Jvm.Cond.selects "WordLattice" ({ cls := "WordLattice", name := "type", desc := "(I)I" } : Jvm.MethodName) ({ cls := "WordLattice", name := "type", desc := "(I)I" } : Jvm.MethodName)) ∈ lw_all := lw_g (lw_at lw_m1 126 rfl) rfl
theorem q146 : (Jvm.Cond.code ({ cls := "WordLattice", name := "type", desc := "(I)I" } : Jvm.MethodName) prog_1_method_8_code (2 : Nat) (Option.some Jvm.ClassFile.FieldType.int)) ∈ lw_all := lw_g (lw_at lw_m1 127 rfl) rfl
theorem q148 : (Jvm.Cond.instanceMethod ({ cls := "WordLattice", name := "clearText", desc := "()V" } : Jvm.MethodName)) ∈ lw_all := lw_g (lw_at lw_m1 129 rfl) rfl
theorem q149 : (Jvm.Cond.selects "WordLattice" ({ cls := "WordLattice", name := "clearText", desc := "()V" } : Jvm.MethodName) ({ cls := "WordLattice", name := "clearText", desc := "()V" } : Jvm.MethodName)) ∈ lw_all := lw_g (lw_at lw_m1 130 rfl) rfl
theorem q150 : (Jvm.Cond.code ({ cls := "WordLattice", name := "clearText", desc := "()V" } : Jvm.MethodName) prog_1_method_9_code (1 : Nat) (Option.none : Option Jvm.ClassFile.FieldType)) ∈ lw_all := lw_g (lw_at lw_m1 131 rfl) rfl
theorem q152 : (Jvm.Cond.instanceMethod ({ cls := "WordLattice", name := "cost", desc := "()I" } : Jvm.MethodName)) ∈ lw_all := lw_g (lw_at lw_m1 133 rfl) rfl
theorem q153 : (Jvm.Cond.selects "WordLattice" ({ cls := "WordLattice", name := "cost", desc := "()I" } : Jvm.MethodName) ({ cls := "WordLattice", name := "cost", desc := "()I" } : Jvm.MethodName)) ∈ lw_all := lw_g (lw_at lw_m1 134 rfl) rfl
theorem q154 : (Jvm.Cond.code ({ cls := "WordLattice", name := "cost", desc := "()I" } : Jvm.MethodName) prog_1_method_10_code (1 : Nat) (Option.some Jvm.ClassFile.FieldType.int)) ∈ lw_all := lw_g (lw_at lw_m1 135 rfl) rfl
theorem q155 : (Jvm.Cond.methodLink "WordLattice" (67 : Nat) ({ cls := "WordLattice", name := "cutText", desc := "()V" } : Jvm.MethodName)) ∈ lw_all := lw_g (lw_at lw_m1 136 rfl) rfl
theorem q156 : (Jvm.Cond.privateMethod ({ cls := "WordLattice", name := "cutText", desc := "()V" } : Jvm.MethodName)) ∈ lw_tbl := lw_at lw_m1 137 rfl
theorem q157 : (Jvm.Cond.instanceMethod ({ cls := "WordLattice", name := "cutText", desc := "()V" } : Jvm.MethodName)) ∈ lw_all := lw_g (lw_at lw_m1 138 rfl) rfl
theorem q158 : (Jvm.Cond.code ({ cls := "WordLattice", name := "cutText", desc := "()V" } : Jvm.MethodName) prog_1_method_24_code (3 : Nat) (Option.none : Option Jvm.ClassFile.FieldType)) ∈ lw_all := lw_g (lw_at lw_m1 139 rfl) rfl
theorem q159 : (Jvm.Cond.constant "WordLattice" (101 : Nat) (1000000 : Int32)) ∈ lw_all := lw_g (lw_at lw_m1 140 rfl) rfl
theorem q160 : (Jvm.Cond.methodLink "WordLattice" (70 : Nat) ({ cls := "WordLattice", name := "fitPiece", desc := "(II)V" } : Jvm.MethodName)) ∈ lw_all := lw_g (lw_at lw_m1 141 rfl) rfl
theorem q161 : (Jvm.Cond.privateMethod ({ cls := "WordLattice", name := "fitPiece", desc := "(II)V" } : Jvm.MethodName)) ∈ lw_tbl := lw_at lw_m1 142 rfl
theorem q162 : (Jvm.Cond.instanceMethod ({ cls := "WordLattice", name := "fitPiece", desc := "(II)V" } : Jvm.MethodName)) ∈ lw_all := lw_g (lw_at lw_m1 143 rfl) rfl
theorem q163 : (Jvm.Cond.code ({ cls := "WordLattice", name := "fitPiece", desc := "(II)V" } : Jvm.MethodName) prog_1_method_23_code (5 : Nat) (Option.none : Option Jvm.ClassFile.FieldType)) ∈ lw_all := lw_g (lw_at lw_m1 144 rfl) rfl
theorem q164 : (Jvm.Cond.methodLink "WordLattice" (102 : Nat) ({ cls := "WordLattice", name := "usePiece", desc := "(II)V" } : Jvm.MethodName)) ∈ lw_all := lw_g (lw_at lw_m1 145 rfl) rfl
theorem q165 : (Jvm.Cond.privateMethod ({ cls := "WordLattice", name := "usePiece", desc := "(II)V" } : Jvm.MethodName)) ∈ lw_tbl := lw_at lw_m1 146 rfl
theorem q166 : (Jvm.Cond.instanceMethod ({ cls := "WordLattice", name := "usePiece", desc := "(II)V" } : Jvm.MethodName)) ∈ lw_all := lw_g (lw_at lw_m1 147 rfl) rfl
theorem q167 : (Jvm.Cond.code ({ cls := "WordLattice", name := "usePiece", desc := "(II)V" } : Jvm.MethodName) prog_1_method_25_code (7 : Nat) (Option.none : Option Jvm.ClassFile.FieldType)) ∈ lw_all := lw_g (lw_at lw_m1 148 rfl) rfl
theorem q169 : (Jvm.Cond.instanceMethod ({ cls := "WordLattice", name := "ways", desc := "()I" } : Jvm.MethodName)) ∈ lw_all := lw_g (lw_at lw_m1 150 rfl) rfl
theorem q170 : (Jvm.Cond.selects "WordLattice" ({ cls := "WordLattice", name := "ways", desc := "()I" } : Jvm.MethodName) ({ cls := "WordLattice", name := "ways", desc := "()I" } : Jvm.MethodName)) ∈ lw_all := lw_g (lw_at lw_m1 151 rfl) rfl
theorem q171 : (Jvm.Cond.code ({ cls := "WordLattice", name := "ways", desc := "()I" } : Jvm.MethodName) prog_1_method_11_code (1 : Nat) (Option.some Jvm.ClassFile.FieldType.int)) ∈ lw_all := lw_g (lw_at lw_m1 152 rfl) rfl
theorem q173 : (Jvm.Cond.instanceMethod ({ cls := "WordLattice", name := "start", desc := "(I)I" } : Jvm.MethodName)) ∈ lw_all := lw_g (lw_at lw_m1 154 rfl) rfl
theorem q174 : (Jvm.Cond.selects "WordLattice" ({ cls := "WordLattice", name := "start", desc := "(I)I" } : Jvm.MethodName) ({ cls := "WordLattice", name := "start", desc := "(I)I" } : Jvm.MethodName)) ∈ lw_all := lw_g (lw_at lw_m1 155 rfl) rfl
theorem q175 : (Jvm.Cond.code ({ cls := "WordLattice", name := "start", desc := "(I)I" } : Jvm.MethodName) prog_1_method_12_code (6 : Nat) (Option.some Jvm.ClassFile.FieldType.int)) ∈ lw_all := lw_g (lw_at lw_m1 156 rfl) rfl
theorem q177 : (Jvm.Cond.instanceMethod ({ cls := "WordLattice", name := "beginning", desc := "()I" } : Jvm.MethodName)) ∈ lw_all := lw_g (lw_at lw_m1 158 rfl) rfl
theorem q178 : (Jvm.Cond.selects "WordLattice" ({ cls := "WordLattice", name := "beginning", desc := "()I" } : Jvm.MethodName) ({ cls := "WordLattice", name := "beginning", desc := "()I" } : Jvm.MethodName)) ∈ lw_all := lw_g (lw_at lw_m1 159 rfl) rfl
theorem q179 : (Jvm.Cond.code ({ cls := "WordLattice", name := "beginning", desc := "()I" } : Jvm.MethodName) prog_1_method_13_code (2 : Nat) (Option.some Jvm.ClassFile.FieldType.int)) ∈ lw_all := lw_g (lw_at lw_m1 160 rfl) rfl
theorem in_X1 : ∀ w ∈ wsX10, w ∈ lw_all := lw_in wsX10 [47, 49, 51, 53, 55, 57, 59, 61, 63, 65, 67, 69, 71, 73, 75, 77, 79] (by decide +kernel) (by decide +kernel)

/-! WordLatticeModel -/
def RX2 : String := "WordLatticeModel"
def TX2 : u_T := fun k => match k with
  | 0 => ("WordLatticeModel", "penalty", "I", false)
  | 1 => ("WordLatticeModel", "words", "I", false)
  | 2 => ("WordLatticeModel", "letters", "[I", true)
  | 3 => ("WordLatticeModel", "length", "[I", true)
  | 4 => ("WordLatticeModel", "price", "[I", true)
  | 5 => ("WordLatticeModel", "kind", "[I", true)
  | 6 => ("WordLatticeModel", "spelled", "[I", true)
  | 7 => ("WordLatticeModel", "spelling", "I", false)
  | 8 => ("WordLatticeModel", "text", "[I", true)
  | 9 => ("WordLatticeModel", "typed", "I", false)
  | 10 => ("WordLatticeModel", "links", "[I", true)
  | 11 => ("WordLatticeModel", "best", "I", false)
  | 12 => ("WordLatticeModel", "many", "I", false)
  | _ => ("WordLatticeModel", "chosen", "I", false)
def tyX2 : Nat → FieldType := fun k => match k with
  | 0 => .int
  | 1 => .int
  | 2 => .array .int
  | 3 => .array .int
  | 4 => .array .int
  | 5 => .array .int
  | 6 => .array .int
  | 7 => .int
  | 8 => .array .int
  | 9 => .int
  | 10 => .array .int
  | 11 => .int
  | 12 => .int
  | _ => .int
abbrev wsX20 : List Cond := u_ws RX2 TX2 14
set_option maxRecDepth 100000 in
theorem nmX2 : ∀ a, a < 14 → ∀ b, b < 14 → a ≠ b → (TX2 a).2.1 ≠ (TX2 b).2.1 := by decide +kernel
set_option maxRecDepth 100000 in
theorem tyX2_ok : ∀ k, k < 14 → parseFieldDescriptor (TX2 k).2.2.1 = some (tyX2 k) := by decide +kernel
abbrev cX2_init : ByteArray := prog_3_method_1_code
def yX2_init : MethodName := ⟨RX2, "<init>", "(I)V"⟩
abbrev cX2_spell : ByteArray := prog_3_method_2_code
def yX2_spell : MethodName := ⟨RX2, "spell", "(I)I"⟩
abbrev cX2_learn : ByteArray := prog_3_method_5_code
def yX2_learn : MethodName := ⟨RX2, "learn", "(II)I"⟩
abbrev cX2_named : ByteArray := prog_3_method_4_code
def yX2_named : MethodName := ⟨RX2, "named", "()I"⟩
abbrev cX2_begins : ByteArray := prog_3_method_3_code
def yX2_begins : MethodName := ⟨RX2, "begins", "(I)Z"⟩
abbrev cX2_forget : ByteArray := prog_3_method_6_code
def yX2_forget : MethodName := ⟨RX2, "forget", "()I"⟩
abbrev cX2_lookUp : ByteArray := prog_3_method_7_code
def yX2_lookUp : MethodName := ⟨RX2, "lookUp", "()I"⟩
abbrev cX2_clearSpelling : ByteArray := prog_3_method_8_code
def yX2_clearSpelling : MethodName := ⟨RX2, "clearSpelling", "()V"⟩
abbrev cX2_link : ByteArray := prog_3_method_9_code
def yX2_link : MethodName := ⟨RX2, "link", "(III)I"⟩
abbrev cX2_type : ByteArray := prog_3_method_10_code
def yX2_type : MethodName := ⟨RX2, "type", "(I)I"⟩
abbrev cX2_clearText : ByteArray := prog_3_method_11_code
def yX2_clearText : MethodName := ⟨RX2, "clearText", "()V"⟩
abbrev cX2_cost : ByteArray := prog_3_method_17_code
def yX2_cost : MethodName := ⟨RX2, "cost", "()I"⟩
abbrev cX2_look : ByteArray := prog_3_method_16_code
def yX2_look : MethodName := ⟨RX2, "look", "()V"⟩
abbrev cX2_costOf : ByteArray := prog_3_method_15_code
def yX2_costOf : MethodName := ⟨RX2, "costOf", "(I)I"⟩
abbrev cX2_border : ByteArray := prog_3_method_14_code
def yX2_border : MethodName := ⟨RX2, "border", "(II)Z"⟩
abbrev cX2_word : ByteArray := prog_3_method_13_code
def yX2_word : MethodName := ⟨RX2, "word", "(II)I"⟩
abbrev cX2_stands : ByteArray := prog_3_method_12_code
def yX2_stands : MethodName := ⟨RX2, "stands", "(II)Z"⟩
abbrev cX2_ways : ByteArray := prog_3_method_18_code
def yX2_ways : MethodName := ⟨RX2, "ways", "()I"⟩
abbrev cX2_start : ByteArray := prog_3_method_19_code
def yX2_start : MethodName := ⟨RX2, "start", "(I)I"⟩
abbrev cX2_beginning : ByteArray := prog_3_method_20_code
def yX2_beginning : MethodName := ⟨RX2, "beginning", "()I"⟩
theorem q21 : (Jvm.Cond.initialized "WordLatticeModel") ∈ lw_all := lw_g (lw_at lw_m1 2 rfl) rfl
theorem q184 : (Jvm.Cond.instantiable "WordLatticeModel" (14 : Nat)) ∈ lw_all := lw_g (lw_at lw_m1 165 rfl) rfl
theorem q186 : (Jvm.Cond.instanceMethod ({ cls := "WordLatticeModel", name := "<init>", desc := "(I)V" } : Jvm.MethodName)) ∈ lw_all := lw_g (lw_at lw_m1 167 rfl) rfl
theorem q187 : (Jvm.Cond.code ({ cls := "WordLatticeModel", name := "<init>", desc := "(I)V" } : Jvm.MethodName) prog_3_method_1_code (2 : Nat) (Option.none : Option Jvm.ClassFile.FieldType)) ∈ lw_all := lw_g (lw_at lw_m1 168 rfl) rfl
theorem q188 : (Jvm.Cond.methodLink "WordLatticeModel" (1 : Nat) ({ cls := "java/lang/Object", name := "<init>", desc := "()V" } : Jvm.MethodName)) ∈ lw_all := lw_g (lw_at lw_m1 169 rfl) rfl
theorem q189 : (Jvm.Cond.fieldLink "WordLatticeModel" (31 : Nat) "WordLatticeModel" "penalty" "I") ∈ lw_all := lw_g (lw_at lw_m1 170 rfl) rfl
theorem q190 : (Jvm.Cond.fieldLink "WordLatticeModel" (38 : Nat) "WordLatticeModel" "words" "I") ∈ lw_all := lw_g (lw_at lw_m1 171 rfl) rfl
theorem q191 : (Jvm.Cond.fieldLink "WordLatticeModel" (7 : Nat) "WordLatticeModel" "letters" "[I") ∈ lw_all := lw_g (lw_at lw_m1 172 rfl) rfl
theorem q192 : (Jvm.Cond.fieldLink "WordLatticeModel" (13 : Nat) "WordLatticeModel" "length" "[I") ∈ lw_all := lw_g (lw_at lw_m1 173 rfl) rfl
theorem q193 : (Jvm.Cond.fieldLink "WordLatticeModel" (16 : Nat) "WordLatticeModel" "price" "[I") ∈ lw_all := lw_g (lw_at lw_m1 174 rfl) rfl
theorem q194 : (Jvm.Cond.fieldLink "WordLatticeModel" (19 : Nat) "WordLatticeModel" "kind" "[I") ∈ lw_all := lw_g (lw_at lw_m1 175 rfl) rfl
theorem q195 : (Jvm.Cond.fieldLink "WordLatticeModel" (22 : Nat) "WordLatticeModel" "spelled" "[I") ∈ lw_all := lw_g (lw_at lw_m1 176 rfl) rfl
theorem q196 : (Jvm.Cond.fieldLink "WordLatticeModel" (35 : Nat) "WordLatticeModel" "spelling" "I") ∈ lw_all := lw_g (lw_at lw_m1 177 rfl) rfl
theorem q197 : (Jvm.Cond.fieldLink "WordLatticeModel" (25 : Nat) "WordLatticeModel" "text" "[I") ∈ lw_all := lw_g (lw_at lw_m1 178 rfl) rfl
theorem q198 : (Jvm.Cond.fieldLink "WordLatticeModel" (49 : Nat) "WordLatticeModel" "typed" "I") ∈ lw_all := lw_g (lw_at lw_m1 179 rfl) rfl
theorem q199 : (Jvm.Cond.fieldLink "WordLatticeModel" (28 : Nat) "WordLatticeModel" "links" "[I") ∈ lw_all := lw_g (lw_at lw_m1 180 rfl) rfl
theorem q200 : (Jvm.Cond.fieldLink "WordLatticeModel" (63 : Nat) "WordLatticeModel" "best" "I") ∈ lw_all := lw_g (lw_at lw_m1 181 rfl) rfl
theorem q201 : (Jvm.Cond.fieldLink "WordLatticeModel" (66 : Nat) "WordLatticeModel" "many" "I") ∈ lw_all := lw_g (lw_at lw_m1 182 rfl) rfl
theorem q202 : (Jvm.Cond.fieldLink "WordLatticeModel" (69 : Nat) "WordLatticeModel" "chosen" "I") ∈ lw_all := lw_g (lw_at lw_m1 183 rfl) rfl
theorem q203 : (Jvm.Cond.lays "WordLatticeModel" "WordLatticeModel" "penalty" "I") ∈ lw_all := lw_g (lw_at lw_m1 184 rfl) rfl
theorem q204 : (Jvm.Cond.soleField "WordLatticeModel" "penalty") ∈ lw_all := lw_g (lw_at lw_m1 185 rfl) rfl
theorem q205 : (Jvm.Cond.lays "WordLatticeModel" "WordLatticeModel" "words" "I") ∈ lw_all := lw_g (lw_at lw_m1 186 rfl) rfl
theorem q206 : (Jvm.Cond.soleField "WordLatticeModel" "words") ∈ lw_all := lw_g (lw_at lw_m1 187 rfl) rfl
theorem q207 : (Jvm.Cond.laysFinal "WordLatticeModel" "WordLatticeModel" "letters" "[I") ∈ lw_all := lw_g (lw_at lw_m1 188 rfl) rfl
theorem q208 : (Jvm.Cond.soleField "WordLatticeModel" "letters") ∈ lw_all := lw_g (lw_at lw_m1 189 rfl) rfl
theorem q209 : (Jvm.Cond.laysFinal "WordLatticeModel" "WordLatticeModel" "length" "[I") ∈ lw_all := lw_g (lw_at lw_m1 190 rfl) rfl
theorem q210 : (Jvm.Cond.soleField "WordLatticeModel" "length") ∈ lw_all := lw_g (lw_at lw_m1 191 rfl) rfl
theorem q211 : (Jvm.Cond.laysFinal "WordLatticeModel" "WordLatticeModel" "price" "[I") ∈ lw_all := lw_g (lw_at lw_m1 192 rfl) rfl
theorem q212 : (Jvm.Cond.soleField "WordLatticeModel" "price") ∈ lw_all := lw_g (lw_at lw_m1 193 rfl) rfl
theorem q213 : (Jvm.Cond.laysFinal "WordLatticeModel" "WordLatticeModel" "kind" "[I") ∈ lw_all := lw_g (lw_at lw_m1 194 rfl) rfl
theorem q214 : (Jvm.Cond.soleField "WordLatticeModel" "kind") ∈ lw_all := lw_g (lw_at lw_m1 195 rfl) rfl
theorem q215 : (Jvm.Cond.laysFinal "WordLatticeModel" "WordLatticeModel" "spelled" "[I") ∈ lw_all := lw_g (lw_at lw_m1 196 rfl) rfl
theorem q216 : (Jvm.Cond.soleField "WordLatticeModel" "spelled") ∈ lw_all := lw_g (lw_at lw_m1 197 rfl) rfl
theorem q217 : (Jvm.Cond.lays "WordLatticeModel" "WordLatticeModel" "spelling" "I") ∈ lw_all := lw_g (lw_at lw_m1 198 rfl) rfl
theorem q218 : (Jvm.Cond.soleField "WordLatticeModel" "spelling") ∈ lw_all := lw_g (lw_at lw_m1 199 rfl) rfl
theorem q219 : (Jvm.Cond.laysFinal "WordLatticeModel" "WordLatticeModel" "text" "[I") ∈ lw_all := lw_g (lw_at lw_m1 200 rfl) rfl
theorem q220 : (Jvm.Cond.soleField "WordLatticeModel" "text") ∈ lw_all := lw_g (lw_at lw_m1 201 rfl) rfl
theorem q221 : (Jvm.Cond.lays "WordLatticeModel" "WordLatticeModel" "typed" "I") ∈ lw_all := lw_g (lw_at lw_m1 202 rfl) rfl
theorem q222 : (Jvm.Cond.soleField "WordLatticeModel" "typed") ∈ lw_all := lw_g (lw_at lw_m1 203 rfl) rfl
theorem q223 : (Jvm.Cond.laysFinal "WordLatticeModel" "WordLatticeModel" "links" "[I") ∈ lw_all := lw_g (lw_at lw_m1 204 rfl) rfl
theorem q224 : (Jvm.Cond.soleField "WordLatticeModel" "links") ∈ lw_all := lw_g (lw_at lw_m1 205 rfl) rfl
theorem q225 : (Jvm.Cond.lays "WordLatticeModel" "WordLatticeModel" "best" "I") ∈ lw_all := lw_g (lw_at lw_m1 206 rfl) rfl
theorem q226 : (Jvm.Cond.soleField "WordLatticeModel" "best") ∈ lw_all := lw_g (lw_at lw_m1 207 rfl) rfl
theorem q227 : (Jvm.Cond.lays "WordLatticeModel" "WordLatticeModel" "many" "I") ∈ lw_all := lw_g (lw_at lw_m1 208 rfl) rfl
theorem q228 : (Jvm.Cond.soleField "WordLatticeModel" "many") ∈ lw_all := lw_g (lw_at lw_m1 209 rfl) rfl
theorem q229 : (Jvm.Cond.lays "WordLatticeModel" "WordLatticeModel" "chosen" "I") ∈ lw_all := lw_g (lw_at lw_m1 210 rfl) rfl
theorem q230 : (Jvm.Cond.soleField "WordLatticeModel" "chosen") ∈ lw_all := lw_g (lw_at lw_m1 211 rfl) rfl
theorem q231 : (Jvm.Cond.superclass "WordLatticeModel" "java/lang/Object") ∈ lw_all := lw_g (lw_at lw_m1 212 rfl) rfl
theorem q233 : (Jvm.Cond.instanceMethod ({ cls := "WordLatticeModel", name := "spell", desc := "(I)I" } : Jvm.MethodName)) ∈ lw_all := lw_g (lw_at lw_m1 214 rfl) rfl
theorem q234 : (Jvm.Cond.selects "WordLatticeModel" ({ cls := "WordLatticeModel", name := "spell", desc := "(I)I" } : Jvm.MethodName) ({ cls := "WordLatticeModel", name := "spell", desc := "(I)I" } : Jvm.MethodName)) ∈ lw_all := lw_g (lw_at lw_m1 215 rfl) rfl
theorem q235 : (Jvm.Cond.code ({ cls := "WordLatticeModel", name := "spell", desc := "(I)I" } : Jvm.MethodName) prog_3_method_2_code (2 : Nat) (Option.some Jvm.ClassFile.FieldType.int)) ∈ lw_all := lw_g (lw_at lw_m1 216 rfl) rfl
theorem q237 : (Jvm.Cond.instanceMethod ({ cls := "WordLatticeModel", name := "learn", desc := "(II)I" } : Jvm.MethodName)) ∈ lw_all := lw_g (lw_at lw_m1 218 rfl) rfl
theorem q238 : (Jvm.Cond.selects "WordLatticeModel" ({ cls := "WordLatticeModel", name := "learn", desc := "(II)I" } : Jvm.MethodName) ({ cls := "WordLatticeModel", name := "learn", desc := "(II)I" } : Jvm.MethodName)) ∈ lw_all := lw_g (lw_at lw_m1 219 rfl) rfl
theorem q239 : (Jvm.Cond.code ({ cls := "WordLatticeModel", name := "learn", desc := "(II)I" } : Jvm.MethodName) prog_3_method_5_code (5 : Nat) (Option.some Jvm.ClassFile.FieldType.int)) ∈ lw_all := lw_g (lw_at lw_m1 220 rfl) rfl
theorem q240 : (Jvm.Cond.methodLink "WordLatticeModel" (45 : Nat) ({ cls := "WordLatticeModel", name := "named", desc := "()I" } : Jvm.MethodName)) ∈ lw_all := lw_g (lw_at lw_m1 221 rfl) rfl
theorem q241 : (Jvm.Cond.privateMethod ({ cls := "WordLatticeModel", name := "named", desc := "()I" } : Jvm.MethodName)) ∈ lw_tbl := lw_at lw_m1 222 rfl
theorem q242 : (Jvm.Cond.instanceMethod ({ cls := "WordLatticeModel", name := "named", desc := "()I" } : Jvm.MethodName)) ∈ lw_all := lw_g (lw_at lw_m1 223 rfl) rfl
theorem q243 : (Jvm.Cond.code ({ cls := "WordLatticeModel", name := "named", desc := "()I" } : Jvm.MethodName) prog_3_method_4_code (2 : Nat) (Option.some Jvm.ClassFile.FieldType.int)) ∈ lw_all := lw_g (lw_at lw_m1 224 rfl) rfl
theorem q244 : (Jvm.Cond.methodLink "WordLatticeModel" (41 : Nat) ({ cls := "WordLatticeModel", name := "begins", desc := "(I)Z" } : Jvm.MethodName)) ∈ lw_all := lw_g (lw_at lw_m1 225 rfl) rfl
theorem q245 : (Jvm.Cond.privateMethod ({ cls := "WordLatticeModel", name := "begins", desc := "(I)Z" } : Jvm.MethodName)) ∈ lw_tbl := lw_at lw_m1 226 rfl
theorem q246 : (Jvm.Cond.instanceMethod ({ cls := "WordLatticeModel", name := "begins", desc := "(I)Z" } : Jvm.MethodName)) ∈ lw_all := lw_g (lw_at lw_m1 227 rfl) rfl
theorem q247 : (Jvm.Cond.code ({ cls := "WordLatticeModel", name := "begins", desc := "(I)Z" } : Jvm.MethodName) prog_3_method_3_code (3 : Nat) (Option.some Jvm.ClassFile.FieldType.boolean)) ∈ lw_all := lw_g (lw_at lw_m1 228 rfl) rfl
theorem q249 : (Jvm.Cond.instanceMethod ({ cls := "WordLatticeModel", name := "forget", desc := "()I" } : Jvm.MethodName)) ∈ lw_all := lw_g (lw_at lw_m1 230 rfl) rfl
theorem q250 : (Jvm.Cond.selects "WordLatticeModel" ({ cls := "WordLatticeModel", name := "forget", desc := "()I" } : Jvm.MethodName) ({ cls := "WordLatticeModel", name := "forget", desc := "()I" } : Jvm.MethodName)) ∈ lw_all := lw_g (lw_at lw_m1 231 rfl) rfl
theorem q251 : (Jvm.Cond.code ({ cls := "WordLatticeModel", name := "forget", desc := "()I" } : Jvm.MethodName) prog_3_method_6_code (3 : Nat) (Option.some Jvm.ClassFile.FieldType.int)) ∈ lw_all := lw_g (lw_at lw_m1 232 rfl) rfl
theorem q253 : (Jvm.Cond.instanceMethod ({ cls := "WordLatticeModel", name := "lookUp", desc := "()I" } : Jvm.MethodName)) ∈ lw_all := lw_g (lw_at lw_m1 234 rfl) rfl
theorem q254 : (Jvm.Cond.selects "WordLatticeModel" ({ cls := "WordLatticeModel", name := "lookUp", desc := "()I" } : Jvm.MethodName) ({ cls := "WordLatticeModel", name := "lookUp", desc := "()I" } : Jvm.MethodName)) ∈ lw_all := lw_g (lw_at lw_m1 235 rfl) rfl
theorem q255 : (Jvm.Cond.code ({ cls := "WordLatticeModel", name := "lookUp", desc := "()I" } : Jvm.MethodName) prog_3_method_7_code (2 : Nat) (Option.some Jvm.ClassFile.FieldType.int)) ∈ lw_all := lw_g (lw_at lw_m1 236 rfl) rfl
theorem q257 : (Jvm.Cond.instanceMethod ({ cls := "WordLatticeModel", name := "clearSpelling", desc := "()V" } : Jvm.MethodName)) ∈ lw_all := lw_g (lw_at lw_m1 238 rfl) rfl
theorem q258 : (Jvm.Cond.selects "WordLatticeModel" ({ cls := "WordLatticeModel", name := "clearSpelling", desc := "()V" } : Jvm.MethodName) ({ cls := "WordLatticeModel", name := "clearSpelling", desc := "()V" } : Jvm.MethodName)) ∈ lw_all := lw_g (lw_at lw_m1 239 rfl) rfl
theorem q259 : (Jvm.Cond.code ({ cls := "WordLatticeModel", name := "clearSpelling", desc := "()V" } : Jvm.MethodName) prog_3_method_8_code (1 : Nat) (Option.none : Option Jvm.ClassFile.FieldType)) ∈ lw_all := lw_g (lw_at lw_m2 0 rfl) rfl
theorem q261 : (Jvm.Cond.instanceMethod ({ cls := "WordLatticeModel", name := "link", desc := "(III)I" } : Jvm.MethodName)) ∈ lw_all := lw_g (lw_at lw_m2 2 rfl) rfl
theorem q262 : (Jvm.Cond.selects "WordLatticeModel" ({ cls := "WordLatticeModel", name := "link", desc := "(III)I" } : Jvm.MethodName) ({ cls := "WordLatticeModel", name := "link", desc := "(III)I" } : Jvm.MethodName)) ∈ lw_all := lw_g (lw_at lw_m2 3 rfl) rfl
theorem q263 : (Jvm.Cond.code ({ cls := "WordLatticeModel", name := "link", desc := "(III)I" } : Jvm.MethodName) prog_3_method_9_code (5 : Nat) (Option.some Jvm.ClassFile.FieldType.int)) ∈ lw_all := lw_g (lw_at lw_m2 4 rfl) rfl
theorem q265 : (Jvm.Cond.instanceMethod ({ cls := "WordLatticeModel", name := "type", desc := "(I)I" } : Jvm.MethodName)) ∈ lw_all := lw_g (lw_at lw_m2 6 rfl) rfl
theorem q266 : (Jvm.Cond.selects "WordLatticeModel" ({ cls := "WordLatticeModel", name := "type", desc := "(I)I" } : Jvm.MethodName) ({ cls := "WordLatticeModel", name := "type", desc := "(I)I" } : Jvm.MethodName)) ∈ lw_all := lw_g (lw_at lw_m2 7 rfl) rfl
theorem q267 : (Jvm.Cond.code ({ cls := "WordLatticeModel", name := "type", desc := "(I)I" } : Jvm.MethodName) prog_3_method_10_code (2 : Nat) (Option.some Jvm.ClassFile.FieldType.int)) ∈ lw_all := lw_g (lw_at lw_m2 8 rfl) rfl
theorem q269 : (Jvm.Cond.instanceMethod ({ cls := "WordLatticeModel", name := "clearText", desc := "()V" } : Jvm.MethodName)) ∈ lw_all := lw_g (lw_at lw_m2 10 rfl) rfl
theorem q270 : (Jvm.Cond.selects "WordLatticeModel" ({ cls := "WordLatticeModel", name := "clearText", desc := "()V" } : Jvm.MethodName) ({ cls := "WordLatticeModel", name := "clearText", desc := "()V" } : Jvm.MethodName)) ∈ lw_all := lw_g (lw_at lw_m2 11 rfl) rfl
theorem q271 : (Jvm.Cond.code ({ cls := "WordLatticeModel", name := "clearText", desc := "()V" } : Jvm.MethodName) prog_3_method_11_code (1 : Nat) (Option.none : Option Jvm.ClassFile.FieldType)) ∈ lw_all := lw_g (lw_at lw_m2 12 rfl) rfl
theorem q273 : (Jvm.Cond.instanceMethod ({ cls := "WordLatticeModel", name := "cost", desc := "()I" } : Jvm.MethodName)) ∈ lw_all := lw_g (lw_at lw_m2 14 rfl) rfl
theorem q274 : (Jvm.Cond.selects "WordLatticeModel" ({ cls := "WordLatticeModel", name := "cost", desc := "()I" } : Jvm.MethodName) ({ cls := "WordLatticeModel", name := "cost", desc := "()I" } : Jvm.MethodName)) ∈ lw_all := lw_g (lw_at lw_m2 15 rfl) rfl
theorem q275 : (Jvm.Cond.code ({ cls := "WordLatticeModel", name := "cost", desc := "()I" } : Jvm.MethodName) prog_3_method_17_code (1 : Nat) (Option.some Jvm.ClassFile.FieldType.int)) ∈ lw_all := lw_g (lw_at lw_m2 16 rfl) rfl
theorem q276 : (Jvm.Cond.methodLink "WordLatticeModel" (76 : Nat) ({ cls := "WordLatticeModel", name := "look", desc := "()V" } : Jvm.MethodName)) ∈ lw_all := lw_g (lw_at lw_m2 17 rfl) rfl
theorem q277 : (Jvm.Cond.privateMethod ({ cls := "WordLatticeModel", name := "look", desc := "()V" } : Jvm.MethodName)) ∈ lw_tbl := lw_at lw_m2 18 rfl
theorem q278 : (Jvm.Cond.instanceMethod ({ cls := "WordLatticeModel", name := "look", desc := "()V" } : Jvm.MethodName)) ∈ lw_all := lw_g (lw_at lw_m2 19 rfl) rfl
theorem q279 : (Jvm.Cond.code ({ cls := "WordLatticeModel", name := "look", desc := "()V" } : Jvm.MethodName) prog_3_method_16_code (4 : Nat) (Option.none : Option Jvm.ClassFile.FieldType)) ∈ lw_all := lw_g (lw_at lw_m2 20 rfl) rfl
theorem q280 : (Jvm.Cond.methodLink "WordLatticeModel" (72 : Nat) ({ cls := "WordLatticeModel", name := "costOf", desc := "(I)I" } : Jvm.MethodName)) ∈ lw_all := lw_g (lw_at lw_m2 21 rfl) rfl
theorem q281 : (Jvm.Cond.privateMethod ({ cls := "WordLatticeModel", name := "costOf", desc := "(I)I" } : Jvm.MethodName)) ∈ lw_tbl := lw_at lw_m2 22 rfl
theorem q282 : (Jvm.Cond.instanceMethod ({ cls := "WordLatticeModel", name := "costOf", desc := "(I)I" } : Jvm.MethodName)) ∈ lw_all := lw_g (lw_at lw_m2 23 rfl) rfl
theorem q283 : (Jvm.Cond.code ({ cls := "WordLatticeModel", name := "costOf", desc := "(I)I" } : Jvm.MethodName) prog_3_method_15_code (8 : Nat) (Option.some Jvm.ClassFile.FieldType.int)) ∈ lw_all := lw_g (lw_at lw_m2 24 rfl) rfl
theorem q284 : (Jvm.Cond.methodLink "WordLatticeModel" (56 : Nat) ({ cls := "WordLatticeModel", name := "border", desc := "(II)Z" } : Jvm.MethodName)) ∈ lw_all := lw_g (lw_at lw_m2 25 rfl) rfl
theorem q285 : (Jvm.Cond.privateMethod ({ cls := "WordLatticeModel", name := "border", desc := "(II)Z" } : Jvm.MethodName)) ∈ lw_tbl := lw_at lw_m2 26 rfl
theorem q286 : (Jvm.Cond.instanceMethod ({ cls := "WordLatticeModel", name := "border", desc := "(II)Z" } : Jvm.MethodName)) ∈ lw_all := lw_g (lw_at lw_m2 27 rfl) rfl
theorem q287 : (Jvm.Cond.code ({ cls := "WordLatticeModel", name := "border", desc := "(II)Z" } : Jvm.MethodName) prog_3_method_14_code (3 : Nat) (Option.some Jvm.ClassFile.FieldType.boolean)) ∈ lw_all := lw_g (lw_at lw_m2 28 rfl) rfl
theorem q288 : (Jvm.Cond.methodLink "WordLatticeModel" (59 : Nat) ({ cls := "WordLatticeModel", name := "word", desc := "(II)I" } : Jvm.MethodName)) ∈ lw_all := lw_g (lw_at lw_m2 29 rfl) rfl
theorem q289 : (Jvm.Cond.privateMethod ({ cls := "WordLatticeModel", name := "word", desc := "(II)I" } : Jvm.MethodName)) ∈ lw_tbl := lw_at lw_m2 30 rfl
theorem q290 : (Jvm.Cond.instanceMethod ({ cls := "WordLatticeModel", name := "word", desc := "(II)I" } : Jvm.MethodName)) ∈ lw_all := lw_g (lw_at lw_m2 31 rfl) rfl
theorem q291 : (Jvm.Cond.code ({ cls := "WordLatticeModel", name := "word", desc := "(II)I" } : Jvm.MethodName) prog_3_method_13_code (4 : Nat) (Option.some Jvm.ClassFile.FieldType.int)) ∈ lw_all := lw_g (lw_at lw_m2 32 rfl) rfl
theorem q292 : (Jvm.Cond.methodLink "WordLatticeModel" (52 : Nat) ({ cls := "WordLatticeModel", name := "stands", desc := "(II)Z" } : Jvm.MethodName)) ∈ lw_all := lw_g (lw_at lw_m2 33 rfl) rfl
theorem q293 : (Jvm.Cond.privateMethod ({ cls := "WordLatticeModel", name := "stands", desc := "(II)Z" } : Jvm.MethodName)) ∈ lw_tbl := lw_at lw_m2 34 rfl
theorem q294 : (Jvm.Cond.instanceMethod ({ cls := "WordLatticeModel", name := "stands", desc := "(II)Z" } : Jvm.MethodName)) ∈ lw_all := lw_g (lw_at lw_m2 35 rfl) rfl
theorem q295 : (Jvm.Cond.code ({ cls := "WordLatticeModel", name := "stands", desc := "(II)Z" } : Jvm.MethodName) prog_3_method_12_code (4 : Nat) (Option.some Jvm.ClassFile.FieldType.boolean)) ∈ lw_all := lw_g (lw_at lw_m2 36 rfl) rfl
theorem q297 : (Jvm.Cond.instanceMethod ({ cls := "WordLatticeModel", name := "ways", desc := "()I" } : Jvm.MethodName)) ∈ lw_all := lw_g (lw_at lw_m2 38 rfl) rfl
theorem q298 : (Jvm.Cond.selects "WordLatticeModel" ({ cls := "WordLatticeModel", name := "ways", desc := "()I" } : Jvm.MethodName) ({ cls := "WordLatticeModel", name := "ways", desc := "()I" } : Jvm.MethodName)) ∈ lw_all := lw_g (lw_at lw_m2 39 rfl) rfl
theorem q299 : (Jvm.Cond.code ({ cls := "WordLatticeModel", name := "ways", desc := "()I" } : Jvm.MethodName) prog_3_method_18_code (1 : Nat) (Option.some Jvm.ClassFile.FieldType.int)) ∈ lw_all := lw_g (lw_at lw_m2 40 rfl) rfl
theorem q301 : (Jvm.Cond.instanceMethod ({ cls := "WordLatticeModel", name := "start", desc := "(I)I" } : Jvm.MethodName)) ∈ lw_all := lw_g (lw_at lw_m2 42 rfl) rfl
theorem q302 : (Jvm.Cond.selects "WordLatticeModel" ({ cls := "WordLatticeModel", name := "start", desc := "(I)I" } : Jvm.MethodName) ({ cls := "WordLatticeModel", name := "start", desc := "(I)I" } : Jvm.MethodName)) ∈ lw_all := lw_g (lw_at lw_m2 43 rfl) rfl
theorem q303 : (Jvm.Cond.code ({ cls := "WordLatticeModel", name := "start", desc := "(I)I" } : Jvm.MethodName) prog_3_method_19_code (4 : Nat) (Option.some Jvm.ClassFile.FieldType.int)) ∈ lw_all := lw_g (lw_at lw_m2 44 rfl) rfl
theorem q305 : (Jvm.Cond.instanceMethod ({ cls := "WordLatticeModel", name := "beginning", desc := "()I" } : Jvm.MethodName)) ∈ lw_all := lw_g (lw_at lw_m2 46 rfl) rfl
theorem q306 : (Jvm.Cond.selects "WordLatticeModel" ({ cls := "WordLatticeModel", name := "beginning", desc := "()I" } : Jvm.MethodName) ({ cls := "WordLatticeModel", name := "beginning", desc := "()I" } : Jvm.MethodName)) ∈ lw_all := lw_g (lw_at lw_m2 47 rfl) rfl
theorem q307 : (Jvm.Cond.code ({ cls := "WordLatticeModel", name := "beginning", desc := "()I" } : Jvm.MethodName) prog_3_method_20_code (3 : Nat) (Option.some Jvm.ClassFile.FieldType.int)) ∈ lw_all := lw_g (lw_at lw_m2 48 rfl) rfl
theorem in_X2 : ∀ w ∈ wsX20, w ∈ lw_all := lw_in wsX20 [203, 205, 207, 209, 211, 213, 215, 217, 219, 221, 223, 225, 227, 229] (by decide +kernel) (by decide +kernel)

theorem q82 : (Jvm.Cond.arrayClass Jvm.ClassFile.FieldType.int) ∈ lw_all := lw_g (lw_at lw_m1 63 rfl) rfl

/-! the law's own entry -/
abbrev cL_law : ByteArray := code
end
section
set_option maxRecDepth 100000
theorem dX1_init_0 : decode cX1_init 0 = .ok (.aload_n 0, 1) := by decide +kernel
theorem dX1_init_1 : decode cX1_init 1 = .ok (.invokespecial 1, 3) := by decide +kernel
theorem dX1_init_4 : decode cX1_init 4 = .ok (.aload_n 0, 1) := by decide +kernel
theorem dX1_init_5 : decode cX1_init 5 = .ok (.iload_n 1, 1) := by decide +kernel
theorem dX1_init_6 : decode cX1_init 6 = .ok (.iconst 1, 1) := by decide +kernel
theorem dX1_init_7 : decode cX1_init 7 = .ok (.if_icmp .ge 7, 3) := by decide +kernel
theorem dX1_init_10 : decode cX1_init 10 = .ok (.iconst 1, 1) := by decide +kernel
theorem dX1_init_11 : decode cX1_init 11 = .ok (.goto 15, 3) := by decide +kernel
theorem dX1_init_14 : decode cX1_init 14 = .ok (.iload_n 1, 1) := by decide +kernel
theorem dX1_init_15 : decode cX1_init 15 = .ok (.bipush 99, 2) := by decide +kernel
theorem dX1_init_17 : decode cX1_init 17 = .ok (.if_icmp .le 8, 3) := by decide +kernel
theorem dX1_init_20 : decode cX1_init 20 = .ok (.bipush 99, 2) := by decide +kernel
theorem dX1_init_22 : decode cX1_init 22 = .ok (.goto 4, 3) := by decide +kernel
theorem dX1_init_25 : decode cX1_init 25 = .ok (.iload_n 1, 1) := by decide +kernel
theorem dX1_init_26 : decode cX1_init 26 = .ok (.putfield 7, 3) := by decide +kernel
theorem dX1_init_29 : decode cX1_init 29 = .ok (.aload_n 0, 1) := by decide +kernel
theorem dX1_init_30 : decode cX1_init 30 = .ok (.sipush 512, 3) := by decide +kernel
theorem dX1_init_33 : decode cX1_init 33 = .ok (.newarray .int, 2) := by decide +kernel
theorem dX1_init_35 : decode cX1_init 35 = .ok (.putfield 13, 3) := by decide +kernel
theorem dX1_init_38 : decode cX1_init 38 = .ok (.aload_n 0, 1) := by decide +kernel
theorem dX1_init_39 : decode cX1_init 39 = .ok (.sipush 512, 3) := by decide +kernel
theorem dX1_init_42 : decode cX1_init 42 = .ok (.newarray .int, 2) := by decide +kernel
theorem dX1_init_44 : decode cX1_init 44 = .ok (.putfield 17, 3) := by decide +kernel
theorem dX1_init_47 : decode cX1_init 47 = .ok (.aload_n 0, 1) := by decide +kernel
theorem dX1_init_48 : decode cX1_init 48 = .ok (.sipush 512, 3) := by decide +kernel
theorem dX1_init_51 : decode cX1_init 51 = .ok (.newarray .int, 2) := by decide +kernel
theorem dX1_init_53 : decode cX1_init 53 = .ok (.putfield 20, 3) := by decide +kernel
theorem dX1_init_56 : decode cX1_init 56 = .ok (.aload_n 0, 1) := by decide +kernel
theorem dX1_init_57 : decode cX1_init 57 = .ok (.sipush 512, 3) := by decide +kernel
theorem dX1_init_60 : decode cX1_init 60 = .ok (.newarray .int, 2) := by decide +kernel
theorem dX1_init_62 : decode cX1_init 62 = .ok (.putfield 23, 3) := by decide +kernel
theorem dX1_init_65 : decode cX1_init 65 = .ok (.aload_n 0, 1) := by decide +kernel
theorem dX1_init_66 : decode cX1_init 66 = .ok (.sipush 512, 3) := by decide +kernel
theorem dX1_init_69 : decode cX1_init 69 = .ok (.newarray .int, 2) := by decide +kernel
theorem dX1_init_71 : decode cX1_init 71 = .ok (.putfield 26, 3) := by decide +kernel
theorem dX1_init_74 : decode cX1_init 74 = .ok (.aload_n 0, 1) := by decide +kernel
theorem dX1_init_75 : decode cX1_init 75 = .ok (.iconst 5, 1) := by decide +kernel
theorem dX1_init_76 : decode cX1_init 76 = .ok (.newarray .int, 2) := by decide +kernel
theorem dX1_init_78 : decode cX1_init 78 = .ok (.putfield 29, 3) := by decide +kernel
theorem dX1_init_81 : decode cX1_init 81 = .ok (.aload_n 0, 1) := by decide +kernel
theorem dX1_init_82 : decode cX1_init 82 = .ok (.bipush 12, 2) := by decide +kernel
theorem dX1_init_84 : decode cX1_init 84 = .ok (.newarray .int, 2) := by decide +kernel
theorem dX1_init_86 : decode cX1_init 86 = .ok (.putfield 32, 3) := by decide +kernel
theorem dX1_init_89 : decode cX1_init 89 = .ok (.aload_n 0, 1) := by decide +kernel
theorem dX1_init_90 : decode cX1_init 90 = .ok (.bipush 16, 2) := by decide +kernel
theorem dX1_init_92 : decode cX1_init 92 = .ok (.newarray .int, 2) := by decide +kernel
theorem dX1_init_94 : decode cX1_init 94 = .ok (.putfield 35, 3) := by decide +kernel
theorem dX1_init_97 : decode cX1_init 97 = .ok (.aload_n 0, 1) := by decide +kernel
theorem dX1_init_98 : decode cX1_init 98 = .ok (.bipush 65, 2) := by decide +kernel
theorem dX1_init_100 : decode cX1_init 100 = .ok (.newarray .int, 2) := by decide +kernel
theorem dX1_init_102 : decode cX1_init 102 = .ok (.putfield 38, 3) := by decide +kernel
theorem dX1_init_105 : decode cX1_init 105 = .ok (.aload_n 0, 1) := by decide +kernel
theorem dX1_init_106 : decode cX1_init 106 = .ok (.bipush 65, 2) := by decide +kernel
theorem dX1_init_108 : decode cX1_init 108 = .ok (.newarray .int, 2) := by decide +kernel
theorem dX1_init_110 : decode cX1_init 110 = .ok (.putfield 41, 3) := by decide +kernel
theorem dX1_init_113 : decode cX1_init 113 = .ok (.aload_n 0, 1) := by decide +kernel
theorem dX1_init_114 : decode cX1_init 114 = .ok (.bipush 65, 2) := by decide +kernel
theorem dX1_init_116 : decode cX1_init 116 = .ok (.newarray .int, 2) := by decide +kernel
theorem dX1_init_118 : decode cX1_init 118 = .ok (.putfield 44, 3) := by decide +kernel
theorem dX1_init_121 : decode cX1_init 121 = .ok (.iconst 0, 1) := by decide +kernel
theorem dX1_init_122 : decode cX1_init 122 = .ok (.istore_n 2, 1) := by decide +kernel
theorem dX1_init_123 : decode cX1_init 123 = .ok (.iload_n 2, 1) := by decide +kernel
theorem dX1_init_124 : decode cX1_init 124 = .ok (.sipush 512, 3) := by decide +kernel
theorem dX1_init_127 : decode cX1_init 127 = .ok (.if_icmp .ge 23, 3) := by decide +kernel
theorem dX1_init_130 : decode cX1_init 130 = .ok (.aload_n 0, 1) := by decide +kernel
theorem dX1_init_131 : decode cX1_init 131 = .ok (.getfield 17, 3) := by decide +kernel
theorem dX1_init_134 : decode cX1_init 134 = .ok (.iload_n 2, 1) := by decide +kernel
theorem dX1_init_135 : decode cX1_init 135 = .ok (.iconst (-1), 1) := by decide +kernel
theorem dX1_init_136 : decode cX1_init 136 = .ok (.iastore, 1) := by decide +kernel
theorem dX1_init_137 : decode cX1_init 137 = .ok (.aload_n 0, 1) := by decide +kernel
theorem dX1_init_138 : decode cX1_init 138 = .ok (.getfield 20, 3) := by decide +kernel
theorem dX1_init_141 : decode cX1_init 141 = .ok (.iload_n 2, 1) := by decide +kernel
theorem dX1_init_142 : decode cX1_init 142 = .ok (.iconst (-1), 1) := by decide +kernel
theorem dX1_init_143 : decode cX1_init 143 = .ok (.iastore, 1) := by decide +kernel
theorem dX1_init_144 : decode cX1_init 144 = .ok (.iinc 2 1, 3) := by decide +kernel
theorem dX1_init_147 : decode cX1_init 147 = .ok (.goto (-24), 3) := by decide +kernel
theorem dX1_init_150 : decode cX1_init 150 = .ok (.aload_n 0, 1) := by decide +kernel
theorem dX1_init_151 : decode cX1_init 151 = .ok (.getfield 17, 3) := by decide +kernel
theorem dX1_init_154 : decode cX1_init 154 = .ok (.iconst 0, 1) := by decide +kernel
theorem dX1_init_155 : decode cX1_init 155 = .ok (.iconst 0, 1) := by decide +kernel
theorem dX1_init_156 : decode cX1_init 156 = .ok (.iastore, 1) := by decide +kernel
theorem dX1_init_157 : decode cX1_init 157 = .ok (.return_, 1) := by decide +kernel
theorem dX1_spell_0 : decode cX1_spell 0 = .ok (.aload_n 0, 1) := by decide +kernel
theorem dX1_spell_1 : decode cX1_spell 1 = .ok (.getfield 47, 3) := by decide +kernel
theorem dX1_spell_4 : decode cX1_spell 4 = .ok (.iconst 5, 1) := by decide +kernel
theorem dX1_spell_5 : decode cX1_spell 5 = .ok (.if_icmp .lt 5, 3) := by decide +kernel
theorem dX1_spell_8 : decode cX1_spell 8 = .ok (.iconst (-1), 1) := by decide +kernel
theorem dX1_spell_9 : decode cX1_spell 9 = .ok (.ireturn, 1) := by decide +kernel
theorem dX1_spell_10 : decode cX1_spell 10 = .ok (.aload_n 0, 1) := by decide +kernel
theorem dX1_spell_11 : decode cX1_spell 11 = .ok (.getfield 29, 3) := by decide +kernel
theorem dX1_spell_14 : decode cX1_spell 14 = .ok (.aload_n 0, 1) := by decide +kernel
theorem dX1_spell_15 : decode cX1_spell 15 = .ok (.getfield 47, 3) := by decide +kernel
theorem dX1_spell_18 : decode cX1_spell 18 = .ok (.iload_n 1, 1) := by decide +kernel
theorem dX1_spell_19 : decode cX1_spell 19 = .ok (.iconst 3, 1) := by decide +kernel
theorem dX1_spell_20 : decode cX1_spell 20 = .ok (.iand, 1) := by decide +kernel
theorem dX1_spell_21 : decode cX1_spell 21 = .ok (.iastore, 1) := by decide +kernel
theorem dX1_spell_22 : decode cX1_spell 22 = .ok (.aload_n 0, 1) := by decide +kernel
theorem dX1_spell_23 : decode cX1_spell 23 = .ok (.dup, 1) := by decide +kernel
theorem dX1_spell_24 : decode cX1_spell 24 = .ok (.getfield 47, 3) := by decide +kernel
theorem dX1_spell_27 : decode cX1_spell 27 = .ok (.iconst 1, 1) := by decide +kernel
theorem dX1_spell_28 : decode cX1_spell 28 = .ok (.iadd, 1) := by decide +kernel
theorem dX1_spell_29 : decode cX1_spell 29 = .ok (.putfield 47, 3) := by decide +kernel
theorem dX1_spell_32 : decode cX1_spell 32 = .ok (.aload_n 0, 1) := by decide +kernel
theorem dX1_spell_33 : decode cX1_spell 33 = .ok (.getfield 47, 3) := by decide +kernel
theorem dX1_spell_36 : decode cX1_spell 36 = .ok (.ireturn, 1) := by decide +kernel
theorem dX1_learn_0 : decode cX1_learn 0 = .ok (.aload_n 0, 1) := by decide +kernel
theorem dX1_learn_1 : decode cX1_learn 1 = .ok (.getfield 47, 3) := by decide +kernel
theorem dX1_learn_4 : decode cX1_learn 4 = .ok (.ifCond .eq 22, 3) := by decide +kernel
theorem dX1_learn_7 : decode cX1_learn 7 = .ok (.iload_n 1, 1) := by decide +kernel
theorem dX1_learn_8 : decode cX1_learn 8 = .ok (.ifCond .lt 18, 3) := by decide +kernel
theorem dX1_learn_11 : decode cX1_learn 11 = .ok (.iload_n 1, 1) := by decide +kernel
theorem dX1_learn_12 : decode cX1_learn 12 = .ok (.bipush 99, 2) := by decide +kernel
theorem dX1_learn_14 : decode cX1_learn 14 = .ok (.if_icmp .gt 12, 3) := by decide +kernel
theorem dX1_learn_17 : decode cX1_learn 17 = .ok (.iload_n 2, 1) := by decide +kernel
theorem dX1_learn_18 : decode cX1_learn 18 = .ok (.ifCond .lt 8, 3) := by decide +kernel
theorem dX1_learn_21 : decode cX1_learn 21 = .ok (.iload_n 2, 1) := by decide +kernel
theorem dX1_learn_22 : decode cX1_learn 22 = .ok (.iconst 2, 1) := by decide +kernel
theorem dX1_learn_23 : decode cX1_learn 23 = .ok (.if_icmp .le 5, 3) := by decide +kernel
theorem dX1_learn_26 : decode cX1_learn 26 = .ok (.iconst (-1), 1) := by decide +kernel
theorem dX1_learn_27 : decode cX1_learn 27 = .ok (.ireturn, 1) := by decide +kernel
theorem dX1_learn_28 : decode cX1_learn 28 = .ok (.aload_n 0, 1) := by decide +kernel
theorem dX1_learn_29 : decode cX1_learn 29 = .ok (.invokevirtual 50, 3) := by decide +kernel
theorem dX1_learn_32 : decode cX1_learn 32 = .ok (.istore_n 3, 1) := by decide +kernel
theorem dX1_learn_33 : decode cX1_learn 33 = .ok (.iload_n 3, 1) := by decide +kernel
theorem dX1_learn_34 : decode cX1_learn 34 = .ok (.ifCond .lt 16, 3) := by decide +kernel
theorem dX1_learn_37 : decode cX1_learn 37 = .ok (.aload_n 0, 1) := by decide +kernel
theorem dX1_learn_38 : decode cX1_learn 38 = .ok (.getfield 20, 3) := by decide +kernel
theorem dX1_learn_41 : decode cX1_learn 41 = .ok (.iload_n 3, 1) := by decide +kernel
theorem dX1_learn_42 : decode cX1_learn 42 = .ok (.iaload, 1) := by decide +kernel
theorem dX1_learn_43 : decode cX1_learn 43 = .ok (.ifCond .lt 7, 3) := by decide +kernel
theorem dX1_learn_46 : decode cX1_learn 46 = .ok (.iconst 1, 1) := by decide +kernel
theorem dX1_learn_47 : decode cX1_learn 47 = .ok (.goto 4, 3) := by decide +kernel
theorem dX1_learn_50 : decode cX1_learn 50 = .ok (.iconst 0, 1) := by decide +kernel
theorem dX1_learn_51 : decode cX1_learn 51 = .ok (.istore 4, 2) := by decide +kernel
theorem dX1_learn_53 : decode cX1_learn 53 = .ok (.iload 4, 2) := by decide +kernel
theorem dX1_learn_55 : decode cX1_learn 55 = .ok (.ifCond .ne 21, 3) := by decide +kernel
theorem dX1_learn_58 : decode cX1_learn 58 = .ok (.aload_n 0, 1) := by decide +kernel
theorem dX1_learn_59 : decode cX1_learn 59 = .ok (.getfield 26, 3) := by decide +kernel
theorem dX1_learn_62 : decode cX1_learn 62 = .ok (.iconst 0, 1) := by decide +kernel
theorem dX1_learn_63 : decode cX1_learn 63 = .ok (.iaload, 1) := by decide +kernel
theorem dX1_learn_64 : decode cX1_learn 64 = .ok (.bipush 16, 2) := by decide +kernel
theorem dX1_learn_66 : decode cX1_learn 66 = .ok (.if_icmp .lt 5, 3) := by decide +kernel
theorem dX1_learn_69 : decode cX1_learn 69 = .ok (.iconst (-1), 1) := by decide +kernel
theorem dX1_learn_70 : decode cX1_learn 70 = .ok (.ireturn, 1) := by decide +kernel
theorem dX1_learn_71 : decode cX1_learn 71 = .ok (.aload_n 0, 1) := by decide +kernel
theorem dX1_learn_72 : decode cX1_learn 72 = .ok (.invokevirtual 54, 3) := by decide +kernel
theorem dX1_learn_75 : decode cX1_learn 75 = .ok (.istore_n 3, 1) := by decide +kernel
theorem dX1_learn_76 : decode cX1_learn 76 = .ok (.aload_n 0, 1) := by decide +kernel
theorem dX1_learn_77 : decode cX1_learn 77 = .ok (.getfield 20, 3) := by decide +kernel
theorem dX1_learn_80 : decode cX1_learn 80 = .ok (.iload_n 3, 1) := by decide +kernel
theorem dX1_learn_81 : decode cX1_learn 81 = .ok (.iload_n 1, 1) := by decide +kernel
theorem dX1_learn_82 : decode cX1_learn 82 = .ok (.iastore, 1) := by decide +kernel
theorem dX1_learn_83 : decode cX1_learn 83 = .ok (.aload_n 0, 1) := by decide +kernel
theorem dX1_learn_84 : decode cX1_learn 84 = .ok (.getfield 23, 3) := by decide +kernel
theorem dX1_learn_87 : decode cX1_learn 87 = .ok (.iload_n 3, 1) := by decide +kernel
theorem dX1_learn_88 : decode cX1_learn 88 = .ok (.iload_n 2, 1) := by decide +kernel
theorem dX1_learn_89 : decode cX1_learn 89 = .ok (.iastore, 1) := by decide +kernel
theorem dX1_learn_90 : decode cX1_learn 90 = .ok (.aload_n 0, 1) := by decide +kernel
theorem dX1_learn_91 : decode cX1_learn 91 = .ok (.iconst 0, 1) := by decide +kernel
theorem dX1_learn_92 : decode cX1_learn 92 = .ok (.putfield 47, 3) := by decide +kernel
theorem dX1_learn_95 : decode cX1_learn 95 = .ok (.aload_n 0, 1) := by decide +kernel
theorem dX1_learn_96 : decode cX1_learn 96 = .ok (.iconst 0, 1) := by decide +kernel
theorem dX1_learn_97 : decode cX1_learn 97 = .ok (.putfield 57, 3) := by decide +kernel
theorem dX1_learn_100 : decode cX1_learn 100 = .ok (.aload_n 0, 1) := by decide +kernel
theorem dX1_learn_101 : decode cX1_learn 101 = .ok (.getfield 26, 3) := by decide +kernel
theorem dX1_learn_104 : decode cX1_learn 104 = .ok (.iconst 0, 1) := by decide +kernel
theorem dX1_learn_105 : decode cX1_learn 105 = .ok (.iaload, 1) := by decide +kernel
theorem dX1_learn_106 : decode cX1_learn 106 = .ok (.ireturn, 1) := by decide +kernel
theorem dX1_find_0 : decode cX1_find 0 = .ok (.iconst 0, 1) := by decide +kernel
theorem dX1_find_1 : decode cX1_find 1 = .ok (.istore_n 1, 1) := by decide +kernel
theorem dX1_find_2 : decode cX1_find 2 = .ok (.iconst 0, 1) := by decide +kernel
theorem dX1_find_3 : decode cX1_find 3 = .ok (.istore_n 2, 1) := by decide +kernel
theorem dX1_find_4 : decode cX1_find 4 = .ok (.iload_n 2, 1) := by decide +kernel
theorem dX1_find_5 : decode cX1_find 5 = .ok (.aload_n 0, 1) := by decide +kernel
theorem dX1_find_6 : decode cX1_find 6 = .ok (.getfield 47, 3) := by decide +kernel
theorem dX1_find_9 : decode cX1_find 9 = .ok (.if_icmp .ge 25, 3) := by decide +kernel
theorem dX1_find_12 : decode cX1_find 12 = .ok (.iload_n 1, 1) := by decide +kernel
theorem dX1_find_13 : decode cX1_find 13 = .ok (.ifCond .lt 21, 3) := by decide +kernel
theorem dX1_find_16 : decode cX1_find 16 = .ok (.aload_n 0, 1) := by decide +kernel
theorem dX1_find_17 : decode cX1_find 17 = .ok (.iload_n 1, 1) := by decide +kernel
theorem dX1_find_18 : decode cX1_find 18 = .ok (.aload_n 0, 1) := by decide +kernel
theorem dX1_find_19 : decode cX1_find 19 = .ok (.getfield 29, 3) := by decide +kernel
theorem dX1_find_22 : decode cX1_find 22 = .ok (.iload_n 2, 1) := by decide +kernel
theorem dX1_find_23 : decode cX1_find 23 = .ok (.iaload, 1) := by decide +kernel
theorem dX1_find_24 : decode cX1_find 24 = .ok (.invokevirtual 77, 3) := by decide +kernel
theorem dX1_find_27 : decode cX1_find 27 = .ok (.istore_n 1, 1) := by decide +kernel
theorem dX1_find_28 : decode cX1_find 28 = .ok (.iinc 2 1, 3) := by decide +kernel
theorem dX1_find_31 : decode cX1_find 31 = .ok (.goto (-27), 3) := by decide +kernel
theorem dX1_find_34 : decode cX1_find 34 = .ok (.iload_n 1, 1) := by decide +kernel
theorem dX1_find_35 : decode cX1_find 35 = .ok (.ireturn, 1) := by decide +kernel
theorem dX1_childOf_0 : decode cX1_childOf 0 = .ok (.aload_n 0, 1) := by decide +kernel
theorem dX1_childOf_1 : decode cX1_childOf 1 = .ok (.getfield 13, 3) := by decide +kernel
theorem dX1_childOf_4 : decode cX1_childOf 4 = .ok (.iload_n 1, 1) := by decide +kernel
theorem dX1_childOf_5 : decode cX1_childOf 5 = .ok (.iaload, 1) := by decide +kernel
theorem dX1_childOf_6 : decode cX1_childOf 6 = .ok (.iload_n 2, 1) := by decide +kernel
theorem dX1_childOf_7 : decode cX1_childOf 7 = .ok (.iadd, 1) := by decide +kernel
theorem dX1_childOf_8 : decode cX1_childOf 8 = .ok (.iconst 1, 1) := by decide +kernel
theorem dX1_childOf_9 : decode cX1_childOf 9 = .ok (.iadd, 1) := by decide +kernel
theorem dX1_childOf_10 : decode cX1_childOf 10 = .ok (.istore_n 3, 1) := by decide +kernel
theorem dX1_childOf_11 : decode cX1_childOf 11 = .ok (.iload_n 3, 1) := by decide +kernel
theorem dX1_childOf_12 : decode cX1_childOf 12 = .ok (.ifCond .le 17, 3) := by decide +kernel
theorem dX1_childOf_15 : decode cX1_childOf 15 = .ok (.aload_n 0, 1) := by decide +kernel
theorem dX1_childOf_16 : decode cX1_childOf 16 = .ok (.getfield 17, 3) := by decide +kernel
theorem dX1_childOf_19 : decode cX1_childOf 19 = .ok (.iload_n 3, 1) := by decide +kernel
theorem dX1_childOf_20 : decode cX1_childOf 20 = .ok (.iaload, 1) := by decide +kernel
theorem dX1_childOf_21 : decode cX1_childOf 21 = .ok (.iload_n 1, 1) := by decide +kernel
theorem dX1_childOf_22 : decode cX1_childOf 22 = .ok (.if_icmp .ne 7, 3) := by decide +kernel
theorem dX1_childOf_25 : decode cX1_childOf 25 = .ok (.iload_n 3, 1) := by decide +kernel
theorem dX1_childOf_26 : decode cX1_childOf 26 = .ok (.goto 4, 3) := by decide +kernel
theorem dX1_childOf_29 : decode cX1_childOf 29 = .ok (.iconst (-1), 1) := by decide +kernel
theorem dX1_childOf_30 : decode cX1_childOf 30 = .ok (.ireturn, 1) := by decide +kernel
theorem dX1_grow_0 : decode cX1_grow 0 = .ok (.iconst 0, 1) := by decide +kernel
theorem dX1_grow_1 : decode cX1_grow 1 = .ok (.istore_n 1, 1) := by decide +kernel
theorem dX1_grow_2 : decode cX1_grow 2 = .ok (.aload_n 0, 1) := by decide +kernel
theorem dX1_grow_3 : decode cX1_grow 3 = .ok (.getfield 26, 3) := by decide +kernel
theorem dX1_grow_6 : decode cX1_grow 6 = .ok (.iconst 0, 1) := by decide +kernel
theorem dX1_grow_7 : decode cX1_grow 7 = .ok (.dup2, 1) := by decide +kernel
theorem dX1_grow_8 : decode cX1_grow 8 = .ok (.iaload, 1) := by decide +kernel
theorem dX1_grow_9 : decode cX1_grow 9 = .ok (.iconst 1, 1) := by decide +kernel
theorem dX1_grow_10 : decode cX1_grow 10 = .ok (.iadd, 1) := by decide +kernel
theorem dX1_grow_11 : decode cX1_grow 11 = .ok (.iastore, 1) := by decide +kernel
theorem dX1_grow_12 : decode cX1_grow 12 = .ok (.iconst 0, 1) := by decide +kernel
theorem dX1_grow_13 : decode cX1_grow 13 = .ok (.istore_n 2, 1) := by decide +kernel
theorem dX1_grow_14 : decode cX1_grow 14 = .ok (.iload_n 2, 1) := by decide +kernel
theorem dX1_grow_15 : decode cX1_grow 15 = .ok (.aload_n 0, 1) := by decide +kernel
theorem dX1_grow_16 : decode cX1_grow 16 = .ok (.getfield 47, 3) := by decide +kernel
theorem dX1_grow_19 : decode cX1_grow 19 = .ok (.if_icmp .ge 49, 3) := by decide +kernel
theorem dX1_grow_22 : decode cX1_grow 22 = .ok (.aload_n 0, 1) := by decide +kernel
theorem dX1_grow_23 : decode cX1_grow 23 = .ok (.iload_n 1, 1) := by decide +kernel
theorem dX1_grow_24 : decode cX1_grow 24 = .ok (.aload_n 0, 1) := by decide +kernel
theorem dX1_grow_25 : decode cX1_grow 25 = .ok (.getfield 29, 3) := by decide +kernel
theorem dX1_grow_28 : decode cX1_grow 28 = .ok (.iload_n 2, 1) := by decide +kernel
theorem dX1_grow_29 : decode cX1_grow 29 = .ok (.iaload, 1) := by decide +kernel
theorem dX1_grow_30 : decode cX1_grow 30 = .ok (.invokevirtual 77, 3) := by decide +kernel
theorem dX1_grow_33 : decode cX1_grow 33 = .ok (.istore_n 3, 1) := by decide +kernel
theorem dX1_grow_34 : decode cX1_grow 34 = .ok (.iload_n 3, 1) := by decide +kernel
theorem dX1_grow_35 : decode cX1_grow 35 = .ok (.ifCond .ge 15, 3) := by decide +kernel
theorem dX1_grow_38 : decode cX1_grow 38 = .ok (.aload_n 0, 1) := by decide +kernel
theorem dX1_grow_39 : decode cX1_grow 39 = .ok (.iload_n 1, 1) := by decide +kernel
theorem dX1_grow_40 : decode cX1_grow 40 = .ok (.aload_n 0, 1) := by decide +kernel
theorem dX1_grow_41 : decode cX1_grow 41 = .ok (.getfield 29, 3) := by decide +kernel
theorem dX1_grow_44 : decode cX1_grow 44 = .ok (.iload_n 2, 1) := by decide +kernel
theorem dX1_grow_45 : decode cX1_grow 45 = .ok (.iaload, 1) := by decide +kernel
theorem dX1_grow_46 : decode cX1_grow 46 = .ok (.invokevirtual 81, 3) := by decide +kernel
theorem dX1_grow_49 : decode cX1_grow 49 = .ok (.istore_n 3, 1) := by decide +kernel
theorem dX1_grow_50 : decode cX1_grow 50 = .ok (.aload_n 0, 1) := by decide +kernel
theorem dX1_grow_51 : decode cX1_grow 51 = .ok (.getfield 26, 3) := by decide +kernel
theorem dX1_grow_54 : decode cX1_grow 54 = .ok (.iload_n 3, 1) := by decide +kernel
theorem dX1_grow_55 : decode cX1_grow 55 = .ok (.dup2, 1) := by decide +kernel
theorem dX1_grow_56 : decode cX1_grow 56 = .ok (.iaload, 1) := by decide +kernel
theorem dX1_grow_57 : decode cX1_grow 57 = .ok (.iconst 1, 1) := by decide +kernel
theorem dX1_grow_58 : decode cX1_grow 58 = .ok (.iadd, 1) := by decide +kernel
theorem dX1_grow_59 : decode cX1_grow 59 = .ok (.iastore, 1) := by decide +kernel
theorem dX1_grow_60 : decode cX1_grow 60 = .ok (.iload_n 3, 1) := by decide +kernel
theorem dX1_grow_61 : decode cX1_grow 61 = .ok (.istore_n 1, 1) := by decide +kernel
theorem dX1_grow_62 : decode cX1_grow 62 = .ok (.iinc 2 1, 3) := by decide +kernel
theorem dX1_grow_65 : decode cX1_grow 65 = .ok (.goto (-51), 3) := by decide +kernel
theorem dX1_grow_68 : decode cX1_grow 68 = .ok (.iload_n 1, 1) := by decide +kernel
theorem dX1_grow_69 : decode cX1_grow 69 = .ok (.ireturn, 1) := by decide +kernel
theorem dX1_addChild_0 : decode cX1_addChild 0 = .ok (.aload_n 0, 1) := by decide +kernel
theorem dX1_addChild_1 : decode cX1_addChild 1 = .ok (.getfield 13, 3) := by decide +kernel
theorem dX1_addChild_4 : decode cX1_addChild 4 = .ok (.iload_n 1, 1) := by decide +kernel
theorem dX1_addChild_5 : decode cX1_addChild 5 = .ok (.iaload, 1) := by decide +kernel
theorem dX1_addChild_6 : decode cX1_addChild 6 = .ok (.iload_n 2, 1) := by decide +kernel
theorem dX1_addChild_7 : decode cX1_addChild 7 = .ok (.iadd, 1) := by decide +kernel
theorem dX1_addChild_8 : decode cX1_addChild 8 = .ok (.iconst 1, 1) := by decide +kernel
theorem dX1_addChild_9 : decode cX1_addChild 9 = .ok (.iadd, 1) := by decide +kernel
theorem dX1_addChild_10 : decode cX1_addChild 10 = .ok (.istore_n 3, 1) := by decide +kernel
theorem dX1_addChild_11 : decode cX1_addChild 11 = .ok (.aload_n 0, 1) := by decide +kernel
theorem dX1_addChild_12 : decode cX1_addChild 12 = .ok (.getfield 17, 3) := by decide +kernel
theorem dX1_addChild_15 : decode cX1_addChild 15 = .ok (.iload_n 3, 1) := by decide +kernel
theorem dX1_addChild_16 : decode cX1_addChild 16 = .ok (.iaload, 1) := by decide +kernel
theorem dX1_addChild_17 : decode cX1_addChild 17 = .ok (.ifCond .ge 7, 3) := by decide +kernel
theorem dX1_addChild_20 : decode cX1_addChild 20 = .ok (.iload_n 3, 1) := by decide +kernel
theorem dX1_addChild_21 : decode cX1_addChild 21 = .ok (.ifCond .ne 20, 3) := by decide +kernel
theorem dX1_addChild_24 : decode cX1_addChild 24 = .ok (.aload_n 0, 1) := by decide +kernel
theorem dX1_addChild_25 : decode cX1_addChild 25 = .ok (.iload_n 1, 1) := by decide +kernel
theorem dX1_addChild_26 : decode cX1_addChild 26 = .ok (.iload_n 2, 1) := by decide +kernel
theorem dX1_addChild_27 : decode cX1_addChild 27 = .ok (.invokevirtual 84, 3) := by decide +kernel
theorem dX1_addChild_30 : decode cX1_addChild 30 = .ok (.aload_n 0, 1) := by decide +kernel
theorem dX1_addChild_31 : decode cX1_addChild 31 = .ok (.getfield 13, 3) := by decide +kernel
theorem dX1_addChild_34 : decode cX1_addChild 34 = .ok (.iload_n 1, 1) := by decide +kernel
theorem dX1_addChild_35 : decode cX1_addChild 35 = .ok (.iaload, 1) := by decide +kernel
theorem dX1_addChild_36 : decode cX1_addChild 36 = .ok (.iload_n 2, 1) := by decide +kernel
theorem dX1_addChild_37 : decode cX1_addChild 37 = .ok (.iadd, 1) := by decide +kernel
theorem dX1_addChild_38 : decode cX1_addChild 38 = .ok (.iconst 1, 1) := by decide +kernel
theorem dX1_addChild_39 : decode cX1_addChild 39 = .ok (.iadd, 1) := by decide +kernel
theorem dX1_addChild_40 : decode cX1_addChild 40 = .ok (.istore_n 3, 1) := by decide +kernel
theorem dX1_addChild_41 : decode cX1_addChild 41 = .ok (.aload_n 0, 1) := by decide +kernel
theorem dX1_addChild_42 : decode cX1_addChild 42 = .ok (.getfield 17, 3) := by decide +kernel
theorem dX1_addChild_45 : decode cX1_addChild 45 = .ok (.iload_n 3, 1) := by decide +kernel
theorem dX1_addChild_46 : decode cX1_addChild 46 = .ok (.iload_n 1, 1) := by decide +kernel
theorem dX1_addChild_47 : decode cX1_addChild 47 = .ok (.iastore, 1) := by decide +kernel
theorem dX1_addChild_48 : decode cX1_addChild 48 = .ok (.aload_n 0, 1) := by decide +kernel
theorem dX1_addChild_49 : decode cX1_addChild 49 = .ok (.getfield 13, 3) := by decide +kernel
theorem dX1_addChild_52 : decode cX1_addChild 52 = .ok (.iload_n 3, 1) := by decide +kernel
theorem dX1_addChild_53 : decode cX1_addChild 53 = .ok (.iconst 0, 1) := by decide +kernel
theorem dX1_addChild_54 : decode cX1_addChild 54 = .ok (.iastore, 1) := by decide +kernel
theorem dX1_addChild_55 : decode cX1_addChild 55 = .ok (.aload_n 0, 1) := by decide +kernel
theorem dX1_addChild_56 : decode cX1_addChild 56 = .ok (.getfield 20, 3) := by decide +kernel
theorem dX1_addChild_59 : decode cX1_addChild 59 = .ok (.iload_n 3, 1) := by decide +kernel
theorem dX1_addChild_60 : decode cX1_addChild 60 = .ok (.iconst (-1), 1) := by decide +kernel
theorem dX1_addChild_61 : decode cX1_addChild 61 = .ok (.iastore, 1) := by decide +kernel
theorem dX1_addChild_62 : decode cX1_addChild 62 = .ok (.aload_n 0, 1) := by decide +kernel
theorem dX1_addChild_63 : decode cX1_addChild 63 = .ok (.getfield 26, 3) := by decide +kernel
theorem dX1_addChild_66 : decode cX1_addChild 66 = .ok (.iload_n 3, 1) := by decide +kernel
theorem dX1_addChild_67 : decode cX1_addChild 67 = .ok (.iconst 0, 1) := by decide +kernel
theorem dX1_addChild_68 : decode cX1_addChild 68 = .ok (.iastore, 1) := by decide +kernel
theorem dX1_addChild_69 : decode cX1_addChild 69 = .ok (.iload_n 3, 1) := by decide +kernel
theorem dX1_addChild_70 : decode cX1_addChild 70 = .ok (.ireturn, 1) := by decide +kernel
theorem dX1_moveChildren_0 : decode cX1_moveChildren 0 = .ok (.iconst 0, 1) := by decide +kernel
theorem dX1_moveChildren_1 : decode cX1_moveChildren 1 = .ok (.istore_n 3, 1) := by decide +kernel
theorem dX1_moveChildren_2 : decode cX1_moveChildren 2 = .ok (.iconst 0, 1) := by decide +kernel
theorem dX1_moveChildren_3 : decode cX1_moveChildren 3 = .ok (.istore 4, 2) := by decide +kernel
theorem dX1_moveChildren_5 : decode cX1_moveChildren 5 = .ok (.iload 4, 2) := by decide +kernel
theorem dX1_moveChildren_7 : decode cX1_moveChildren 7 = .ok (.iconst 4, 1) := by decide +kernel
theorem dX1_moveChildren_8 : decode cX1_moveChildren 8 = .ok (.if_icmp .ge 30, 3) := by decide +kernel
theorem dX1_moveChildren_11 : decode cX1_moveChildren 11 = .ok (.aload_n 0, 1) := by decide +kernel
theorem dX1_moveChildren_12 : decode cX1_moveChildren 12 = .ok (.iload_n 1, 1) := by decide +kernel
theorem dX1_moveChildren_13 : decode cX1_moveChildren 13 = .ok (.iload 4, 2) := by decide +kernel
theorem dX1_moveChildren_15 : decode cX1_moveChildren 15 = .ok (.invokevirtual 77, 3) := by decide +kernel
theorem dX1_moveChildren_18 : decode cX1_moveChildren 18 = .ok (.istore 5, 2) := by decide +kernel
theorem dX1_moveChildren_20 : decode cX1_moveChildren 20 = .ok (.iload 5, 2) := by decide +kernel
theorem dX1_moveChildren_22 : decode cX1_moveChildren 22 = .ok (.ifCond .lt 10, 3) := by decide +kernel
theorem dX1_moveChildren_25 : decode cX1_moveChildren 25 = .ok (.iload_n 3, 1) := by decide +kernel
theorem dX1_moveChildren_26 : decode cX1_moveChildren 26 = .ok (.iconst 1, 1) := by decide +kernel
theorem dX1_moveChildren_27 : decode cX1_moveChildren 27 = .ok (.iload 4, 2) := by decide +kernel
theorem dX1_moveChildren_29 : decode cX1_moveChildren 29 = .ok (.ishl, 1) := by decide +kernel
theorem dX1_moveChildren_30 : decode cX1_moveChildren 30 = .ok (.ior, 1) := by decide +kernel
theorem dX1_moveChildren_31 : decode cX1_moveChildren 31 = .ok (.istore_n 3, 1) := by decide +kernel
theorem dX1_moveChildren_32 : decode cX1_moveChildren 32 = .ok (.iinc 4 1, 3) := by decide +kernel
theorem dX1_moveChildren_35 : decode cX1_moveChildren 35 = .ok (.goto (-30), 3) := by decide +kernel
theorem dX1_moveChildren_38 : decode cX1_moveChildren 38 = .ok (.aload_n 0, 1) := by decide +kernel
theorem dX1_moveChildren_39 : decode cX1_moveChildren 39 = .ok (.iload_n 3, 1) := by decide +kernel
theorem dX1_moveChildren_40 : decode cX1_moveChildren 40 = .ok (.iconst 1, 1) := by decide +kernel
theorem dX1_moveChildren_41 : decode cX1_moveChildren 41 = .ok (.iload_n 2, 1) := by decide +kernel
theorem dX1_moveChildren_42 : decode cX1_moveChildren 42 = .ok (.ishl, 1) := by decide +kernel
theorem dX1_moveChildren_43 : decode cX1_moveChildren 43 = .ok (.ior, 1) := by decide +kernel
theorem dX1_moveChildren_44 : decode cX1_moveChildren 44 = .ok (.invokevirtual 87, 3) := by decide +kernel
theorem dX1_moveChildren_47 : decode cX1_moveChildren 47 = .ok (.istore 4, 2) := by decide +kernel
theorem dX1_moveChildren_49 : decode cX1_moveChildren 49 = .ok (.aload_n 0, 1) := by decide +kernel
theorem dX1_moveChildren_50 : decode cX1_moveChildren 50 = .ok (.getfield 13, 3) := by decide +kernel
theorem dX1_moveChildren_53 : decode cX1_moveChildren 53 = .ok (.iload_n 1, 1) := by decide +kernel
theorem dX1_moveChildren_54 : decode cX1_moveChildren 54 = .ok (.iaload, 1) := by decide +kernel
theorem dX1_moveChildren_55 : decode cX1_moveChildren 55 = .ok (.istore 5, 2) := by decide +kernel
theorem dX1_moveChildren_57 : decode cX1_moveChildren 57 = .ok (.iconst 0, 1) := by decide +kernel
theorem dX1_moveChildren_58 : decode cX1_moveChildren 58 = .ok (.istore 6, 2) := by decide +kernel
theorem dX1_moveChildren_60 : decode cX1_moveChildren 60 = .ok (.iload 6, 2) := by decide +kernel
theorem dX1_moveChildren_62 : decode cX1_moveChildren 62 = .ok (.iconst 4, 1) := by decide +kernel
theorem dX1_moveChildren_63 : decode cX1_moveChildren 63 = .ok (.if_icmp .ge 36, 3) := by decide +kernel
theorem dX1_moveChildren_66 : decode cX1_moveChildren 66 = .ok (.iload_n 3, 1) := by decide +kernel
theorem dX1_moveChildren_67 : decode cX1_moveChildren 67 = .ok (.iload 6, 2) := by decide +kernel
theorem dX1_moveChildren_69 : decode cX1_moveChildren 69 = .ok (.iushr, 1) := by decide +kernel
theorem dX1_moveChildren_70 : decode cX1_moveChildren 70 = .ok (.iconst 1, 1) := by decide +kernel
theorem dX1_moveChildren_71 : decode cX1_moveChildren 71 = .ok (.iand, 1) := by decide +kernel
theorem dX1_moveChildren_72 : decode cX1_moveChildren 72 = .ok (.ifCond .eq 21, 3) := by decide +kernel
theorem dX1_moveChildren_75 : decode cX1_moveChildren 75 = .ok (.aload_n 0, 1) := by decide +kernel
theorem dX1_moveChildren_76 : decode cX1_moveChildren 76 = .ok (.iload 5, 2) := by decide +kernel
theorem dX1_moveChildren_78 : decode cX1_moveChildren 78 = .ok (.iload 6, 2) := by decide +kernel
theorem dX1_moveChildren_80 : decode cX1_moveChildren 80 = .ok (.iadd, 1) := by decide +kernel
theorem dX1_moveChildren_81 : decode cX1_moveChildren 81 = .ok (.iconst 1, 1) := by decide +kernel
theorem dX1_moveChildren_82 : decode cX1_moveChildren 82 = .ok (.iadd, 1) := by decide +kernel
theorem dX1_moveChildren_83 : decode cX1_moveChildren 83 = .ok (.iload 4, 2) := by decide +kernel
theorem dX1_moveChildren_85 : decode cX1_moveChildren 85 = .ok (.iload 6, 2) := by decide +kernel
theorem dX1_moveChildren_87 : decode cX1_moveChildren 87 = .ok (.iadd, 1) := by decide +kernel
theorem dX1_moveChildren_88 : decode cX1_moveChildren 88 = .ok (.iconst 1, 1) := by decide +kernel
theorem dX1_moveChildren_89 : decode cX1_moveChildren 89 = .ok (.iadd, 1) := by decide +kernel
theorem dX1_moveChildren_90 : decode cX1_moveChildren 90 = .ok (.invokevirtual 91, 3) := by decide +kernel
theorem dX1_moveChildren_93 : decode cX1_moveChildren 93 = .ok (.iinc 6 1, 3) := by decide +kernel
theorem dX1_moveChildren_96 : decode cX1_moveChildren 96 = .ok (.goto (-36), 3) := by decide +kernel
theorem dX1_moveChildren_99 : decode cX1_moveChildren 99 = .ok (.aload_n 0, 1) := by decide +kernel
theorem dX1_moveChildren_100 : decode cX1_moveChildren 100 = .ok (.getfield 13, 3) := by decide +kernel
theorem dX1_moveChildren_103 : decode cX1_moveChildren 103 = .ok (.iload_n 1, 1) := by decide +kernel
theorem dX1_moveChildren_104 : decode cX1_moveChildren 104 = .ok (.iload 4, 2) := by decide +kernel
theorem dX1_moveChildren_106 : decode cX1_moveChildren 106 = .ok (.iastore, 1) := by decide +kernel
theorem dX1_moveChildren_107 : decode cX1_moveChildren 107 = .ok (.return_, 1) := by decide +kernel
theorem dX1_freeBase_0 : decode cX1_freeBase 0 = .ok (.iconst 0, 1) := by decide +kernel
theorem dX1_freeBase_1 : decode cX1_freeBase 1 = .ok (.istore_n 2, 1) := by decide +kernel
theorem dX1_freeBase_2 : decode cX1_freeBase 2 = .ok (.iload_n 2, 1) := by decide +kernel
theorem dX1_freeBase_3 : decode cX1_freeBase 3 = .ok (.sipush 500, 3) := by decide +kernel
theorem dX1_freeBase_6 : decode cX1_freeBase 6 = .ok (.if_icmp .ge 57, 3) := by decide +kernel
theorem dX1_freeBase_9 : decode cX1_freeBase 9 = .ok (.iconst 1, 1) := by decide +kernel
theorem dX1_freeBase_10 : decode cX1_freeBase 10 = .ok (.istore_n 3, 1) := by decide +kernel
theorem dX1_freeBase_11 : decode cX1_freeBase 11 = .ok (.iconst 0, 1) := by decide +kernel
theorem dX1_freeBase_12 : decode cX1_freeBase 12 = .ok (.istore 4, 2) := by decide +kernel
theorem dX1_freeBase_14 : decode cX1_freeBase 14 = .ok (.iload 4, 2) := by decide +kernel
theorem dX1_freeBase_16 : decode cX1_freeBase 16 = .ok (.iconst 4, 1) := by decide +kernel
theorem dX1_freeBase_17 : decode cX1_freeBase 17 = .ok (.if_icmp .ge 34, 3) := by decide +kernel
theorem dX1_freeBase_20 : decode cX1_freeBase 20 = .ok (.iload_n 1, 1) := by decide +kernel
theorem dX1_freeBase_21 : decode cX1_freeBase 21 = .ok (.iload 4, 2) := by decide +kernel
theorem dX1_freeBase_23 : decode cX1_freeBase 23 = .ok (.iushr, 1) := by decide +kernel
theorem dX1_freeBase_24 : decode cX1_freeBase 24 = .ok (.iconst 1, 1) := by decide +kernel
theorem dX1_freeBase_25 : decode cX1_freeBase 25 = .ok (.iand, 1) := by decide +kernel
theorem dX1_freeBase_26 : decode cX1_freeBase 26 = .ok (.ifCond .eq 19, 3) := by decide +kernel
theorem dX1_freeBase_29 : decode cX1_freeBase 29 = .ok (.aload_n 0, 1) := by decide +kernel
theorem dX1_freeBase_30 : decode cX1_freeBase 30 = .ok (.getfield 17, 3) := by decide +kernel
theorem dX1_freeBase_33 : decode cX1_freeBase 33 = .ok (.iload_n 2, 1) := by decide +kernel
theorem dX1_freeBase_34 : decode cX1_freeBase 34 = .ok (.iload 4, 2) := by decide +kernel
theorem dX1_freeBase_36 : decode cX1_freeBase 36 = .ok (.iadd, 1) := by decide +kernel
theorem dX1_freeBase_37 : decode cX1_freeBase 37 = .ok (.iconst 1, 1) := by decide +kernel
theorem dX1_freeBase_38 : decode cX1_freeBase 38 = .ok (.iadd, 1) := by decide +kernel
theorem dX1_freeBase_39 : decode cX1_freeBase 39 = .ok (.iaload, 1) := by decide +kernel
theorem dX1_freeBase_40 : decode cX1_freeBase 40 = .ok (.ifCond .lt 5, 3) := by decide +kernel
theorem dX1_freeBase_43 : decode cX1_freeBase 43 = .ok (.iconst 0, 1) := by decide +kernel
theorem dX1_freeBase_44 : decode cX1_freeBase 44 = .ok (.istore_n 3, 1) := by decide +kernel
theorem dX1_freeBase_45 : decode cX1_freeBase 45 = .ok (.iinc 4 1, 3) := by decide +kernel
theorem dX1_freeBase_48 : decode cX1_freeBase 48 = .ok (.goto (-34), 3) := by decide +kernel
theorem dX1_freeBase_51 : decode cX1_freeBase 51 = .ok (.iload_n 3, 1) := by decide +kernel
theorem dX1_freeBase_52 : decode cX1_freeBase 52 = .ok (.ifCond .eq 5, 3) := by decide +kernel
theorem dX1_freeBase_55 : decode cX1_freeBase 55 = .ok (.iload_n 2, 1) := by decide +kernel
theorem dX1_freeBase_56 : decode cX1_freeBase 56 = .ok (.ireturn, 1) := by decide +kernel
theorem dX1_freeBase_57 : decode cX1_freeBase 57 = .ok (.iinc 2 1, 3) := by decide +kernel
theorem dX1_freeBase_60 : decode cX1_freeBase 60 = .ok (.goto (-58), 3) := by decide +kernel
theorem dX1_freeBase_63 : decode cX1_freeBase 63 = .ok (.sipush 500, 3) := by decide +kernel
theorem dX1_freeBase_66 : decode cX1_freeBase 66 = .ok (.ireturn, 1) := by decide +kernel
theorem dX1_moveState_0 : decode cX1_moveState 0 = .ok (.aload_n 0, 1) := by decide +kernel
theorem dX1_moveState_1 : decode cX1_moveState 1 = .ok (.getfield 17, 3) := by decide +kernel
theorem dX1_moveState_4 : decode cX1_moveState 4 = .ok (.iload_n 2, 1) := by decide +kernel
theorem dX1_moveState_5 : decode cX1_moveState 5 = .ok (.aload_n 0, 1) := by decide +kernel
theorem dX1_moveState_6 : decode cX1_moveState 6 = .ok (.getfield 17, 3) := by decide +kernel
theorem dX1_moveState_9 : decode cX1_moveState 9 = .ok (.iload_n 1, 1) := by decide +kernel
theorem dX1_moveState_10 : decode cX1_moveState 10 = .ok (.iaload, 1) := by decide +kernel
theorem dX1_moveState_11 : decode cX1_moveState 11 = .ok (.iastore, 1) := by decide +kernel
theorem dX1_moveState_12 : decode cX1_moveState 12 = .ok (.aload_n 0, 1) := by decide +kernel
theorem dX1_moveState_13 : decode cX1_moveState 13 = .ok (.getfield 13, 3) := by decide +kernel
theorem dX1_moveState_16 : decode cX1_moveState 16 = .ok (.iload_n 2, 1) := by decide +kernel
theorem dX1_moveState_17 : decode cX1_moveState 17 = .ok (.aload_n 0, 1) := by decide +kernel
theorem dX1_moveState_18 : decode cX1_moveState 18 = .ok (.getfield 13, 3) := by decide +kernel
theorem dX1_moveState_21 : decode cX1_moveState 21 = .ok (.iload_n 1, 1) := by decide +kernel
theorem dX1_moveState_22 : decode cX1_moveState 22 = .ok (.iaload, 1) := by decide +kernel
theorem dX1_moveState_23 : decode cX1_moveState 23 = .ok (.iastore, 1) := by decide +kernel
theorem dX1_moveState_24 : decode cX1_moveState 24 = .ok (.aload_n 0, 1) := by decide +kernel
theorem dX1_moveState_25 : decode cX1_moveState 25 = .ok (.getfield 20, 3) := by decide +kernel
theorem dX1_moveState_28 : decode cX1_moveState 28 = .ok (.iload_n 2, 1) := by decide +kernel
theorem dX1_moveState_29 : decode cX1_moveState 29 = .ok (.aload_n 0, 1) := by decide +kernel
theorem dX1_moveState_30 : decode cX1_moveState 30 = .ok (.getfield 20, 3) := by decide +kernel
theorem dX1_moveState_33 : decode cX1_moveState 33 = .ok (.iload_n 1, 1) := by decide +kernel
theorem dX1_moveState_34 : decode cX1_moveState 34 = .ok (.iaload, 1) := by decide +kernel
theorem dX1_moveState_35 : decode cX1_moveState 35 = .ok (.iastore, 1) := by decide +kernel
theorem dX1_moveState_36 : decode cX1_moveState 36 = .ok (.aload_n 0, 1) := by decide +kernel
theorem dX1_moveState_37 : decode cX1_moveState 37 = .ok (.getfield 23, 3) := by decide +kernel
theorem dX1_moveState_40 : decode cX1_moveState 40 = .ok (.iload_n 2, 1) := by decide +kernel
theorem dX1_moveState_41 : decode cX1_moveState 41 = .ok (.aload_n 0, 1) := by decide +kernel
theorem dX1_moveState_42 : decode cX1_moveState 42 = .ok (.getfield 23, 3) := by decide +kernel
theorem dX1_moveState_45 : decode cX1_moveState 45 = .ok (.iload_n 1, 1) := by decide +kernel
theorem dX1_moveState_46 : decode cX1_moveState 46 = .ok (.iaload, 1) := by decide +kernel
theorem dX1_moveState_47 : decode cX1_moveState 47 = .ok (.iastore, 1) := by decide +kernel
theorem dX1_moveState_48 : decode cX1_moveState 48 = .ok (.aload_n 0, 1) := by decide +kernel
theorem dX1_moveState_49 : decode cX1_moveState 49 = .ok (.getfield 26, 3) := by decide +kernel
theorem dX1_moveState_52 : decode cX1_moveState 52 = .ok (.iload_n 2, 1) := by decide +kernel
theorem dX1_moveState_53 : decode cX1_moveState 53 = .ok (.aload_n 0, 1) := by decide +kernel
theorem dX1_moveState_54 : decode cX1_moveState 54 = .ok (.getfield 26, 3) := by decide +kernel
theorem dX1_moveState_57 : decode cX1_moveState 57 = .ok (.iload_n 1, 1) := by decide +kernel
theorem dX1_moveState_58 : decode cX1_moveState 58 = .ok (.iaload, 1) := by decide +kernel
theorem dX1_moveState_59 : decode cX1_moveState 59 = .ok (.iastore, 1) := by decide +kernel
theorem dX1_moveState_60 : decode cX1_moveState 60 = .ok (.iconst 1, 1) := by decide +kernel
theorem dX1_moveState_61 : decode cX1_moveState 61 = .ok (.istore_n 3, 1) := by decide +kernel
theorem dX1_moveState_62 : decode cX1_moveState 62 = .ok (.iload_n 3, 1) := by decide +kernel
theorem dX1_moveState_63 : decode cX1_moveState 63 = .ok (.iconst 4, 1) := by decide +kernel
theorem dX1_moveState_64 : decode cX1_moveState 64 = .ok (.if_icmp .gt 40, 3) := by decide +kernel
theorem dX1_moveState_67 : decode cX1_moveState 67 = .ok (.aload_n 0, 1) := by decide +kernel
theorem dX1_moveState_68 : decode cX1_moveState 68 = .ok (.getfield 17, 3) := by decide +kernel
theorem dX1_moveState_71 : decode cX1_moveState 71 = .ok (.aload_n 0, 1) := by decide +kernel
theorem dX1_moveState_72 : decode cX1_moveState 72 = .ok (.getfield 13, 3) := by decide +kernel
theorem dX1_moveState_75 : decode cX1_moveState 75 = .ok (.iload_n 1, 1) := by decide +kernel
theorem dX1_moveState_76 : decode cX1_moveState 76 = .ok (.iaload, 1) := by decide +kernel
theorem dX1_moveState_77 : decode cX1_moveState 77 = .ok (.iload_n 3, 1) := by decide +kernel
theorem dX1_moveState_78 : decode cX1_moveState 78 = .ok (.iadd, 1) := by decide +kernel
theorem dX1_moveState_79 : decode cX1_moveState 79 = .ok (.iaload, 1) := by decide +kernel
theorem dX1_moveState_80 : decode cX1_moveState 80 = .ok (.iload_n 1, 1) := by decide +kernel
theorem dX1_moveState_81 : decode cX1_moveState 81 = .ok (.if_icmp .ne 17, 3) := by decide +kernel
theorem dX1_moveState_84 : decode cX1_moveState 84 = .ok (.aload_n 0, 1) := by decide +kernel
theorem dX1_moveState_85 : decode cX1_moveState 85 = .ok (.getfield 17, 3) := by decide +kernel
theorem dX1_moveState_88 : decode cX1_moveState 88 = .ok (.aload_n 0, 1) := by decide +kernel
theorem dX1_moveState_89 : decode cX1_moveState 89 = .ok (.getfield 13, 3) := by decide +kernel
theorem dX1_moveState_92 : decode cX1_moveState 92 = .ok (.iload_n 1, 1) := by decide +kernel
theorem dX1_moveState_93 : decode cX1_moveState 93 = .ok (.iaload, 1) := by decide +kernel
theorem dX1_moveState_94 : decode cX1_moveState 94 = .ok (.iload_n 3, 1) := by decide +kernel
theorem dX1_moveState_95 : decode cX1_moveState 95 = .ok (.iadd, 1) := by decide +kernel
theorem dX1_moveState_96 : decode cX1_moveState 96 = .ok (.iload_n 2, 1) := by decide +kernel
theorem dX1_moveState_97 : decode cX1_moveState 97 = .ok (.iastore, 1) := by decide +kernel
theorem dX1_moveState_98 : decode cX1_moveState 98 = .ok (.iinc 3 1, 3) := by decide +kernel
theorem dX1_moveState_101 : decode cX1_moveState 101 = .ok (.goto (-39), 3) := by decide +kernel
theorem dX1_moveState_104 : decode cX1_moveState 104 = .ok (.aload_n 0, 1) := by decide +kernel
theorem dX1_moveState_105 : decode cX1_moveState 105 = .ok (.iload_n 1, 1) := by decide +kernel
theorem dX1_moveState_106 : decode cX1_moveState 106 = .ok (.invokevirtual 94, 3) := by decide +kernel
theorem dX1_moveState_109 : decode cX1_moveState 109 = .ok (.return_, 1) := by decide +kernel
theorem dX1_release_0 : decode cX1_release 0 = .ok (.aload_n 0, 1) := by decide +kernel
theorem dX1_release_1 : decode cX1_release 1 = .ok (.getfield 17, 3) := by decide +kernel
theorem dX1_release_4 : decode cX1_release 4 = .ok (.iload_n 1, 1) := by decide +kernel
theorem dX1_release_5 : decode cX1_release 5 = .ok (.iconst (-1), 1) := by decide +kernel
theorem dX1_release_6 : decode cX1_release 6 = .ok (.iastore, 1) := by decide +kernel
theorem dX1_release_7 : decode cX1_release 7 = .ok (.aload_n 0, 1) := by decide +kernel
theorem dX1_release_8 : decode cX1_release 8 = .ok (.getfield 13, 3) := by decide +kernel
theorem dX1_release_11 : decode cX1_release 11 = .ok (.iload_n 1, 1) := by decide +kernel
theorem dX1_release_12 : decode cX1_release 12 = .ok (.iconst 0, 1) := by decide +kernel
theorem dX1_release_13 : decode cX1_release 13 = .ok (.iastore, 1) := by decide +kernel
theorem dX1_release_14 : decode cX1_release 14 = .ok (.aload_n 0, 1) := by decide +kernel
theorem dX1_release_15 : decode cX1_release 15 = .ok (.getfield 20, 3) := by decide +kernel
theorem dX1_release_18 : decode cX1_release 18 = .ok (.iload_n 1, 1) := by decide +kernel
theorem dX1_release_19 : decode cX1_release 19 = .ok (.iconst (-1), 1) := by decide +kernel
theorem dX1_release_20 : decode cX1_release 20 = .ok (.iastore, 1) := by decide +kernel
theorem dX1_release_21 : decode cX1_release 21 = .ok (.aload_n 0, 1) := by decide +kernel
theorem dX1_release_22 : decode cX1_release 22 = .ok (.getfield 26, 3) := by decide +kernel
theorem dX1_release_25 : decode cX1_release 25 = .ok (.iload_n 1, 1) := by decide +kernel
theorem dX1_release_26 : decode cX1_release 26 = .ok (.iconst 0, 1) := by decide +kernel
end
section
set_option maxRecDepth 100000
theorem dX1_release_27 : decode cX1_release 27 = .ok (.iastore, 1) := by decide +kernel
theorem dX1_release_28 : decode cX1_release 28 = .ok (.return_, 1) := by decide +kernel
theorem dX1_forget_0 : decode cX1_forget 0 = .ok (.aload_n 0, 1) := by decide +kernel
theorem dX1_forget_1 : decode cX1_forget 1 = .ok (.invokevirtual 50, 3) := by decide +kernel
theorem dX1_forget_4 : decode cX1_forget 4 = .ok (.istore_n 1, 1) := by decide +kernel
theorem dX1_forget_5 : decode cX1_forget 5 = .ok (.iload_n 1, 1) := by decide +kernel
theorem dX1_forget_6 : decode cX1_forget 6 = .ok (.ifCond .lt 12, 3) := by decide +kernel
theorem dX1_forget_9 : decode cX1_forget 9 = .ok (.aload_n 0, 1) := by decide +kernel
theorem dX1_forget_10 : decode cX1_forget 10 = .ok (.getfield 20, 3) := by decide +kernel
theorem dX1_forget_13 : decode cX1_forget 13 = .ok (.iload_n 1, 1) := by decide +kernel
theorem dX1_forget_14 : decode cX1_forget 14 = .ok (.iaload, 1) := by decide +kernel
theorem dX1_forget_15 : decode cX1_forget 15 = .ok (.ifCond .ge 5, 3) := by decide +kernel
theorem dX1_forget_18 : decode cX1_forget 18 = .ok (.iconst (-1), 1) := by decide +kernel
theorem dX1_forget_19 : decode cX1_forget 19 = .ok (.ireturn, 1) := by decide +kernel
theorem dX1_forget_20 : decode cX1_forget 20 = .ok (.aload_n 0, 1) := by decide +kernel
theorem dX1_forget_21 : decode cX1_forget 21 = .ok (.getfield 20, 3) := by decide +kernel
theorem dX1_forget_24 : decode cX1_forget 24 = .ok (.iload_n 1, 1) := by decide +kernel
theorem dX1_forget_25 : decode cX1_forget 25 = .ok (.iconst (-1), 1) := by decide +kernel
theorem dX1_forget_26 : decode cX1_forget 26 = .ok (.iastore, 1) := by decide +kernel
theorem dX1_forget_27 : decode cX1_forget 27 = .ok (.aload_n 0, 1) := by decide +kernel
theorem dX1_forget_28 : decode cX1_forget 28 = .ok (.invokevirtual 61, 3) := by decide +kernel
theorem dX1_forget_31 : decode cX1_forget 31 = .ok (.aload_n 0, 1) := by decide +kernel
theorem dX1_forget_32 : decode cX1_forget 32 = .ok (.iconst 0, 1) := by decide +kernel
theorem dX1_forget_33 : decode cX1_forget 33 = .ok (.putfield 47, 3) := by decide +kernel
theorem dX1_forget_36 : decode cX1_forget 36 = .ok (.aload_n 0, 1) := by decide +kernel
theorem dX1_forget_37 : decode cX1_forget 37 = .ok (.iconst 0, 1) := by decide +kernel
theorem dX1_forget_38 : decode cX1_forget 38 = .ok (.putfield 57, 3) := by decide +kernel
theorem dX1_forget_41 : decode cX1_forget 41 = .ok (.aload_n 0, 1) := by decide +kernel
theorem dX1_forget_42 : decode cX1_forget 42 = .ok (.getfield 26, 3) := by decide +kernel
theorem dX1_forget_45 : decode cX1_forget 45 = .ok (.iconst 0, 1) := by decide +kernel
theorem dX1_forget_46 : decode cX1_forget 46 = .ok (.iaload, 1) := by decide +kernel
theorem dX1_forget_47 : decode cX1_forget 47 = .ok (.ireturn, 1) := by decide +kernel
theorem dX1_prune_0 : decode cX1_prune 0 = .ok (.iconst 0, 1) := by decide +kernel
theorem dX1_prune_1 : decode cX1_prune 1 = .ok (.istore_n 1, 1) := by decide +kernel
theorem dX1_prune_2 : decode cX1_prune 2 = .ok (.aload_n 0, 1) := by decide +kernel
theorem dX1_prune_3 : decode cX1_prune 3 = .ok (.getfield 26, 3) := by decide +kernel
theorem dX1_prune_6 : decode cX1_prune 6 = .ok (.iconst 0, 1) := by decide +kernel
theorem dX1_prune_7 : decode cX1_prune 7 = .ok (.dup2, 1) := by decide +kernel
theorem dX1_prune_8 : decode cX1_prune 8 = .ok (.iaload, 1) := by decide +kernel
theorem dX1_prune_9 : decode cX1_prune 9 = .ok (.iconst 1, 1) := by decide +kernel
theorem dX1_prune_10 : decode cX1_prune 10 = .ok (.isub, 1) := by decide +kernel
theorem dX1_prune_11 : decode cX1_prune 11 = .ok (.iastore, 1) := by decide +kernel
theorem dX1_prune_12 : decode cX1_prune 12 = .ok (.iconst 0, 1) := by decide +kernel
theorem dX1_prune_13 : decode cX1_prune 13 = .ok (.istore_n 2, 1) := by decide +kernel
theorem dX1_prune_14 : decode cX1_prune 14 = .ok (.iload_n 2, 1) := by decide +kernel
theorem dX1_prune_15 : decode cX1_prune 15 = .ok (.aload_n 0, 1) := by decide +kernel
theorem dX1_prune_16 : decode cX1_prune 16 = .ok (.getfield 47, 3) := by decide +kernel
theorem dX1_prune_19 : decode cX1_prune 19 = .ok (.if_icmp .ge 51, 3) := by decide +kernel
theorem dX1_prune_22 : decode cX1_prune 22 = .ok (.aload_n 0, 1) := by decide +kernel
theorem dX1_prune_23 : decode cX1_prune 23 = .ok (.iload_n 1, 1) := by decide +kernel
theorem dX1_prune_24 : decode cX1_prune 24 = .ok (.aload_n 0, 1) := by decide +kernel
theorem dX1_prune_25 : decode cX1_prune 25 = .ok (.getfield 29, 3) := by decide +kernel
theorem dX1_prune_28 : decode cX1_prune 28 = .ok (.iload_n 2, 1) := by decide +kernel
theorem dX1_prune_29 : decode cX1_prune 29 = .ok (.iaload, 1) := by decide +kernel
theorem dX1_prune_30 : decode cX1_prune 30 = .ok (.invokevirtual 77, 3) := by decide +kernel
theorem dX1_prune_33 : decode cX1_prune 33 = .ok (.istore_n 3, 1) := by decide +kernel
theorem dX1_prune_34 : decode cX1_prune 34 = .ok (.aload_n 0, 1) := by decide +kernel
theorem dX1_prune_35 : decode cX1_prune 35 = .ok (.getfield 26, 3) := by decide +kernel
theorem dX1_prune_38 : decode cX1_prune 38 = .ok (.iload_n 1, 1) := by decide +kernel
theorem dX1_prune_39 : decode cX1_prune 39 = .ok (.iaload, 1) := by decide +kernel
theorem dX1_prune_40 : decode cX1_prune 40 = .ok (.ifCond .ne 12, 3) := by decide +kernel
theorem dX1_prune_43 : decode cX1_prune 43 = .ok (.iload_n 1, 1) := by decide +kernel
theorem dX1_prune_44 : decode cX1_prune 44 = .ok (.ifCond .eq 8, 3) := by decide +kernel
theorem dX1_prune_47 : decode cX1_prune 47 = .ok (.aload_n 0, 1) := by decide +kernel
theorem dX1_prune_48 : decode cX1_prune 48 = .ok (.iload_n 1, 1) := by decide +kernel
theorem dX1_prune_49 : decode cX1_prune 49 = .ok (.invokevirtual 94, 3) := by decide +kernel
theorem dX1_prune_52 : decode cX1_prune 52 = .ok (.aload_n 0, 1) := by decide +kernel
theorem dX1_prune_53 : decode cX1_prune 53 = .ok (.getfield 26, 3) := by decide +kernel
theorem dX1_prune_56 : decode cX1_prune 56 = .ok (.iload_n 3, 1) := by decide +kernel
theorem dX1_prune_57 : decode cX1_prune 57 = .ok (.dup2, 1) := by decide +kernel
theorem dX1_prune_58 : decode cX1_prune 58 = .ok (.iaload, 1) := by decide +kernel
theorem dX1_prune_59 : decode cX1_prune 59 = .ok (.iconst 1, 1) := by decide +kernel
theorem dX1_prune_60 : decode cX1_prune 60 = .ok (.isub, 1) := by decide +kernel
theorem dX1_prune_61 : decode cX1_prune 61 = .ok (.iastore, 1) := by decide +kernel
theorem dX1_prune_62 : decode cX1_prune 62 = .ok (.iload_n 3, 1) := by decide +kernel
theorem dX1_prune_63 : decode cX1_prune 63 = .ok (.istore_n 1, 1) := by decide +kernel
theorem dX1_prune_64 : decode cX1_prune 64 = .ok (.iinc 2 1, 3) := by decide +kernel
theorem dX1_prune_67 : decode cX1_prune 67 = .ok (.goto (-53), 3) := by decide +kernel
theorem dX1_prune_70 : decode cX1_prune 70 = .ok (.aload_n 0, 1) := by decide +kernel
theorem dX1_prune_71 : decode cX1_prune 71 = .ok (.getfield 26, 3) := by decide +kernel
theorem dX1_prune_74 : decode cX1_prune 74 = .ok (.iload_n 1, 1) := by decide +kernel
theorem dX1_prune_75 : decode cX1_prune 75 = .ok (.iaload, 1) := by decide +kernel
theorem dX1_prune_76 : decode cX1_prune 76 = .ok (.ifCond .ne 8, 3) := by decide +kernel
theorem dX1_prune_79 : decode cX1_prune 79 = .ok (.aload_n 0, 1) := by decide +kernel
theorem dX1_prune_80 : decode cX1_prune 80 = .ok (.iload_n 1, 1) := by decide +kernel
theorem dX1_prune_81 : decode cX1_prune 81 = .ok (.invokevirtual 94, 3) := by decide +kernel
theorem dX1_prune_84 : decode cX1_prune 84 = .ok (.return_, 1) := by decide +kernel
theorem dX1_lookUp_0 : decode cX1_lookUp 0 = .ok (.aload_n 0, 1) := by decide +kernel
theorem dX1_lookUp_1 : decode cX1_lookUp 1 = .ok (.invokevirtual 50, 3) := by decide +kernel
theorem dX1_lookUp_4 : decode cX1_lookUp 4 = .ok (.istore_n 1, 1) := by decide +kernel
theorem dX1_lookUp_5 : decode cX1_lookUp 5 = .ok (.iload_n 1, 1) := by decide +kernel
theorem dX1_lookUp_6 : decode cX1_lookUp 6 = .ok (.ifCond .ge 7, 3) := by decide +kernel
theorem dX1_lookUp_9 : decode cX1_lookUp 9 = .ok (.iconst (-1), 1) := by decide +kernel
theorem dX1_lookUp_10 : decode cX1_lookUp 10 = .ok (.goto 9, 3) := by decide +kernel
theorem dX1_lookUp_13 : decode cX1_lookUp 13 = .ok (.aload_n 0, 1) := by decide +kernel
theorem dX1_lookUp_14 : decode cX1_lookUp 14 = .ok (.getfield 20, 3) := by decide +kernel
theorem dX1_lookUp_17 : decode cX1_lookUp 17 = .ok (.iload_n 1, 1) := by decide +kernel
theorem dX1_lookUp_18 : decode cX1_lookUp 18 = .ok (.iaload, 1) := by decide +kernel
theorem dX1_lookUp_19 : decode cX1_lookUp 19 = .ok (.ireturn, 1) := by decide +kernel
theorem dX1_clearSpelling_0 : decode cX1_clearSpelling 0 = .ok (.aload_n 0, 1) := by decide +kernel
theorem dX1_clearSpelling_1 : decode cX1_clearSpelling 1 = .ok (.iconst 0, 1) := by decide +kernel
theorem dX1_clearSpelling_2 : decode cX1_clearSpelling 2 = .ok (.putfield 47, 3) := by decide +kernel
theorem dX1_clearSpelling_5 : decode cX1_clearSpelling 5 = .ok (.return_, 1) := by decide +kernel
theorem dX1_link_0 : decode cX1_link 0 = .ok (.iload_n 1, 1) := by decide +kernel
theorem dX1_link_1 : decode cX1_link 1 = .ok (.ifCond .lt 27, 3) := by decide +kernel
theorem dX1_link_4 : decode cX1_link 4 = .ok (.iload_n 1, 1) := by decide +kernel
theorem dX1_link_5 : decode cX1_link 5 = .ok (.iconst 3, 1) := by decide +kernel
theorem dX1_link_6 : decode cX1_link 6 = .ok (.if_icmp .gt 22, 3) := by decide +kernel
theorem dX1_link_9 : decode cX1_link 9 = .ok (.iload_n 2, 1) := by decide +kernel
theorem dX1_link_10 : decode cX1_link 10 = .ok (.ifCond .lt 18, 3) := by decide +kernel
theorem dX1_link_13 : decode cX1_link 13 = .ok (.iload_n 2, 1) := by decide +kernel
theorem dX1_link_14 : decode cX1_link 14 = .ok (.iconst 3, 1) := by decide +kernel
theorem dX1_link_15 : decode cX1_link 15 = .ok (.if_icmp .gt 13, 3) := by decide +kernel
theorem dX1_link_18 : decode cX1_link 18 = .ok (.iload_n 3, 1) := by decide +kernel
theorem dX1_link_19 : decode cX1_link 19 = .ok (.ifCond .lt 9, 3) := by decide +kernel
theorem dX1_link_22 : decode cX1_link 22 = .ok (.iload_n 3, 1) := by decide +kernel
theorem dX1_link_23 : decode cX1_link 23 = .ok (.bipush 99, 2) := by decide +kernel
theorem dX1_link_25 : decode cX1_link 25 = .ok (.if_icmp .le 5, 3) := by decide +kernel
theorem dX1_link_28 : decode cX1_link 28 = .ok (.iconst (-1), 1) := by decide +kernel
theorem dX1_link_29 : decode cX1_link 29 = .ok (.ireturn, 1) := by decide +kernel
theorem dX1_link_30 : decode cX1_link 30 = .ok (.aload_n 0, 1) := by decide +kernel
theorem dX1_link_31 : decode cX1_link 31 = .ok (.getfield 35, 3) := by decide +kernel
theorem dX1_link_34 : decode cX1_link 34 = .ok (.iconst 4, 1) := by decide +kernel
theorem dX1_link_35 : decode cX1_link 35 = .ok (.iload_n 1, 1) := by decide +kernel
theorem dX1_link_36 : decode cX1_link 36 = .ok (.imul, 1) := by decide +kernel
theorem dX1_link_37 : decode cX1_link 37 = .ok (.iload_n 2, 1) := by decide +kernel
theorem dX1_link_38 : decode cX1_link 38 = .ok (.iadd, 1) := by decide +kernel
theorem dX1_link_39 : decode cX1_link 39 = .ok (.iaload, 1) := by decide +kernel
theorem dX1_link_40 : decode cX1_link 40 = .ok (.istore 4, 2) := by decide +kernel
theorem dX1_link_42 : decode cX1_link 42 = .ok (.aload_n 0, 1) := by decide +kernel
theorem dX1_link_43 : decode cX1_link 43 = .ok (.getfield 35, 3) := by decide +kernel
theorem dX1_link_46 : decode cX1_link 46 = .ok (.iconst 4, 1) := by decide +kernel
theorem dX1_link_47 : decode cX1_link 47 = .ok (.iload_n 1, 1) := by decide +kernel
theorem dX1_link_48 : decode cX1_link 48 = .ok (.imul, 1) := by decide +kernel
theorem dX1_link_49 : decode cX1_link 49 = .ok (.iload_n 2, 1) := by decide +kernel
theorem dX1_link_50 : decode cX1_link 50 = .ok (.iadd, 1) := by decide +kernel
theorem dX1_link_51 : decode cX1_link 51 = .ok (.iload_n 3, 1) := by decide +kernel
theorem dX1_link_52 : decode cX1_link 52 = .ok (.iastore, 1) := by decide +kernel
theorem dX1_link_53 : decode cX1_link 53 = .ok (.aload_n 0, 1) := by decide +kernel
theorem dX1_link_54 : decode cX1_link 54 = .ok (.iconst 0, 1) := by decide +kernel
theorem dX1_link_55 : decode cX1_link 55 = .ok (.putfield 57, 3) := by decide +kernel
theorem dX1_link_58 : decode cX1_link 58 = .ok (.iload 4, 2) := by decide +kernel
theorem dX1_link_60 : decode cX1_link 60 = .ok (.ireturn, 1) := by decide +kernel
theorem dX1_type_0 : decode cX1_type 0 = .ok (.aload_n 0, 1) := by decide +kernel
theorem dX1_type_1 : decode cX1_type 1 = .ok (.getfield 64, 3) := by decide +kernel
theorem dX1_type_4 : decode cX1_type 4 = .ok (.bipush 12, 2) := by decide +kernel
theorem dX1_type_6 : decode cX1_type 6 = .ok (.if_icmp .lt 5, 3) := by decide +kernel
theorem dX1_type_9 : decode cX1_type 9 = .ok (.iconst (-1), 1) := by decide +kernel
theorem dX1_type_10 : decode cX1_type 10 = .ok (.ireturn, 1) := by decide +kernel
theorem dX1_type_11 : decode cX1_type 11 = .ok (.aload_n 0, 1) := by decide +kernel
theorem dX1_type_12 : decode cX1_type 12 = .ok (.getfield 32, 3) := by decide +kernel
theorem dX1_type_15 : decode cX1_type 15 = .ok (.aload_n 0, 1) := by decide +kernel
theorem dX1_type_16 : decode cX1_type 16 = .ok (.getfield 64, 3) := by decide +kernel
theorem dX1_type_19 : decode cX1_type 19 = .ok (.iload_n 1, 1) := by decide +kernel
theorem dX1_type_20 : decode cX1_type 20 = .ok (.iconst 3, 1) := by decide +kernel
theorem dX1_type_21 : decode cX1_type 21 = .ok (.iand, 1) := by decide +kernel
theorem dX1_type_22 : decode cX1_type 22 = .ok (.iastore, 1) := by decide +kernel
theorem dX1_type_23 : decode cX1_type 23 = .ok (.aload_n 0, 1) := by decide +kernel
theorem dX1_type_24 : decode cX1_type 24 = .ok (.dup, 1) := by decide +kernel
theorem dX1_type_25 : decode cX1_type 25 = .ok (.getfield 64, 3) := by decide +kernel
theorem dX1_type_28 : decode cX1_type 28 = .ok (.iconst 1, 1) := by decide +kernel
theorem dX1_type_29 : decode cX1_type 29 = .ok (.iadd, 1) := by decide +kernel
theorem dX1_type_30 : decode cX1_type 30 = .ok (.putfield 64, 3) := by decide +kernel
theorem dX1_type_33 : decode cX1_type 33 = .ok (.aload_n 0, 1) := by decide +kernel
theorem dX1_type_34 : decode cX1_type 34 = .ok (.iconst 0, 1) := by decide +kernel
theorem dX1_type_35 : decode cX1_type 35 = .ok (.putfield 57, 3) := by decide +kernel
theorem dX1_type_38 : decode cX1_type 38 = .ok (.aload_n 0, 1) := by decide +kernel
theorem dX1_type_39 : decode cX1_type 39 = .ok (.getfield 64, 3) := by decide +kernel
theorem dX1_type_42 : decode cX1_type 42 = .ok (.ireturn, 1) := by decide +kernel
theorem dX1_clearText_0 : decode cX1_clearText 0 = .ok (.aload_n 0, 1) := by decide +kernel
theorem dX1_clearText_1 : decode cX1_clearText 1 = .ok (.iconst 0, 1) := by decide +kernel
theorem dX1_clearText_2 : decode cX1_clearText 2 = .ok (.putfield 64, 3) := by decide +kernel
theorem dX1_clearText_5 : decode cX1_clearText 5 = .ok (.aload_n 0, 1) := by decide +kernel
theorem dX1_clearText_6 : decode cX1_clearText 6 = .ok (.iconst 0, 1) := by decide +kernel
theorem dX1_clearText_7 : decode cX1_clearText 7 = .ok (.putfield 57, 3) := by decide +kernel
theorem dX1_clearText_10 : decode cX1_clearText 10 = .ok (.return_, 1) := by decide +kernel
theorem dX1_cost_0 : decode cX1_cost 0 = .ok (.aload_n 0, 1) := by decide +kernel
theorem dX1_cost_1 : decode cX1_cost 1 = .ok (.invokevirtual 67, 3) := by decide +kernel
theorem dX1_cost_4 : decode cX1_cost 4 = .ok (.aload_n 0, 1) := by decide +kernel
theorem dX1_cost_5 : decode cX1_cost 5 = .ok (.getfield 38, 3) := by decide +kernel
theorem dX1_cost_8 : decode cX1_cost 8 = .ok (.iconst 4, 1) := by decide +kernel
theorem dX1_cost_9 : decode cX1_cost 9 = .ok (.iaload, 1) := by decide +kernel
theorem dX1_cost_10 : decode cX1_cost 10 = .ok (.ireturn, 1) := by decide +kernel
theorem dX1_cutText_0 : decode cX1_cutText 0 = .ok (.aload_n 0, 1) := by decide +kernel
theorem dX1_cutText_1 : decode cX1_cutText 1 = .ok (.getfield 57, 3) := by decide +kernel
theorem dX1_cutText_4 : decode cX1_cutText 4 = .ok (.ifCond .eq 4, 3) := by decide +kernel
theorem dX1_cutText_7 : decode cX1_cutText 7 = .ok (.return_, 1) := by decide +kernel
theorem dX1_cutText_8 : decode cX1_cutText 8 = .ok (.aload_n 0, 1) := by decide +kernel
theorem dX1_cutText_9 : decode cX1_cutText 9 = .ok (.iconst 1, 1) := by decide +kernel
theorem dX1_cutText_10 : decode cX1_cutText 10 = .ok (.putfield 57, 3) := by decide +kernel
theorem dX1_cutText_13 : decode cX1_cutText 13 = .ok (.iconst 0, 1) := by decide +kernel
theorem dX1_cutText_14 : decode cX1_cutText 14 = .ok (.istore_n 1, 1) := by decide +kernel
theorem dX1_cutText_15 : decode cX1_cutText 15 = .ok (.iload_n 1, 1) := by decide +kernel
theorem dX1_cutText_16 : decode cX1_cutText 16 = .ok (.iconst 5, 1) := by decide +kernel
theorem dX1_cutText_17 : decode cX1_cutText 17 = .ok (.if_icmp .ge 51, 3) := by decide +kernel
theorem dX1_cutText_20 : decode cX1_cutText 20 = .ok (.aload_n 0, 1) := by decide +kernel
theorem dX1_cutText_21 : decode cX1_cutText 21 = .ok (.getfield 38, 3) := by decide +kernel
theorem dX1_cutText_24 : decode cX1_cutText 24 = .ok (.iconst 5, 1) := by decide +kernel
theorem dX1_cutText_25 : decode cX1_cutText 25 = .ok (.aload_n 0, 1) := by decide +kernel
theorem dX1_cutText_26 : decode cX1_cutText 26 = .ok (.getfield 64, 3) := by decide +kernel
theorem dX1_cutText_29 : decode cX1_cutText 29 = .ok (.imul, 1) := by decide +kernel
theorem dX1_cutText_30 : decode cX1_cutText 30 = .ok (.iload_n 1, 1) := by decide +kernel
theorem dX1_cutText_31 : decode cX1_cutText 31 = .ok (.iadd, 1) := by decide +kernel
theorem dX1_cutText_32 : decode cX1_cutText 32 = .ok (.iconst 0, 1) := by decide +kernel
theorem dX1_cutText_33 : decode cX1_cutText 33 = .ok (.iastore, 1) := by decide +kernel
theorem dX1_cutText_34 : decode cX1_cutText 34 = .ok (.aload_n 0, 1) := by decide +kernel
theorem dX1_cutText_35 : decode cX1_cutText 35 = .ok (.getfield 41, 3) := by decide +kernel
theorem dX1_cutText_38 : decode cX1_cutText 38 = .ok (.iconst 5, 1) := by decide +kernel
theorem dX1_cutText_39 : decode cX1_cutText 39 = .ok (.aload_n 0, 1) := by decide +kernel
theorem dX1_cutText_40 : decode cX1_cutText 40 = .ok (.getfield 64, 3) := by decide +kernel
theorem dX1_cutText_43 : decode cX1_cutText 43 = .ok (.imul, 1) := by decide +kernel
theorem dX1_cutText_44 : decode cX1_cutText 44 = .ok (.iload_n 1, 1) := by decide +kernel
theorem dX1_cutText_45 : decode cX1_cutText 45 = .ok (.iadd, 1) := by decide +kernel
theorem dX1_cutText_46 : decode cX1_cutText 46 = .ok (.iconst 1, 1) := by decide +kernel
theorem dX1_cutText_47 : decode cX1_cutText 47 = .ok (.iastore, 1) := by decide +kernel
theorem dX1_cutText_48 : decode cX1_cutText 48 = .ok (.aload_n 0, 1) := by decide +kernel
theorem dX1_cutText_49 : decode cX1_cutText 49 = .ok (.getfield 44, 3) := by decide +kernel
theorem dX1_cutText_52 : decode cX1_cutText 52 = .ok (.iconst 5, 1) := by decide +kernel
theorem dX1_cutText_53 : decode cX1_cutText 53 = .ok (.aload_n 0, 1) := by decide +kernel
theorem dX1_cutText_54 : decode cX1_cutText 54 = .ok (.getfield 64, 3) := by decide +kernel
theorem dX1_cutText_57 : decode cX1_cutText 57 = .ok (.imul, 1) := by decide +kernel
theorem dX1_cutText_58 : decode cX1_cutText 58 = .ok (.iload_n 1, 1) := by decide +kernel
theorem dX1_cutText_59 : decode cX1_cutText 59 = .ok (.iadd, 1) := by decide +kernel
theorem dX1_cutText_60 : decode cX1_cutText 60 = .ok (.iconst 0, 1) := by decide +kernel
theorem dX1_cutText_61 : decode cX1_cutText 61 = .ok (.iastore, 1) := by decide +kernel
theorem dX1_cutText_62 : decode cX1_cutText 62 = .ok (.iinc 1 1, 3) := by decide +kernel
theorem dX1_cutText_65 : decode cX1_cutText 65 = .ok (.goto (-50), 3) := by decide +kernel
theorem dX1_cutText_68 : decode cX1_cutText 68 = .ok (.aload_n 0, 1) := by decide +kernel
theorem dX1_cutText_69 : decode cX1_cutText 69 = .ok (.getfield 64, 3) := by decide +kernel
theorem dX1_cutText_72 : decode cX1_cutText 72 = .ok (.iconst 1, 1) := by decide +kernel
theorem dX1_cutText_73 : decode cX1_cutText 73 = .ok (.isub, 1) := by decide +kernel
theorem dX1_cutText_74 : decode cX1_cutText 74 = .ok (.istore_n 1, 1) := by decide +kernel
theorem dX1_cutText_75 : decode cX1_cutText 75 = .ok (.iload_n 1, 1) := by decide +kernel
theorem dX1_cutText_76 : decode cX1_cutText 76 = .ok (.ifCond .lt 77, 3) := by decide +kernel
theorem dX1_cutText_79 : decode cX1_cutText 79 = .ok (.iconst 0, 1) := by decide +kernel
theorem dX1_cutText_80 : decode cX1_cutText 80 = .ok (.istore_n 2, 1) := by decide +kernel
theorem dX1_cutText_81 : decode cX1_cutText 81 = .ok (.iload_n 2, 1) := by decide +kernel
theorem dX1_cutText_82 : decode cX1_cutText 82 = .ok (.iconst 5, 1) := by decide +kernel
theorem dX1_cutText_83 : decode cX1_cutText 83 = .ok (.if_icmp .ge 32, 3) := by decide +kernel
theorem dX1_cutText_86 : decode cX1_cutText 86 = .ok (.aload_n 0, 1) := by decide +kernel
theorem dX1_cutText_87 : decode cX1_cutText 87 = .ok (.getfield 38, 3) := by decide +kernel
theorem dX1_cutText_90 : decode cX1_cutText 90 = .ok (.iconst 5, 1) := by decide +kernel
theorem dX1_cutText_91 : decode cX1_cutText 91 = .ok (.iload_n 1, 1) := by decide +kernel
theorem dX1_cutText_92 : decode cX1_cutText 92 = .ok (.imul, 1) := by decide +kernel
theorem dX1_cutText_93 : decode cX1_cutText 93 = .ok (.iload_n 2, 1) := by decide +kernel
theorem dX1_cutText_94 : decode cX1_cutText 94 = .ok (.iadd, 1) := by decide +kernel
theorem dX1_cutText_95 : decode cX1_cutText 95 = .ok (.ldc 101, 2) := by decide +kernel
theorem dX1_cutText_97 : decode cX1_cutText 97 = .ok (.iastore, 1) := by decide +kernel
theorem dX1_cutText_98 : decode cX1_cutText 98 = .ok (.aload_n 0, 1) := by decide +kernel
theorem dX1_cutText_99 : decode cX1_cutText 99 = .ok (.getfield 41, 3) := by decide +kernel
theorem dX1_cutText_102 : decode cX1_cutText 102 = .ok (.iconst 5, 1) := by decide +kernel
theorem dX1_cutText_103 : decode cX1_cutText 103 = .ok (.iload_n 1, 1) := by decide +kernel
theorem dX1_cutText_104 : decode cX1_cutText 104 = .ok (.imul, 1) := by decide +kernel
theorem dX1_cutText_105 : decode cX1_cutText 105 = .ok (.iload_n 2, 1) := by decide +kernel
theorem dX1_cutText_106 : decode cX1_cutText 106 = .ok (.iadd, 1) := by decide +kernel
theorem dX1_cutText_107 : decode cX1_cutText 107 = .ok (.iconst 0, 1) := by decide +kernel
theorem dX1_cutText_108 : decode cX1_cutText 108 = .ok (.iastore, 1) := by decide +kernel
theorem dX1_cutText_109 : decode cX1_cutText 109 = .ok (.iinc 2 1, 3) := by decide +kernel
theorem dX1_cutText_112 : decode cX1_cutText 112 = .ok (.goto (-31), 3) := by decide +kernel
theorem dX1_cutText_115 : decode cX1_cutText 115 = .ok (.iconst 1, 1) := by decide +kernel
theorem dX1_cutText_116 : decode cX1_cutText 116 = .ok (.istore_n 2, 1) := by decide +kernel
theorem dX1_cutText_117 : decode cX1_cutText 117 = .ok (.iload_n 2, 1) := by decide +kernel
theorem dX1_cutText_118 : decode cX1_cutText 118 = .ok (.iconst 5, 1) := by decide +kernel
theorem dX1_cutText_119 : decode cX1_cutText 119 = .ok (.if_icmp .gt 28, 3) := by decide +kernel
theorem dX1_cutText_122 : decode cX1_cutText 122 = .ok (.aload_n 0, 1) := by decide +kernel
theorem dX1_cutText_123 : decode cX1_cutText 123 = .ok (.iload_n 1, 1) := by decide +kernel
theorem dX1_cutText_124 : decode cX1_cutText 124 = .ok (.iload_n 2, 1) := by decide +kernel
theorem dX1_cutText_125 : decode cX1_cutText 125 = .ok (.invokevirtual 70, 3) := by decide +kernel
theorem dX1_cutText_128 : decode cX1_cutText 128 = .ok (.aload_n 0, 1) := by decide +kernel
theorem dX1_cutText_129 : decode cX1_cutText 129 = .ok (.getfield 98, 3) := by decide +kernel
theorem dX1_cutText_132 : decode cX1_cutText 132 = .ok (.ifCond .lt 9, 3) := by decide +kernel
theorem dX1_cutText_135 : decode cX1_cutText 135 = .ok (.aload_n 0, 1) := by decide +kernel
theorem dX1_cutText_136 : decode cX1_cutText 136 = .ok (.iload_n 1, 1) := by decide +kernel
theorem dX1_cutText_137 : decode cX1_cutText 137 = .ok (.iload_n 2, 1) := by decide +kernel
theorem dX1_cutText_138 : decode cX1_cutText 138 = .ok (.invokevirtual 102, 3) := by decide +kernel
theorem dX1_cutText_141 : decode cX1_cutText 141 = .ok (.iinc 2 1, 3) := by decide +kernel
theorem dX1_cutText_144 : decode cX1_cutText 144 = .ok (.goto (-27), 3) := by decide +kernel
theorem dX1_cutText_147 : decode cX1_cutText 147 = .ok (.iinc 1 (-1), 3) := by decide +kernel
theorem dX1_cutText_150 : decode cX1_cutText 150 = .ok (.goto (-75), 3) := by decide +kernel
theorem dX1_cutText_153 : decode cX1_cutText 153 = .ok (.return_, 1) := by decide +kernel
theorem dX1_fitPiece_0 : decode cX1_fitPiece 0 = .ok (.aload_n 0, 1) := by decide +kernel
theorem dX1_fitPiece_1 : decode cX1_fitPiece 1 = .ok (.iconst (-1), 1) := by decide +kernel
theorem dX1_fitPiece_2 : decode cX1_fitPiece 2 = .ok (.putfield 98, 3) := by decide +kernel
theorem dX1_fitPiece_5 : decode cX1_fitPiece 5 = .ok (.aload_n 0, 1) := by decide +kernel
theorem dX1_fitPiece_6 : decode cX1_fitPiece 6 = .ok (.iconst 3, 1) := by decide +kernel
theorem dX1_fitPiece_7 : decode cX1_fitPiece 7 = .ok (.putfield 74, 3) := by decide +kernel
theorem dX1_fitPiece_10 : decode cX1_fitPiece 10 = .ok (.iload_n 1, 1) := by decide +kernel
theorem dX1_fitPiece_11 : decode cX1_fitPiece 11 = .ok (.iload_n 2, 1) := by decide +kernel
theorem dX1_fitPiece_12 : decode cX1_fitPiece 12 = .ok (.iadd, 1) := by decide +kernel
theorem dX1_fitPiece_13 : decode cX1_fitPiece 13 = .ok (.aload_n 0, 1) := by decide +kernel
theorem dX1_fitPiece_14 : decode cX1_fitPiece 14 = .ok (.getfield 64, 3) := by decide +kernel
theorem dX1_fitPiece_17 : decode cX1_fitPiece 17 = .ok (.if_icmp .le 4, 3) := by decide +kernel
theorem dX1_fitPiece_20 : decode cX1_fitPiece 20 = .ok (.return_, 1) := by decide +kernel
theorem dX1_fitPiece_21 : decode cX1_fitPiece 21 = .ok (.iconst 0, 1) := by decide +kernel
theorem dX1_fitPiece_22 : decode cX1_fitPiece 22 = .ok (.istore_n 3, 1) := by decide +kernel
theorem dX1_fitPiece_23 : decode cX1_fitPiece 23 = .ok (.iconst 0, 1) := by decide +kernel
theorem dX1_fitPiece_24 : decode cX1_fitPiece 24 = .ok (.istore 4, 2) := by decide +kernel
theorem dX1_fitPiece_26 : decode cX1_fitPiece 26 = .ok (.iload 4, 2) := by decide +kernel
theorem dX1_fitPiece_28 : decode cX1_fitPiece 28 = .ok (.iload_n 2, 1) := by decide +kernel
theorem dX1_fitPiece_29 : decode cX1_fitPiece 29 = .ok (.if_icmp .ge 28, 3) := by decide +kernel
theorem dX1_fitPiece_32 : decode cX1_fitPiece 32 = .ok (.iload_n 3, 1) := by decide +kernel
theorem dX1_fitPiece_33 : decode cX1_fitPiece 33 = .ok (.ifCond .lt 24, 3) := by decide +kernel
theorem dX1_fitPiece_36 : decode cX1_fitPiece 36 = .ok (.aload_n 0, 1) := by decide +kernel
theorem dX1_fitPiece_37 : decode cX1_fitPiece 37 = .ok (.iload_n 3, 1) := by decide +kernel
theorem dX1_fitPiece_38 : decode cX1_fitPiece 38 = .ok (.aload_n 0, 1) := by decide +kernel
theorem dX1_fitPiece_39 : decode cX1_fitPiece 39 = .ok (.getfield 32, 3) := by decide +kernel
theorem dX1_fitPiece_42 : decode cX1_fitPiece 42 = .ok (.iload_n 1, 1) := by decide +kernel
theorem dX1_fitPiece_43 : decode cX1_fitPiece 43 = .ok (.iload 4, 2) := by decide +kernel
theorem dX1_fitPiece_45 : decode cX1_fitPiece 45 = .ok (.iadd, 1) := by decide +kernel
theorem dX1_fitPiece_46 : decode cX1_fitPiece 46 = .ok (.iaload, 1) := by decide +kernel
theorem dX1_fitPiece_47 : decode cX1_fitPiece 47 = .ok (.invokevirtual 77, 3) := by decide +kernel
theorem dX1_fitPiece_50 : decode cX1_fitPiece 50 = .ok (.istore_n 3, 1) := by decide +kernel
theorem dX1_fitPiece_51 : decode cX1_fitPiece 51 = .ok (.iinc 4 1, 3) := by decide +kernel
theorem dX1_fitPiece_54 : decode cX1_fitPiece 54 = .ok (.goto (-28), 3) := by decide +kernel
theorem dX1_fitPiece_57 : decode cX1_fitPiece 57 = .ok (.iload_n 3, 1) := by decide +kernel
theorem dX1_fitPiece_58 : decode cX1_fitPiece 58 = .ok (.ifCond .lt 35, 3) := by decide +kernel
theorem dX1_fitPiece_61 : decode cX1_fitPiece 61 = .ok (.aload_n 0, 1) := by decide +kernel
theorem dX1_fitPiece_62 : decode cX1_fitPiece 62 = .ok (.getfield 20, 3) := by decide +kernel
theorem dX1_fitPiece_65 : decode cX1_fitPiece 65 = .ok (.iload_n 3, 1) := by decide +kernel
theorem dX1_fitPiece_66 : decode cX1_fitPiece 66 = .ok (.iaload, 1) := by decide +kernel
theorem dX1_fitPiece_67 : decode cX1_fitPiece 67 = .ok (.ifCond .lt 26, 3) := by decide +kernel
theorem dX1_fitPiece_70 : decode cX1_fitPiece 70 = .ok (.aload_n 0, 1) := by decide +kernel
theorem dX1_fitPiece_71 : decode cX1_fitPiece 71 = .ok (.aload_n 0, 1) := by decide +kernel
theorem dX1_fitPiece_72 : decode cX1_fitPiece 72 = .ok (.getfield 20, 3) := by decide +kernel
theorem dX1_fitPiece_75 : decode cX1_fitPiece 75 = .ok (.iload_n 3, 1) := by decide +kernel
theorem dX1_fitPiece_76 : decode cX1_fitPiece 76 = .ok (.iaload, 1) := by decide +kernel
theorem dX1_fitPiece_77 : decode cX1_fitPiece 77 = .ok (.putfield 98, 3) := by decide +kernel
theorem dX1_fitPiece_80 : decode cX1_fitPiece 80 = .ok (.aload_n 0, 1) := by decide +kernel
theorem dX1_fitPiece_81 : decode cX1_fitPiece 81 = .ok (.aload_n 0, 1) := by decide +kernel
theorem dX1_fitPiece_82 : decode cX1_fitPiece 82 = .ok (.getfield 23, 3) := by decide +kernel
theorem dX1_fitPiece_85 : decode cX1_fitPiece 85 = .ok (.iload_n 3, 1) := by decide +kernel
theorem dX1_fitPiece_86 : decode cX1_fitPiece 86 = .ok (.iaload, 1) := by decide +kernel
theorem dX1_fitPiece_87 : decode cX1_fitPiece 87 = .ok (.putfield 74, 3) := by decide +kernel
theorem dX1_fitPiece_90 : decode cX1_fitPiece 90 = .ok (.goto 16, 3) := by decide +kernel
theorem dX1_fitPiece_93 : decode cX1_fitPiece 93 = .ok (.iload_n 2, 1) := by decide +kernel
theorem dX1_fitPiece_94 : decode cX1_fitPiece 94 = .ok (.iconst 1, 1) := by decide +kernel
theorem dX1_fitPiece_95 : decode cX1_fitPiece 95 = .ok (.if_icmp .ne 11, 3) := by decide +kernel
theorem dX1_fitPiece_98 : decode cX1_fitPiece 98 = .ok (.aload_n 0, 1) := by decide +kernel
theorem dX1_fitPiece_99 : decode cX1_fitPiece 99 = .ok (.aload_n 0, 1) := by decide +kernel
theorem dX1_fitPiece_100 : decode cX1_fitPiece 100 = .ok (.getfield 7, 3) := by decide +kernel
theorem dX1_fitPiece_103 : decode cX1_fitPiece 103 = .ok (.putfield 98, 3) := by decide +kernel
theorem dX1_fitPiece_106 : decode cX1_fitPiece 106 = .ok (.return_, 1) := by decide +kernel
theorem dX1_usePiece_0 : decode cX1_usePiece 0 = .ok (.iconst 5, 1) := by decide +kernel
theorem dX1_usePiece_1 : decode cX1_usePiece 1 = .ok (.iload_n 1, 1) := by decide +kernel
theorem dX1_usePiece_2 : decode cX1_usePiece 2 = .ok (.iload_n 2, 1) := by decide +kernel
theorem dX1_usePiece_3 : decode cX1_usePiece 3 = .ok (.iadd, 1) := by decide +kernel
theorem dX1_usePiece_4 : decode cX1_usePiece 4 = .ok (.imul, 1) := by decide +kernel
theorem dX1_usePiece_5 : decode cX1_usePiece 5 = .ok (.aload_n 0, 1) := by decide +kernel
theorem dX1_usePiece_6 : decode cX1_usePiece 6 = .ok (.getfield 74, 3) := by decide +kernel
theorem dX1_usePiece_9 : decode cX1_usePiece 9 = .ok (.iadd, 1) := by decide +kernel
theorem dX1_usePiece_10 : decode cX1_usePiece 10 = .ok (.istore_n 3, 1) := by decide +kernel
theorem dX1_usePiece_11 : decode cX1_usePiece 11 = .ok (.iconst 0, 1) := by decide +kernel
theorem dX1_usePiece_12 : decode cX1_usePiece 12 = .ok (.istore 4, 2) := by decide +kernel
theorem dX1_usePiece_14 : decode cX1_usePiece 14 = .ok (.iload 4, 2) := by decide +kernel
theorem dX1_usePiece_16 : decode cX1_usePiece 16 = .ok (.iconst 5, 1) := by decide +kernel
theorem dX1_usePiece_17 : decode cX1_usePiece 17 = .ok (.if_icmp .ge 136, 3) := by decide +kernel
theorem dX1_usePiece_20 : decode cX1_usePiece 20 = .ok (.aload_n 0, 1) := by decide +kernel
theorem dX1_usePiece_21 : decode cX1_usePiece 21 = .ok (.getfield 98, 3) := by decide +kernel
theorem dX1_usePiece_24 : decode cX1_usePiece 24 = .ok (.aload_n 0, 1) := by decide +kernel
theorem dX1_usePiece_25 : decode cX1_usePiece 25 = .ok (.getfield 38, 3) := by decide +kernel
theorem dX1_usePiece_28 : decode cX1_usePiece 28 = .ok (.iload_n 3, 1) := by decide +kernel
theorem dX1_usePiece_29 : decode cX1_usePiece 29 = .ok (.iaload, 1) := by decide +kernel
theorem dX1_usePiece_30 : decode cX1_usePiece 30 = .ok (.iadd, 1) := by decide +kernel
theorem dX1_usePiece_31 : decode cX1_usePiece 31 = .ok (.iload 4, 2) := by decide +kernel
theorem dX1_usePiece_33 : decode cX1_usePiece 33 = .ok (.iconst 4, 1) := by decide +kernel
theorem dX1_usePiece_34 : decode cX1_usePiece 34 = .ok (.if_icmp .ge 20, 3) := by decide +kernel
theorem dX1_usePiece_37 : decode cX1_usePiece 37 = .ok (.aload_n 0, 1) := by decide +kernel
theorem dX1_usePiece_38 : decode cX1_usePiece 38 = .ok (.getfield 35, 3) := by decide +kernel
theorem dX1_usePiece_41 : decode cX1_usePiece 41 = .ok (.iconst 4, 1) := by decide +kernel
theorem dX1_usePiece_42 : decode cX1_usePiece 42 = .ok (.iload 4, 2) := by decide +kernel
theorem dX1_usePiece_44 : decode cX1_usePiece 44 = .ok (.imul, 1) := by decide +kernel
theorem dX1_usePiece_45 : decode cX1_usePiece 45 = .ok (.aload_n 0, 1) := by decide +kernel
theorem dX1_usePiece_46 : decode cX1_usePiece 46 = .ok (.getfield 74, 3) := by decide +kernel
theorem dX1_usePiece_49 : decode cX1_usePiece 49 = .ok (.iadd, 1) := by decide +kernel
theorem dX1_usePiece_50 : decode cX1_usePiece 50 = .ok (.iaload, 1) := by decide +kernel
theorem dX1_usePiece_51 : decode cX1_usePiece 51 = .ok (.goto 4, 3) := by decide +kernel
theorem dX1_usePiece_54 : decode cX1_usePiece 54 = .ok (.iconst 0, 1) := by decide +kernel
theorem dX1_usePiece_55 : decode cX1_usePiece 55 = .ok (.iadd, 1) := by decide +kernel
theorem dX1_usePiece_56 : decode cX1_usePiece 56 = .ok (.istore 5, 2) := by decide +kernel
theorem dX1_usePiece_58 : decode cX1_usePiece 58 = .ok (.iconst 5, 1) := by decide +kernel
theorem dX1_usePiece_59 : decode cX1_usePiece 59 = .ok (.iload_n 1, 1) := by decide +kernel
theorem dX1_usePiece_60 : decode cX1_usePiece 60 = .ok (.imul, 1) := by decide +kernel
theorem dX1_usePiece_61 : decode cX1_usePiece 61 = .ok (.iload 4, 2) := by decide +kernel
theorem dX1_usePiece_63 : decode cX1_usePiece 63 = .ok (.iadd, 1) := by decide +kernel
theorem dX1_usePiece_64 : decode cX1_usePiece 64 = .ok (.istore 6, 2) := by decide +kernel
theorem dX1_usePiece_66 : decode cX1_usePiece 66 = .ok (.iload 5, 2) := by decide +kernel
theorem dX1_usePiece_68 : decode cX1_usePiece 68 = .ok (.aload_n 0, 1) := by decide +kernel
theorem dX1_usePiece_69 : decode cX1_usePiece 69 = .ok (.getfield 38, 3) := by decide +kernel
theorem dX1_usePiece_72 : decode cX1_usePiece 72 = .ok (.iload 6, 2) := by decide +kernel
theorem dX1_usePiece_74 : decode cX1_usePiece 74 = .ok (.iaload, 1) := by decide +kernel
theorem dX1_usePiece_75 : decode cX1_usePiece 75 = .ok (.if_icmp .ge 36, 3) := by decide +kernel
theorem dX1_usePiece_78 : decode cX1_usePiece 78 = .ok (.aload_n 0, 1) := by decide +kernel
theorem dX1_usePiece_79 : decode cX1_usePiece 79 = .ok (.getfield 38, 3) := by decide +kernel
theorem dX1_usePiece_82 : decode cX1_usePiece 82 = .ok (.iload 6, 2) := by decide +kernel
theorem dX1_usePiece_84 : decode cX1_usePiece 84 = .ok (.iload 5, 2) := by decide +kernel
theorem dX1_usePiece_86 : decode cX1_usePiece 86 = .ok (.iastore, 1) := by decide +kernel
theorem dX1_usePiece_87 : decode cX1_usePiece 87 = .ok (.aload_n 0, 1) := by decide +kernel
theorem dX1_usePiece_88 : decode cX1_usePiece 88 = .ok (.getfield 41, 3) := by decide +kernel
theorem dX1_usePiece_91 : decode cX1_usePiece 91 = .ok (.iload 6, 2) := by decide +kernel
theorem dX1_usePiece_93 : decode cX1_usePiece 93 = .ok (.aload_n 0, 1) := by decide +kernel
theorem dX1_usePiece_94 : decode cX1_usePiece 94 = .ok (.getfield 41, 3) := by decide +kernel
theorem dX1_usePiece_97 : decode cX1_usePiece 97 = .ok (.iload_n 3, 1) := by decide +kernel
theorem dX1_usePiece_98 : decode cX1_usePiece 98 = .ok (.iaload, 1) := by decide +kernel
theorem dX1_usePiece_99 : decode cX1_usePiece 99 = .ok (.iastore, 1) := by decide +kernel
theorem dX1_usePiece_100 : decode cX1_usePiece 100 = .ok (.aload_n 0, 1) := by decide +kernel
theorem dX1_usePiece_101 : decode cX1_usePiece 101 = .ok (.getfield 44, 3) := by decide +kernel
theorem dX1_usePiece_104 : decode cX1_usePiece 104 = .ok (.iload 6, 2) := by decide +kernel
theorem dX1_usePiece_106 : decode cX1_usePiece 106 = .ok (.iload_n 2, 1) := by decide +kernel
theorem dX1_usePiece_107 : decode cX1_usePiece 107 = .ok (.iastore, 1) := by decide +kernel
theorem dX1_usePiece_108 : decode cX1_usePiece 108 = .ok (.goto 39, 3) := by decide +kernel
theorem dX1_usePiece_111 : decode cX1_usePiece 111 = .ok (.iload 5, 2) := by decide +kernel
theorem dX1_usePiece_113 : decode cX1_usePiece 113 = .ok (.aload_n 0, 1) := by decide +kernel
theorem dX1_usePiece_114 : decode cX1_usePiece 114 = .ok (.getfield 38, 3) := by decide +kernel
theorem dX1_usePiece_117 : decode cX1_usePiece 117 = .ok (.iload 6, 2) := by decide +kernel
theorem dX1_usePiece_119 : decode cX1_usePiece 119 = .ok (.iaload, 1) := by decide +kernel
theorem dX1_usePiece_120 : decode cX1_usePiece 120 = .ok (.if_icmp .ne 27, 3) := by decide +kernel
theorem dX1_usePiece_123 : decode cX1_usePiece 123 = .ok (.aload_n 0, 1) := by decide +kernel
theorem dX1_usePiece_124 : decode cX1_usePiece 124 = .ok (.getfield 41, 3) := by decide +kernel
theorem dX1_usePiece_127 : decode cX1_usePiece 127 = .ok (.iload 6, 2) := by decide +kernel
theorem dX1_usePiece_129 : decode cX1_usePiece 129 = .ok (.dup2, 1) := by decide +kernel
theorem dX1_usePiece_130 : decode cX1_usePiece 130 = .ok (.iaload, 1) := by decide +kernel
theorem dX1_usePiece_131 : decode cX1_usePiece 131 = .ok (.aload_n 0, 1) := by decide +kernel
theorem dX1_usePiece_132 : decode cX1_usePiece 132 = .ok (.getfield 41, 3) := by decide +kernel
theorem dX1_usePiece_135 : decode cX1_usePiece 135 = .ok (.iload_n 3, 1) := by decide +kernel
theorem dX1_usePiece_136 : decode cX1_usePiece 136 = .ok (.iaload, 1) := by decide +kernel
theorem dX1_usePiece_137 : decode cX1_usePiece 137 = .ok (.iadd, 1) := by decide +kernel
theorem dX1_usePiece_138 : decode cX1_usePiece 138 = .ok (.iastore, 1) := by decide +kernel
theorem dX1_usePiece_139 : decode cX1_usePiece 139 = .ok (.aload_n 0, 1) := by decide +kernel
theorem dX1_usePiece_140 : decode cX1_usePiece 140 = .ok (.getfield 44, 3) := by decide +kernel
theorem dX1_usePiece_143 : decode cX1_usePiece 143 = .ok (.iload 6, 2) := by decide +kernel
theorem dX1_usePiece_145 : decode cX1_usePiece 145 = .ok (.iload_n 2, 1) := by decide +kernel
theorem dX1_usePiece_146 : decode cX1_usePiece 146 = .ok (.iastore, 1) := by decide +kernel
theorem dX1_usePiece_147 : decode cX1_usePiece 147 = .ok (.iinc 4 1, 3) := by decide +kernel
theorem dX1_usePiece_150 : decode cX1_usePiece 150 = .ok (.goto (-136), 3) := by decide +kernel
theorem dX1_usePiece_153 : decode cX1_usePiece 153 = .ok (.return_, 1) := by decide +kernel
theorem dX1_ways_0 : decode cX1_ways 0 = .ok (.aload_n 0, 1) := by decide +kernel
theorem dX1_ways_1 : decode cX1_ways 1 = .ok (.invokevirtual 67, 3) := by decide +kernel
theorem dX1_ways_4 : decode cX1_ways 4 = .ok (.aload_n 0, 1) := by decide +kernel
theorem dX1_ways_5 : decode cX1_ways 5 = .ok (.getfield 41, 3) := by decide +kernel
theorem dX1_ways_8 : decode cX1_ways 8 = .ok (.iconst 4, 1) := by decide +kernel
theorem dX1_ways_9 : decode cX1_ways 9 = .ok (.iaload, 1) := by decide +kernel
theorem dX1_ways_10 : decode cX1_ways 10 = .ok (.ireturn, 1) := by decide +kernel
theorem dX1_start_0 : decode cX1_start 0 = .ok (.iload_n 1, 1) := by decide +kernel
theorem dX1_start_1 : decode cX1_start 1 = .ok (.ifCond .ge 5, 3) := by decide +kernel
theorem dX1_start_4 : decode cX1_start 4 = .ok (.iconst (-1), 1) := by decide +kernel
theorem dX1_start_5 : decode cX1_start 5 = .ok (.ireturn, 1) := by decide +kernel
theorem dX1_start_6 : decode cX1_start 6 = .ok (.aload_n 0, 1) := by decide +kernel
theorem dX1_start_7 : decode cX1_start 7 = .ok (.invokevirtual 67, 3) := by decide +kernel
theorem dX1_start_10 : decode cX1_start 10 = .ok (.iconst 0, 1) := by decide +kernel
theorem dX1_start_11 : decode cX1_start 11 = .ok (.istore_n 2, 1) := by decide +kernel
theorem dX1_start_12 : decode cX1_start 12 = .ok (.iconst 4, 1) := by decide +kernel
theorem dX1_start_13 : decode cX1_start 13 = .ok (.istore_n 3, 1) := by decide +kernel
theorem dX1_start_14 : decode cX1_start 14 = .ok (.iconst 0, 1) := by decide +kernel
theorem dX1_start_15 : decode cX1_start 15 = .ok (.istore 4, 2) := by decide +kernel
theorem dX1_start_17 : decode cX1_start 17 = .ok (.iload 4, 2) := by decide +kernel
theorem dX1_start_19 : decode cX1_start 19 = .ok (.bipush 12, 2) := by decide +kernel
theorem dX1_start_21 : decode cX1_start 21 = .ok (.if_icmp .ge 54, 3) := by decide +kernel
theorem dX1_start_24 : decode cX1_start 24 = .ok (.iload 4, 2) := by decide +kernel
theorem dX1_start_26 : decode cX1_start 26 = .ok (.iload_n 1, 1) := by decide +kernel
theorem dX1_start_27 : decode cX1_start 27 = .ok (.if_icmp .ge 48, 3) := by decide +kernel
theorem dX1_start_30 : decode cX1_start 30 = .ok (.iload_n 2, 1) := by decide +kernel
theorem dX1_start_31 : decode cX1_start 31 = .ok (.aload_n 0, 1) := by decide +kernel
theorem dX1_start_32 : decode cX1_start 32 = .ok (.getfield 64, 3) := by decide +kernel
theorem dX1_start_35 : decode cX1_start 35 = .ok (.if_icmp .lt 5, 3) := by decide +kernel
theorem dX1_start_38 : decode cX1_start 38 = .ok (.iconst (-1), 1) := by decide +kernel
theorem dX1_start_39 : decode cX1_start 39 = .ok (.ireturn, 1) := by decide +kernel
theorem dX1_start_40 : decode cX1_start 40 = .ok (.aload_n 0, 1) := by decide +kernel
theorem dX1_start_41 : decode cX1_start 41 = .ok (.getfield 44, 3) := by decide +kernel
theorem dX1_start_44 : decode cX1_start 44 = .ok (.iconst 5, 1) := by decide +kernel
theorem dX1_start_45 : decode cX1_start 45 = .ok (.iload_n 2, 1) := by decide +kernel
theorem dX1_start_46 : decode cX1_start 46 = .ok (.imul, 1) := by decide +kernel
theorem dX1_start_47 : decode cX1_start 47 = .ok (.iload_n 3, 1) := by decide +kernel
theorem dX1_start_48 : decode cX1_start 48 = .ok (.iadd, 1) := by decide +kernel
theorem dX1_start_49 : decode cX1_start 49 = .ok (.iaload, 1) := by decide +kernel
theorem dX1_start_50 : decode cX1_start 50 = .ok (.istore 5, 2) := by decide +kernel
theorem dX1_start_52 : decode cX1_start 52 = .ok (.aload_n 0, 1) := by decide +kernel
theorem dX1_start_53 : decode cX1_start 53 = .ok (.iload_n 2, 1) := by decide +kernel
theorem dX1_start_54 : decode cX1_start 54 = .ok (.iload 5, 2) := by decide +kernel
theorem dX1_start_56 : decode cX1_start 56 = .ok (.invokevirtual 70, 3) := by decide +kernel
theorem dX1_start_59 : decode cX1_start 59 = .ok (.aload_n 0, 1) := by decide +kernel
theorem dX1_start_60 : decode cX1_start 60 = .ok (.getfield 74, 3) := by decide +kernel
theorem dX1_start_63 : decode cX1_start 63 = .ok (.istore_n 3, 1) := by decide +kernel
theorem dX1_start_64 : decode cX1_start 64 = .ok (.iload_n 2, 1) := by decide +kernel
theorem dX1_start_65 : decode cX1_start 65 = .ok (.iload 5, 2) := by decide +kernel
theorem dX1_start_67 : decode cX1_start 67 = .ok (.iadd, 1) := by decide +kernel
theorem dX1_start_68 : decode cX1_start 68 = .ok (.istore_n 2, 1) := by decide +kernel
theorem dX1_start_69 : decode cX1_start 69 = .ok (.iinc 4 1, 3) := by decide +kernel
theorem dX1_start_72 : decode cX1_start 72 = .ok (.goto (-55), 3) := by decide +kernel
theorem dX1_start_75 : decode cX1_start 75 = .ok (.iload_n 1, 1) := by decide +kernel
theorem dX1_start_76 : decode cX1_start 76 = .ok (.bipush 12, 2) := by decide +kernel
theorem dX1_start_78 : decode cX1_start 78 = .ok (.if_icmp .le 7, 3) := by decide +kernel
theorem dX1_start_81 : decode cX1_start 81 = .ok (.iconst (-1), 1) := by decide +kernel
theorem dX1_start_82 : decode cX1_start 82 = .ok (.goto 4, 3) := by decide +kernel
theorem dX1_start_85 : decode cX1_start 85 = .ok (.iload_n 2, 1) := by decide +kernel
theorem dX1_start_86 : decode cX1_start 86 = .ok (.ireturn, 1) := by decide +kernel
theorem dX1_beginning_0 : decode cX1_beginning 0 = .ok (.aload_n 0, 1) := by decide +kernel
theorem dX1_beginning_1 : decode cX1_beginning 1 = .ok (.invokevirtual 50, 3) := by decide +kernel
theorem dX1_beginning_4 : decode cX1_beginning 4 = .ok (.istore_n 1, 1) := by decide +kernel
theorem dX1_beginning_5 : decode cX1_beginning 5 = .ok (.iload_n 1, 1) := by decide +kernel
theorem dX1_beginning_6 : decode cX1_beginning 6 = .ok (.ifCond .ge 7, 3) := by decide +kernel
theorem dX1_beginning_9 : decode cX1_beginning 9 = .ok (.iconst 0, 1) := by decide +kernel
theorem dX1_beginning_10 : decode cX1_beginning 10 = .ok (.goto 9, 3) := by decide +kernel
theorem dX1_beginning_13 : decode cX1_beginning 13 = .ok (.aload_n 0, 1) := by decide +kernel
theorem dX1_beginning_14 : decode cX1_beginning 14 = .ok (.getfield 26, 3) := by decide +kernel
theorem dX1_beginning_17 : decode cX1_beginning 17 = .ok (.iload_n 1, 1) := by decide +kernel
theorem dX1_beginning_18 : decode cX1_beginning 18 = .ok (.iaload, 1) := by decide +kernel
theorem dX1_beginning_19 : decode cX1_beginning 19 = .ok (.ireturn, 1) := by decide +kernel
end
section
set_option maxRecDepth 100000
theorem dX2_init_0 : decode cX2_init 0 = .ok (.aload_n 0, 1) := by decide +kernel
theorem dX2_init_1 : decode cX2_init 1 = .ok (.invokespecial 1, 3) := by decide +kernel
theorem dX2_init_4 : decode cX2_init 4 = .ok (.aload_n 0, 1) := by decide +kernel
theorem dX2_init_5 : decode cX2_init 5 = .ok (.bipush 80, 2) := by decide +kernel
theorem dX2_init_7 : decode cX2_init 7 = .ok (.newarray .int, 2) := by decide +kernel
theorem dX2_init_9 : decode cX2_init 9 = .ok (.putfield 7, 3) := by decide +kernel
theorem dX2_init_12 : decode cX2_init 12 = .ok (.aload_n 0, 1) := by decide +kernel
theorem dX2_init_13 : decode cX2_init 13 = .ok (.bipush 16, 2) := by decide +kernel
theorem dX2_init_15 : decode cX2_init 15 = .ok (.newarray .int, 2) := by decide +kernel
theorem dX2_init_17 : decode cX2_init 17 = .ok (.putfield 13, 3) := by decide +kernel
theorem dX2_init_20 : decode cX2_init 20 = .ok (.aload_n 0, 1) := by decide +kernel
theorem dX2_init_21 : decode cX2_init 21 = .ok (.bipush 16, 2) := by decide +kernel
theorem dX2_init_23 : decode cX2_init 23 = .ok (.newarray .int, 2) := by decide +kernel
theorem dX2_init_25 : decode cX2_init 25 = .ok (.putfield 16, 3) := by decide +kernel
theorem dX2_init_28 : decode cX2_init 28 = .ok (.aload_n 0, 1) := by decide +kernel
theorem dX2_init_29 : decode cX2_init 29 = .ok (.bipush 16, 2) := by decide +kernel
theorem dX2_init_31 : decode cX2_init 31 = .ok (.newarray .int, 2) := by decide +kernel
theorem dX2_init_33 : decode cX2_init 33 = .ok (.putfield 19, 3) := by decide +kernel
theorem dX2_init_36 : decode cX2_init 36 = .ok (.aload_n 0, 1) := by decide +kernel
theorem dX2_init_37 : decode cX2_init 37 = .ok (.iconst 5, 1) := by decide +kernel
theorem dX2_init_38 : decode cX2_init 38 = .ok (.newarray .int, 2) := by decide +kernel
theorem dX2_init_40 : decode cX2_init 40 = .ok (.putfield 22, 3) := by decide +kernel
theorem dX2_init_43 : decode cX2_init 43 = .ok (.aload_n 0, 1) := by decide +kernel
theorem dX2_init_44 : decode cX2_init 44 = .ok (.bipush 12, 2) := by decide +kernel
theorem dX2_init_46 : decode cX2_init 46 = .ok (.newarray .int, 2) := by decide +kernel
theorem dX2_init_48 : decode cX2_init 48 = .ok (.putfield 25, 3) := by decide +kernel
theorem dX2_init_51 : decode cX2_init 51 = .ok (.aload_n 0, 1) := by decide +kernel
theorem dX2_init_52 : decode cX2_init 52 = .ok (.bipush 16, 2) := by decide +kernel
theorem dX2_init_54 : decode cX2_init 54 = .ok (.newarray .int, 2) := by decide +kernel
theorem dX2_init_56 : decode cX2_init 56 = .ok (.putfield 28, 3) := by decide +kernel
theorem dX2_init_59 : decode cX2_init 59 = .ok (.aload_n 0, 1) := by decide +kernel
theorem dX2_init_60 : decode cX2_init 60 = .ok (.iload_n 1, 1) := by decide +kernel
theorem dX2_init_61 : decode cX2_init 61 = .ok (.iconst 1, 1) := by decide +kernel
theorem dX2_init_62 : decode cX2_init 62 = .ok (.if_icmp .ge 7, 3) := by decide +kernel
theorem dX2_init_65 : decode cX2_init 65 = .ok (.iconst 1, 1) := by decide +kernel
theorem dX2_init_66 : decode cX2_init 66 = .ok (.goto 15, 3) := by decide +kernel
theorem dX2_init_69 : decode cX2_init 69 = .ok (.iload_n 1, 1) := by decide +kernel
theorem dX2_init_70 : decode cX2_init 70 = .ok (.bipush 99, 2) := by decide +kernel
theorem dX2_init_72 : decode cX2_init 72 = .ok (.if_icmp .le 8, 3) := by decide +kernel
theorem dX2_init_75 : decode cX2_init 75 = .ok (.bipush 99, 2) := by decide +kernel
theorem dX2_init_77 : decode cX2_init 77 = .ok (.goto 4, 3) := by decide +kernel
theorem dX2_init_80 : decode cX2_init 80 = .ok (.iload_n 1, 1) := by decide +kernel
theorem dX2_init_81 : decode cX2_init 81 = .ok (.putfield 31, 3) := by decide +kernel
theorem dX2_init_84 : decode cX2_init 84 = .ok (.return_, 1) := by decide +kernel
theorem dX2_spell_0 : decode cX2_spell 0 = .ok (.aload_n 0, 1) := by decide +kernel
theorem dX2_spell_1 : decode cX2_spell 1 = .ok (.getfield 35, 3) := by decide +kernel
theorem dX2_spell_4 : decode cX2_spell 4 = .ok (.iconst 5, 1) := by decide +kernel
theorem dX2_spell_5 : decode cX2_spell 5 = .ok (.if_icmp .ne 5, 3) := by decide +kernel
theorem dX2_spell_8 : decode cX2_spell 8 = .ok (.iconst (-1), 1) := by decide +kernel
theorem dX2_spell_9 : decode cX2_spell 9 = .ok (.ireturn, 1) := by decide +kernel
theorem dX2_spell_10 : decode cX2_spell 10 = .ok (.aload_n 0, 1) := by decide +kernel
theorem dX2_spell_11 : decode cX2_spell 11 = .ok (.getfield 22, 3) := by decide +kernel
theorem dX2_spell_14 : decode cX2_spell 14 = .ok (.aload_n 0, 1) := by decide +kernel
theorem dX2_spell_15 : decode cX2_spell 15 = .ok (.getfield 35, 3) := by decide +kernel
theorem dX2_spell_18 : decode cX2_spell 18 = .ok (.iload_n 1, 1) := by decide +kernel
theorem dX2_spell_19 : decode cX2_spell 19 = .ok (.iconst 3, 1) := by decide +kernel
theorem dX2_spell_20 : decode cX2_spell 20 = .ok (.iand, 1) := by decide +kernel
theorem dX2_spell_21 : decode cX2_spell 21 = .ok (.iastore, 1) := by decide +kernel
theorem dX2_spell_22 : decode cX2_spell 22 = .ok (.aload_n 0, 1) := by decide +kernel
theorem dX2_spell_23 : decode cX2_spell 23 = .ok (.dup, 1) := by decide +kernel
theorem dX2_spell_24 : decode cX2_spell 24 = .ok (.getfield 35, 3) := by decide +kernel
theorem dX2_spell_27 : decode cX2_spell 27 = .ok (.iconst 1, 1) := by decide +kernel
theorem dX2_spell_28 : decode cX2_spell 28 = .ok (.iadd, 1) := by decide +kernel
theorem dX2_spell_29 : decode cX2_spell 29 = .ok (.putfield 35, 3) := by decide +kernel
theorem dX2_spell_32 : decode cX2_spell 32 = .ok (.aload_n 0, 1) := by decide +kernel
theorem dX2_spell_33 : decode cX2_spell 33 = .ok (.getfield 35, 3) := by decide +kernel
theorem dX2_spell_36 : decode cX2_spell 36 = .ok (.ireturn, 1) := by decide +kernel
theorem dX2_learn_0 : decode cX2_learn 0 = .ok (.aload_n 0, 1) := by decide +kernel
theorem dX2_learn_1 : decode cX2_learn 1 = .ok (.getfield 35, 3) := by decide +kernel
theorem dX2_learn_4 : decode cX2_learn 4 = .ok (.ifCond .eq 22, 3) := by decide +kernel
theorem dX2_learn_7 : decode cX2_learn 7 = .ok (.iload_n 1, 1) := by decide +kernel
theorem dX2_learn_8 : decode cX2_learn 8 = .ok (.ifCond .lt 18, 3) := by decide +kernel
theorem dX2_learn_11 : decode cX2_learn 11 = .ok (.iload_n 1, 1) := by decide +kernel
theorem dX2_learn_12 : decode cX2_learn 12 = .ok (.bipush 99, 2) := by decide +kernel
theorem dX2_learn_14 : decode cX2_learn 14 = .ok (.if_icmp .gt 12, 3) := by decide +kernel
theorem dX2_learn_17 : decode cX2_learn 17 = .ok (.iload_n 2, 1) := by decide +kernel
theorem dX2_learn_18 : decode cX2_learn 18 = .ok (.ifCond .lt 8, 3) := by decide +kernel
theorem dX2_learn_21 : decode cX2_learn 21 = .ok (.iload_n 2, 1) := by decide +kernel
theorem dX2_learn_22 : decode cX2_learn 22 = .ok (.iconst 2, 1) := by decide +kernel
theorem dX2_learn_23 : decode cX2_learn 23 = .ok (.if_icmp .le 5, 3) := by decide +kernel
theorem dX2_learn_26 : decode cX2_learn 26 = .ok (.iconst (-1), 1) := by decide +kernel
theorem dX2_learn_27 : decode cX2_learn 27 = .ok (.ireturn, 1) := by decide +kernel
theorem dX2_learn_28 : decode cX2_learn 28 = .ok (.aload_n 0, 1) := by decide +kernel
theorem dX2_learn_29 : decode cX2_learn 29 = .ok (.invokevirtual 45, 3) := by decide +kernel
theorem dX2_learn_32 : decode cX2_learn 32 = .ok (.istore_n 3, 1) := by decide +kernel
theorem dX2_learn_33 : decode cX2_learn 33 = .ok (.iload_n 3, 1) := by decide +kernel
theorem dX2_learn_34 : decode cX2_learn 34 = .ok (.ifCond .ge 14, 3) := by decide +kernel
theorem dX2_learn_37 : decode cX2_learn 37 = .ok (.aload_n 0, 1) := by decide +kernel
theorem dX2_learn_38 : decode cX2_learn 38 = .ok (.getfield 38, 3) := by decide +kernel
theorem dX2_learn_41 : decode cX2_learn 41 = .ok (.bipush 16, 2) := by decide +kernel
theorem dX2_learn_43 : decode cX2_learn 43 = .ok (.if_icmp .ne 5, 3) := by decide +kernel
theorem dX2_learn_46 : decode cX2_learn 46 = .ok (.iconst (-1), 1) := by decide +kernel
theorem dX2_learn_47 : decode cX2_learn 47 = .ok (.ireturn, 1) := by decide +kernel
theorem dX2_learn_48 : decode cX2_learn 48 = .ok (.iload_n 3, 1) := by decide +kernel
theorem dX2_learn_49 : decode cX2_learn 49 = .ok (.ifCond .ge 64, 3) := by decide +kernel
theorem dX2_learn_52 : decode cX2_learn 52 = .ok (.aload_n 0, 1) := by decide +kernel
theorem dX2_learn_53 : decode cX2_learn 53 = .ok (.getfield 38, 3) := by decide +kernel
theorem dX2_learn_56 : decode cX2_learn 56 = .ok (.istore_n 3, 1) := by decide +kernel
theorem dX2_learn_57 : decode cX2_learn 57 = .ok (.aload_n 0, 1) := by decide +kernel
theorem dX2_learn_58 : decode cX2_learn 58 = .ok (.dup, 1) := by decide +kernel
theorem dX2_learn_59 : decode cX2_learn 59 = .ok (.getfield 38, 3) := by decide +kernel
theorem dX2_learn_62 : decode cX2_learn 62 = .ok (.iconst 1, 1) := by decide +kernel
theorem dX2_learn_63 : decode cX2_learn 63 = .ok (.iadd, 1) := by decide +kernel
theorem dX2_learn_64 : decode cX2_learn 64 = .ok (.putfield 38, 3) := by decide +kernel
theorem dX2_learn_67 : decode cX2_learn 67 = .ok (.aload_n 0, 1) := by decide +kernel
theorem dX2_learn_68 : decode cX2_learn 68 = .ok (.getfield 13, 3) := by decide +kernel
theorem dX2_learn_71 : decode cX2_learn 71 = .ok (.iload_n 3, 1) := by decide +kernel
theorem dX2_learn_72 : decode cX2_learn 72 = .ok (.aload_n 0, 1) := by decide +kernel
theorem dX2_learn_73 : decode cX2_learn 73 = .ok (.getfield 35, 3) := by decide +kernel
theorem dX2_learn_76 : decode cX2_learn 76 = .ok (.iastore, 1) := by decide +kernel
theorem dX2_learn_77 : decode cX2_learn 77 = .ok (.iconst 0, 1) := by decide +kernel
theorem dX2_learn_78 : decode cX2_learn 78 = .ok (.istore 4, 2) := by decide +kernel
theorem dX2_learn_80 : decode cX2_learn 80 = .ok (.iload 4, 2) := by decide +kernel
theorem dX2_learn_82 : decode cX2_learn 82 = .ok (.aload_n 0, 1) := by decide +kernel
theorem dX2_learn_83 : decode cX2_learn 83 = .ok (.getfield 35, 3) := by decide +kernel
theorem dX2_learn_86 : decode cX2_learn 86 = .ok (.if_icmp .ge 27, 3) := by decide +kernel
theorem dX2_learn_89 : decode cX2_learn 89 = .ok (.aload_n 0, 1) := by decide +kernel
theorem dX2_learn_90 : decode cX2_learn 90 = .ok (.getfield 7, 3) := by decide +kernel
theorem dX2_learn_93 : decode cX2_learn 93 = .ok (.iconst 5, 1) := by decide +kernel
theorem dX2_learn_94 : decode cX2_learn 94 = .ok (.iload_n 3, 1) := by decide +kernel
theorem dX2_learn_95 : decode cX2_learn 95 = .ok (.imul, 1) := by decide +kernel
theorem dX2_learn_96 : decode cX2_learn 96 = .ok (.iload 4, 2) := by decide +kernel
theorem dX2_learn_98 : decode cX2_learn 98 = .ok (.iadd, 1) := by decide +kernel
theorem dX2_learn_99 : decode cX2_learn 99 = .ok (.aload_n 0, 1) := by decide +kernel
theorem dX2_learn_100 : decode cX2_learn 100 = .ok (.getfield 22, 3) := by decide +kernel
theorem dX2_learn_103 : decode cX2_learn 103 = .ok (.iload 4, 2) := by decide +kernel
theorem dX2_learn_105 : decode cX2_learn 105 = .ok (.iaload, 1) := by decide +kernel
theorem dX2_learn_106 : decode cX2_learn 106 = .ok (.iastore, 1) := by decide +kernel
theorem dX2_learn_107 : decode cX2_learn 107 = .ok (.iinc 4 1, 3) := by decide +kernel
theorem dX2_learn_110 : decode cX2_learn 110 = .ok (.goto (-30), 3) := by decide +kernel
theorem dX2_learn_113 : decode cX2_learn 113 = .ok (.aload_n 0, 1) := by decide +kernel
theorem dX2_learn_114 : decode cX2_learn 114 = .ok (.getfield 16, 3) := by decide +kernel
theorem dX2_learn_117 : decode cX2_learn 117 = .ok (.iload_n 3, 1) := by decide +kernel
theorem dX2_learn_118 : decode cX2_learn 118 = .ok (.iload_n 1, 1) := by decide +kernel
theorem dX2_learn_119 : decode cX2_learn 119 = .ok (.iastore, 1) := by decide +kernel
theorem dX2_learn_120 : decode cX2_learn 120 = .ok (.aload_n 0, 1) := by decide +kernel
theorem dX2_learn_121 : decode cX2_learn 121 = .ok (.getfield 19, 3) := by decide +kernel
theorem dX2_learn_124 : decode cX2_learn 124 = .ok (.iload_n 3, 1) := by decide +kernel
theorem dX2_learn_125 : decode cX2_learn 125 = .ok (.iload_n 2, 1) := by decide +kernel
theorem dX2_learn_126 : decode cX2_learn 126 = .ok (.iastore, 1) := by decide +kernel
theorem dX2_learn_127 : decode cX2_learn 127 = .ok (.aload_n 0, 1) := by decide +kernel
theorem dX2_learn_128 : decode cX2_learn 128 = .ok (.iconst 0, 1) := by decide +kernel
theorem dX2_learn_129 : decode cX2_learn 129 = .ok (.putfield 35, 3) := by decide +kernel
theorem dX2_learn_132 : decode cX2_learn 132 = .ok (.aload_n 0, 1) := by decide +kernel
theorem dX2_learn_133 : decode cX2_learn 133 = .ok (.getfield 38, 3) := by decide +kernel
theorem dX2_learn_136 : decode cX2_learn 136 = .ok (.ireturn, 1) := by decide +kernel
theorem dX2_named_0 : decode cX2_named 0 = .ok (.iconst 0, 1) := by decide +kernel
theorem dX2_named_1 : decode cX2_named 1 = .ok (.istore_n 1, 1) := by decide +kernel
theorem dX2_named_2 : decode cX2_named 2 = .ok (.iload_n 1, 1) := by decide +kernel
theorem dX2_named_3 : decode cX2_named 3 = .ok (.aload_n 0, 1) := by decide +kernel
theorem dX2_named_4 : decode cX2_named 4 = .ok (.getfield 38, 3) := by decide +kernel
theorem dX2_named_7 : decode cX2_named 7 = .ok (.if_icmp .ge 32, 3) := by decide +kernel
theorem dX2_named_10 : decode cX2_named 10 = .ok (.aload_n 0, 1) := by decide +kernel
theorem dX2_named_11 : decode cX2_named 11 = .ok (.getfield 13, 3) := by decide +kernel
theorem dX2_named_14 : decode cX2_named 14 = .ok (.iload_n 1, 1) := by decide +kernel
theorem dX2_named_15 : decode cX2_named 15 = .ok (.iaload, 1) := by decide +kernel
theorem dX2_named_16 : decode cX2_named 16 = .ok (.aload_n 0, 1) := by decide +kernel
theorem dX2_named_17 : decode cX2_named 17 = .ok (.getfield 35, 3) := by decide +kernel
theorem dX2_named_20 : decode cX2_named 20 = .ok (.if_icmp .ne 13, 3) := by decide +kernel
theorem dX2_named_23 : decode cX2_named 23 = .ok (.aload_n 0, 1) := by decide +kernel
theorem dX2_named_24 : decode cX2_named 24 = .ok (.iload_n 1, 1) := by decide +kernel
theorem dX2_named_25 : decode cX2_named 25 = .ok (.invokevirtual 41, 3) := by decide +kernel
theorem dX2_named_28 : decode cX2_named 28 = .ok (.ifCond .eq 5, 3) := by decide +kernel
theorem dX2_named_31 : decode cX2_named 31 = .ok (.iload_n 1, 1) := by decide +kernel
theorem dX2_named_32 : decode cX2_named 32 = .ok (.ireturn, 1) := by decide +kernel
theorem dX2_named_33 : decode cX2_named 33 = .ok (.iinc 1 1, 3) := by decide +kernel
theorem dX2_named_36 : decode cX2_named 36 = .ok (.goto (-34), 3) := by decide +kernel
theorem dX2_named_39 : decode cX2_named 39 = .ok (.iconst (-1), 1) := by decide +kernel
theorem dX2_named_40 : decode cX2_named 40 = .ok (.ireturn, 1) := by decide +kernel
theorem dX2_begins_0 : decode cX2_begins 0 = .ok (.aload_n 0, 1) := by decide +kernel
theorem dX2_begins_1 : decode cX2_begins 1 = .ok (.getfield 13, 3) := by decide +kernel
theorem dX2_begins_4 : decode cX2_begins 4 = .ok (.iload_n 1, 1) := by decide +kernel
theorem dX2_begins_5 : decode cX2_begins 5 = .ok (.iaload, 1) := by decide +kernel
theorem dX2_begins_6 : decode cX2_begins 6 = .ok (.aload_n 0, 1) := by decide +kernel
theorem dX2_begins_7 : decode cX2_begins 7 = .ok (.getfield 35, 3) := by decide +kernel
theorem dX2_begins_10 : decode cX2_begins 10 = .ok (.if_icmp .ge 5, 3) := by decide +kernel
theorem dX2_begins_13 : decode cX2_begins 13 = .ok (.iconst 0, 1) := by decide +kernel
theorem dX2_begins_14 : decode cX2_begins 14 = .ok (.ireturn, 1) := by decide +kernel
theorem dX2_begins_15 : decode cX2_begins 15 = .ok (.iconst 0, 1) := by decide +kernel
theorem dX2_begins_16 : decode cX2_begins 16 = .ok (.istore_n 2, 1) := by decide +kernel
theorem dX2_begins_17 : decode cX2_begins 17 = .ok (.iload_n 2, 1) := by decide +kernel
theorem dX2_begins_18 : decode cX2_begins 18 = .ok (.aload_n 0, 1) := by decide +kernel
theorem dX2_begins_19 : decode cX2_begins 19 = .ok (.getfield 35, 3) := by decide +kernel
theorem dX2_begins_22 : decode cX2_begins 22 = .ok (.if_icmp .ge 30, 3) := by decide +kernel
theorem dX2_begins_25 : decode cX2_begins 25 = .ok (.aload_n 0, 1) := by decide +kernel
theorem dX2_begins_26 : decode cX2_begins 26 = .ok (.getfield 7, 3) := by decide +kernel
theorem dX2_begins_29 : decode cX2_begins 29 = .ok (.iconst 5, 1) := by decide +kernel
theorem dX2_begins_30 : decode cX2_begins 30 = .ok (.iload_n 1, 1) := by decide +kernel
theorem dX2_begins_31 : decode cX2_begins 31 = .ok (.imul, 1) := by decide +kernel
theorem dX2_begins_32 : decode cX2_begins 32 = .ok (.iload_n 2, 1) := by decide +kernel
theorem dX2_begins_33 : decode cX2_begins 33 = .ok (.iadd, 1) := by decide +kernel
theorem dX2_begins_34 : decode cX2_begins 34 = .ok (.iaload, 1) := by decide +kernel
theorem dX2_begins_35 : decode cX2_begins 35 = .ok (.aload_n 0, 1) := by decide +kernel
theorem dX2_begins_36 : decode cX2_begins 36 = .ok (.getfield 22, 3) := by decide +kernel
theorem dX2_begins_39 : decode cX2_begins 39 = .ok (.iload_n 2, 1) := by decide +kernel
theorem dX2_begins_40 : decode cX2_begins 40 = .ok (.iaload, 1) := by decide +kernel
theorem dX2_begins_41 : decode cX2_begins 41 = .ok (.if_icmp .eq 5, 3) := by decide +kernel
theorem dX2_begins_44 : decode cX2_begins 44 = .ok (.iconst 0, 1) := by decide +kernel
theorem dX2_begins_45 : decode cX2_begins 45 = .ok (.ireturn, 1) := by decide +kernel
theorem dX2_begins_46 : decode cX2_begins 46 = .ok (.iinc 2 1, 3) := by decide +kernel
theorem dX2_begins_49 : decode cX2_begins 49 = .ok (.goto (-32), 3) := by decide +kernel
theorem dX2_begins_52 : decode cX2_begins 52 = .ok (.iconst 1, 1) := by decide +kernel
theorem dX2_begins_53 : decode cX2_begins 53 = .ok (.ireturn, 1) := by decide +kernel
theorem dX2_forget_0 : decode cX2_forget 0 = .ok (.aload_n 0, 1) := by decide +kernel
theorem dX2_forget_1 : decode cX2_forget 1 = .ok (.invokevirtual 45, 3) := by decide +kernel
theorem dX2_forget_4 : decode cX2_forget 4 = .ok (.istore_n 1, 1) := by decide +kernel
theorem dX2_forget_5 : decode cX2_forget 5 = .ok (.iload_n 1, 1) := by decide +kernel
theorem dX2_forget_6 : decode cX2_forget 6 = .ok (.ifCond .ge 5, 3) := by decide +kernel
theorem dX2_forget_9 : decode cX2_forget 9 = .ok (.iconst (-1), 1) := by decide +kernel
theorem dX2_forget_10 : decode cX2_forget 10 = .ok (.ireturn, 1) := by decide +kernel
theorem dX2_forget_11 : decode cX2_forget 11 = .ok (.aload_n 0, 1) := by decide +kernel
theorem dX2_forget_12 : decode cX2_forget 12 = .ok (.dup, 1) := by decide +kernel
theorem dX2_forget_13 : decode cX2_forget 13 = .ok (.getfield 38, 3) := by decide +kernel
theorem dX2_forget_16 : decode cX2_forget 16 = .ok (.iconst 1, 1) := by decide +kernel
theorem dX2_forget_17 : decode cX2_forget 17 = .ok (.isub, 1) := by decide +kernel
theorem dX2_forget_18 : decode cX2_forget 18 = .ok (.putfield 38, 3) := by decide +kernel
theorem dX2_forget_21 : decode cX2_forget 21 = .ok (.aload_n 0, 1) := by decide +kernel
theorem dX2_forget_22 : decode cX2_forget 22 = .ok (.getfield 13, 3) := by decide +kernel
theorem dX2_forget_25 : decode cX2_forget 25 = .ok (.iload_n 1, 1) := by decide +kernel
theorem dX2_forget_26 : decode cX2_forget 26 = .ok (.aload_n 0, 1) := by decide +kernel
theorem dX2_forget_27 : decode cX2_forget 27 = .ok (.getfield 13, 3) := by decide +kernel
theorem dX2_forget_30 : decode cX2_forget 30 = .ok (.aload_n 0, 1) := by decide +kernel
theorem dX2_forget_31 : decode cX2_forget 31 = .ok (.getfield 38, 3) := by decide +kernel
theorem dX2_forget_34 : decode cX2_forget 34 = .ok (.iaload, 1) := by decide +kernel
theorem dX2_forget_35 : decode cX2_forget 35 = .ok (.iastore, 1) := by decide +kernel
theorem dX2_forget_36 : decode cX2_forget 36 = .ok (.aload_n 0, 1) := by decide +kernel
theorem dX2_forget_37 : decode cX2_forget 37 = .ok (.getfield 16, 3) := by decide +kernel
theorem dX2_forget_40 : decode cX2_forget 40 = .ok (.iload_n 1, 1) := by decide +kernel
theorem dX2_forget_41 : decode cX2_forget 41 = .ok (.aload_n 0, 1) := by decide +kernel
theorem dX2_forget_42 : decode cX2_forget 42 = .ok (.getfield 16, 3) := by decide +kernel
theorem dX2_forget_45 : decode cX2_forget 45 = .ok (.aload_n 0, 1) := by decide +kernel
theorem dX2_forget_46 : decode cX2_forget 46 = .ok (.getfield 38, 3) := by decide +kernel
theorem dX2_forget_49 : decode cX2_forget 49 = .ok (.iaload, 1) := by decide +kernel
theorem dX2_forget_50 : decode cX2_forget 50 = .ok (.iastore, 1) := by decide +kernel
theorem dX2_forget_51 : decode cX2_forget 51 = .ok (.aload_n 0, 1) := by decide +kernel
theorem dX2_forget_52 : decode cX2_forget 52 = .ok (.getfield 19, 3) := by decide +kernel
theorem dX2_forget_55 : decode cX2_forget 55 = .ok (.iload_n 1, 1) := by decide +kernel
theorem dX2_forget_56 : decode cX2_forget 56 = .ok (.aload_n 0, 1) := by decide +kernel
theorem dX2_forget_57 : decode cX2_forget 57 = .ok (.getfield 19, 3) := by decide +kernel
theorem dX2_forget_60 : decode cX2_forget 60 = .ok (.aload_n 0, 1) := by decide +kernel
theorem dX2_forget_61 : decode cX2_forget 61 = .ok (.getfield 38, 3) := by decide +kernel
theorem dX2_forget_64 : decode cX2_forget 64 = .ok (.iaload, 1) := by decide +kernel
theorem dX2_forget_65 : decode cX2_forget 65 = .ok (.iastore, 1) := by decide +kernel
theorem dX2_forget_66 : decode cX2_forget 66 = .ok (.iconst 0, 1) := by decide +kernel
theorem dX2_forget_67 : decode cX2_forget 67 = .ok (.istore_n 2, 1) := by decide +kernel
theorem dX2_forget_68 : decode cX2_forget 68 = .ok (.iload_n 2, 1) := by decide +kernel
theorem dX2_forget_69 : decode cX2_forget 69 = .ok (.iconst 5, 1) := by decide +kernel
theorem dX2_forget_70 : decode cX2_forget 70 = .ok (.if_icmp .ge 32, 3) := by decide +kernel
theorem dX2_forget_73 : decode cX2_forget 73 = .ok (.aload_n 0, 1) := by decide +kernel
theorem dX2_forget_74 : decode cX2_forget 74 = .ok (.getfield 7, 3) := by decide +kernel
theorem dX2_forget_77 : decode cX2_forget 77 = .ok (.iconst 5, 1) := by decide +kernel
theorem dX2_forget_78 : decode cX2_forget 78 = .ok (.iload_n 1, 1) := by decide +kernel
theorem dX2_forget_79 : decode cX2_forget 79 = .ok (.imul, 1) := by decide +kernel
theorem dX2_forget_80 : decode cX2_forget 80 = .ok (.iload_n 2, 1) := by decide +kernel
theorem dX2_forget_81 : decode cX2_forget 81 = .ok (.iadd, 1) := by decide +kernel
theorem dX2_forget_82 : decode cX2_forget 82 = .ok (.aload_n 0, 1) := by decide +kernel
theorem dX2_forget_83 : decode cX2_forget 83 = .ok (.getfield 7, 3) := by decide +kernel
theorem dX2_forget_86 : decode cX2_forget 86 = .ok (.iconst 5, 1) := by decide +kernel
theorem dX2_forget_87 : decode cX2_forget 87 = .ok (.aload_n 0, 1) := by decide +kernel
theorem dX2_forget_88 : decode cX2_forget 88 = .ok (.getfield 38, 3) := by decide +kernel
theorem dX2_forget_91 : decode cX2_forget 91 = .ok (.imul, 1) := by decide +kernel
theorem dX2_forget_92 : decode cX2_forget 92 = .ok (.iload_n 2, 1) := by decide +kernel
theorem dX2_forget_93 : decode cX2_forget 93 = .ok (.iadd, 1) := by decide +kernel
theorem dX2_forget_94 : decode cX2_forget 94 = .ok (.iaload, 1) := by decide +kernel
theorem dX2_forget_95 : decode cX2_forget 95 = .ok (.iastore, 1) := by decide +kernel
theorem dX2_forget_96 : decode cX2_forget 96 = .ok (.iinc 2 1, 3) := by decide +kernel
theorem dX2_forget_99 : decode cX2_forget 99 = .ok (.goto (-31), 3) := by decide +kernel
theorem dX2_forget_102 : decode cX2_forget 102 = .ok (.aload_n 0, 1) := by decide +kernel
theorem dX2_forget_103 : decode cX2_forget 103 = .ok (.iconst 0, 1) := by decide +kernel
theorem dX2_forget_104 : decode cX2_forget 104 = .ok (.putfield 35, 3) := by decide +kernel
theorem dX2_forget_107 : decode cX2_forget 107 = .ok (.aload_n 0, 1) := by decide +kernel
theorem dX2_forget_108 : decode cX2_forget 108 = .ok (.getfield 38, 3) := by decide +kernel
theorem dX2_forget_111 : decode cX2_forget 111 = .ok (.ireturn, 1) := by decide +kernel
theorem dX2_lookUp_0 : decode cX2_lookUp 0 = .ok (.aload_n 0, 1) := by decide +kernel
theorem dX2_lookUp_1 : decode cX2_lookUp 1 = .ok (.invokevirtual 45, 3) := by decide +kernel
theorem dX2_lookUp_4 : decode cX2_lookUp 4 = .ok (.istore_n 1, 1) := by decide +kernel
theorem dX2_lookUp_5 : decode cX2_lookUp 5 = .ok (.iload_n 1, 1) := by decide +kernel
theorem dX2_lookUp_6 : decode cX2_lookUp 6 = .ok (.ifCond .ge 7, 3) := by decide +kernel
theorem dX2_lookUp_9 : decode cX2_lookUp 9 = .ok (.iconst (-1), 1) := by decide +kernel
theorem dX2_lookUp_10 : decode cX2_lookUp 10 = .ok (.goto 9, 3) := by decide +kernel
theorem dX2_lookUp_13 : decode cX2_lookUp 13 = .ok (.aload_n 0, 1) := by decide +kernel
theorem dX2_lookUp_14 : decode cX2_lookUp 14 = .ok (.getfield 16, 3) := by decide +kernel
theorem dX2_lookUp_17 : decode cX2_lookUp 17 = .ok (.iload_n 1, 1) := by decide +kernel
theorem dX2_lookUp_18 : decode cX2_lookUp 18 = .ok (.iaload, 1) := by decide +kernel
theorem dX2_lookUp_19 : decode cX2_lookUp 19 = .ok (.ireturn, 1) := by decide +kernel
theorem dX2_clearSpelling_0 : decode cX2_clearSpelling 0 = .ok (.aload_n 0, 1) := by decide +kernel
theorem dX2_clearSpelling_1 : decode cX2_clearSpelling 1 = .ok (.iconst 0, 1) := by decide +kernel
theorem dX2_clearSpelling_2 : decode cX2_clearSpelling 2 = .ok (.putfield 35, 3) := by decide +kernel
theorem dX2_clearSpelling_5 : decode cX2_clearSpelling 5 = .ok (.return_, 1) := by decide +kernel
theorem dX2_link_0 : decode cX2_link 0 = .ok (.iload_n 1, 1) := by decide +kernel
theorem dX2_link_1 : decode cX2_link 1 = .ok (.ifCond .lt 27, 3) := by decide +kernel
theorem dX2_link_4 : decode cX2_link 4 = .ok (.iload_n 1, 1) := by decide +kernel
theorem dX2_link_5 : decode cX2_link 5 = .ok (.iconst 3, 1) := by decide +kernel
theorem dX2_link_6 : decode cX2_link 6 = .ok (.if_icmp .gt 22, 3) := by decide +kernel
theorem dX2_link_9 : decode cX2_link 9 = .ok (.iload_n 2, 1) := by decide +kernel
theorem dX2_link_10 : decode cX2_link 10 = .ok (.ifCond .lt 18, 3) := by decide +kernel
theorem dX2_link_13 : decode cX2_link 13 = .ok (.iload_n 2, 1) := by decide +kernel
theorem dX2_link_14 : decode cX2_link 14 = .ok (.iconst 3, 1) := by decide +kernel
theorem dX2_link_15 : decode cX2_link 15 = .ok (.if_icmp .gt 13, 3) := by decide +kernel
theorem dX2_link_18 : decode cX2_link 18 = .ok (.iload_n 3, 1) := by decide +kernel
theorem dX2_link_19 : decode cX2_link 19 = .ok (.ifCond .lt 9, 3) := by decide +kernel
theorem dX2_link_22 : decode cX2_link 22 = .ok (.iload_n 3, 1) := by decide +kernel
theorem dX2_link_23 : decode cX2_link 23 = .ok (.bipush 99, 2) := by decide +kernel
theorem dX2_link_25 : decode cX2_link 25 = .ok (.if_icmp .le 5, 3) := by decide +kernel
theorem dX2_link_28 : decode cX2_link 28 = .ok (.iconst (-1), 1) := by decide +kernel
theorem dX2_link_29 : decode cX2_link 29 = .ok (.ireturn, 1) := by decide +kernel
theorem dX2_link_30 : decode cX2_link 30 = .ok (.aload_n 0, 1) := by decide +kernel
theorem dX2_link_31 : decode cX2_link 31 = .ok (.getfield 28, 3) := by decide +kernel
theorem dX2_link_34 : decode cX2_link 34 = .ok (.iconst 4, 1) := by decide +kernel
theorem dX2_link_35 : decode cX2_link 35 = .ok (.iload_n 1, 1) := by decide +kernel
theorem dX2_link_36 : decode cX2_link 36 = .ok (.imul, 1) := by decide +kernel
theorem dX2_link_37 : decode cX2_link 37 = .ok (.iload_n 2, 1) := by decide +kernel
theorem dX2_link_38 : decode cX2_link 38 = .ok (.iadd, 1) := by decide +kernel
theorem dX2_link_39 : decode cX2_link 39 = .ok (.iaload, 1) := by decide +kernel
theorem dX2_link_40 : decode cX2_link 40 = .ok (.istore 4, 2) := by decide +kernel
theorem dX2_link_42 : decode cX2_link 42 = .ok (.aload_n 0, 1) := by decide +kernel
theorem dX2_link_43 : decode cX2_link 43 = .ok (.getfield 28, 3) := by decide +kernel
theorem dX2_link_46 : decode cX2_link 46 = .ok (.iconst 4, 1) := by decide +kernel
theorem dX2_link_47 : decode cX2_link 47 = .ok (.iload_n 1, 1) := by decide +kernel
theorem dX2_link_48 : decode cX2_link 48 = .ok (.imul, 1) := by decide +kernel
theorem dX2_link_49 : decode cX2_link 49 = .ok (.iload_n 2, 1) := by decide +kernel
theorem dX2_link_50 : decode cX2_link 50 = .ok (.iadd, 1) := by decide +kernel
theorem dX2_link_51 : decode cX2_link 51 = .ok (.iload_n 3, 1) := by decide +kernel
theorem dX2_link_52 : decode cX2_link 52 = .ok (.iastore, 1) := by decide +kernel
theorem dX2_link_53 : decode cX2_link 53 = .ok (.iload 4, 2) := by decide +kernel
theorem dX2_link_55 : decode cX2_link 55 = .ok (.ireturn, 1) := by decide +kernel
theorem dX2_type_0 : decode cX2_type 0 = .ok (.aload_n 0, 1) := by decide +kernel
theorem dX2_type_1 : decode cX2_type 1 = .ok (.getfield 49, 3) := by decide +kernel
theorem dX2_type_4 : decode cX2_type 4 = .ok (.bipush 12, 2) := by decide +kernel
theorem dX2_type_6 : decode cX2_type 6 = .ok (.if_icmp .ne 5, 3) := by decide +kernel
theorem dX2_type_9 : decode cX2_type 9 = .ok (.iconst (-1), 1) := by decide +kernel
theorem dX2_type_10 : decode cX2_type 10 = .ok (.ireturn, 1) := by decide +kernel
theorem dX2_type_11 : decode cX2_type 11 = .ok (.aload_n 0, 1) := by decide +kernel
theorem dX2_type_12 : decode cX2_type 12 = .ok (.getfield 25, 3) := by decide +kernel
theorem dX2_type_15 : decode cX2_type 15 = .ok (.aload_n 0, 1) := by decide +kernel
theorem dX2_type_16 : decode cX2_type 16 = .ok (.getfield 49, 3) := by decide +kernel
theorem dX2_type_19 : decode cX2_type 19 = .ok (.iload_n 1, 1) := by decide +kernel
theorem dX2_type_20 : decode cX2_type 20 = .ok (.iconst 3, 1) := by decide +kernel
theorem dX2_type_21 : decode cX2_type 21 = .ok (.iand, 1) := by decide +kernel
theorem dX2_type_22 : decode cX2_type 22 = .ok (.iastore, 1) := by decide +kernel
theorem dX2_type_23 : decode cX2_type 23 = .ok (.aload_n 0, 1) := by decide +kernel
theorem dX2_type_24 : decode cX2_type 24 = .ok (.dup, 1) := by decide +kernel
theorem dX2_type_25 : decode cX2_type 25 = .ok (.getfield 49, 3) := by decide +kernel
theorem dX2_type_28 : decode cX2_type 28 = .ok (.iconst 1, 1) := by decide +kernel
theorem dX2_type_29 : decode cX2_type 29 = .ok (.iadd, 1) := by decide +kernel
theorem dX2_type_30 : decode cX2_type 30 = .ok (.putfield 49, 3) := by decide +kernel
theorem dX2_type_33 : decode cX2_type 33 = .ok (.aload_n 0, 1) := by decide +kernel
theorem dX2_type_34 : decode cX2_type 34 = .ok (.getfield 49, 3) := by decide +kernel
theorem dX2_type_37 : decode cX2_type 37 = .ok (.ireturn, 1) := by decide +kernel
theorem dX2_clearText_0 : decode cX2_clearText 0 = .ok (.aload_n 0, 1) := by decide +kernel
theorem dX2_clearText_1 : decode cX2_clearText 1 = .ok (.iconst 0, 1) := by decide +kernel
theorem dX2_clearText_2 : decode cX2_clearText 2 = .ok (.putfield 49, 3) := by decide +kernel
theorem dX2_clearText_5 : decode cX2_clearText 5 = .ok (.return_, 1) := by decide +kernel
theorem dX2_cost_0 : decode cX2_cost 0 = .ok (.aload_n 0, 1) := by decide +kernel
theorem dX2_cost_1 : decode cX2_cost 1 = .ok (.invokevirtual 76, 3) := by decide +kernel
theorem dX2_cost_4 : decode cX2_cost 4 = .ok (.aload_n 0, 1) := by decide +kernel
theorem dX2_cost_5 : decode cX2_cost 5 = .ok (.getfield 63, 3) := by decide +kernel
theorem dX2_cost_8 : decode cX2_cost 8 = .ok (.ireturn, 1) := by decide +kernel
theorem dX2_look_0 : decode cX2_look 0 = .ok (.aload_n 0, 1) := by decide +kernel
theorem dX2_look_1 : decode cX2_look 1 = .ok (.iconst (-1), 1) := by decide +kernel
theorem dX2_look_2 : decode cX2_look 2 = .ok (.putfield 63, 3) := by decide +kernel
theorem dX2_look_5 : decode cX2_look 5 = .ok (.aload_n 0, 1) := by decide +kernel
theorem dX2_look_6 : decode cX2_look 6 = .ok (.iconst 0, 1) := by decide +kernel
theorem dX2_look_7 : decode cX2_look 7 = .ok (.putfield 66, 3) := by decide +kernel
theorem dX2_look_10 : decode cX2_look 10 = .ok (.aload_n 0, 1) := by decide +kernel
theorem dX2_look_11 : decode cX2_look 11 = .ok (.iconst 0, 1) := by decide +kernel
theorem dX2_look_12 : decode cX2_look 12 = .ok (.putfield 69, 3) := by decide +kernel
theorem dX2_look_15 : decode cX2_look 15 = .ok (.aload_n 0, 1) := by decide +kernel
theorem dX2_look_16 : decode cX2_look 16 = .ok (.getfield 49, 3) := by decide +kernel
theorem dX2_look_19 : decode cX2_look 19 = .ok (.iconst 1, 1) := by decide +kernel
theorem dX2_look_20 : decode cX2_look 20 = .ok (.if_icmp .le 14, 3) := by decide +kernel
theorem dX2_look_23 : decode cX2_look 23 = .ok (.iconst 1, 1) := by decide +kernel
theorem dX2_look_24 : decode cX2_look 24 = .ok (.aload_n 0, 1) := by decide +kernel
theorem dX2_look_25 : decode cX2_look 25 = .ok (.getfield 49, 3) := by decide +kernel
theorem dX2_look_28 : decode cX2_look 28 = .ok (.iconst 1, 1) := by decide +kernel
theorem dX2_look_29 : decode cX2_look 29 = .ok (.isub, 1) := by decide +kernel
theorem dX2_look_30 : decode cX2_look 30 = .ok (.ishl, 1) := by decide +kernel
theorem dX2_look_31 : decode cX2_look 31 = .ok (.goto 4, 3) := by decide +kernel
theorem dX2_look_34 : decode cX2_look 34 = .ok (.iconst 1, 1) := by decide +kernel
theorem dX2_look_35 : decode cX2_look 35 = .ok (.istore_n 1, 1) := by decide +kernel
theorem dX2_look_36 : decode cX2_look 36 = .ok (.iconst 0, 1) := by decide +kernel
theorem dX2_look_37 : decode cX2_look 37 = .ok (.istore_n 2, 1) := by decide +kernel
theorem dX2_look_38 : decode cX2_look 38 = .ok (.iload_n 2, 1) := by decide +kernel
theorem dX2_look_39 : decode cX2_look 39 = .ok (.iload_n 1, 1) := by decide +kernel
theorem dX2_look_40 : decode cX2_look 40 = .ok (.if_icmp .ge 71, 3) := by decide +kernel
theorem dX2_look_43 : decode cX2_look 43 = .ok (.aload_n 0, 1) := by decide +kernel
theorem dX2_look_44 : decode cX2_look 44 = .ok (.iload_n 2, 1) := by decide +kernel
theorem dX2_look_45 : decode cX2_look 45 = .ok (.invokevirtual 72, 3) := by decide +kernel
theorem dX2_look_48 : decode cX2_look 48 = .ok (.istore_n 3, 1) := by decide +kernel
theorem dX2_look_49 : decode cX2_look 49 = .ok (.iload_n 3, 1) := by decide +kernel
theorem dX2_look_50 : decode cX2_look 50 = .ok (.ifCond .lt 33, 3) := by decide +kernel
theorem dX2_look_53 : decode cX2_look 53 = .ok (.aload_n 0, 1) := by decide +kernel
theorem dX2_look_54 : decode cX2_look 54 = .ok (.getfield 63, 3) := by decide +kernel
theorem dX2_look_57 : decode cX2_look 57 = .ok (.ifCond .lt 11, 3) := by decide +kernel
theorem dX2_look_60 : decode cX2_look 60 = .ok (.iload_n 3, 1) := by decide +kernel
theorem dX2_look_61 : decode cX2_look 61 = .ok (.aload_n 0, 1) := by decide +kernel
theorem dX2_look_62 : decode cX2_look 62 = .ok (.getfield 63, 3) := by decide +kernel
theorem dX2_look_65 : decode cX2_look 65 = .ok (.if_icmp .ge 18, 3) := by decide +kernel
theorem dX2_look_68 : decode cX2_look 68 = .ok (.aload_n 0, 1) := by decide +kernel
theorem dX2_look_69 : decode cX2_look 69 = .ok (.iload_n 3, 1) := by decide +kernel
theorem dX2_look_70 : decode cX2_look 70 = .ok (.putfield 63, 3) := by decide +kernel
theorem dX2_look_73 : decode cX2_look 73 = .ok (.aload_n 0, 1) := by decide +kernel
theorem dX2_look_74 : decode cX2_look 74 = .ok (.iconst 0, 1) := by decide +kernel
theorem dX2_look_75 : decode cX2_look 75 = .ok (.putfield 66, 3) := by decide +kernel
theorem dX2_look_78 : decode cX2_look 78 = .ok (.aload_n 0, 1) := by decide +kernel
theorem dX2_look_79 : decode cX2_look 79 = .ok (.iload_n 2, 1) := by decide +kernel
theorem dX2_look_80 : decode cX2_look 80 = .ok (.putfield 69, 3) := by decide +kernel
theorem dX2_look_83 : decode cX2_look 83 = .ok (.iload_n 3, 1) := by decide +kernel
theorem dX2_look_84 : decode cX2_look 84 = .ok (.ifCond .lt 21, 3) := by decide +kernel
theorem dX2_look_87 : decode cX2_look 87 = .ok (.iload_n 3, 1) := by decide +kernel
theorem dX2_look_88 : decode cX2_look 88 = .ok (.aload_n 0, 1) := by decide +kernel
theorem dX2_look_89 : decode cX2_look 89 = .ok (.getfield 63, 3) := by decide +kernel
theorem dX2_look_92 : decode cX2_look 92 = .ok (.if_icmp .ne 13, 3) := by decide +kernel
theorem dX2_look_95 : decode cX2_look 95 = .ok (.aload_n 0, 1) := by decide +kernel
theorem dX2_look_96 : decode cX2_look 96 = .ok (.dup, 1) := by decide +kernel
theorem dX2_look_97 : decode cX2_look 97 = .ok (.getfield 66, 3) := by decide +kernel
theorem dX2_look_100 : decode cX2_look 100 = .ok (.iconst 1, 1) := by decide +kernel
theorem dX2_look_101 : decode cX2_look 101 = .ok (.iadd, 1) := by decide +kernel
theorem dX2_look_102 : decode cX2_look 102 = .ok (.putfield 66, 3) := by decide +kernel
theorem dX2_look_105 : decode cX2_look 105 = .ok (.iinc 2 1, 3) := by decide +kernel
theorem dX2_look_108 : decode cX2_look 108 = .ok (.goto (-70), 3) := by decide +kernel
theorem dX2_look_111 : decode cX2_look 111 = .ok (.return_, 1) := by decide +kernel
theorem dX2_costOf_0 : decode cX2_costOf 0 = .ok (.iconst 0, 1) := by decide +kernel
theorem dX2_costOf_1 : decode cX2_costOf 1 = .ok (.istore_n 2, 1) := by decide +kernel
theorem dX2_costOf_2 : decode cX2_costOf 2 = .ok (.iconst 0, 1) := by decide +kernel
theorem dX2_costOf_3 : decode cX2_costOf 3 = .ok (.istore_n 3, 1) := by decide +kernel
theorem dX2_costOf_4 : decode cX2_costOf 4 = .ok (.iconst (-1), 1) := by decide +kernel
theorem dX2_costOf_5 : decode cX2_costOf 5 = .ok (.istore 4, 2) := by decide +kernel
theorem dX2_costOf_7 : decode cX2_costOf 7 = .ok (.iconst 1, 1) := by decide +kernel
theorem dX2_costOf_8 : decode cX2_costOf 8 = .ok (.istore 5, 2) := by decide +kernel
theorem dX2_costOf_10 : decode cX2_costOf 10 = .ok (.iload 5, 2) := by decide +kernel
theorem dX2_costOf_12 : decode cX2_costOf 12 = .ok (.aload_n 0, 1) := by decide +kernel
theorem dX2_costOf_13 : decode cX2_costOf 13 = .ok (.getfield 49, 3) := by decide +kernel
theorem dX2_costOf_16 : decode cX2_costOf 16 = .ok (.if_icmp .gt 110, 3) := by decide +kernel
theorem dX2_costOf_19 : decode cX2_costOf 19 = .ok (.aload_n 0, 1) := by decide +kernel
theorem dX2_costOf_20 : decode cX2_costOf 20 = .ok (.iload_n 1, 1) := by decide +kernel
theorem dX2_costOf_21 : decode cX2_costOf 21 = .ok (.iload 5, 2) := by decide +kernel
theorem dX2_costOf_23 : decode cX2_costOf 23 = .ok (.invokevirtual 56, 3) := by decide +kernel
theorem dX2_costOf_26 : decode cX2_costOf 26 = .ok (.ifCond .eq 94, 3) := by decide +kernel
theorem dX2_costOf_29 : decode cX2_costOf 29 = .ok (.aload_n 0, 1) := by decide +kernel
theorem dX2_costOf_30 : decode cX2_costOf 30 = .ok (.iload_n 3, 1) := by decide +kernel
theorem dX2_costOf_31 : decode cX2_costOf 31 = .ok (.iload 5, 2) := by decide +kernel
theorem dX2_costOf_33 : decode cX2_costOf 33 = .ok (.invokevirtual 59, 3) := by decide +kernel
theorem dX2_costOf_36 : decode cX2_costOf 36 = .ok (.istore 6, 2) := by decide +kernel
theorem dX2_costOf_38 : decode cX2_costOf 38 = .ok (.iload 6, 2) := by decide +kernel
theorem dX2_costOf_40 : decode cX2_costOf 40 = .ok (.ifCond .ge 13, 3) := by decide +kernel
theorem dX2_costOf_43 : decode cX2_costOf 43 = .ok (.iload 5, 2) := by decide +kernel
theorem dX2_costOf_45 : decode cX2_costOf 45 = .ok (.iload_n 3, 1) := by decide +kernel
theorem dX2_costOf_46 : decode cX2_costOf 46 = .ok (.isub, 1) := by decide +kernel
theorem dX2_costOf_47 : decode cX2_costOf 47 = .ok (.iconst 1, 1) := by decide +kernel
theorem dX2_costOf_48 : decode cX2_costOf 48 = .ok (.if_icmp .le 5, 3) := by decide +kernel
theorem dX2_costOf_51 : decode cX2_costOf 51 = .ok (.iconst (-1), 1) := by decide +kernel
theorem dX2_costOf_52 : decode cX2_costOf 52 = .ok (.ireturn, 1) := by decide +kernel
theorem dX2_costOf_53 : decode cX2_costOf 53 = .ok (.iload 6, 2) := by decide +kernel
theorem dX2_costOf_55 : decode cX2_costOf 55 = .ok (.ifCond .ge 7, 3) := by decide +kernel
theorem dX2_costOf_58 : decode cX2_costOf 58 = .ok (.iconst 3, 1) := by decide +kernel
theorem dX2_costOf_59 : decode cX2_costOf 59 = .ok (.goto 10, 3) := by decide +kernel
theorem dX2_costOf_62 : decode cX2_costOf 62 = .ok (.aload_n 0, 1) := by decide +kernel
theorem dX2_costOf_63 : decode cX2_costOf 63 = .ok (.getfield 19, 3) := by decide +kernel
theorem dX2_costOf_66 : decode cX2_costOf 66 = .ok (.iload 6, 2) := by decide +kernel
theorem dX2_costOf_68 : decode cX2_costOf 68 = .ok (.iaload, 1) := by decide +kernel
theorem dX2_costOf_69 : decode cX2_costOf 69 = .ok (.istore 7, 2) := by decide +kernel
theorem dX2_costOf_71 : decode cX2_costOf 71 = .ok (.iload_n 2, 1) := by decide +kernel
theorem dX2_costOf_72 : decode cX2_costOf 72 = .ok (.iload 6, 2) := by decide +kernel
theorem dX2_costOf_74 : decode cX2_costOf 74 = .ok (.ifCond .ge 10, 3) := by decide +kernel
theorem dX2_costOf_77 : decode cX2_costOf 77 = .ok (.aload_n 0, 1) := by decide +kernel
theorem dX2_costOf_78 : decode cX2_costOf 78 = .ok (.getfield 31, 3) := by decide +kernel
theorem dX2_costOf_81 : decode cX2_costOf 81 = .ok (.goto 10, 3) := by decide +kernel
theorem dX2_costOf_84 : decode cX2_costOf 84 = .ok (.aload_n 0, 1) := by decide +kernel
theorem dX2_costOf_85 : decode cX2_costOf 85 = .ok (.getfield 16, 3) := by decide +kernel
theorem dX2_costOf_88 : decode cX2_costOf 88 = .ok (.iload 6, 2) := by decide +kernel
theorem dX2_costOf_90 : decode cX2_costOf 90 = .ok (.iaload, 1) := by decide +kernel
theorem dX2_costOf_91 : decode cX2_costOf 91 = .ok (.iadd, 1) := by decide +kernel
theorem dX2_costOf_92 : decode cX2_costOf 92 = .ok (.istore_n 2, 1) := by decide +kernel
theorem dX2_costOf_93 : decode cX2_costOf 93 = .ok (.iload 4, 2) := by decide +kernel
theorem dX2_costOf_95 : decode cX2_costOf 95 = .ok (.ifCond .lt 18, 3) := by decide +kernel
theorem dX2_costOf_98 : decode cX2_costOf 98 = .ok (.iload_n 2, 1) := by decide +kernel
theorem dX2_costOf_99 : decode cX2_costOf 99 = .ok (.aload_n 0, 1) := by decide +kernel
theorem dX2_costOf_100 : decode cX2_costOf 100 = .ok (.getfield 28, 3) := by decide +kernel
theorem dX2_costOf_103 : decode cX2_costOf 103 = .ok (.iconst 4, 1) := by decide +kernel
theorem dX2_costOf_104 : decode cX2_costOf 104 = .ok (.iload 4, 2) := by decide +kernel
theorem dX2_costOf_106 : decode cX2_costOf 106 = .ok (.imul, 1) := by decide +kernel
theorem dX2_costOf_107 : decode cX2_costOf 107 = .ok (.iload 7, 2) := by decide +kernel
theorem dX2_costOf_109 : decode cX2_costOf 109 = .ok (.iadd, 1) := by decide +kernel
theorem dX2_costOf_110 : decode cX2_costOf 110 = .ok (.iaload, 1) := by decide +kernel
theorem dX2_costOf_111 : decode cX2_costOf 111 = .ok (.iadd, 1) := by decide +kernel
theorem dX2_costOf_112 : decode cX2_costOf 112 = .ok (.istore_n 2, 1) := by decide +kernel
theorem dX2_costOf_113 : decode cX2_costOf 113 = .ok (.iload 7, 2) := by decide +kernel
theorem dX2_costOf_115 : decode cX2_costOf 115 = .ok (.istore 4, 2) := by decide +kernel
theorem dX2_costOf_117 : decode cX2_costOf 117 = .ok (.iload 5, 2) := by decide +kernel
theorem dX2_costOf_119 : decode cX2_costOf 119 = .ok (.istore_n 3, 1) := by decide +kernel
theorem dX2_costOf_120 : decode cX2_costOf 120 = .ok (.iinc 5 1, 3) := by decide +kernel
theorem dX2_costOf_123 : decode cX2_costOf 123 = .ok (.goto (-113), 3) := by decide +kernel
theorem dX2_costOf_126 : decode cX2_costOf 126 = .ok (.iload_n 2, 1) := by decide +kernel
theorem dX2_costOf_127 : decode cX2_costOf 127 = .ok (.ireturn, 1) := by decide +kernel
theorem dX2_border_0 : decode cX2_border 0 = .ok (.iload_n 2, 1) := by decide +kernel
theorem dX2_border_1 : decode cX2_border 1 = .ok (.ifCond .eq 27, 3) := by decide +kernel
theorem dX2_border_4 : decode cX2_border 4 = .ok (.iload_n 2, 1) := by decide +kernel
theorem dX2_border_5 : decode cX2_border 5 = .ok (.aload_n 0, 1) := by decide +kernel
theorem dX2_border_6 : decode cX2_border 6 = .ok (.getfield 49, 3) := by decide +kernel
theorem dX2_border_9 : decode cX2_border 9 = .ok (.if_icmp .eq 19, 3) := by decide +kernel
theorem dX2_border_12 : decode cX2_border 12 = .ok (.iload_n 1, 1) := by decide +kernel
theorem dX2_border_13 : decode cX2_border 13 = .ok (.aload_n 0, 1) := by decide +kernel
theorem dX2_border_14 : decode cX2_border 14 = .ok (.getfield 49, 3) := by decide +kernel
theorem dX2_border_17 : decode cX2_border 17 = .ok (.iconst 1, 1) := by decide +kernel
theorem dX2_border_18 : decode cX2_border 18 = .ok (.isub, 1) := by decide +kernel
theorem dX2_border_19 : decode cX2_border 19 = .ok (.iload_n 2, 1) := by decide +kernel
theorem dX2_border_20 : decode cX2_border 20 = .ok (.isub, 1) := by decide +kernel
theorem dX2_border_21 : decode cX2_border 21 = .ok (.ishr, 1) := by decide +kernel
theorem dX2_border_22 : decode cX2_border 22 = .ok (.iconst 1, 1) := by decide +kernel
theorem dX2_border_23 : decode cX2_border 23 = .ok (.iand, 1) := by decide +kernel
theorem dX2_border_24 : decode cX2_border 24 = .ok (.iconst 1, 1) := by decide +kernel
theorem dX2_border_25 : decode cX2_border 25 = .ok (.if_icmp .ne 7, 3) := by decide +kernel
theorem dX2_border_28 : decode cX2_border 28 = .ok (.iconst 1, 1) := by decide +kernel
theorem dX2_border_29 : decode cX2_border 29 = .ok (.goto 4, 3) := by decide +kernel
theorem dX2_border_32 : decode cX2_border 32 = .ok (.iconst 0, 1) := by decide +kernel
theorem dX2_border_33 : decode cX2_border 33 = .ok (.ireturn, 1) := by decide +kernel
theorem dX2_word_0 : decode cX2_word 0 = .ok (.iconst 0, 1) := by decide +kernel
theorem dX2_word_1 : decode cX2_word 1 = .ok (.istore_n 3, 1) := by decide +kernel
theorem dX2_word_2 : decode cX2_word 2 = .ok (.iload_n 3, 1) := by decide +kernel
theorem dX2_word_3 : decode cX2_word 3 = .ok (.aload_n 0, 1) := by decide +kernel
theorem dX2_word_4 : decode cX2_word 4 = .ok (.getfield 38, 3) := by decide +kernel
theorem dX2_word_7 : decode cX2_word 7 = .ok (.if_icmp .ge 32, 3) := by decide +kernel
theorem dX2_word_10 : decode cX2_word 10 = .ok (.aload_n 0, 1) := by decide +kernel
theorem dX2_word_11 : decode cX2_word 11 = .ok (.getfield 13, 3) := by decide +kernel
theorem dX2_word_14 : decode cX2_word 14 = .ok (.iload_n 3, 1) := by decide +kernel
theorem dX2_word_15 : decode cX2_word 15 = .ok (.iaload, 1) := by decide +kernel
theorem dX2_word_16 : decode cX2_word 16 = .ok (.iload_n 2, 1) := by decide +kernel
theorem dX2_word_17 : decode cX2_word 17 = .ok (.iload_n 1, 1) := by decide +kernel
theorem dX2_word_18 : decode cX2_word 18 = .ok (.isub, 1) := by decide +kernel
theorem dX2_word_19 : decode cX2_word 19 = .ok (.if_icmp .ne 14, 3) := by decide +kernel
theorem dX2_word_22 : decode cX2_word 22 = .ok (.aload_n 0, 1) := by decide +kernel
theorem dX2_word_23 : decode cX2_word 23 = .ok (.iload_n 3, 1) := by decide +kernel
theorem dX2_word_24 : decode cX2_word 24 = .ok (.iload_n 1, 1) := by decide +kernel
theorem dX2_word_25 : decode cX2_word 25 = .ok (.invokevirtual 52, 3) := by decide +kernel
theorem dX2_word_28 : decode cX2_word 28 = .ok (.ifCond .eq 5, 3) := by decide +kernel
theorem dX2_word_31 : decode cX2_word 31 = .ok (.iload_n 3, 1) := by decide +kernel
theorem dX2_word_32 : decode cX2_word 32 = .ok (.ireturn, 1) := by decide +kernel
theorem dX2_word_33 : decode cX2_word 33 = .ok (.iinc 3 1, 3) := by decide +kernel
theorem dX2_word_36 : decode cX2_word 36 = .ok (.goto (-34), 3) := by decide +kernel
theorem dX2_word_39 : decode cX2_word 39 = .ok (.iconst (-1), 1) := by decide +kernel
theorem dX2_word_40 : decode cX2_word 40 = .ok (.ireturn, 1) := by decide +kernel
theorem dX2_stands_0 : decode cX2_stands 0 = .ok (.iconst 0, 1) := by decide +kernel
theorem dX2_stands_1 : decode cX2_stands 1 = .ok (.istore_n 3, 1) := by decide +kernel
theorem dX2_stands_2 : decode cX2_stands 2 = .ok (.iload_n 3, 1) := by decide +kernel
theorem dX2_stands_3 : decode cX2_stands 3 = .ok (.aload_n 0, 1) := by decide +kernel
theorem dX2_stands_4 : decode cX2_stands 4 = .ok (.getfield 13, 3) := by decide +kernel
theorem dX2_stands_7 : decode cX2_stands 7 = .ok (.iload_n 1, 1) := by decide +kernel
theorem dX2_stands_8 : decode cX2_stands 8 = .ok (.iaload, 1) := by decide +kernel
theorem dX2_stands_9 : decode cX2_stands 9 = .ok (.if_icmp .ge 42, 3) := by decide +kernel
theorem dX2_stands_12 : decode cX2_stands 12 = .ok (.iload_n 2, 1) := by decide +kernel
theorem dX2_stands_13 : decode cX2_stands 13 = .ok (.iload_n 3, 1) := by decide +kernel
theorem dX2_stands_14 : decode cX2_stands 14 = .ok (.iadd, 1) := by decide +kernel
theorem dX2_stands_15 : decode cX2_stands 15 = .ok (.aload_n 0, 1) := by decide +kernel
theorem dX2_stands_16 : decode cX2_stands 16 = .ok (.getfield 49, 3) := by decide +kernel
theorem dX2_stands_19 : decode cX2_stands 19 = .ok (.if_icmp .ge 24, 3) := by decide +kernel
theorem dX2_stands_22 : decode cX2_stands 22 = .ok (.aload_n 0, 1) := by decide +kernel
theorem dX2_stands_23 : decode cX2_stands 23 = .ok (.getfield 7, 3) := by decide +kernel
theorem dX2_stands_26 : decode cX2_stands 26 = .ok (.iconst 5, 1) := by decide +kernel
theorem dX2_stands_27 : decode cX2_stands 27 = .ok (.iload_n 1, 1) := by decide +kernel
theorem dX2_stands_28 : decode cX2_stands 28 = .ok (.imul, 1) := by decide +kernel
theorem dX2_stands_29 : decode cX2_stands 29 = .ok (.iload_n 3, 1) := by decide +kernel
theorem dX2_stands_30 : decode cX2_stands 30 = .ok (.iadd, 1) := by decide +kernel
theorem dX2_stands_31 : decode cX2_stands 31 = .ok (.iaload, 1) := by decide +kernel
theorem dX2_stands_32 : decode cX2_stands 32 = .ok (.aload_n 0, 1) := by decide +kernel
theorem dX2_stands_33 : decode cX2_stands 33 = .ok (.getfield 25, 3) := by decide +kernel
theorem dX2_stands_36 : decode cX2_stands 36 = .ok (.iload_n 2, 1) := by decide +kernel
theorem dX2_stands_37 : decode cX2_stands 37 = .ok (.iload_n 3, 1) := by decide +kernel
theorem dX2_stands_38 : decode cX2_stands 38 = .ok (.iadd, 1) := by decide +kernel
theorem dX2_stands_39 : decode cX2_stands 39 = .ok (.iaload, 1) := by decide +kernel
theorem dX2_stands_40 : decode cX2_stands 40 = .ok (.if_icmp .eq 5, 3) := by decide +kernel
theorem dX2_stands_43 : decode cX2_stands 43 = .ok (.iconst 0, 1) := by decide +kernel
theorem dX2_stands_44 : decode cX2_stands 44 = .ok (.ireturn, 1) := by decide +kernel
theorem dX2_stands_45 : decode cX2_stands 45 = .ok (.iinc 3 1, 3) := by decide +kernel
theorem dX2_stands_48 : decode cX2_stands 48 = .ok (.goto (-46), 3) := by decide +kernel
theorem dX2_stands_51 : decode cX2_stands 51 = .ok (.iconst 1, 1) := by decide +kernel
theorem dX2_stands_52 : decode cX2_stands 52 = .ok (.ireturn, 1) := by decide +kernel
theorem dX2_ways_0 : decode cX2_ways 0 = .ok (.aload_n 0, 1) := by decide +kernel
theorem dX2_ways_1 : decode cX2_ways 1 = .ok (.invokevirtual 76, 3) := by decide +kernel
theorem dX2_ways_4 : decode cX2_ways 4 = .ok (.aload_n 0, 1) := by decide +kernel
theorem dX2_ways_5 : decode cX2_ways 5 = .ok (.getfield 66, 3) := by decide +kernel
theorem dX2_ways_8 : decode cX2_ways 8 = .ok (.ireturn, 1) := by decide +kernel
theorem dX2_start_0 : decode cX2_start 0 = .ok (.aload_n 0, 1) := by decide +kernel
theorem dX2_start_1 : decode cX2_start 1 = .ok (.invokevirtual 76, 3) := by decide +kernel
theorem dX2_start_4 : decode cX2_start 4 = .ok (.iconst 0, 1) := by decide +kernel
theorem dX2_start_5 : decode cX2_start 5 = .ok (.istore_n 2, 1) := by decide +kernel
theorem dX2_start_6 : decode cX2_start 6 = .ok (.iconst 0, 1) := by decide +kernel
theorem dX2_start_7 : decode cX2_start 7 = .ok (.istore_n 3, 1) := by decide +kernel
theorem dX2_start_8 : decode cX2_start 8 = .ok (.iload_n 3, 1) := by decide +kernel
theorem dX2_start_9 : decode cX2_start 9 = .ok (.aload_n 0, 1) := by decide +kernel
theorem dX2_start_10 : decode cX2_start 10 = .ok (.getfield 49, 3) := by decide +kernel
theorem dX2_start_13 : decode cX2_start 13 = .ok (.if_icmp .gt 31, 3) := by decide +kernel
theorem dX2_start_16 : decode cX2_start 16 = .ok (.aload_n 0, 1) := by decide +kernel
theorem dX2_start_17 : decode cX2_start 17 = .ok (.aload_n 0, 1) := by decide +kernel
theorem dX2_start_18 : decode cX2_start 18 = .ok (.getfield 69, 3) := by decide +kernel
theorem dX2_start_21 : decode cX2_start 21 = .ok (.iload_n 3, 1) := by decide +kernel
theorem dX2_start_22 : decode cX2_start 22 = .ok (.invokevirtual 56, 3) := by decide +kernel
theorem dX2_start_25 : decode cX2_start 25 = .ok (.ifCond .eq 13, 3) := by decide +kernel
theorem dX2_start_28 : decode cX2_start 28 = .ok (.iload_n 2, 1) := by decide +kernel
theorem dX2_start_29 : decode cX2_start 29 = .ok (.iload_n 1, 1) := by decide +kernel
theorem dX2_start_30 : decode cX2_start 30 = .ok (.if_icmp .ne 5, 3) := by decide +kernel
theorem dX2_start_33 : decode cX2_start 33 = .ok (.iload_n 3, 1) := by decide +kernel
theorem dX2_start_34 : decode cX2_start 34 = .ok (.ireturn, 1) := by decide +kernel
theorem dX2_start_35 : decode cX2_start 35 = .ok (.iinc 2 1, 3) := by decide +kernel
theorem dX2_start_38 : decode cX2_start 38 = .ok (.iinc 3 1, 3) := by decide +kernel
theorem dX2_start_41 : decode cX2_start 41 = .ok (.goto (-33), 3) := by decide +kernel
theorem dX2_start_44 : decode cX2_start 44 = .ok (.iconst (-1), 1) := by decide +kernel
theorem dX2_start_45 : decode cX2_start 45 = .ok (.ireturn, 1) := by decide +kernel
theorem dX2_beginning_0 : decode cX2_beginning 0 = .ok (.iconst 0, 1) := by decide +kernel
theorem dX2_beginning_1 : decode cX2_beginning 1 = .ok (.istore_n 1, 1) := by decide +kernel
theorem dX2_beginning_2 : decode cX2_beginning 2 = .ok (.iconst 0, 1) := by decide +kernel
theorem dX2_beginning_3 : decode cX2_beginning 3 = .ok (.istore_n 2, 1) := by decide +kernel
theorem dX2_beginning_4 : decode cX2_beginning 4 = .ok (.iload_n 2, 1) := by decide +kernel
theorem dX2_beginning_5 : decode cX2_beginning 5 = .ok (.aload_n 0, 1) := by decide +kernel
theorem dX2_beginning_6 : decode cX2_beginning 6 = .ok (.getfield 38, 3) := by decide +kernel
theorem dX2_beginning_9 : decode cX2_beginning 9 = .ok (.if_icmp .ge 20, 3) := by decide +kernel
theorem dX2_beginning_12 : decode cX2_beginning 12 = .ok (.aload_n 0, 1) := by decide +kernel
theorem dX2_beginning_13 : decode cX2_beginning 13 = .ok (.iload_n 2, 1) := by decide +kernel
theorem dX2_beginning_14 : decode cX2_beginning 14 = .ok (.invokevirtual 41, 3) := by decide +kernel
theorem dX2_beginning_17 : decode cX2_beginning 17 = .ok (.ifCond .eq 6, 3) := by decide +kernel
theorem dX2_beginning_20 : decode cX2_beginning 20 = .ok (.iinc 1 1, 3) := by decide +kernel
theorem dX2_beginning_23 : decode cX2_beginning 23 = .ok (.iinc 2 1, 3) := by decide +kernel
theorem dX2_beginning_26 : decode cX2_beginning 26 = .ok (.goto (-22), 3) := by decide +kernel
theorem dX2_beginning_29 : decode cX2_beginning 29 = .ok (.iload_n 1, 1) := by decide +kernel
theorem dX2_beginning_30 : decode cX2_beginning 30 = .ok (.ireturn, 1) := by decide +kernel
end
section
set_option maxRecDepth 100000
theorem dJ0_init_0 : decode cJ0_init 0 = .ok (.return_, 1) := by decide +kernel
theorem dX0_cell_0 : decode cX0_cell 0 = .ok (.iload_n 1, 1) := by decide +kernel
theorem dX0_cell_1 : decode cX0_cell 1 = .ok (.aload_n 0, 1) := by decide +kernel
theorem dX0_cell_2 : decode cX0_cell 2 = .ok (.arraylength, 1) := by decide +kernel
theorem dX0_cell_3 : decode cX0_cell 3 = .ok (.if_icmp .ge 9, 3) := by decide +kernel
theorem dX0_cell_6 : decode cX0_cell 6 = .ok (.aload_n 0, 1) := by decide +kernel
theorem dX0_cell_7 : decode cX0_cell 7 = .ok (.iload_n 1, 1) := by decide +kernel
theorem dX0_cell_8 : decode cX0_cell 8 = .ok (.iaload, 1) := by decide +kernel
theorem dX0_cell_9 : decode cX0_cell 9 = .ok (.goto 4, 3) := by decide +kernel
theorem dX0_cell_12 : decode cX0_cell 12 = .ok (.iconst 0, 1) := by decide +kernel
theorem dX0_cell_13 : decode cX0_cell 13 = .ok (.ireturn, 1) := by decide +kernel
theorem dL_law_0 : decode cL_law 0 = .ok (.new 7, 3) := by decide +kernel
theorem dL_law_3 : decode cL_law 3 = .ok (.dup, 1) := by decide +kernel
theorem dL_law_4 : decode cL_law 4 = .ok (.aload_n 0, 1) := by decide +kernel
theorem dL_law_5 : decode cL_law 5 = .ok (.iconst 0, 1) := by decide +kernel
theorem dL_law_6 : decode cL_law 6 = .ok (.invokestatic 9, 3) := by decide +kernel
theorem dL_law_9 : decode cL_law 9 = .ok (.invokespecial 15, 3) := by decide +kernel
theorem dL_law_12 : decode cL_law 12 = .ok (.astore_n 1, 1) := by decide +kernel
theorem dL_law_13 : decode cL_law 13 = .ok (.new 18, 3) := by decide +kernel
theorem dL_law_16 : decode cL_law 16 = .ok (.dup, 1) := by decide +kernel
theorem dL_law_17 : decode cL_law 17 = .ok (.aload_n 0, 1) := by decide +kernel
theorem dL_law_18 : decode cL_law 18 = .ok (.iconst 0, 1) := by decide +kernel
theorem dL_law_19 : decode cL_law 19 = .ok (.invokestatic 9, 3) := by decide +kernel
theorem dL_law_22 : decode cL_law 22 = .ok (.invokespecial 20, 3) := by decide +kernel
theorem dL_law_25 : decode cL_law 25 = .ok (.astore_n 2, 1) := by decide +kernel
theorem dL_law_26 : decode cL_law 26 = .ok (.iconst 1, 1) := by decide +kernel
theorem dL_law_27 : decode cL_law 27 = .ok (.istore_n 3, 1) := by decide +kernel
theorem dL_law_28 : decode cL_law 28 = .ok (.iload_n 3, 1) := by decide +kernel
theorem dL_law_29 : decode cL_law 29 = .ok (.aload_n 0, 1) := by decide +kernel
theorem dL_law_30 : decode cL_law 30 = .ok (.arraylength, 1) := by decide +kernel
theorem dL_law_31 : decode cL_law 31 = .ok (.iconst 4, 1) := by decide +kernel
theorem dL_law_32 : decode cL_law 32 = .ok (.isub, 1) := by decide +kernel
theorem dL_law_33 : decode cL_law 33 = .ok (.if_icmp .gt 309, 3) := by decide +kernel
theorem dL_law_36 : decode cL_law 36 = .ok (.aload_n 0, 1) := by decide +kernel
theorem dL_law_37 : decode cL_law 37 = .ok (.iload_n 3, 1) := by decide +kernel
theorem dL_law_38 : decode cL_law 38 = .ok (.iaload, 1) := by decide +kernel
theorem dL_law_39 : decode cL_law 39 = .ok (.bipush 15, 2) := by decide +kernel
theorem dL_law_41 : decode cL_law 41 = .ok (.iand, 1) := by decide +kernel
theorem dL_law_42 : decode cL_law 42 = .ok (.tableswitch 294 0 11 #[62, 85, 118, 131, 144, 155, 198, 221, 232, 245, 258, 281], 62) := by decide +kernel
theorem dL_law_104 : decode cL_law 104 = .ok (.aload_n 1, 1) := by decide +kernel
theorem dL_law_105 : decode cL_law 105 = .ok (.aload_n 0, 1) := by decide +kernel
theorem dL_law_106 : decode cL_law 106 = .ok (.iload_n 3, 1) := by decide +kernel
theorem dL_law_107 : decode cL_law 107 = .ok (.iconst 1, 1) := by decide +kernel
theorem dL_law_108 : decode cL_law 108 = .ok (.iadd, 1) := by decide +kernel
theorem dL_law_109 : decode cL_law 109 = .ok (.iaload, 1) := by decide +kernel
theorem dL_law_110 : decode cL_law 110 = .ok (.invokevirtual 21, 3) := by decide +kernel
theorem dL_law_113 : decode cL_law 113 = .ok (.aload_n 2, 1) := by decide +kernel
theorem dL_law_114 : decode cL_law 114 = .ok (.aload_n 0, 1) := by decide +kernel
theorem dL_law_115 : decode cL_law 115 = .ok (.iload_n 3, 1) := by decide +kernel
theorem dL_law_116 : decode cL_law 116 = .ok (.iconst 1, 1) := by decide +kernel
theorem dL_law_117 : decode cL_law 117 = .ok (.iadd, 1) := by decide +kernel
theorem dL_law_118 : decode cL_law 118 = .ok (.iaload, 1) := by decide +kernel
theorem dL_law_119 : decode cL_law 119 = .ok (.invokevirtual 25, 3) := by decide +kernel
theorem dL_law_122 : decode cL_law 122 = .ok (.if_icmp .eq 214, 3) := by decide +kernel
theorem dL_law_125 : decode cL_law 125 = .ok (.iconst 0, 1) := by decide +kernel
theorem dL_law_126 : decode cL_law 126 = .ok (.ireturn, 1) := by decide +kernel
theorem dL_law_127 : decode cL_law 127 = .ok (.aload_n 1, 1) := by decide +kernel
theorem dL_law_128 : decode cL_law 128 = .ok (.aload_n 0, 1) := by decide +kernel
theorem dL_law_129 : decode cL_law 129 = .ok (.iload_n 3, 1) := by decide +kernel
theorem dL_law_130 : decode cL_law 130 = .ok (.iconst 1, 1) := by decide +kernel
theorem dL_law_131 : decode cL_law 131 = .ok (.iadd, 1) := by decide +kernel
theorem dL_law_132 : decode cL_law 132 = .ok (.iaload, 1) := by decide +kernel
theorem dL_law_133 : decode cL_law 133 = .ok (.aload_n 0, 1) := by decide +kernel
theorem dL_law_134 : decode cL_law 134 = .ok (.iload_n 3, 1) := by decide +kernel
theorem dL_law_135 : decode cL_law 135 = .ok (.iconst 2, 1) := by decide +kernel
theorem dL_law_136 : decode cL_law 136 = .ok (.iadd, 1) := by decide +kernel
theorem dL_law_137 : decode cL_law 137 = .ok (.iaload, 1) := by decide +kernel
theorem dL_law_138 : decode cL_law 138 = .ok (.invokevirtual 26, 3) := by decide +kernel
theorem dL_law_141 : decode cL_law 141 = .ok (.aload_n 2, 1) := by decide +kernel
theorem dL_law_142 : decode cL_law 142 = .ok (.aload_n 0, 1) := by decide +kernel
theorem dL_law_143 : decode cL_law 143 = .ok (.iload_n 3, 1) := by decide +kernel
theorem dL_law_144 : decode cL_law 144 = .ok (.iconst 1, 1) := by decide +kernel
theorem dL_law_145 : decode cL_law 145 = .ok (.iadd, 1) := by decide +kernel
theorem dL_law_146 : decode cL_law 146 = .ok (.iaload, 1) := by decide +kernel
theorem dL_law_147 : decode cL_law 147 = .ok (.aload_n 0, 1) := by decide +kernel
theorem dL_law_148 : decode cL_law 148 = .ok (.iload_n 3, 1) := by decide +kernel
theorem dL_law_149 : decode cL_law 149 = .ok (.iconst 2, 1) := by decide +kernel
theorem dL_law_150 : decode cL_law 150 = .ok (.iadd, 1) := by decide +kernel
theorem dL_law_151 : decode cL_law 151 = .ok (.iaload, 1) := by decide +kernel
theorem dL_law_152 : decode cL_law 152 = .ok (.invokevirtual 30, 3) := by decide +kernel
theorem dL_law_155 : decode cL_law 155 = .ok (.if_icmp .eq 181, 3) := by decide +kernel
theorem dL_law_158 : decode cL_law 158 = .ok (.iconst 0, 1) := by decide +kernel
theorem dL_law_159 : decode cL_law 159 = .ok (.ireturn, 1) := by decide +kernel
theorem dL_law_160 : decode cL_law 160 = .ok (.aload_n 1, 1) := by decide +kernel
theorem dL_law_161 : decode cL_law 161 = .ok (.invokevirtual 31, 3) := by decide +kernel
theorem dL_law_164 : decode cL_law 164 = .ok (.aload_n 2, 1) := by decide +kernel
theorem dL_law_165 : decode cL_law 165 = .ok (.invokevirtual 35, 3) := by decide +kernel
theorem dL_law_168 : decode cL_law 168 = .ok (.if_icmp .eq 168, 3) := by decide +kernel
theorem dL_law_171 : decode cL_law 171 = .ok (.iconst 0, 1) := by decide +kernel
theorem dL_law_172 : decode cL_law 172 = .ok (.ireturn, 1) := by decide +kernel
theorem dL_law_173 : decode cL_law 173 = .ok (.aload_n 1, 1) := by decide +kernel
theorem dL_law_174 : decode cL_law 174 = .ok (.invokevirtual 36, 3) := by decide +kernel
theorem dL_law_177 : decode cL_law 177 = .ok (.aload_n 2, 1) := by decide +kernel
theorem dL_law_178 : decode cL_law 178 = .ok (.invokevirtual 39, 3) := by decide +kernel
theorem dL_law_181 : decode cL_law 181 = .ok (.if_icmp .eq 155, 3) := by decide +kernel
theorem dL_law_184 : decode cL_law 184 = .ok (.iconst 0, 1) := by decide +kernel
theorem dL_law_185 : decode cL_law 185 = .ok (.ireturn, 1) := by decide +kernel
theorem dL_law_186 : decode cL_law 186 = .ok (.aload_n 1, 1) := by decide +kernel
theorem dL_law_187 : decode cL_law 187 = .ok (.invokevirtual 40, 3) := by decide +kernel
theorem dL_law_190 : decode cL_law 190 = .ok (.aload_n 2, 1) := by decide +kernel
theorem dL_law_191 : decode cL_law 191 = .ok (.invokevirtual 43, 3) := by decide +kernel
theorem dL_law_194 : decode cL_law 194 = .ok (.goto 142, 3) := by decide +kernel
theorem dL_law_197 : decode cL_law 197 = .ok (.aload_n 1, 1) := by decide +kernel
theorem dL_law_198 : decode cL_law 198 = .ok (.aload_n 0, 1) := by decide +kernel
theorem dL_law_199 : decode cL_law 199 = .ok (.iload_n 3, 1) := by decide +kernel
theorem dL_law_200 : decode cL_law 200 = .ok (.iconst 1, 1) := by decide +kernel
theorem dL_law_201 : decode cL_law 201 = .ok (.iadd, 1) := by decide +kernel
theorem dL_law_202 : decode cL_law 202 = .ok (.iaload, 1) := by decide +kernel
theorem dL_law_203 : decode cL_law 203 = .ok (.aload_n 0, 1) := by decide +kernel
theorem dL_law_204 : decode cL_law 204 = .ok (.iload_n 3, 1) := by decide +kernel
theorem dL_law_205 : decode cL_law 205 = .ok (.iconst 2, 1) := by decide +kernel
theorem dL_law_206 : decode cL_law 206 = .ok (.iadd, 1) := by decide +kernel
theorem dL_law_207 : decode cL_law 207 = .ok (.iaload, 1) := by decide +kernel
theorem dL_law_208 : decode cL_law 208 = .ok (.aload_n 0, 1) := by decide +kernel
theorem dL_law_209 : decode cL_law 209 = .ok (.iload_n 3, 1) := by decide +kernel
theorem dL_law_210 : decode cL_law 210 = .ok (.iconst 3, 1) := by decide +kernel
theorem dL_law_211 : decode cL_law 211 = .ok (.iadd, 1) := by decide +kernel
theorem dL_law_212 : decode cL_law 212 = .ok (.iaload, 1) := by decide +kernel
theorem dL_law_213 : decode cL_law 213 = .ok (.invokevirtual 44, 3) := by decide +kernel
theorem dL_law_216 : decode cL_law 216 = .ok (.aload_n 2, 1) := by decide +kernel
theorem dL_law_217 : decode cL_law 217 = .ok (.aload_n 0, 1) := by decide +kernel
theorem dL_law_218 : decode cL_law 218 = .ok (.iload_n 3, 1) := by decide +kernel
theorem dL_law_219 : decode cL_law 219 = .ok (.iconst 1, 1) := by decide +kernel
theorem dL_law_220 : decode cL_law 220 = .ok (.iadd, 1) := by decide +kernel
theorem dL_law_221 : decode cL_law 221 = .ok (.iaload, 1) := by decide +kernel
theorem dL_law_222 : decode cL_law 222 = .ok (.aload_n 0, 1) := by decide +kernel
theorem dL_law_223 : decode cL_law 223 = .ok (.iload_n 3, 1) := by decide +kernel
theorem dL_law_224 : decode cL_law 224 = .ok (.iconst 2, 1) := by decide +kernel
theorem dL_law_225 : decode cL_law 225 = .ok (.iadd, 1) := by decide +kernel
theorem dL_law_226 : decode cL_law 226 = .ok (.iaload, 1) := by decide +kernel
theorem dL_law_227 : decode cL_law 227 = .ok (.aload_n 0, 1) := by decide +kernel
theorem dL_law_228 : decode cL_law 228 = .ok (.iload_n 3, 1) := by decide +kernel
theorem dL_law_229 : decode cL_law 229 = .ok (.iconst 3, 1) := by decide +kernel
theorem dL_law_230 : decode cL_law 230 = .ok (.iadd, 1) := by decide +kernel
theorem dL_law_231 : decode cL_law 231 = .ok (.iaload, 1) := by decide +kernel
theorem dL_law_232 : decode cL_law 232 = .ok (.invokevirtual 48, 3) := by decide +kernel
theorem dL_law_235 : decode cL_law 235 = .ok (.if_icmp .eq 101, 3) := by decide +kernel
theorem dL_law_238 : decode cL_law 238 = .ok (.iconst 0, 1) := by decide +kernel
theorem dL_law_239 : decode cL_law 239 = .ok (.ireturn, 1) := by decide +kernel
theorem dL_law_240 : decode cL_law 240 = .ok (.aload_n 1, 1) := by decide +kernel
theorem dL_law_241 : decode cL_law 241 = .ok (.aload_n 0, 1) := by decide +kernel
theorem dL_law_242 : decode cL_law 242 = .ok (.iload_n 3, 1) := by decide +kernel
theorem dL_law_243 : decode cL_law 243 = .ok (.iconst 1, 1) := by decide +kernel
theorem dL_law_244 : decode cL_law 244 = .ok (.iadd, 1) := by decide +kernel
theorem dL_law_245 : decode cL_law 245 = .ok (.iaload, 1) := by decide +kernel
theorem dL_law_246 : decode cL_law 246 = .ok (.invokevirtual 49, 3) := by decide +kernel
theorem dL_law_249 : decode cL_law 249 = .ok (.aload_n 2, 1) := by decide +kernel
theorem dL_law_250 : decode cL_law 250 = .ok (.aload_n 0, 1) := by decide +kernel
theorem dL_law_251 : decode cL_law 251 = .ok (.iload_n 3, 1) := by decide +kernel
theorem dL_law_252 : decode cL_law 252 = .ok (.iconst 1, 1) := by decide +kernel
theorem dL_law_253 : decode cL_law 253 = .ok (.iadd, 1) := by decide +kernel
theorem dL_law_254 : decode cL_law 254 = .ok (.iaload, 1) := by decide +kernel
theorem dL_law_255 : decode cL_law 255 = .ok (.invokevirtual 52, 3) := by decide +kernel
theorem dL_law_258 : decode cL_law 258 = .ok (.if_icmp .eq 78, 3) := by decide +kernel
theorem dL_law_261 : decode cL_law 261 = .ok (.iconst 0, 1) := by decide +kernel
theorem dL_law_262 : decode cL_law 262 = .ok (.ireturn, 1) := by decide +kernel
theorem dL_law_263 : decode cL_law 263 = .ok (.aload_n 1, 1) := by decide +kernel
theorem dL_law_264 : decode cL_law 264 = .ok (.invokevirtual 53, 3) := by decide +kernel
theorem dL_law_267 : decode cL_law 267 = .ok (.aload_n 2, 1) := by decide +kernel
theorem dL_law_268 : decode cL_law 268 = .ok (.invokevirtual 56, 3) := by decide +kernel
theorem dL_law_271 : decode cL_law 271 = .ok (.goto 65, 3) := by decide +kernel
theorem dL_law_274 : decode cL_law 274 = .ok (.aload_n 1, 1) := by decide +kernel
theorem dL_law_275 : decode cL_law 275 = .ok (.invokevirtual 57, 3) := by decide +kernel
theorem dL_law_278 : decode cL_law 278 = .ok (.aload_n 2, 1) := by decide +kernel
theorem dL_law_279 : decode cL_law 279 = .ok (.invokevirtual 60, 3) := by decide +kernel
theorem dL_law_282 : decode cL_law 282 = .ok (.if_icmp .eq 54, 3) := by decide +kernel
theorem dL_law_285 : decode cL_law 285 = .ok (.iconst 0, 1) := by decide +kernel
theorem dL_law_286 : decode cL_law 286 = .ok (.ireturn, 1) := by decide +kernel
theorem dL_law_287 : decode cL_law 287 = .ok (.aload_n 1, 1) := by decide +kernel
theorem dL_law_288 : decode cL_law 288 = .ok (.invokevirtual 61, 3) := by decide +kernel
theorem dL_law_291 : decode cL_law 291 = .ok (.aload_n 2, 1) := by decide +kernel
theorem dL_law_292 : decode cL_law 292 = .ok (.invokevirtual 64, 3) := by decide +kernel
theorem dL_law_295 : decode cL_law 295 = .ok (.if_icmp .eq 41, 3) := by decide +kernel
theorem dL_law_298 : decode cL_law 298 = .ok (.iconst 0, 1) := by decide +kernel
theorem dL_law_299 : decode cL_law 299 = .ok (.ireturn, 1) := by decide +kernel
theorem dL_law_300 : decode cL_law 300 = .ok (.aload_n 1, 1) := by decide +kernel
theorem dL_law_301 : decode cL_law 301 = .ok (.aload_n 0, 1) := by decide +kernel
theorem dL_law_302 : decode cL_law 302 = .ok (.iload_n 3, 1) := by decide +kernel
theorem dL_law_303 : decode cL_law 303 = .ok (.iconst 1, 1) := by decide +kernel
theorem dL_law_304 : decode cL_law 304 = .ok (.iadd, 1) := by decide +kernel
theorem dL_law_305 : decode cL_law 305 = .ok (.iaload, 1) := by decide +kernel
theorem dL_law_306 : decode cL_law 306 = .ok (.invokevirtual 65, 3) := by decide +kernel
theorem dL_law_309 : decode cL_law 309 = .ok (.aload_n 2, 1) := by decide +kernel
theorem dL_law_310 : decode cL_law 310 = .ok (.aload_n 0, 1) := by decide +kernel
theorem dL_law_311 : decode cL_law 311 = .ok (.iload_n 3, 1) := by decide +kernel
theorem dL_law_312 : decode cL_law 312 = .ok (.iconst 1, 1) := by decide +kernel
theorem dL_law_313 : decode cL_law 313 = .ok (.iadd, 1) := by decide +kernel
theorem dL_law_314 : decode cL_law 314 = .ok (.iaload, 1) := by decide +kernel
theorem dL_law_315 : decode cL_law 315 = .ok (.invokevirtual 68, 3) := by decide +kernel
theorem dL_law_318 : decode cL_law 318 = .ok (.if_icmp .eq 18, 3) := by decide +kernel
theorem dL_law_321 : decode cL_law 321 = .ok (.iconst 0, 1) := by decide +kernel
theorem dL_law_322 : decode cL_law 322 = .ok (.ireturn, 1) := by decide +kernel
theorem dL_law_323 : decode cL_law 323 = .ok (.aload_n 1, 1) := by decide +kernel
theorem dL_law_324 : decode cL_law 324 = .ok (.invokevirtual 69, 3) := by decide +kernel
theorem dL_law_327 : decode cL_law 327 = .ok (.aload_n 2, 1) := by decide +kernel
theorem dL_law_328 : decode cL_law 328 = .ok (.invokevirtual 72, 3) := by decide +kernel
theorem dL_law_331 : decode cL_law 331 = .ok (.if_icmp .eq 5, 3) := by decide +kernel
theorem dL_law_334 : decode cL_law 334 = .ok (.iconst 0, 1) := by decide +kernel
theorem dL_law_335 : decode cL_law 335 = .ok (.ireturn, 1) := by decide +kernel
theorem dL_law_336 : decode cL_law 336 = .ok (.iinc 3 4, 3) := by decide +kernel
theorem dL_law_339 : decode cL_law 339 = .ok (.goto (-311), 3) := by decide +kernel
theorem dL_law_342 : decode cL_law 342 = .ok (.iconst 1, 1) := by decide +kernel
theorem dL_law_343 : decode cL_law 343 = .ok (.ireturn, 1) := by decide +kernel
end
section
/-! the Int-level machine: numbers of the bytecode as Int, locals as a list, a method's world as a function of its state -/
set_option maxRecDepth 100000
abbrev vwCl : List vw_C := [(RX1, TX1, 17), (RX2, TX2, 14)]
def iI (x : Int) : Int32 := Int32.ofInt x
abbrev vI (x : Int) : Value := .int (iI x)
def arI (g : Int → Int) : Nat → Int32 := fun j => iI (g (j : Int))
def upI (g : Int → Int) (k v : Int) : Int → Int := fun j => if j = k then v else g j
theorem upI_s (g : Int → Int) (k v : Int) : upI g k v k = v := by simp [upI]
theorem upI_n {g : Int → Int} {k v j : Int} (h : j ≠ k) : upI g k v j = g j := by simp [upI, h]
theorem upI_at (g : Int → Int) (k v j : Int) : upI g k v j = if j = k then v else g j := rfl
theorem iI_toInt {x : Int} (h1 : -2147483648 ≤ x) (h2 : x ≤ 2147483647) : (iI x).toInt = x := Int32.toInt_ofInt_of_le (by omega) (by omega)
theorem iI_clamp {x : Int} (h1 : 0 ≤ x) (h2 : x ≤ 2147483647) : (iI x).toNatClampNeg = x.toNat := Int32.toNatClampNeg_ofInt_of_le (by omega) (by omega)
theorem iI_add (x y : Int) : iI x + iI y = iI (x + y) := (Int32.ofInt_add x y).symm
theorem iI_sub (x y : Int) : iI x - iI y = iI (x - y) := (Int32.ofInt_sub x y).symm
theorem iI_mul (x y : Int) : iI x * iI y = iI (x * y) := (Int32.ofInt_mul x y).symm
theorem iI_of (x : Int32) : iI x.toInt = x := Int32.ofInt_toInt x
abbrev inR (x : Int) : Prop := -2147483648 ≤ x ∧ x ≤ 2147483647
theorem inR_of (x : Int32) : inR x.toInt := ⟨Int32.le_toInt x, by have := Int32.toInt_lt x; omega⟩
theorem iI_le {x y : Int} (hx : inR x) (hy : inR y) : iI x ≤ iI y ↔ x ≤ y := by rw [Int32.le_iff_toInt_le, iI_toInt hx.1 hx.2, iI_toInt hy.1 hy.2]
theorem iI_lt {x y : Int} (hx : inR x) (hy : inR y) : iI x < iI y ↔ x < y := by rw [Int32.lt_iff_toInt_lt, iI_toInt hx.1 hx.2, iI_toInt hy.1 hy.2]
theorem iI_eq {x y : Int} (hx : inR x) (hy : inR y) : iI x = iI y ↔ x = y := by rw [← Int32.toInt_inj, iI_toInt hx.1 hx.2, iI_toInt hy.1 hy.2]
theorem iI_0 : iI 0 = 0 := rfl
theorem inR_0 : inR 0 := ⟨by decide, by decide⟩
theorem iI_in {x : Int} {n : Nat} (h1 : 0 ≤ x) (h2 : x < n) (hn : n ≤ 2147483647) : vp_in (iI x) n := by
  refine vp_in_iff.mpr ?_
  rw [iI_toInt (by omega) (by omega)]
  exact ⟨h1, h2⟩
theorem arI_at {g : Int → Int} {x : Int} (h1 : 0 ≤ x) (h2 : x ≤ 2147483647) : arI g (iI x).toNatClampNeg = iI (g x) := by
  unfold arI
  rw [iI_clamp h1 h2, Int.toNat_of_nonneg h1]
theorem arI_up {g : Int → Int} {x v : Int} (h1 : 0 ≤ x) (h2 : x ≤ 2147483647) : upd (arI g) (iI x).toNatClampNeg (iI v) = arI (upI g x v) := by
  rw [iI_clamp h1 h2]
  funext j
  unfold upd arI upI
  by_cases h : j = x.toNat
  · rw [if_pos h, if_pos (by omega)]
  · rw [if_neg h, if_neg (by omega)]
abbrev KX : Type := Program × Env × State × MethodId × Array Value × List Frame × Method × Code × (Nat → Prop) × (State → Prop) × Nat × Nat
def tL (lv : List (Option Value)) : List (Nat × Value) := (List.range lv.length).filterMap (fun i => (lv[i]?.join).map (fun v => (i, v)))
theorem tL_mem {lv : List (Option Value)} {j : Nat} {v : Value} : (j, v) ∈ tL lv ↔ lv[j]? = some (some v) := by
  unfold tL
  rw [List.mem_filterMap]
  constructor
  · rintro ⟨i, hi, h⟩
    cases hl : lv[i]? with
    | none => rw [hl] at h; simp at h
    | some o =>
      cases o with
      | none => rw [hl] at h; simp at h
      | some v' =>
        rw [hl] at h
        simp at h
        rw [← h.1, hl, h.2]
  · intro h
    refine ⟨j, ?_, by rw [h]; rfl⟩
    rw [List.mem_range]
    exact (List.getElem?_eq_some_iff.mp h).1
def lvs (ls : Array Slot) (nL : Nat) (lv : List (Option Value)) : Prop := lv_has ls nL (tL lv) ∧ ∀ (j : Nat) (v : Value), lv[j]? = some (some v) → v.category = 1
theorem lvs_at {ls : Array Slot} {nL : Nat} {lv : List (Option Value)} (h : lvs ls nL lv) {i : Nat} {v : Value} (hk : lv[i]? = some (some v)) : ls[i]? = some (.val v) := h.1.2.2 (i, v) (tL_mem.mpr hk)
theorem lvs_put {ls' : Array Slot} {nL : Nat} {lv lv' : List (Option Value)} {i : Nat} {x : Value} (hc : x.category = 1) (hcat : ∀ (j : Nat) (v : Value), lv[j]? = some (some v) → v.category = 1) (h : lv_has ls' nL ((i, x) :: (tL lv).filter (fun q => !(q.1 == i) && !(q.1 + 1 == i && q.2.category == 2)))) (hs : lv.set i (some x) = lv') : lvs ls' nL lv' := by
  subst hs
  have key : ∀ (j : Nat) (v : Value), (lv.set i (some x))[j]? = some (some v) → (j = i ∧ v = x) ∨ (j ≠ i ∧ lv[j]? = some (some v)) := by
    intro j v hj
    by_cases hji : j = i
    · subst hji
      left
      refine ⟨rfl, ?_⟩
      have hlt : j < (lv.set j (some x)).length := (List.getElem?_eq_some_iff.mp hj).1
      rw [List.length_set] at hlt
      rw [List.getElem?_set_self hlt] at hj
      exact (Option.some.inj (Option.some.inj hj)).symm
    · right
      rw [List.getElem?_set_ne (fun e => hji e.symm)] at hj
      exact ⟨hji, hj⟩
  refine ⟨⟨h.1, h.2.1, fun q hq => ?_⟩, fun j v hj => ?_⟩
  · obtain ⟨j, v⟩ := q
    rcases key j v (tL_mem.mp hq) with ⟨rfl, rfl⟩ | ⟨hne, hj⟩
    · exact h.2.2 (j, v) List.mem_cons_self
    · refine h.2.2 (j, v) (List.mem_cons_of_mem _ (List.mem_filter.mpr ⟨tL_mem.mpr hj, ?_⟩))
      have := hcat j v hj
      simp [hne, this]
  · rcases key j v hj with ⟨-, rfl⟩ | ⟨-, hj⟩
    · exact hc
    · exact hcat j v hj
def GW {S : Type} (D : va_G) (w : S → va_W) (A : Nat → Prop) (H0 : Heap) (u : S) (H : Heap) (locs : List Loc) : Prop := va_P D vwCl (w u) H ∧ va_D A (w u) ∧ va_S A H0 H locs
def okL (lv : List (Option Value)) : Bool := lv.all (fun o => match o with | none => true | some v => v.category == 1)
theorem okL_cat {lv : List (Option Value)} (h : okL lv = true) : ∀ (j : Nat) (v : Value), lv[j]? = some (some v) → v.category = 1 := by
  intro j v hj
  have := List.all_eq_true.mp h _ (List.mem_of_getElem? hj)
  simpa using this
/-- from every machine state whose world is 'w u', whose locals are lv and whose stack is st, at pc: the run comes to Q -/
def SV {S : Type} (l : Launch) (D : va_G) (dA : ClassId) (w : S → va_W) (own : String) (cc : ByteArray) (nL : Nat) (R : Room) (K : KX) (u : S) (pc : Nat) (lv : List (Option Value)) (st : List Value) : Prop :=
  match K with
  | (p, e, s, m, args, below, meth, c, A, Q, cells, slots) =>
    p.tables.exec = Jvm.exec → c.code = cc → c.maxLocals = nL → s.vm.findClass own = some m.cls → (∀ w ∈ lw_all, w.before args s = true) → va_K D vwCl [(dA, .int)] s → (∀ q : Nat, s.heap.size ≤ q → A q) → (cells ≤ R.cells ∧ slots ≤ R.slots) →
    ∀ (H : Heap) (locs : List Loc) (ls : Array Slot), GW D w A s.heap u H locs → lvs ls nL lv → W p l e R s m args below meth c H locs cells slots Q (F0 m pc ls st)
section SVR
variable {S : Type} {l : Launch} {D : va_G} {dA : ClassId} {w : S → va_W} {own : String} {cc : ByteArray} {nL : Nat} {R : Room} {K : KX} {u : S} {pc : Nat} {lv : List (Option Value)} {st : List Value}
theorem sv_row {pc' : Nat} {st' : List Value} (h : ∀ {p : Program} {e : Env} {s : State} {m : MethodId} {args : Array Value} {below : List Frame} {meth : Method} {c : Code} {H : Heap} {locs : List Loc} {cells slots : Nat} {Q : State → Prop} {ls : Array Slot}, p.tables.exec = Jvm.exec → c.code = cc → lvs ls nL lv → W p l e R s m args below meth c H locs cells slots Q (F0 m pc' ls st') → W p l e R s m args below meth c H locs cells slots Q (F0 m pc ls st)) (k : SV l D dA w own cc nL R K u pc' lv st') : SV l D dA w own cc nL R K u pc lv st := by
  obtain ⟨p, e, s, m, args, below, meth, c, A, Q, cells, slots⟩ := K
  intro hx hb hml hown hts hK hA hc H locs ls hw hl
  exact h hx hb hl (k hx hb hml hown hts hK hA hc H locs ls hw hl)
theorem sv_br {pc1 pc2 : Nat} {st1 st2 : List Value} {P1 P2 : Prop} (h : ∀ {p : Program} {e : Env} {s : State} {m : MethodId} {args : Array Value} {below : List Frame} {meth : Method} {c : Code} {H : Heap} {locs : List Loc} {cells slots : Nat} {Q : State → Prop} {ls : Array Slot}, p.tables.exec = Jvm.exec → c.code = cc → (P1 → W p l e R s m args below meth c H locs cells slots Q (F0 m pc1 ls st1)) → (P2 → W p l e R s m args below meth c H locs cells slots Q (F0 m pc2 ls st2)) → W p l e R s m args below meth c H locs cells slots Q (F0 m pc ls st)) (k1 : P1 → SV l D dA w own cc nL R K u pc1 lv st1) (k2 : P2 → SV l D dA w own cc nL R K u pc2 lv st2) : SV l D dA w own cc nL R K u pc lv st := by
  obtain ⟨p, e, s, m, args, below, meth, c, A, Q, cells, slots⟩ := K
  intro hx hb hml hown hts hK hA hc H locs ls hw hl
  exact h hx hb (fun hp => k1 hp hx hb hml hown hts hK hA hc H locs ls hw hl) (fun hp => k2 hp hx hb hml hown hts hK hA hc H locs ls hw hl)
theorem s_iconst {n : Int} (d : decode cc pc = .ok (.iconst n, 1)) (k : SV l D dA w own cc nL R K u (pc + 1) lv (vI n :: st)) : SV l D dA w own cc nL R K u pc lv st := sv_row (fun hx hb _ kk => lv_iconst hx hb d rfl kk) k
theorem s_bipush {n : Int} (d : decode cc pc = .ok (.bipush n, 2)) (hn : (Int8.ofInt n).toInt32 = iI n) (k : SV l D dA w own cc nL R K u (pc + 2) lv (vI n :: st)) : SV l D dA w own cc nL R K u pc lv st := sv_row (fun hx hb _ kk => lv_bipush hx hb d hn kk) k
theorem s_sipush {n : Int} (d : decode cc pc = .ok (.sipush n, 3)) (hn : (Int16.ofInt n).toInt32 = iI n) (k : SV l D dA w own cc nL R K u (pc + 3) lv (vI n :: st)) : SV l D dA w own cc nL R K u pc lv st := sv_row (fun hx hb _ kk => lv_sipush hx hb d hn kk) k
theorem s_iload_n {n : Fin 4} (i : Nat) {x : Int32} (d : decode cc pc = .ok (.iload_n n, 1)) (hi : (n : Nat) = i) (hl : lv[i]? = some (some (.int x))) (k : SV l D dA w own cc nL R K u (pc + 1) lv (.int x :: st)) : SV l D dA w own cc nL R K u pc lv st := sv_row (fun hx hb h kk => lv_iload_n hx hb d hi (lvs_at h hl) kk) k
theorem s_iload {i : Nat} {x : Int32} (d : decode cc pc = .ok (.iload i, 2)) (hl : lv[i]? = some (some (.int x))) (k : SV l D dA w own cc nL R K u (pc + 2) lv (.int x :: st)) : SV l D dA w own cc nL R K u pc lv st := sv_row (fun hx hb h kk => lv_iload hx hb d (lvs_at h hl) kk) k
theorem s_aload_n {n : Fin 4} (i : Nat) {x : Nat} (d : decode cc pc = .ok (.aload_n n, 1)) (hi : (n : Nat) = i) (hl : lv[i]? = some (some (.ref x))) (k : SV l D dA w own cc nL R K u (pc + 1) lv (.ref x :: st)) : SV l D dA w own cc nL R K u pc lv st := sv_row (fun hx hb h kk => lv_aload_n hx hb d hi (lvs_at h hl) kk) k
theorem s_istore_n {n : Fin 4} (i : Nat) (lv' : List (Option Value)) {x : Int32} (d : decode cc pc = .ok (.istore_n n, 1)) (hi : (n : Nat) = i) (hn : i < nL) (hs : lv.set i (some (.int x)) = lv') (k : SV l D dA w own cc nL R K u (pc + 1) lv' st) : SV l D dA w own cc nL R K u pc lv (.int x :: st) := by
  obtain ⟨p, e, s, m, args, below, meth, c, A, Q, cells, slots⟩ := K
  intro hx hb hml hown hts hK hA hc H locs ls hw hl
  exact lv_istore_n hx hb d hi hl.1 hn rfl (fun ls' hl' => k hx hb hml hown hts hK hA hc H locs ls' hw (lvs_put rfl hl.2 hl' hs))
theorem s_istore {i : Nat} (lv' : List (Option Value)) {x : Int32} (d : decode cc pc = .ok (.istore i, 2)) (hn : i < nL) (hs : lv.set i (some (.int x)) = lv') (k : SV l D dA w own cc nL R K u (pc + 2) lv' st) : SV l D dA w own cc nL R K u pc lv (.int x :: st) := by
  obtain ⟨p, e, s, m, args, below, meth, c, A, Q, cells, slots⟩ := K
  intro hx hb hml hown hts hK hA hc H locs ls hw hl
  exact lv_istore hx hb d hl.1 hn rfl (fun ls' hl' => k hx hb hml hown hts hK hA hc H locs ls' hw (lvs_put rfl hl.2 hl' hs))
theorem s_iinc {i : Nat} {n x : Int} (lv' : List (Option Value)) (d : decode cc pc = .ok (.iinc i n, 3)) (hl0 : lv[i]? = some (some (vI x))) (hn : i < nL) (hs : lv.set i (some (vI (x + n))) = lv') (k : SV l D dA w own cc nL R K u (pc + 3) lv' st) : SV l D dA w own cc nL R K u pc lv st := by
  obtain ⟨p, e, s, m, args, below, meth, c, A, Q, cells, slots⟩ := K
  intro hx hb hml hown hts hK hA hc H locs ls hw hl
  obtain ⟨kk, hkk⟩ := List.getElem?_of_mem (tL_mem.mpr hl0)
  exact lv_iinc (v := iI (x + n)) hx hb d hl.1 hkk (iI_add x n) hn rfl (fun ls' hl' => k hx hb hml hown hts hK hA hc H locs ls' hw (lvs_put rfl hl.2 hl' hs))
theorem s_iadd {x y : Int} (d : decode cc pc = .ok (.iadd, 1)) (k : SV l D dA w own cc nL R K u (pc + 1) lv (vI (x + y) :: st)) : SV l D dA w own cc nL R K u pc lv (vI y :: vI x :: st) := sv_row (fun hx hb _ kk => lv_iadd hx hb d (by rw [iI_add]; exact kk)) k
theorem s_isub {x y : Int} (d : decode cc pc = .ok (.isub, 1)) (k : SV l D dA w own cc nL R K u (pc + 1) lv (vI (x - y) :: st)) : SV l D dA w own cc nL R K u pc lv (vI y :: vI x :: st) := sv_row (fun hx hb _ kk => lv_isub hx hb d (by rw [iI_sub]; exact kk)) k
theorem s_imul {x y : Int} (d : decode cc pc = .ok (.imul, 1)) (k : SV l D dA w own cc nL R K u (pc + 1) lv (vI (x * y) :: st)) : SV l D dA w own cc nL R K u pc lv (vI y :: vI x :: st) := sv_row (fun hx hb _ kk => lv_imul hx hb d (by rw [iI_mul]; exact kk)) k
theorem s_iand {x y : Int32} (z : Int) (hz : x &&& y = iI z) (d : decode cc pc = .ok (.iand, 1)) (k : SV l D dA w own cc nL R K u (pc + 1) lv (vI z :: st)) : SV l D dA w own cc nL R K u pc lv (.int y :: .int x :: st) := sv_row (fun hx hb _ kk => lv_iand hx hb d (by rw [hz]; exact kk)) k
theorem s_ior {x y : Int32} (z : Int) (hz : x ||| y = iI z) (d : decode cc pc = .ok (.ior, 1)) (k : SV l D dA w own cc nL R K u (pc + 1) lv (vI z :: st)) : SV l D dA w own cc nL R K u pc lv (.int y :: .int x :: st) := sv_row (fun hx hb _ kk => lv_ior hx hb d (by rw [hz]; exact kk)) k
theorem s_ishl {x y : Int32} (z : Int) (hz : x <<< (y &&& 31) = iI z) (d : decode cc pc = .ok (.ishl, 1)) (k : SV l D dA w own cc nL R K u (pc + 1) lv (vI z :: st)) : SV l D dA w own cc nL R K u pc lv (.int y :: .int x :: st) := sv_row (fun hx hb _ kk => lv_ishl hx hb d (by rw [hz]; exact kk)) k
theorem s_ishr {x y : Int32} (z : Int) (hz : x >>> (y &&& 31) = iI z) (d : decode cc pc = .ok (.ishr, 1)) (k : SV l D dA w own cc nL R K u (pc + 1) lv (vI z :: st)) : SV l D dA w own cc nL R K u pc lv (.int y :: .int x :: st) := sv_row (fun hx hb _ kk => lv_ishr hx hb d (by rw [hz]; exact kk)) k
theorem s_iushr {x y : Int32} (z : Int) (hz : (x.toUInt32 >>> (y.toUInt32 &&& Int32.toUInt32 31)).toInt32 = iI z) (d : decode cc pc = .ok (.iushr, 1)) (k : SV l D dA w own cc nL R K u (pc + 1) lv (vI z :: st)) : SV l D dA w own cc nL R K u pc lv (.int y :: .int x :: st) := sv_row (fun hx hb _ kk => lv_iushr hx hb d hz kk) k
theorem s_dup {v : Value} (d : decode cc pc = .ok (.dup, 1)) (hv : v.category = 1) (k : SV l D dA w own cc nL R K u (pc + 1) lv (v :: v :: st)) : SV l D dA w own cc nL R K u pc lv (v :: st) := sv_row (fun hx hb _ kk => lv_dup hx hb d hv kk) k
theorem s_dup2 {v v2 : Value} (d : decode cc pc = .ok (.dup2, 1)) (hv : v.category = 1) (hv2 : v2.category = 1) (k : SV l D dA w own cc nL R K u (pc + 1) lv (v :: v2 :: v :: v2 :: st)) : SV l D dA w own cc nL R K u pc lv (v :: v2 :: st) := sv_row (fun hx hb _ kk => lv_dup2_11 hx hb d hv hv2 kk) k
theorem s_goto {off : Int} (tgt : Nat) (d : decode cc pc = .ok (.goto off, 3)) (ht : (pc : Int) + off = (tgt : Int)) (k : SV l D dA w own cc nL R K u tgt lv st) : SV l D dA w own cc nL R K u pc lv st := sv_row (fun hx hb _ kk => lv_goto hx hb d ht kk) k
theorem s_if_eq {x : Int} {off : Int} (tgt : Nat) (d : decode cc pc = .ok (.ifCond .eq off, 3)) (ht : (pc : Int) + off = (tgt : Int)) (hx0 : inR x) (k1 : x = 0 → SV l D dA w own cc nL R K u tgt lv st) (k2 : ¬ x = 0 → SV l D dA w own cc nL R K u (pc + 3) lv st) : SV l D dA w own cc nL R K u pc lv (vI x :: st) := sv_br (fun hx hb a b => lv_if_eq hx hb d ht (fun q => a ((iI_eq hx0 inR_0).mp q)) (fun q => b (fun z => q ((iI_eq hx0 inR_0).mpr z)))) k1 k2
theorem s_if_ne {x : Int} {off : Int} (tgt : Nat) (d : decode cc pc = .ok (.ifCond .ne off, 3)) (ht : (pc : Int) + off = (tgt : Int)) (hx0 : inR x) (k1 : ¬ x = 0 → SV l D dA w own cc nL R K u tgt lv st) (k2 : x = 0 → SV l D dA w own cc nL R K u (pc + 3) lv st) : SV l D dA w own cc nL R K u pc lv (vI x :: st) := sv_br (fun hx hb a b => lv_if_ne hx hb d ht (fun q => a (fun z => q ((iI_eq hx0 inR_0).mpr z))) (fun q => b ((iI_eq hx0 inR_0).mp q))) k1 k2
theorem s_if_lt {x : Int} {off : Int} (tgt : Nat) (d : decode cc pc = .ok (.ifCond .lt off, 3)) (ht : (pc : Int) + off = (tgt : Int)) (hx0 : inR x) (k1 : x < 0 → SV l D dA w own cc nL R K u tgt lv st) (k2 : 0 ≤ x → SV l D dA w own cc nL R K u (pc + 3) lv st) : SV l D dA w own cc nL R K u pc lv (vI x :: st) := sv_br (fun hx hb a b => lv_if_lt hx hb d ht (fun q => a ((iI_lt hx0 inR_0).mp q)) (fun q => b (Int.not_lt.mp (fun z => q ((iI_lt hx0 inR_0).mpr z))))) k1 k2
theorem s_if_ge {x : Int} {off : Int} (tgt : Nat) (d : decode cc pc = .ok (.ifCond .ge off, 3)) (ht : (pc : Int) + off = (tgt : Int)) (hx0 : inR x) (k1 : 0 ≤ x → SV l D dA w own cc nL R K u tgt lv st) (k2 : x < 0 → SV l D dA w own cc nL R K u (pc + 3) lv st) : SV l D dA w own cc nL R K u pc lv (vI x :: st) := sv_br (fun hx hb a b => lv_if_ge hx hb d ht (fun q => a ((iI_le inR_0 hx0).mp q)) (fun q => b (Int.not_le.mp (fun z => q ((iI_le inR_0 hx0).mpr z))))) k1 k2
theorem s_if_le {x : Int} {off : Int} (tgt : Nat) (d : decode cc pc = .ok (.ifCond .le off, 3)) (ht : (pc : Int) + off = (tgt : Int)) (hx0 : inR x) (k1 : x ≤ 0 → SV l D dA w own cc nL R K u tgt lv st) (k2 : 0 < x → SV l D dA w own cc nL R K u (pc + 3) lv st) : SV l D dA w own cc nL R K u pc lv (vI x :: st) := sv_br (fun hx hb a b => lv_if_le hx hb d ht (fun q => a ((iI_le hx0 inR_0).mp q)) (fun q => b (Int.not_le.mp (fun z => q ((iI_le hx0 inR_0).mpr z))))) k1 k2
theorem s_icmp_eq {x y : Int} {off : Int} (tgt : Nat) (d : decode cc pc = .ok (.if_icmp .eq off, 3)) (ht : (pc : Int) + off = (tgt : Int)) (hx0 : inR x) (hy0 : inR y) (k1 : x = y → SV l D dA w own cc nL R K u tgt lv st) (k2 : ¬ x = y → SV l D dA w own cc nL R K u (pc + 3) lv st) : SV l D dA w own cc nL R K u pc lv (vI y :: vI x :: st) := sv_br (fun hx hb a b => lv_icmp_eq hx hb d ht (fun q => a ((iI_eq hx0 hy0).mp q)) (fun q => b (fun z => q ((iI_eq hx0 hy0).mpr z)))) k1 k2
theorem s_icmp_ne {x y : Int} {off : Int} (tgt : Nat) (d : decode cc pc = .ok (.if_icmp .ne off, 3)) (ht : (pc : Int) + off = (tgt : Int)) (hx0 : inR x) (hy0 : inR y) (k1 : ¬ x = y → SV l D dA w own cc nL R K u tgt lv st) (k2 : x = y → SV l D dA w own cc nL R K u (pc + 3) lv st) : SV l D dA w own cc nL R K u pc lv (vI y :: vI x :: st) := sv_br (fun hx hb a b => lv_icmp_ne hx hb d ht (fun q => a (fun z => q ((iI_eq hx0 hy0).mpr z))) (fun q => b ((iI_eq hx0 hy0).mp q))) k1 k2
theorem s_icmp_lt {x y : Int} {off : Int} (tgt : Nat) (d : decode cc pc = .ok (.if_icmp .lt off, 3)) (ht : (pc : Int) + off = (tgt : Int)) (hx0 : inR x) (hy0 : inR y) (k1 : x < y → SV l D dA w own cc nL R K u tgt lv st) (k2 : y ≤ x → SV l D dA w own cc nL R K u (pc + 3) lv st) : SV l D dA w own cc nL R K u pc lv (vI y :: vI x :: st) := sv_br (fun hx hb a b => lv_icmp_lt hx hb d ht (fun q => a ((iI_lt hx0 hy0).mp q)) (fun q => b (Int.not_lt.mp (fun z => q ((iI_lt hx0 hy0).mpr z))))) k1 k2
theorem s_icmp_ge {x y : Int} {off : Int} (tgt : Nat) (d : decode cc pc = .ok (.if_icmp .ge off, 3)) (ht : (pc : Int) + off = (tgt : Int)) (hx0 : inR x) (hy0 : inR y) (k1 : y ≤ x → SV l D dA w own cc nL R K u tgt lv st) (k2 : x < y → SV l D dA w own cc nL R K u (pc + 3) lv st) : SV l D dA w own cc nL R K u pc lv (vI y :: vI x :: st) := sv_br (fun hx hb a b => lv_icmp_ge hx hb d ht (fun q => a ((iI_le hy0 hx0).mp q)) (fun q => b (Int.not_le.mp (fun z => q ((iI_le hy0 hx0).mpr z))))) k1 k2
theorem s_icmp_gt {x y : Int} {off : Int} (tgt : Nat) (d : decode cc pc = .ok (.if_icmp .gt off, 3)) (ht : (pc : Int) + off = (tgt : Int)) (hx0 : inR x) (hy0 : inR y) (k1 : y < x → SV l D dA w own cc nL R K u tgt lv st) (k2 : x ≤ y → SV l D dA w own cc nL R K u (pc + 3) lv st) : SV l D dA w own cc nL R K u pc lv (vI y :: vI x :: st) := sv_br (fun hx hb a b => lv_icmp_gt hx hb d ht (fun q => a ((iI_lt hy0 hx0).mp q)) (fun q => b (Int.not_lt.mp (fun z => q ((iI_lt hy0 hx0).mpr z))))) k1 k2
theorem s_icmp_le {x y : Int} {off : Int} (tgt : Nat) (d : decode cc pc = .ok (.if_icmp .le off, 3)) (ht : (pc : Int) + off = (tgt : Int)) (hx0 : inR x) (hy0 : inR y) (k1 : x ≤ y → SV l D dA w own cc nL R K u tgt lv st) (k2 : y < x → SV l D dA w own cc nL R K u (pc + 3) lv st) : SV l D dA w own cc nL R K u pc lv (vI y :: vI x :: st) := sv_br (fun hx hb a b => lv_icmp_le hx hb d ht (fun q => a ((iI_le hx0 hy0).mp q)) (fun q => b (Int.not_le.mp (fun z => q ((iI_le hx0 hy0).mpr z))))) k1 k2
theorem s_ldc {index : Nat} {v : Int} (hq : Jvm.Cond.constant own index (iI v) ∈ lw_all) (d : decode cc pc = .ok (.ldc index, 2)) (k : SV l D dA w own cc nL R K u (pc + 2) lv (vI v :: st)) : SV l D dA w own cc nL R K u pc lv st := by
  obtain ⟨p, e, s, m, args, below, meth, c, A, Q, cells, slots⟩ := K
  intro hx hb hml hown hts hK hA hc H locs ls hw hl
  exact lv_ldc hx hb hown (hts _ hq) d (k hx hb hml hown hts hK hA hc H locs ls hw hl)
theorem s_get {T : u_T} {N ci o idx : Nat} {fs : List Value} {v : Value} (kf : Nat) (hin : ∀ w ∈ u_ws own T N, w ∈ lw_all) (hci : vwCl[ci]? = some (own, T, N)) (he : (w u)[0]? = some (o, .inr (ci, fs))) (hk : kf < N) (hT : (T kf).1 = own) (hlink : Cond.fieldLink own idx own (T kf).2.1 (T kf).2.2.1 ∈ lw_all) (hv : fs[kf]? = some v) (d : decode cc pc = .ok (.getfield idx, 3)) (k : SV l D dA w own cc nL R K u (pc + 3) lv (v :: st)) : SV l D dA w own cc nL R K u pc lv (.ref o :: st) := by
  obtain ⟨p, e, s, m, args, below, meth, c, A, Q, cells, slots⟩ := K
  intro hx hb hml hown hts hK hA hc H locs ls hw hl
  exact va_get hx hb hts hin hown hK hw.1 0 he hci kf hk (hts _ hlink) (fun x h9 => by rw [hT] at h9; exact h9) hv d (k hx hb hml hown hts hK hA hc H locs ls hw hl)
theorem s_put {T : u_T} {N ci o idx : Nat} {fs : List Value} {v : Value} {ty : FieldType} {u' : S} (kf : Nat) (hin : ∀ w ∈ u_ws own T N, w ∈ lw_all) (ty0 : Nat → FieldType) (hty : ∀ k, k < N → parseFieldDescriptor (T k).2.2.1 = some (ty0 k)) (hnm : ∀ a, a < N → ∀ b, b < N → a ≠ b → (T a).2.1 ≠ (T b).2.1) (hci : vwCl[ci]? = some (own, T, N)) (he : (w u)[0]? = some (o, .inr (ci, fs))) (hk : kf < N) (hT : (T kf).1 = own) (hlink : Cond.fieldLink own idx own (T kf).2.1 (T kf).2.2.1 ∈ lw_all) (hfin : (T kf).2.2.2 = false) (hd : parseFieldDescriptor (T kf).2.2.1 = some ty) (hn : narrow ty v = v) (hfit : fits ty v = true) (hlen : kf < fs.length) (hu : (w u).set 0 (o, .inr (ci, fs.set kf v)) = w u') (d : decode cc pc = .ok (.putfield idx, 3)) (k : SV l D dA w own cc nL R K u' (pc + 3) lv st) : SV l D dA w own cc nL R K u pc lv (v :: .ref o :: st) := by
  obtain ⟨p, e, s, m, args, below, meth, c, A, Q, cells, slots⟩ := K
  intro hx hb hml hown hts hK hA hc H locs ls hw hl
  exact va_put hx hb hts hin ty0 hty hnm hown hK hw.1 hw.2.1 hw.2.2 0 he hci kf hk (hts _ hlink) (fun x h9 => by rw [hT] at h9; exact h9) hfin hd hn hfit hlen d (fun H1 locs1 hP hD hS => k hx hb hml hown hts hK hA hc H1 locs1 ls ⟨hu ▸ hP, hu ▸ hD, hS⟩ hl)
theorem s_iald {a n : Nat} {g : Int → Int} {i : Int} (q0 : Nat) (ha : (w u)[q0]? = some (a, .inl (dA, n, .inl (arI g)))) (h0 : 0 ≤ i) (h1 : i < n) (hn : n ≤ 2147483647) (d : decode cc pc = .ok (.iaload, 1)) (k : SV l D dA w own cc nL R K u (pc + 1) lv (vI (g i) :: st)) : SV l D dA w own cc nL R K u pc lv (vI i :: .ref a :: st) := by
  obtain ⟨p, e, s, m, args, below, meth, c, A, Q, cells, slots⟩ := K
  intro hx hb hml hown hts hK hA hc H locs ls hw hl
  refine va_iald hx hb hK hw.1 q0 0 ha rfl (iI_in h0 h1 hn) d ?_
  rw [arI_at h0 (by omega)]
  exact k hx hb hml hown hts hK hA hc H locs ls hw hl
theorem s_iast {a n : Nat} {g : Int → Int} {i v : Int} {u' : S} (q0 : Nat) (ha : (w u)[q0]? = some (a, .inl (dA, n, .inl (arI g)))) (h0 : 0 ≤ i) (h1 : i < n) (hn : n ≤ 2147483647) (hu : (w u).set q0 (a, .inl (dA, n, .inl (arI (upI g i v)))) = w u') (d : decode cc pc = .ok (.iastore, 1)) (k : SV l D dA w own cc nL R K u' (pc + 1) lv st) : SV l D dA w own cc nL R K u pc lv (vI v :: vI i :: .ref a :: st) := by
  obtain ⟨p, e, s, m, args, below, meth, c, A, Q, cells, slots⟩ := K
  intro hx hb hml hown hts hK hA hc H locs ls hw hl
  refine va_iast hx hb hK hw.1 hw.2.1 hw.2.2 q0 0 ha rfl (iI_in h0 h1 hn) d (fun H1 locs1 hP hD hS => ?_)
  rw [arI_up h0 (by omega), hu] at hP hD
  exact k hx hb hml hown hts hK hA hc H1 locs1 ls ⟨hP, hD, hS⟩ hl
end SVR
def rmf (f : Nat) : Room := { frames := f, cells := 0, slots := 0, locals := 32 * f }
/-- the contract of a method that answers a whole number: from the world 'w u' it returns r and leaves the world 'w u'' with post r u' -/
def MetI {S : Type} (l : Launch) (D : va_G) (dA : ClassId) (w : S → va_W) (o : Nat) (y : MethodName) (ws : List Cond) (rm : Room) (As : List Value) (u : S) (post : Int → S → Prop) : Prop :=
  ∀ sz : Nat, Met l y ws rm (va_Pc (.ref o :: As) (fun U => U.heap.size = sz ∧ va_P D vwCl (w u) U.heap ∧ va_K D vwCl [(dA, .int)] U ∧ va_D (fun _ => True) (w u)))
    (va_Qi (fun (r : Int32) (u' : S) => ∃ x : Int, r = iI x ∧ post x u') (fun u' t => va_P D vwCl (w u') t.heap ∧ va_K D vwCl [(dA, .int)] t ∧ va_D (va_A (w u) sz) (w u')) (va_A (w u) sz)) 0 0 (va_A (w u) sz)
/-- the contract of a method that answers nothing -/
def MetV {S : Type} (l : Launch) (D : va_G) (dA : ClassId) (w : S → va_W) (o : Nat) (y : MethodName) (ws : List Cond) (rm : Room) (As : List Value) (u : S) (post : S → Prop) : Prop :=
  ∀ sz : Nat, Met l y ws rm (va_Pc (.ref o :: As) (fun U => U.heap.size = sz ∧ va_P D vwCl (w u) U.heap ∧ va_K D vwCl [(dA, .int)] U ∧ va_D (fun _ => True) (w u)))
    (va_Qv (fun (u' : S) => post u') (fun u' t => va_P D vwCl (w u') t.heap ∧ va_K D vwCl [(dA, .int)] t ∧ va_D (va_A (w u) sz) (w u')) (va_A (w u) sz)) 0 0 (va_A (w u) sz)
theorem MetI.mono {S : Type} {l : Launch} {D : va_G} {dA : ClassId} {w : S → va_W} {o : Nat} {y : MethodName} {ws : List Cond} {rm : Room} {As : List Value} {u : S} {post post' : Int → S → Prop} (h : MetI l D dA w o y ws rm As u post) (hp : ∀ r u', post r u' → post' r u') : MetI l D dA w o y ws rm As u post' := by
  intro sz p e ha hc hk s m args below hf happ hpre hK
  obtain ⟨k, oc, h1, h2, h3, h4, h5⟩ := h sz p e ha hc hk s m args below hf happ hpre hK
  refine ⟨k, oc, h1, h2, h3, ?_, h5⟩
  obtain ⟨⟨r, u', e1, ⟨x, e2, e3⟩, e4⟩, e5⟩ := h4
  exact ⟨⟨r, u', e1, ⟨x, e2, hp x u' e3⟩, e4⟩, e5⟩
section MINT
variable {S : Type} {l : Launch} {D : va_G} {dA : ClassId} {w : S → va_W} {own : String} {cc : ByteArray} {nL : Nat} {o : Nat} {y : MethodName} {f : Nat} {As : List Value} {u : S}
theorem metI_intro {post : Int → S → Prop} {ty : FieldType} (lv0 : List (Option Value)) (hy : plainName y.cls = true) (hcls : y.cls = own) (hlv : tL lv0 = lv_args 0 (.ref o :: As)) (hcat : okL lv0 = true) (hlen : (lg_sl (.ref o :: As)).length ≤ nL) (hret : ∀ (r : Int) (u' : S), post r u' → narrow ty (.int (iI r)) = .int (iI r))
    (body : ∀ K : KX, (∀ (pc : Nat) (lv : List (Option Value)) (r : Int) (u' : S), decode cc pc = .ok (.ireturn, 1) → post r u' → SV l D dA w own cc nL (rmf f) K u' pc lv [vI r]) → SV l D dA w own cc nL (rmf f) K u 0 lv0 []) : MetI l D dA w o y (ws_ y cc nL (some ty)) (rmf f) As u post := by
  intro sz
  refine Met.ofW (cc := cc) (maxL := nL) (ret := some ty) hy rfl ?_
  intro p e s m args below meth c s₁ B hml hv
  obtain ⟨rfl, hsz, hP, hK, hD0⟩ := hv
  have hx := B.exec
  have hb := B.bytes
  have hr := B.returns
  have hts := atoms_spec (ws := ws_ y cc nL (some ty)) B.pre
  have hts : ∀ w ∈ lw_all, w.before _ s = true := fun w h => hts w (List.mem_cons_of_mem _ h)
  have hown : s.vm.findClass y.cls = some m.cls := findClass_of_methodNamed B.named
  rw [hcls] at hown
  have hlocks := B.notSynchronized
  subst hsz
  have hD := hD0.self (sz := s.heap.size)
  generalize hAe : va_A (w u) s.heap.size = A at hD ⊢
  have hA : ∀ q : Nat, s.heap.size ≤ q → A q := fun q h => by rw [← hAe]; exact Or.inr h
  have hl := lv_entry (.ref o :: As) (n := nL) hlen
  rw [lg_entry_eq]
  generalize (lg_sl (.ref o :: As) ++ List.replicate (nL - (lg_sl (.ref o :: As)).length) Slot.unset).toArray = ls at hl ⊢
  refine body (p, e, s, m, (Value.ref o :: As).toArray, below, meth, c, A, _, 0, 0) ?_ hx hb hml hown hts hK hA ⟨Nat.le_refl _, Nat.le_refl _⟩ s.heap [] ls ⟨hP, hD, va_S.rf⟩ ⟨by rw [hlv]; exact hl, okL_cat hcat⟩
  intro pc lv r u' hd hp hx hb hml hown hts hK hA hc H locs ls hw hl
  exact W.zret hx hb hr (hret r u' hp) (fun t ht hW => ⟨⟨iI r, u', rfl, ⟨r, rfl, hp⟩, by rw [ht]; exact hw.1, va_K.moved hW.alike hK, hw.2.1⟩, hw.2.2.F ht⟩) hw.2.2.2.2 hd
theorem metV_intro {post : S → Prop} (lv0 : List (Option Value)) (hy : plainName y.cls = true) (hcls : y.cls = own) (hlv : tL lv0 = lv_args 0 (.ref o :: As)) (hcat : okL lv0 = true) (hlen : (lg_sl (.ref o :: As)).length ≤ nL)
    (body : ∀ K : KX, (∀ (pc : Nat) (lv : List (Option Value)) (u' : S), decode cc pc = .ok (.return_, 1) → post u' → SV l D dA w own cc nL (rmf f) K u' pc lv []) → SV l D dA w own cc nL (rmf f) K u 0 lv0 []) : MetV l D dA w o y (ws_ y cc nL none) (rmf f) As u post := by
  intro sz
  refine Met.ofW (cc := cc) (maxL := nL) (ret := none) hy rfl ?_
  intro p e s m args below meth c s₁ B hml hv
  obtain ⟨rfl, hsz, hP, hK, hD0⟩ := hv
  have hx := B.exec
  have hb := B.bytes
  have hr := B.returns
  have hts := atoms_spec (ws := ws_ y cc nL none) B.pre
  have hts : ∀ w ∈ lw_all, w.before _ s = true := fun w h => hts w (List.mem_cons_of_mem _ h)
  have hown : s.vm.findClass y.cls = some m.cls := findClass_of_methodNamed B.named
  rw [hcls] at hown
  have hlocks := B.notSynchronized
  subst hsz
  have hD := hD0.self (sz := s.heap.size)
  generalize hAe : va_A (w u) s.heap.size = A at hD ⊢
  have hA : ∀ q : Nat, s.heap.size ≤ q → A q := fun q h => by rw [← hAe]; exact Or.inr h
  have hl := lv_entry (.ref o :: As) (n := nL) hlen
  rw [lg_entry_eq]
  generalize (lg_sl (.ref o :: As) ++ List.replicate (nL - (lg_sl (.ref o :: As)).length) Slot.unset).toArray = ls at hl ⊢
  refine body (p, e, s, m, (Value.ref o :: As).toArray, below, meth, c, A, _, 0, 0) ?_ hx hb hml hown hts hK hA ⟨Nat.le_refl _, Nat.le_refl _⟩ s.heap [] ls ⟨hP, hD, va_S.rf⟩ ⟨by rw [hlv]; exact hl, okL_cat hcat⟩
  intro pc lv u' hd hp hx hb hml hown hts hK hA hc H locs ls hw hl
  exact W.vret hx hb hr (fun t ht hW => ⟨⟨u', rfl, hp, by rw [ht]; exact hw.1, va_K.moved hW.alike hK, hw.2.1⟩, hw.2.2.F ht⟩) hw.2.2.2.2 hd
end MINT
section SCALL
variable {S : Type} {l : Launch} {D : va_G} {dA : ClassId} {w : S → va_W} {own : String} {cc : ByteArray} {nL : Nat} {R : Room} {K : KX} {u : S} {pc : Nat} {lv : List (Option Value)} {o ci : Nat} {T : u_T} {N : Nat} {fs : List Value} {y : MethodName} {bytes : ByteArray} {maxL n idx f : Nat} {As rest st0 : List Value} {ret : Option FieldType}
theorem s_calli {post : Int → S → Prop} (hci : vwCl[ci]? = some (own, T, N)) (he : (w u)[0]? = some (o, .inr (ci, fs))) (hM : MetI l D dA w o y (ws_ y bytes maxL ret) (rmf f) As u post) (hG : GoodIn lw_all (wsV own idx own y (ws_ y bytes maxL ret))) (hd : y.cls = own ∧ y.cls ≠ "java/lang/invoke/MethodHandle" ∧ y.cls ≠ "java/lang/invoke/VarHandle" ∧ (parseMethodDescriptor y.desc).map (fun d => d.parameters.length) = some n) (hn : As.length = n) (hR : f + 1 ≤ R.frames ∧ 8 + (maxL + 11) + 32 * f ≤ R.locals) (hst : st0 = As.reverse ++ .ref o :: rest) (hrest : (rest.map fun v => v.category).sum ≤ 8) (d : decode cc pc = .ok (.invokevirtual idx, 3))
    (kk : ∀ (r : Int) (u' : S), post r u' → SV l D dA w own cc nL R K u' (pc + 3) lv (vI r :: rest)) : SV l D dA w own cc nL R K u pc lv st0 := by
  obtain ⟨p, e, s, m, args, below, meth, c, A, Q, cells, slots⟩ := K
  intro hx hb hml hown hts hK hA hc H locs ls hw hl
  have hF : ∀ q, va_A (w u) H.size q → A q := by
    intro q h
    rcases h with ⟨k, e, h⟩ | h
    · exact hw.2.1.2 k _ h
    · exact hA q (Nat.le_trans hw.2.2.1 h)
  refine va_calli (va_runV (As := As) (rest := rest) ⟨hx, hb, hml, hown, hts⟩ (hM H.size) (cwV n hts hG rfl rfl rfl hd hR) ⟨fun a U g mk q => by obtain ⟨q0, q1, qP, qK, qD⟩ := q; exact ⟨q0, q1, qP, va_K.moved (u := U) (U := U.calling g mk a) (Vm.Alike.refl U.vm) qK, qD⟩, va_recv hK hw.1 hci he, fun U hU hW => ⟨rfl, by rw [hU], by rw [hU]; exact hw.1, va_K.moved hW.alike hK, hw.2.1.weaken (fun _ _ _ _ => trivial)⟩⟩ rfl hn hl.1.1 hst (lv_room hrest) d hc) hw.2.2 (fun q _ h => hF q h) hF (fun r u' t H1 locs1 ht hvm hpost hB hz1 hk1 hS1 => ?_)
  obtain ⟨x, rfl, hpost⟩ := hpost
  obtain ⟨hP1, hK1, hD1⟩ := hB
  rw [ht] at hP1
  exact kk x u' hpost hx hb hml hown hts hK hA hc H1 locs1 ls ⟨hP1, hD1.weaken (fun k q _ h => hF q.1 h), hS1⟩ hl
theorem s_callv {post : S → Prop} (hci : vwCl[ci]? = some (own, T, N)) (he : (w u)[0]? = some (o, .inr (ci, fs))) (hM : MetV l D dA w o y (ws_ y bytes maxL ret) (rmf f) As u post) (hG : GoodIn lw_all (wsV own idx own y (ws_ y bytes maxL ret))) (hd : y.cls = own ∧ y.cls ≠ "java/lang/invoke/MethodHandle" ∧ y.cls ≠ "java/lang/invoke/VarHandle" ∧ (parseMethodDescriptor y.desc).map (fun d => d.parameters.length) = some n) (hn : As.length = n) (hR : f + 1 ≤ R.frames ∧ 8 + (maxL + 11) + 32 * f ≤ R.locals) (hst : st0 = As.reverse ++ .ref o :: rest) (hrest : (rest.map fun v => v.category).sum ≤ 8) (d : decode cc pc = .ok (.invokevirtual idx, 3))
    (kk : ∀ (u' : S), post u' → SV l D dA w own cc nL R K u' (pc + 3) lv rest) : SV l D dA w own cc nL R K u pc lv st0 := by
  obtain ⟨p, e, s, m, args, below, meth, c, A, Q, cells, slots⟩ := K
  intro hx hb hml hown hts hK hA hc H locs ls hw hl
  have hF : ∀ q, va_A (w u) H.size q → A q := by
    intro q h
    rcases h with ⟨k, e, h⟩ | h
    · exact hw.2.1.2 k _ h
    · exact hA q (Nat.le_trans hw.2.2.1 h)
  refine va_callv (va_runV (As := As) (rest := rest) ⟨hx, hb, hml, hown, hts⟩ (hM H.size) (cwV n hts hG rfl rfl rfl hd hR) ⟨fun a U g mk q => by obtain ⟨q0, q1, qP, qK, qD⟩ := q; exact ⟨q0, q1, qP, va_K.moved (u := U) (U := U.calling g mk a) (Vm.Alike.refl U.vm) qK, qD⟩, va_recv hK hw.1 hci he, fun U hU hW => ⟨rfl, by rw [hU], by rw [hU]; exact hw.1, va_K.moved hW.alike hK, hw.2.1.weaken (fun _ _ _ _ => trivial)⟩⟩ rfl hn hl.1.1 hst (lv_room hrest) d hc) hw.2.2 (fun q _ h => hF q h) hF (fun u' t H1 locs1 ht hvm hpost hB hz1 hk1 hS1 => ?_)
  obtain ⟨hP1, hK1, hD1⟩ := hB
  rw [ht] at hP1
  exact kk u' hpost hx hb hml hown hts hK hA hc H1 locs1 ls ⟨hP1, hD1.weaken (fun k q _ h => hF q.1 h), hS1⟩ hl
end SCALL
end
section
/-! the worlds of WordLattice and WordLatticeModel, a row a field, an array, a call: printed by gen/world.py -/
set_option maxRecDepth 100000
abbrev SX : Type := Int × (Int → Int) × (Int → Int) × (Int → Int) × (Int → Int) × (Int → Int) × Int × (Int → Int) × Int × (Int → Int) × (Int → Int) × Int × (Int → Int) × (Int → Int) × (Int → Int) × Int × Int
def wX (dA : ClassId) (ad : Nat → Nat) (u : SX) : va_W := match u with
  | (pen, ba, ch, co, ki, wo, sp, sl, le, tx, lk, cf, cp, nu, fl, pC, pK) => [(ad 0, .inr (0, [vI pen, .ref (ad 1), .ref (ad 2), .ref (ad 3), .ref (ad 4), .ref (ad 5), vI sp, .ref (ad 6), vI le, .ref (ad 7), .ref (ad 8), vI cf, .ref (ad 9), .ref (ad 10), .ref (ad 11), vI pC, vI pK])), (ad 1, .inl (dA, 512, .inl (arI ba))), (ad 2, .inl (dA, 512, .inl (arI ch))), (ad 3, .inl (dA, 512, .inl (arI co))), (ad 4, .inl (dA, 512, .inl (arI ki))), (ad 5, .inl (dA, 512, .inl (arI wo))), (ad 6, .inl (dA, 5, .inl (arI sl))), (ad 7, .inl (dA, 12, .inl (arI tx))), (ad 8, .inl (dA, 16, .inl (arI lk))), (ad 9, .inl (dA, 65, .inl (arI cp))), (ad 10, .inl (dA, 65, .inl (arI nu))), (ad 11, .inl (dA, 65, .inl (arI fl)))]
section WORLDx
variable {l : Launch} {D : va_G} {dA : ClassId} {ad : Nat → Nat} {cc : ByteArray} {nL : Nat} {R : Room} {K : KX} {pc : Nat} {lv : List (Option Value)} {st : List Value}
variable {pen sp le cf pC pK : Int} {ba ch co ki wo sl tx lk cp nu fl : Int → Int}
theorem xg_pen (d : decode cc pc = .ok (.getfield 7, 3)) (k : SV l D dA (wX dA ad) RX1 cc nL R K (pen, ba, ch, co, ki, wo, sp, sl, le, tx, lk, cf, cp, nu, fl, pC, pK) (pc + 3) lv (vI pen :: st)) : SV l D dA (wX dA ad) RX1 cc nL R K (pen, ba, ch, co, ki, wo, sp, sl, le, tx, lk, cf, cp, nu, fl, pC, pK) pc lv (.ref (ad 0) :: st) := s_get (ci := 0) (T := TX1) (N := 17) 0 in_X1 rfl rfl (by decide) rfl q30 rfl d k
theorem xg_ba (d : decode cc pc = .ok (.getfield 13, 3)) (k : SV l D dA (wX dA ad) RX1 cc nL R K (pen, ba, ch, co, ki, wo, sp, sl, le, tx, lk, cf, cp, nu, fl, pC, pK) (pc + 3) lv (.ref (ad 1) :: st)) : SV l D dA (wX dA ad) RX1 cc nL R K (pen, ba, ch, co, ki, wo, sp, sl, le, tx, lk, cf, cp, nu, fl, pC, pK) pc lv (.ref (ad 0) :: st) := s_get (ci := 0) (T := TX1) (N := 17) 1 in_X1 rfl rfl (by decide) rfl q31 rfl d k
theorem xr_ba {i : Int} (d : decode cc pc = .ok (.iaload, 1)) (h : 0 ≤ i ∧ i < 512) (k : SV l D dA (wX dA ad) RX1 cc nL R K (pen, ba, ch, co, ki, wo, sp, sl, le, tx, lk, cf, cp, nu, fl, pC, pK) (pc + 1) lv (vI (ba i) :: st)) : SV l D dA (wX dA ad) RX1 cc nL R K (pen, ba, ch, co, ki, wo, sp, sl, le, tx, lk, cf, cp, nu, fl, pC, pK) pc lv (vI i :: .ref (ad 1) :: st) := s_iald (n := 512) 1 rfl h.1 h.2 (by decide) d k
theorem xw_ba {i v : Int} (d : decode cc pc = .ok (.iastore, 1)) (h : 0 ≤ i ∧ i < 512) (k : SV l D dA (wX dA ad) RX1 cc nL R K (pen, upI ba i v, ch, co, ki, wo, sp, sl, le, tx, lk, cf, cp, nu, fl, pC, pK) (pc + 1) lv st) : SV l D dA (wX dA ad) RX1 cc nL R K (pen, ba, ch, co, ki, wo, sp, sl, le, tx, lk, cf, cp, nu, fl, pC, pK) pc lv (vI v :: vI i :: .ref (ad 1) :: st) := s_iast (n := 512) 1 rfl h.1 h.2 (by decide) rfl d k
theorem xg_ch (d : decode cc pc = .ok (.getfield 17, 3)) (k : SV l D dA (wX dA ad) RX1 cc nL R K (pen, ba, ch, co, ki, wo, sp, sl, le, tx, lk, cf, cp, nu, fl, pC, pK) (pc + 3) lv (.ref (ad 2) :: st)) : SV l D dA (wX dA ad) RX1 cc nL R K (pen, ba, ch, co, ki, wo, sp, sl, le, tx, lk, cf, cp, nu, fl, pC, pK) pc lv (.ref (ad 0) :: st) := s_get (ci := 0) (T := TX1) (N := 17) 2 in_X1 rfl rfl (by decide) rfl q32 rfl d k
theorem xr_ch {i : Int} (d : decode cc pc = .ok (.iaload, 1)) (h : 0 ≤ i ∧ i < 512) (k : SV l D dA (wX dA ad) RX1 cc nL R K (pen, ba, ch, co, ki, wo, sp, sl, le, tx, lk, cf, cp, nu, fl, pC, pK) (pc + 1) lv (vI (ch i) :: st)) : SV l D dA (wX dA ad) RX1 cc nL R K (pen, ba, ch, co, ki, wo, sp, sl, le, tx, lk, cf, cp, nu, fl, pC, pK) pc lv (vI i :: .ref (ad 2) :: st) := s_iald (n := 512) 2 rfl h.1 h.2 (by decide) d k
theorem xw_ch {i v : Int} (d : decode cc pc = .ok (.iastore, 1)) (h : 0 ≤ i ∧ i < 512) (k : SV l D dA (wX dA ad) RX1 cc nL R K (pen, ba, upI ch i v, co, ki, wo, sp, sl, le, tx, lk, cf, cp, nu, fl, pC, pK) (pc + 1) lv st) : SV l D dA (wX dA ad) RX1 cc nL R K (pen, ba, ch, co, ki, wo, sp, sl, le, tx, lk, cf, cp, nu, fl, pC, pK) pc lv (vI v :: vI i :: .ref (ad 2) :: st) := s_iast (n := 512) 2 rfl h.1 h.2 (by decide) rfl d k
theorem xg_co (d : decode cc pc = .ok (.getfield 20, 3)) (k : SV l D dA (wX dA ad) RX1 cc nL R K (pen, ba, ch, co, ki, wo, sp, sl, le, tx, lk, cf, cp, nu, fl, pC, pK) (pc + 3) lv (.ref (ad 3) :: st)) : SV l D dA (wX dA ad) RX1 cc nL R K (pen, ba, ch, co, ki, wo, sp, sl, le, tx, lk, cf, cp, nu, fl, pC, pK) pc lv (.ref (ad 0) :: st) := s_get (ci := 0) (T := TX1) (N := 17) 3 in_X1 rfl rfl (by decide) rfl q33 rfl d k
theorem xr_co {i : Int} (d : decode cc pc = .ok (.iaload, 1)) (h : 0 ≤ i ∧ i < 512) (k : SV l D dA (wX dA ad) RX1 cc nL R K (pen, ba, ch, co, ki, wo, sp, sl, le, tx, lk, cf, cp, nu, fl, pC, pK) (pc + 1) lv (vI (co i) :: st)) : SV l D dA (wX dA ad) RX1 cc nL R K (pen, ba, ch, co, ki, wo, sp, sl, le, tx, lk, cf, cp, nu, fl, pC, pK) pc lv (vI i :: .ref (ad 3) :: st) := s_iald (n := 512) 3 rfl h.1 h.2 (by decide) d k
theorem xw_co {i v : Int} (d : decode cc pc = .ok (.iastore, 1)) (h : 0 ≤ i ∧ i < 512) (k : SV l D dA (wX dA ad) RX1 cc nL R K (pen, ba, ch, upI co i v, ki, wo, sp, sl, le, tx, lk, cf, cp, nu, fl, pC, pK) (pc + 1) lv st) : SV l D dA (wX dA ad) RX1 cc nL R K (pen, ba, ch, co, ki, wo, sp, sl, le, tx, lk, cf, cp, nu, fl, pC, pK) pc lv (vI v :: vI i :: .ref (ad 3) :: st) := s_iast (n := 512) 3 rfl h.1 h.2 (by decide) rfl d k
theorem xg_ki (d : decode cc pc = .ok (.getfield 23, 3)) (k : SV l D dA (wX dA ad) RX1 cc nL R K (pen, ba, ch, co, ki, wo, sp, sl, le, tx, lk, cf, cp, nu, fl, pC, pK) (pc + 3) lv (.ref (ad 4) :: st)) : SV l D dA (wX dA ad) RX1 cc nL R K (pen, ba, ch, co, ki, wo, sp, sl, le, tx, lk, cf, cp, nu, fl, pC, pK) pc lv (.ref (ad 0) :: st) := s_get (ci := 0) (T := TX1) (N := 17) 4 in_X1 rfl rfl (by decide) rfl q34 rfl d k
theorem xr_ki {i : Int} (d : decode cc pc = .ok (.iaload, 1)) (h : 0 ≤ i ∧ i < 512) (k : SV l D dA (wX dA ad) RX1 cc nL R K (pen, ba, ch, co, ki, wo, sp, sl, le, tx, lk, cf, cp, nu, fl, pC, pK) (pc + 1) lv (vI (ki i) :: st)) : SV l D dA (wX dA ad) RX1 cc nL R K (pen, ba, ch, co, ki, wo, sp, sl, le, tx, lk, cf, cp, nu, fl, pC, pK) pc lv (vI i :: .ref (ad 4) :: st) := s_iald (n := 512) 4 rfl h.1 h.2 (by decide) d k
theorem xw_ki {i v : Int} (d : decode cc pc = .ok (.iastore, 1)) (h : 0 ≤ i ∧ i < 512) (k : SV l D dA (wX dA ad) RX1 cc nL R K (pen, ba, ch, co, upI ki i v, wo, sp, sl, le, tx, lk, cf, cp, nu, fl, pC, pK) (pc + 1) lv st) : SV l D dA (wX dA ad) RX1 cc nL R K (pen, ba, ch, co, ki, wo, sp, sl, le, tx, lk, cf, cp, nu, fl, pC, pK) pc lv (vI v :: vI i :: .ref (ad 4) :: st) := s_iast (n := 512) 4 rfl h.1 h.2 (by decide) rfl d k
theorem xg_wo (d : decode cc pc = .ok (.getfield 26, 3)) (k : SV l D dA (wX dA ad) RX1 cc nL R K (pen, ba, ch, co, ki, wo, sp, sl, le, tx, lk, cf, cp, nu, fl, pC, pK) (pc + 3) lv (.ref (ad 5) :: st)) : SV l D dA (wX dA ad) RX1 cc nL R K (pen, ba, ch, co, ki, wo, sp, sl, le, tx, lk, cf, cp, nu, fl, pC, pK) pc lv (.ref (ad 0) :: st) := s_get (ci := 0) (T := TX1) (N := 17) 5 in_X1 rfl rfl (by decide) rfl q35 rfl d k
theorem xr_wo {i : Int} (d : decode cc pc = .ok (.iaload, 1)) (h : 0 ≤ i ∧ i < 512) (k : SV l D dA (wX dA ad) RX1 cc nL R K (pen, ba, ch, co, ki, wo, sp, sl, le, tx, lk, cf, cp, nu, fl, pC, pK) (pc + 1) lv (vI (wo i) :: st)) : SV l D dA (wX dA ad) RX1 cc nL R K (pen, ba, ch, co, ki, wo, sp, sl, le, tx, lk, cf, cp, nu, fl, pC, pK) pc lv (vI i :: .ref (ad 5) :: st) := s_iald (n := 512) 5 rfl h.1 h.2 (by decide) d k
theorem xw_wo {i v : Int} (d : decode cc pc = .ok (.iastore, 1)) (h : 0 ≤ i ∧ i < 512) (k : SV l D dA (wX dA ad) RX1 cc nL R K (pen, ba, ch, co, ki, upI wo i v, sp, sl, le, tx, lk, cf, cp, nu, fl, pC, pK) (pc + 1) lv st) : SV l D dA (wX dA ad) RX1 cc nL R K (pen, ba, ch, co, ki, wo, sp, sl, le, tx, lk, cf, cp, nu, fl, pC, pK) pc lv (vI v :: vI i :: .ref (ad 5) :: st) := s_iast (n := 512) 5 rfl h.1 h.2 (by decide) rfl d k
theorem xg_sp (d : decode cc pc = .ok (.getfield 47, 3)) (k : SV l D dA (wX dA ad) RX1 cc nL R K (pen, ba, ch, co, ki, wo, sp, sl, le, tx, lk, cf, cp, nu, fl, pC, pK) (pc + 3) lv (vI sp :: st)) : SV l D dA (wX dA ad) RX1 cc nL R K (pen, ba, ch, co, ki, wo, sp, sl, le, tx, lk, cf, cp, nu, fl, pC, pK) pc lv (.ref (ad 0) :: st) := s_get (ci := 0) (T := TX1) (N := 17) 6 in_X1 rfl rfl (by decide) rfl q36 rfl d k
theorem xp_sp {v : Int} (d : decode cc pc = .ok (.putfield 47, 3)) (k : SV l D dA (wX dA ad) RX1 cc nL R K (pen, ba, ch, co, ki, wo, v, sl, le, tx, lk, cf, cp, nu, fl, pC, pK) (pc + 3) lv st) : SV l D dA (wX dA ad) RX1 cc nL R K (pen, ba, ch, co, ki, wo, sp, sl, le, tx, lk, cf, cp, nu, fl, pC, pK) pc lv (vI v :: .ref (ad 0) :: st) := s_put (ci := 0) (T := TX1) (N := 17) (ty := .int) 6 in_X1 tyX1 tyX1_ok nmX1 rfl rfl (by decide) rfl q36 rfl (by decide +kernel) rfl rfl (Nat.le_of_ble_eq_true rfl) rfl d k
theorem xg_sl (d : decode cc pc = .ok (.getfield 29, 3)) (k : SV l D dA (wX dA ad) RX1 cc nL R K (pen, ba, ch, co, ki, wo, sp, sl, le, tx, lk, cf, cp, nu, fl, pC, pK) (pc + 3) lv (.ref (ad 6) :: st)) : SV l D dA (wX dA ad) RX1 cc nL R K (pen, ba, ch, co, ki, wo, sp, sl, le, tx, lk, cf, cp, nu, fl, pC, pK) pc lv (.ref (ad 0) :: st) := s_get (ci := 0) (T := TX1) (N := 17) 7 in_X1 rfl rfl (by decide) rfl q37 rfl d k
theorem xr_sl {i : Int} (d : decode cc pc = .ok (.iaload, 1)) (h : 0 ≤ i ∧ i < 5) (k : SV l D dA (wX dA ad) RX1 cc nL R K (pen, ba, ch, co, ki, wo, sp, sl, le, tx, lk, cf, cp, nu, fl, pC, pK) (pc + 1) lv (vI (sl i) :: st)) : SV l D dA (wX dA ad) RX1 cc nL R K (pen, ba, ch, co, ki, wo, sp, sl, le, tx, lk, cf, cp, nu, fl, pC, pK) pc lv (vI i :: .ref (ad 6) :: st) := s_iald (n := 5) 6 rfl h.1 h.2 (by decide) d k
theorem xw_sl {i v : Int} (d : decode cc pc = .ok (.iastore, 1)) (h : 0 ≤ i ∧ i < 5) (k : SV l D dA (wX dA ad) RX1 cc nL R K (pen, ba, ch, co, ki, wo, sp, upI sl i v, le, tx, lk, cf, cp, nu, fl, pC, pK) (pc + 1) lv st) : SV l D dA (wX dA ad) RX1 cc nL R K (pen, ba, ch, co, ki, wo, sp, sl, le, tx, lk, cf, cp, nu, fl, pC, pK) pc lv (vI v :: vI i :: .ref (ad 6) :: st) := s_iast (n := 5) 6 rfl h.1 h.2 (by decide) rfl d k
theorem xg_le (d : decode cc pc = .ok (.getfield 64, 3)) (k : SV l D dA (wX dA ad) RX1 cc nL R K (pen, ba, ch, co, ki, wo, sp, sl, le, tx, lk, cf, cp, nu, fl, pC, pK) (pc + 3) lv (vI le :: st)) : SV l D dA (wX dA ad) RX1 cc nL R K (pen, ba, ch, co, ki, wo, sp, sl, le, tx, lk, cf, cp, nu, fl, pC, pK) pc lv (.ref (ad 0) :: st) := s_get (ci := 0) (T := TX1) (N := 17) 8 in_X1 rfl rfl (by decide) rfl q38 rfl d k
theorem xp_le {v : Int} (d : decode cc pc = .ok (.putfield 64, 3)) (k : SV l D dA (wX dA ad) RX1 cc nL R K (pen, ba, ch, co, ki, wo, sp, sl, v, tx, lk, cf, cp, nu, fl, pC, pK) (pc + 3) lv st) : SV l D dA (wX dA ad) RX1 cc nL R K (pen, ba, ch, co, ki, wo, sp, sl, le, tx, lk, cf, cp, nu, fl, pC, pK) pc lv (vI v :: .ref (ad 0) :: st) := s_put (ci := 0) (T := TX1) (N := 17) (ty := .int) 8 in_X1 tyX1 tyX1_ok nmX1 rfl rfl (by decide) rfl q38 rfl (by decide +kernel) rfl rfl (Nat.le_of_ble_eq_true rfl) rfl d k
theorem xg_tx (d : decode cc pc = .ok (.getfield 32, 3)) (k : SV l D dA (wX dA ad) RX1 cc nL R K (pen, ba, ch, co, ki, wo, sp, sl, le, tx, lk, cf, cp, nu, fl, pC, pK) (pc + 3) lv (.ref (ad 7) :: st)) : SV l D dA (wX dA ad) RX1 cc nL R K (pen, ba, ch, co, ki, wo, sp, sl, le, tx, lk, cf, cp, nu, fl, pC, pK) pc lv (.ref (ad 0) :: st) := s_get (ci := 0) (T := TX1) (N := 17) 9 in_X1 rfl rfl (by decide) rfl q39 rfl d k
theorem xr_tx {i : Int} (d : decode cc pc = .ok (.iaload, 1)) (h : 0 ≤ i ∧ i < 12) (k : SV l D dA (wX dA ad) RX1 cc nL R K (pen, ba, ch, co, ki, wo, sp, sl, le, tx, lk, cf, cp, nu, fl, pC, pK) (pc + 1) lv (vI (tx i) :: st)) : SV l D dA (wX dA ad) RX1 cc nL R K (pen, ba, ch, co, ki, wo, sp, sl, le, tx, lk, cf, cp, nu, fl, pC, pK) pc lv (vI i :: .ref (ad 7) :: st) := s_iald (n := 12) 7 rfl h.1 h.2 (by decide) d k
theorem xw_tx {i v : Int} (d : decode cc pc = .ok (.iastore, 1)) (h : 0 ≤ i ∧ i < 12) (k : SV l D dA (wX dA ad) RX1 cc nL R K (pen, ba, ch, co, ki, wo, sp, sl, le, upI tx i v, lk, cf, cp, nu, fl, pC, pK) (pc + 1) lv st) : SV l D dA (wX dA ad) RX1 cc nL R K (pen, ba, ch, co, ki, wo, sp, sl, le, tx, lk, cf, cp, nu, fl, pC, pK) pc lv (vI v :: vI i :: .ref (ad 7) :: st) := s_iast (n := 12) 7 rfl h.1 h.2 (by decide) rfl d k
theorem xg_lk (d : decode cc pc = .ok (.getfield 35, 3)) (k : SV l D dA (wX dA ad) RX1 cc nL R K (pen, ba, ch, co, ki, wo, sp, sl, le, tx, lk, cf, cp, nu, fl, pC, pK) (pc + 3) lv (.ref (ad 8) :: st)) : SV l D dA (wX dA ad) RX1 cc nL R K (pen, ba, ch, co, ki, wo, sp, sl, le, tx, lk, cf, cp, nu, fl, pC, pK) pc lv (.ref (ad 0) :: st) := s_get (ci := 0) (T := TX1) (N := 17) 10 in_X1 rfl rfl (by decide) rfl q40 rfl d k
theorem xr_lk {i : Int} (d : decode cc pc = .ok (.iaload, 1)) (h : 0 ≤ i ∧ i < 16) (k : SV l D dA (wX dA ad) RX1 cc nL R K (pen, ba, ch, co, ki, wo, sp, sl, le, tx, lk, cf, cp, nu, fl, pC, pK) (pc + 1) lv (vI (lk i) :: st)) : SV l D dA (wX dA ad) RX1 cc nL R K (pen, ba, ch, co, ki, wo, sp, sl, le, tx, lk, cf, cp, nu, fl, pC, pK) pc lv (vI i :: .ref (ad 8) :: st) := s_iald (n := 16) 8 rfl h.1 h.2 (by decide) d k
theorem xw_lk {i v : Int} (d : decode cc pc = .ok (.iastore, 1)) (h : 0 ≤ i ∧ i < 16) (k : SV l D dA (wX dA ad) RX1 cc nL R K (pen, ba, ch, co, ki, wo, sp, sl, le, tx, upI lk i v, cf, cp, nu, fl, pC, pK) (pc + 1) lv st) : SV l D dA (wX dA ad) RX1 cc nL R K (pen, ba, ch, co, ki, wo, sp, sl, le, tx, lk, cf, cp, nu, fl, pC, pK) pc lv (vI v :: vI i :: .ref (ad 8) :: st) := s_iast (n := 16) 8 rfl h.1 h.2 (by decide) rfl d k
theorem xg_cf (d : decode cc pc = .ok (.getfield 57, 3)) (k : SV l D dA (wX dA ad) RX1 cc nL R K (pen, ba, ch, co, ki, wo, sp, sl, le, tx, lk, cf, cp, nu, fl, pC, pK) (pc + 3) lv (vI cf :: st)) : SV l D dA (wX dA ad) RX1 cc nL R K (pen, ba, ch, co, ki, wo, sp, sl, le, tx, lk, cf, cp, nu, fl, pC, pK) pc lv (.ref (ad 0) :: st) := s_get (ci := 0) (T := TX1) (N := 17) 11 in_X1 rfl rfl (by decide) rfl q41 rfl d k
theorem xp_cf0 (d : decode cc pc = .ok (.putfield 57, 3)) (k : SV l D dA (wX dA ad) RX1 cc nL R K (pen, ba, ch, co, ki, wo, sp, sl, le, tx, lk, 0, cp, nu, fl, pC, pK) (pc + 3) lv st) : SV l D dA (wX dA ad) RX1 cc nL R K (pen, ba, ch, co, ki, wo, sp, sl, le, tx, lk, cf, cp, nu, fl, pC, pK) pc lv (vI 0 :: .ref (ad 0) :: st) := s_put (ci := 0) (T := TX1) (N := 17) (ty := .boolean) 11 in_X1 tyX1 tyX1_ok nmX1 rfl rfl (by decide) rfl q41 rfl (by decide +kernel) rfl rfl (Nat.le_of_ble_eq_true rfl) rfl d k
theorem xp_cf1 (d : decode cc pc = .ok (.putfield 57, 3)) (k : SV l D dA (wX dA ad) RX1 cc nL R K (pen, ba, ch, co, ki, wo, sp, sl, le, tx, lk, 1, cp, nu, fl, pC, pK) (pc + 3) lv st) : SV l D dA (wX dA ad) RX1 cc nL R K (pen, ba, ch, co, ki, wo, sp, sl, le, tx, lk, cf, cp, nu, fl, pC, pK) pc lv (vI 1 :: .ref (ad 0) :: st) := s_put (ci := 0) (T := TX1) (N := 17) (ty := .boolean) 11 in_X1 tyX1 tyX1_ok nmX1 rfl rfl (by decide) rfl q41 rfl (by decide +kernel) rfl rfl (Nat.le_of_ble_eq_true rfl) rfl d k
theorem xg_cp (d : decode cc pc = .ok (.getfield 38, 3)) (k : SV l D dA (wX dA ad) RX1 cc nL R K (pen, ba, ch, co, ki, wo, sp, sl, le, tx, lk, cf, cp, nu, fl, pC, pK) (pc + 3) lv (.ref (ad 9) :: st)) : SV l D dA (wX dA ad) RX1 cc nL R K (pen, ba, ch, co, ki, wo, sp, sl, le, tx, lk, cf, cp, nu, fl, pC, pK) pc lv (.ref (ad 0) :: st) := s_get (ci := 0) (T := TX1) (N := 17) 12 in_X1 rfl rfl (by decide) rfl q42 rfl d k
theorem xr_cp {i : Int} (d : decode cc pc = .ok (.iaload, 1)) (h : 0 ≤ i ∧ i < 65) (k : SV l D dA (wX dA ad) RX1 cc nL R K (pen, ba, ch, co, ki, wo, sp, sl, le, tx, lk, cf, cp, nu, fl, pC, pK) (pc + 1) lv (vI (cp i) :: st)) : SV l D dA (wX dA ad) RX1 cc nL R K (pen, ba, ch, co, ki, wo, sp, sl, le, tx, lk, cf, cp, nu, fl, pC, pK) pc lv (vI i :: .ref (ad 9) :: st) := s_iald (n := 65) 9 rfl h.1 h.2 (by decide) d k
theorem xw_cp {i v : Int} (d : decode cc pc = .ok (.iastore, 1)) (h : 0 ≤ i ∧ i < 65) (k : SV l D dA (wX dA ad) RX1 cc nL R K (pen, ba, ch, co, ki, wo, sp, sl, le, tx, lk, cf, upI cp i v, nu, fl, pC, pK) (pc + 1) lv st) : SV l D dA (wX dA ad) RX1 cc nL R K (pen, ba, ch, co, ki, wo, sp, sl, le, tx, lk, cf, cp, nu, fl, pC, pK) pc lv (vI v :: vI i :: .ref (ad 9) :: st) := s_iast (n := 65) 9 rfl h.1 h.2 (by decide) rfl d k
theorem xg_nu (d : decode cc pc = .ok (.getfield 41, 3)) (k : SV l D dA (wX dA ad) RX1 cc nL R K (pen, ba, ch, co, ki, wo, sp, sl, le, tx, lk, cf, cp, nu, fl, pC, pK) (pc + 3) lv (.ref (ad 10) :: st)) : SV l D dA (wX dA ad) RX1 cc nL R K (pen, ba, ch, co, ki, wo, sp, sl, le, tx, lk, cf, cp, nu, fl, pC, pK) pc lv (.ref (ad 0) :: st) := s_get (ci := 0) (T := TX1) (N := 17) 13 in_X1 rfl rfl (by decide) rfl q43 rfl d k
theorem xr_nu {i : Int} (d : decode cc pc = .ok (.iaload, 1)) (h : 0 ≤ i ∧ i < 65) (k : SV l D dA (wX dA ad) RX1 cc nL R K (pen, ba, ch, co, ki, wo, sp, sl, le, tx, lk, cf, cp, nu, fl, pC, pK) (pc + 1) lv (vI (nu i) :: st)) : SV l D dA (wX dA ad) RX1 cc nL R K (pen, ba, ch, co, ki, wo, sp, sl, le, tx, lk, cf, cp, nu, fl, pC, pK) pc lv (vI i :: .ref (ad 10) :: st) := s_iald (n := 65) 10 rfl h.1 h.2 (by decide) d k
theorem xw_nu {i v : Int} (d : decode cc pc = .ok (.iastore, 1)) (h : 0 ≤ i ∧ i < 65) (k : SV l D dA (wX dA ad) RX1 cc nL R K (pen, ba, ch, co, ki, wo, sp, sl, le, tx, lk, cf, cp, upI nu i v, fl, pC, pK) (pc + 1) lv st) : SV l D dA (wX dA ad) RX1 cc nL R K (pen, ba, ch, co, ki, wo, sp, sl, le, tx, lk, cf, cp, nu, fl, pC, pK) pc lv (vI v :: vI i :: .ref (ad 10) :: st) := s_iast (n := 65) 10 rfl h.1 h.2 (by decide) rfl d k
theorem xg_fl (d : decode cc pc = .ok (.getfield 44, 3)) (k : SV l D dA (wX dA ad) RX1 cc nL R K (pen, ba, ch, co, ki, wo, sp, sl, le, tx, lk, cf, cp, nu, fl, pC, pK) (pc + 3) lv (.ref (ad 11) :: st)) : SV l D dA (wX dA ad) RX1 cc nL R K (pen, ba, ch, co, ki, wo, sp, sl, le, tx, lk, cf, cp, nu, fl, pC, pK) pc lv (.ref (ad 0) :: st) := s_get (ci := 0) (T := TX1) (N := 17) 14 in_X1 rfl rfl (by decide) rfl q44 rfl d k
theorem xr_fl {i : Int} (d : decode cc pc = .ok (.iaload, 1)) (h : 0 ≤ i ∧ i < 65) (k : SV l D dA (wX dA ad) RX1 cc nL R K (pen, ba, ch, co, ki, wo, sp, sl, le, tx, lk, cf, cp, nu, fl, pC, pK) (pc + 1) lv (vI (fl i) :: st)) : SV l D dA (wX dA ad) RX1 cc nL R K (pen, ba, ch, co, ki, wo, sp, sl, le, tx, lk, cf, cp, nu, fl, pC, pK) pc lv (vI i :: .ref (ad 11) :: st) := s_iald (n := 65) 11 rfl h.1 h.2 (by decide) d k
theorem xw_fl {i v : Int} (d : decode cc pc = .ok (.iastore, 1)) (h : 0 ≤ i ∧ i < 65) (k : SV l D dA (wX dA ad) RX1 cc nL R K (pen, ba, ch, co, ki, wo, sp, sl, le, tx, lk, cf, cp, nu, upI fl i v, pC, pK) (pc + 1) lv st) : SV l D dA (wX dA ad) RX1 cc nL R K (pen, ba, ch, co, ki, wo, sp, sl, le, tx, lk, cf, cp, nu, fl, pC, pK) pc lv (vI v :: vI i :: .ref (ad 11) :: st) := s_iast (n := 65) 11 rfl h.1 h.2 (by decide) rfl d k
theorem xg_pC (d : decode cc pc = .ok (.getfield 98, 3)) (k : SV l D dA (wX dA ad) RX1 cc nL R K (pen, ba, ch, co, ki, wo, sp, sl, le, tx, lk, cf, cp, nu, fl, pC, pK) (pc + 3) lv (vI pC :: st)) : SV l D dA (wX dA ad) RX1 cc nL R K (pen, ba, ch, co, ki, wo, sp, sl, le, tx, lk, cf, cp, nu, fl, pC, pK) pc lv (.ref (ad 0) :: st) := s_get (ci := 0) (T := TX1) (N := 17) 15 in_X1 rfl rfl (by decide) rfl q45 rfl d k
theorem xp_pC {v : Int} (d : decode cc pc = .ok (.putfield 98, 3)) (k : SV l D dA (wX dA ad) RX1 cc nL R K (pen, ba, ch, co, ki, wo, sp, sl, le, tx, lk, cf, cp, nu, fl, v, pK) (pc + 3) lv st) : SV l D dA (wX dA ad) RX1 cc nL R K (pen, ba, ch, co, ki, wo, sp, sl, le, tx, lk, cf, cp, nu, fl, pC, pK) pc lv (vI v :: .ref (ad 0) :: st) := s_put (ci := 0) (T := TX1) (N := 17) (ty := .int) 15 in_X1 tyX1 tyX1_ok nmX1 rfl rfl (by decide) rfl q45 rfl (by decide +kernel) rfl rfl (Nat.le_of_ble_eq_true rfl) rfl d k
theorem xg_pK (d : decode cc pc = .ok (.getfield 74, 3)) (k : SV l D dA (wX dA ad) RX1 cc nL R K (pen, ba, ch, co, ki, wo, sp, sl, le, tx, lk, cf, cp, nu, fl, pC, pK) (pc + 3) lv (vI pK :: st)) : SV l D dA (wX dA ad) RX1 cc nL R K (pen, ba, ch, co, ki, wo, sp, sl, le, tx, lk, cf, cp, nu, fl, pC, pK) pc lv (.ref (ad 0) :: st) := s_get (ci := 0) (T := TX1) (N := 17) 16 in_X1 rfl rfl (by decide) rfl q46 rfl d k
theorem xp_pK {v : Int} (d : decode cc pc = .ok (.putfield 74, 3)) (k : SV l D dA (wX dA ad) RX1 cc nL R K (pen, ba, ch, co, ki, wo, sp, sl, le, tx, lk, cf, cp, nu, fl, pC, v) (pc + 3) lv st) : SV l D dA (wX dA ad) RX1 cc nL R K (pen, ba, ch, co, ki, wo, sp, sl, le, tx, lk, cf, cp, nu, fl, pC, pK) pc lv (vI v :: .ref (ad 0) :: st) := s_put (ci := 0) (T := TX1) (N := 17) (ty := .int) 16 in_X1 tyX1 tyX1_ok nmX1 rfl rfl (by decide) rfl q46 rfl (by decide +kernel) rfl rfl (Nat.le_of_ble_eq_true rfl) rfl d k
theorem xc_find {f : Nat} {post : Int → SX → Prop} (hM : MetI l D dA (wX dA ad) (ad 0) yX1_find (ws_ yX1_find cX1_find 3 (some .int)) (rmf f) [] (pen, ba, ch, co, ki, wo, sp, sl, le, tx, lk, cf, cp, nu, fl, pC, pK) post) (hR : f + 1 ≤ R.frames ∧ 8 + (3 + 11) + 32 * f ≤ R.locals) (hrest : (st.map fun v => v.category).sum ≤ 8) (d : decode cc pc = .ok (.invokevirtual 50, 3)) (kk : ∀ (r : Int) (u' : SX), post r u' → SV l D dA (wX dA ad) RX1 cc nL R K u' (pc + 3) lv (vI r :: st)) : SV l D dA (wX dA ad) RX1 cc nL R K (pen, ba, ch, co, ki, wo, sp, sl, le, tx, lk, cf, cp, nu, fl, pC, pK) pc lv (.ref (ad 0) :: st) := s_calli (ci := 0) (T := TX1) (N := 17) (n := 0) rfl rfl hM (lw_V q91 q93 qs0 q20 q94) (by decide +kernel) rfl hR rfl hrest d kk
theorem xc_childOf {a0 a1 : Int} {f : Nat} {post : Int → SX → Prop} (hM : MetI l D dA (wX dA ad) (ad 0) yX1_childOf (ws_ yX1_childOf cX1_childOf 4 (some .int)) (rmf f) [vI a0, vI a1] (pen, ba, ch, co, ki, wo, sp, sl, le, tx, lk, cf, cp, nu, fl, pC, pK) post) (hR : f + 1 ≤ R.frames ∧ 8 + (4 + 11) + 32 * f ≤ R.locals) (hrest : (st.map fun v => v.category).sum ≤ 8) (d : decode cc pc = .ok (.invokevirtual 77, 3)) (kk : ∀ (r : Int) (u' : SX), post r u' → SV l D dA (wX dA ad) RX1 cc nL R K u' (pc + 3) lv (vI r :: st)) : SV l D dA (wX dA ad) RX1 cc nL R K (pen, ba, ch, co, ki, wo, sp, sl, le, tx, lk, cf, cp, nu, fl, pC, pK) pc lv (vI a1 :: vI a0 :: .ref (ad 0) :: st) := s_calli (ci := 0) (T := TX1) (N := 17) (n := 2) rfl rfl hM (lw_V q95 q97 qs1 q20 q98) (by decide +kernel) rfl hR rfl hrest d kk
theorem xc_grow {f : Nat} {post : Int → SX → Prop} (hM : MetI l D dA (wX dA ad) (ad 0) yX1_grow (ws_ yX1_grow cX1_grow 4 (some .int)) (rmf f) [] (pen, ba, ch, co, ki, wo, sp, sl, le, tx, lk, cf, cp, nu, fl, pC, pK) post) (hR : f + 1 ≤ R.frames ∧ 8 + (4 + 11) + 32 * f ≤ R.locals) (hrest : (st.map fun v => v.category).sum ≤ 8) (d : decode cc pc = .ok (.invokevirtual 54, 3)) (kk : ∀ (r : Int) (u' : SX), post r u' → SV l D dA (wX dA ad) RX1 cc nL R K u' (pc + 3) lv (vI r :: st)) : SV l D dA (wX dA ad) RX1 cc nL R K (pen, ba, ch, co, ki, wo, sp, sl, le, tx, lk, cf, cp, nu, fl, pC, pK) pc lv (.ref (ad 0) :: st) := s_calli (ci := 0) (T := TX1) (N := 17) (n := 0) rfl rfl hM (lw_V q99 q101 qs2 q20 q102) (by decide +kernel) rfl hR rfl hrest d kk
theorem xc_addChild {a0 a1 : Int} {f : Nat} {post : Int → SX → Prop} (hM : MetI l D dA (wX dA ad) (ad 0) yX1_addChild (ws_ yX1_addChild cX1_addChild 4 (some .int)) (rmf f) [vI a0, vI a1] (pen, ba, ch, co, ki, wo, sp, sl, le, tx, lk, cf, cp, nu, fl, pC, pK) post) (hR : f + 1 ≤ R.frames ∧ 8 + (4 + 11) + 32 * f ≤ R.locals) (hrest : (st.map fun v => v.category).sum ≤ 8) (d : decode cc pc = .ok (.invokevirtual 81, 3)) (kk : ∀ (r : Int) (u' : SX), post r u' → SV l D dA (wX dA ad) RX1 cc nL R K u' (pc + 3) lv (vI r :: st)) : SV l D dA (wX dA ad) RX1 cc nL R K (pen, ba, ch, co, ki, wo, sp, sl, le, tx, lk, cf, cp, nu, fl, pC, pK) pc lv (vI a1 :: vI a0 :: .ref (ad 0) :: st) := s_calli (ci := 0) (T := TX1) (N := 17) (n := 2) rfl rfl hM (lw_V q103 q105 qs3 q20 q106) (by decide +kernel) rfl hR rfl hrest d kk
theorem xc_moveChildren {a0 a1 : Int} {f : Nat} {post : SX → Prop} (hM : MetV l D dA (wX dA ad) (ad 0) yX1_moveChildren (ws_ yX1_moveChildren cX1_moveChildren 7 none) (rmf f) [vI a0, vI a1] (pen, ba, ch, co, ki, wo, sp, sl, le, tx, lk, cf, cp, nu, fl, pC, pK) post) (hR : f + 1 ≤ R.frames ∧ 8 + (7 + 11) + 32 * f ≤ R.locals) (hrest : (st.map fun v => v.category).sum ≤ 8) (d : decode cc pc = .ok (.invokevirtual 84, 3)) (kk : ∀ (u' : SX), post u' → SV l D dA (wX dA ad) RX1 cc nL R K u' (pc + 3) lv st) : SV l D dA (wX dA ad) RX1 cc nL R K (pen, ba, ch, co, ki, wo, sp, sl, le, tx, lk, cf, cp, nu, fl, pC, pK) pc lv (vI a1 :: vI a0 :: .ref (ad 0) :: st) := s_callv (ci := 0) (T := TX1) (N := 17) (n := 2) rfl rfl hM (lw_V q107 q109 qs4 q20 q110) (by decide +kernel) rfl hR rfl hrest d kk
theorem xc_freeBase {a0 : Int} {f : Nat} {post : Int → SX → Prop} (hM : MetI l D dA (wX dA ad) (ad 0) yX1_freeBase (ws_ yX1_freeBase cX1_freeBase 5 (some .int)) (rmf f) [vI a0] (pen, ba, ch, co, ki, wo, sp, sl, le, tx, lk, cf, cp, nu, fl, pC, pK) post) (hR : f + 1 ≤ R.frames ∧ 8 + (5 + 11) + 32 * f ≤ R.locals) (hrest : (st.map fun v => v.category).sum ≤ 8) (d : decode cc pc = .ok (.invokevirtual 87, 3)) (kk : ∀ (r : Int) (u' : SX), post r u' → SV l D dA (wX dA ad) RX1 cc nL R K u' (pc + 3) lv (vI r :: st)) : SV l D dA (wX dA ad) RX1 cc nL R K (pen, ba, ch, co, ki, wo, sp, sl, le, tx, lk, cf, cp, nu, fl, pC, pK) pc lv (vI a0 :: .ref (ad 0) :: st) := s_calli (ci := 0) (T := TX1) (N := 17) (n := 1) rfl rfl hM (lw_V q111 q113 qs5 q20 q114) (by decide +kernel) rfl hR rfl hrest d kk
theorem xc_moveState {a0 a1 : Int} {f : Nat} {post : SX → Prop} (hM : MetV l D dA (wX dA ad) (ad 0) yX1_moveState (ws_ yX1_moveState cX1_moveState 4 none) (rmf f) [vI a0, vI a1] (pen, ba, ch, co, ki, wo, sp, sl, le, tx, lk, cf, cp, nu, fl, pC, pK) post) (hR : f + 1 ≤ R.frames ∧ 8 + (4 + 11) + 32 * f ≤ R.locals) (hrest : (st.map fun v => v.category).sum ≤ 8) (d : decode cc pc = .ok (.invokevirtual 91, 3)) (kk : ∀ (u' : SX), post u' → SV l D dA (wX dA ad) RX1 cc nL R K u' (pc + 3) lv st) : SV l D dA (wX dA ad) RX1 cc nL R K (pen, ba, ch, co, ki, wo, sp, sl, le, tx, lk, cf, cp, nu, fl, pC, pK) pc lv (vI a1 :: vI a0 :: .ref (ad 0) :: st) := s_callv (ci := 0) (T := TX1) (N := 17) (n := 2) rfl rfl hM (lw_V q115 q117 qs6 q20 q118) (by decide +kernel) rfl hR rfl hrest d kk
theorem xc_release {a0 : Int} {f : Nat} {post : SX → Prop} (hM : MetV l D dA (wX dA ad) (ad 0) yX1_release (ws_ yX1_release cX1_release 2 none) (rmf f) [vI a0] (pen, ba, ch, co, ki, wo, sp, sl, le, tx, lk, cf, cp, nu, fl, pC, pK) post) (hR : f + 1 ≤ R.frames ∧ 8 + (2 + 11) + 32 * f ≤ R.locals) (hrest : (st.map fun v => v.category).sum ≤ 8) (d : decode cc pc = .ok (.invokevirtual 94, 3)) (kk : ∀ (u' : SX), post u' → SV l D dA (wX dA ad) RX1 cc nL R K u' (pc + 3) lv st) : SV l D dA (wX dA ad) RX1 cc nL R K (pen, ba, ch, co, ki, wo, sp, sl, le, tx, lk, cf, cp, nu, fl, pC, pK) pc lv (vI a0 :: .ref (ad 0) :: st) := s_callv (ci := 0) (T := TX1) (N := 17) (n := 1) rfl rfl hM (lw_V q119 q121 qs7 q20 q122) (by decide +kernel) rfl hR rfl hrest d kk
theorem xc_prune {f : Nat} {post : SX → Prop} (hM : MetV l D dA (wX dA ad) (ad 0) yX1_prune (ws_ yX1_prune cX1_prune 4 none) (rmf f) [] (pen, ba, ch, co, ki, wo, sp, sl, le, tx, lk, cf, cp, nu, fl, pC, pK) post) (hR : f + 1 ≤ R.frames ∧ 8 + (4 + 11) + 32 * f ≤ R.locals) (hrest : (st.map fun v => v.category).sum ≤ 8) (d : decode cc pc = .ok (.invokevirtual 61, 3)) (kk : ∀ (u' : SX), post u' → SV l D dA (wX dA ad) RX1 cc nL R K u' (pc + 3) lv st) : SV l D dA (wX dA ad) RX1 cc nL R K (pen, ba, ch, co, ki, wo, sp, sl, le, tx, lk, cf, cp, nu, fl, pC, pK) pc lv (.ref (ad 0) :: st) := s_callv (ci := 0) (T := TX1) (N := 17) (n := 0) rfl rfl hM (lw_V q127 q129 qs8 q20 q130) (by decide +kernel) rfl hR rfl hrest d kk
theorem xc_cutText {f : Nat} {post : SX → Prop} (hM : MetV l D dA (wX dA ad) (ad 0) yX1_cutText (ws_ yX1_cutText cX1_cutText 3 none) (rmf f) [] (pen, ba, ch, co, ki, wo, sp, sl, le, tx, lk, cf, cp, nu, fl, pC, pK) post) (hR : f + 1 ≤ R.frames ∧ 8 + (3 + 11) + 32 * f ≤ R.locals) (hrest : (st.map fun v => v.category).sum ≤ 8) (d : decode cc pc = .ok (.invokevirtual 67, 3)) (kk : ∀ (u' : SX), post u' → SV l D dA (wX dA ad) RX1 cc nL R K u' (pc + 3) lv st) : SV l D dA (wX dA ad) RX1 cc nL R K (pen, ba, ch, co, ki, wo, sp, sl, le, tx, lk, cf, cp, nu, fl, pC, pK) pc lv (.ref (ad 0) :: st) := s_callv (ci := 0) (T := TX1) (N := 17) (n := 0) rfl rfl hM (lw_V q155 q157 qs9 q20 q158) (by decide +kernel) rfl hR rfl hrest d kk
theorem xc_fitPiece {a0 a1 : Int} {f : Nat} {post : SX → Prop} (hM : MetV l D dA (wX dA ad) (ad 0) yX1_fitPiece (ws_ yX1_fitPiece cX1_fitPiece 5 none) (rmf f) [vI a0, vI a1] (pen, ba, ch, co, ki, wo, sp, sl, le, tx, lk, cf, cp, nu, fl, pC, pK) post) (hR : f + 1 ≤ R.frames ∧ 8 + (5 + 11) + 32 * f ≤ R.locals) (hrest : (st.map fun v => v.category).sum ≤ 8) (d : decode cc pc = .ok (.invokevirtual 70, 3)) (kk : ∀ (u' : SX), post u' → SV l D dA (wX dA ad) RX1 cc nL R K u' (pc + 3) lv st) : SV l D dA (wX dA ad) RX1 cc nL R K (pen, ba, ch, co, ki, wo, sp, sl, le, tx, lk, cf, cp, nu, fl, pC, pK) pc lv (vI a1 :: vI a0 :: .ref (ad 0) :: st) := s_callv (ci := 0) (T := TX1) (N := 17) (n := 2) rfl rfl hM (lw_V q160 q162 qs10 q20 q163) (by decide +kernel) rfl hR rfl hrest d kk
theorem xc_usePiece {a0 a1 : Int} {f : Nat} {post : SX → Prop} (hM : MetV l D dA (wX dA ad) (ad 0) yX1_usePiece (ws_ yX1_usePiece cX1_usePiece 7 none) (rmf f) [vI a0, vI a1] (pen, ba, ch, co, ki, wo, sp, sl, le, tx, lk, cf, cp, nu, fl, pC, pK) post) (hR : f + 1 ≤ R.frames ∧ 8 + (7 + 11) + 32 * f ≤ R.locals) (hrest : (st.map fun v => v.category).sum ≤ 8) (d : decode cc pc = .ok (.invokevirtual 102, 3)) (kk : ∀ (u' : SX), post u' → SV l D dA (wX dA ad) RX1 cc nL R K u' (pc + 3) lv st) : SV l D dA (wX dA ad) RX1 cc nL R K (pen, ba, ch, co, ki, wo, sp, sl, le, tx, lk, cf, cp, nu, fl, pC, pK) pc lv (vI a1 :: vI a0 :: .ref (ad 0) :: st) := s_callv (ci := 0) (T := TX1) (N := 17) (n := 2) rfl rfl hM (lw_V q164 q166 qs11 q20 q167) (by decide +kernel) rfl hR rfl hrest d kk
end WORLDx
abbrev SM : Type := Int × Int × (Int → Int) × (Int → Int) × (Int → Int) × (Int → Int) × (Int → Int) × Int × (Int → Int) × Int × (Int → Int) × Int × Int × Int
def wM (dA : ClassId) (ad : Nat → Nat) (u : SM) : va_W := match u with
  | (pen, wd, lt, ln, pr, kd, sl, sp, tx, ty, lk, be, ma, cs) => [(ad 0, .inr (1, [vI pen, vI wd, .ref (ad 1), .ref (ad 2), .ref (ad 3), .ref (ad 4), .ref (ad 5), vI sp, .ref (ad 6), vI ty, .ref (ad 7), vI be, vI ma, vI cs])), (ad 1, .inl (dA, 80, .inl (arI lt))), (ad 2, .inl (dA, 16, .inl (arI ln))), (ad 3, .inl (dA, 16, .inl (arI pr))), (ad 4, .inl (dA, 16, .inl (arI kd))), (ad 5, .inl (dA, 5, .inl (arI sl))), (ad 6, .inl (dA, 12, .inl (arI tx))), (ad 7, .inl (dA, 16, .inl (arI lk)))]
section WORLDm
variable {l : Launch} {D : va_G} {dA : ClassId} {ad : Nat → Nat} {cc : ByteArray} {nL : Nat} {R : Room} {K : KX} {pc : Nat} {lv : List (Option Value)} {st : List Value}
variable {pen wd sp ty be ma cs : Int} {lt ln pr kd sl tx lk : Int → Int}
theorem mg_pen (d : decode cc pc = .ok (.getfield 31, 3)) (k : SV l D dA (wM dA ad) RX2 cc nL R K (pen, wd, lt, ln, pr, kd, sl, sp, tx, ty, lk, be, ma, cs) (pc + 3) lv (vI pen :: st)) : SV l D dA (wM dA ad) RX2 cc nL R K (pen, wd, lt, ln, pr, kd, sl, sp, tx, ty, lk, be, ma, cs) pc lv (.ref (ad 0) :: st) := s_get (ci := 1) (T := TX2) (N := 14) 0 in_X2 rfl rfl (by decide) rfl q189 rfl d k
theorem mp_pen {v : Int} (d : decode cc pc = .ok (.putfield 31, 3)) (k : SV l D dA (wM dA ad) RX2 cc nL R K (v, wd, lt, ln, pr, kd, sl, sp, tx, ty, lk, be, ma, cs) (pc + 3) lv st) : SV l D dA (wM dA ad) RX2 cc nL R K (pen, wd, lt, ln, pr, kd, sl, sp, tx, ty, lk, be, ma, cs) pc lv (vI v :: .ref (ad 0) :: st) := s_put (ci := 1) (T := TX2) (N := 14) (ty := .int) 0 in_X2 tyX2 tyX2_ok nmX2 rfl rfl (by decide) rfl q189 rfl (by decide +kernel) rfl rfl (Nat.le_of_ble_eq_true rfl) rfl d k
theorem mg_wd (d : decode cc pc = .ok (.getfield 38, 3)) (k : SV l D dA (wM dA ad) RX2 cc nL R K (pen, wd, lt, ln, pr, kd, sl, sp, tx, ty, lk, be, ma, cs) (pc + 3) lv (vI wd :: st)) : SV l D dA (wM dA ad) RX2 cc nL R K (pen, wd, lt, ln, pr, kd, sl, sp, tx, ty, lk, be, ma, cs) pc lv (.ref (ad 0) :: st) := s_get (ci := 1) (T := TX2) (N := 14) 1 in_X2 rfl rfl (by decide) rfl q190 rfl d k
theorem mp_wd {v : Int} (d : decode cc pc = .ok (.putfield 38, 3)) (k : SV l D dA (wM dA ad) RX2 cc nL R K (pen, v, lt, ln, pr, kd, sl, sp, tx, ty, lk, be, ma, cs) (pc + 3) lv st) : SV l D dA (wM dA ad) RX2 cc nL R K (pen, wd, lt, ln, pr, kd, sl, sp, tx, ty, lk, be, ma, cs) pc lv (vI v :: .ref (ad 0) :: st) := s_put (ci := 1) (T := TX2) (N := 14) (ty := .int) 1 in_X2 tyX2 tyX2_ok nmX2 rfl rfl (by decide) rfl q190 rfl (by decide +kernel) rfl rfl (Nat.le_of_ble_eq_true rfl) rfl d k
theorem mg_lt (d : decode cc pc = .ok (.getfield 7, 3)) (k : SV l D dA (wM dA ad) RX2 cc nL R K (pen, wd, lt, ln, pr, kd, sl, sp, tx, ty, lk, be, ma, cs) (pc + 3) lv (.ref (ad 1) :: st)) : SV l D dA (wM dA ad) RX2 cc nL R K (pen, wd, lt, ln, pr, kd, sl, sp, tx, ty, lk, be, ma, cs) pc lv (.ref (ad 0) :: st) := s_get (ci := 1) (T := TX2) (N := 14) 2 in_X2 rfl rfl (by decide) rfl q191 rfl d k
theorem mr_lt {i : Int} (d : decode cc pc = .ok (.iaload, 1)) (h : 0 ≤ i ∧ i < 80) (k : SV l D dA (wM dA ad) RX2 cc nL R K (pen, wd, lt, ln, pr, kd, sl, sp, tx, ty, lk, be, ma, cs) (pc + 1) lv (vI (lt i) :: st)) : SV l D dA (wM dA ad) RX2 cc nL R K (pen, wd, lt, ln, pr, kd, sl, sp, tx, ty, lk, be, ma, cs) pc lv (vI i :: .ref (ad 1) :: st) := s_iald (n := 80) 1 rfl h.1 h.2 (by decide) d k
theorem mw_lt {i v : Int} (d : decode cc pc = .ok (.iastore, 1)) (h : 0 ≤ i ∧ i < 80) (k : SV l D dA (wM dA ad) RX2 cc nL R K (pen, wd, upI lt i v, ln, pr, kd, sl, sp, tx, ty, lk, be, ma, cs) (pc + 1) lv st) : SV l D dA (wM dA ad) RX2 cc nL R K (pen, wd, lt, ln, pr, kd, sl, sp, tx, ty, lk, be, ma, cs) pc lv (vI v :: vI i :: .ref (ad 1) :: st) := s_iast (n := 80) 1 rfl h.1 h.2 (by decide) rfl d k
theorem mg_ln (d : decode cc pc = .ok (.getfield 13, 3)) (k : SV l D dA (wM dA ad) RX2 cc nL R K (pen, wd, lt, ln, pr, kd, sl, sp, tx, ty, lk, be, ma, cs) (pc + 3) lv (.ref (ad 2) :: st)) : SV l D dA (wM dA ad) RX2 cc nL R K (pen, wd, lt, ln, pr, kd, sl, sp, tx, ty, lk, be, ma, cs) pc lv (.ref (ad 0) :: st) := s_get (ci := 1) (T := TX2) (N := 14) 3 in_X2 rfl rfl (by decide) rfl q192 rfl d k
theorem mr_ln {i : Int} (d : decode cc pc = .ok (.iaload, 1)) (h : 0 ≤ i ∧ i < 16) (k : SV l D dA (wM dA ad) RX2 cc nL R K (pen, wd, lt, ln, pr, kd, sl, sp, tx, ty, lk, be, ma, cs) (pc + 1) lv (vI (ln i) :: st)) : SV l D dA (wM dA ad) RX2 cc nL R K (pen, wd, lt, ln, pr, kd, sl, sp, tx, ty, lk, be, ma, cs) pc lv (vI i :: .ref (ad 2) :: st) := s_iald (n := 16) 2 rfl h.1 h.2 (by decide) d k
theorem mw_ln {i v : Int} (d : decode cc pc = .ok (.iastore, 1)) (h : 0 ≤ i ∧ i < 16) (k : SV l D dA (wM dA ad) RX2 cc nL R K (pen, wd, lt, upI ln i v, pr, kd, sl, sp, tx, ty, lk, be, ma, cs) (pc + 1) lv st) : SV l D dA (wM dA ad) RX2 cc nL R K (pen, wd, lt, ln, pr, kd, sl, sp, tx, ty, lk, be, ma, cs) pc lv (vI v :: vI i :: .ref (ad 2) :: st) := s_iast (n := 16) 2 rfl h.1 h.2 (by decide) rfl d k
theorem mg_pr (d : decode cc pc = .ok (.getfield 16, 3)) (k : SV l D dA (wM dA ad) RX2 cc nL R K (pen, wd, lt, ln, pr, kd, sl, sp, tx, ty, lk, be, ma, cs) (pc + 3) lv (.ref (ad 3) :: st)) : SV l D dA (wM dA ad) RX2 cc nL R K (pen, wd, lt, ln, pr, kd, sl, sp, tx, ty, lk, be, ma, cs) pc lv (.ref (ad 0) :: st) := s_get (ci := 1) (T := TX2) (N := 14) 4 in_X2 rfl rfl (by decide) rfl q193 rfl d k
theorem mr_pr {i : Int} (d : decode cc pc = .ok (.iaload, 1)) (h : 0 ≤ i ∧ i < 16) (k : SV l D dA (wM dA ad) RX2 cc nL R K (pen, wd, lt, ln, pr, kd, sl, sp, tx, ty, lk, be, ma, cs) (pc + 1) lv (vI (pr i) :: st)) : SV l D dA (wM dA ad) RX2 cc nL R K (pen, wd, lt, ln, pr, kd, sl, sp, tx, ty, lk, be, ma, cs) pc lv (vI i :: .ref (ad 3) :: st) := s_iald (n := 16) 3 rfl h.1 h.2 (by decide) d k
theorem mw_pr {i v : Int} (d : decode cc pc = .ok (.iastore, 1)) (h : 0 ≤ i ∧ i < 16) (k : SV l D dA (wM dA ad) RX2 cc nL R K (pen, wd, lt, ln, upI pr i v, kd, sl, sp, tx, ty, lk, be, ma, cs) (pc + 1) lv st) : SV l D dA (wM dA ad) RX2 cc nL R K (pen, wd, lt, ln, pr, kd, sl, sp, tx, ty, lk, be, ma, cs) pc lv (vI v :: vI i :: .ref (ad 3) :: st) := s_iast (n := 16) 3 rfl h.1 h.2 (by decide) rfl d k
theorem mg_kd (d : decode cc pc = .ok (.getfield 19, 3)) (k : SV l D dA (wM dA ad) RX2 cc nL R K (pen, wd, lt, ln, pr, kd, sl, sp, tx, ty, lk, be, ma, cs) (pc + 3) lv (.ref (ad 4) :: st)) : SV l D dA (wM dA ad) RX2 cc nL R K (pen, wd, lt, ln, pr, kd, sl, sp, tx, ty, lk, be, ma, cs) pc lv (.ref (ad 0) :: st) := s_get (ci := 1) (T := TX2) (N := 14) 5 in_X2 rfl rfl (by decide) rfl q194 rfl d k
theorem mr_kd {i : Int} (d : decode cc pc = .ok (.iaload, 1)) (h : 0 ≤ i ∧ i < 16) (k : SV l D dA (wM dA ad) RX2 cc nL R K (pen, wd, lt, ln, pr, kd, sl, sp, tx, ty, lk, be, ma, cs) (pc + 1) lv (vI (kd i) :: st)) : SV l D dA (wM dA ad) RX2 cc nL R K (pen, wd, lt, ln, pr, kd, sl, sp, tx, ty, lk, be, ma, cs) pc lv (vI i :: .ref (ad 4) :: st) := s_iald (n := 16) 4 rfl h.1 h.2 (by decide) d k
theorem mw_kd {i v : Int} (d : decode cc pc = .ok (.iastore, 1)) (h : 0 ≤ i ∧ i < 16) (k : SV l D dA (wM dA ad) RX2 cc nL R K (pen, wd, lt, ln, pr, upI kd i v, sl, sp, tx, ty, lk, be, ma, cs) (pc + 1) lv st) : SV l D dA (wM dA ad) RX2 cc nL R K (pen, wd, lt, ln, pr, kd, sl, sp, tx, ty, lk, be, ma, cs) pc lv (vI v :: vI i :: .ref (ad 4) :: st) := s_iast (n := 16) 4 rfl h.1 h.2 (by decide) rfl d k
theorem mg_sl (d : decode cc pc = .ok (.getfield 22, 3)) (k : SV l D dA (wM dA ad) RX2 cc nL R K (pen, wd, lt, ln, pr, kd, sl, sp, tx, ty, lk, be, ma, cs) (pc + 3) lv (.ref (ad 5) :: st)) : SV l D dA (wM dA ad) RX2 cc nL R K (pen, wd, lt, ln, pr, kd, sl, sp, tx, ty, lk, be, ma, cs) pc lv (.ref (ad 0) :: st) := s_get (ci := 1) (T := TX2) (N := 14) 6 in_X2 rfl rfl (by decide) rfl q195 rfl d k
theorem mr_sl {i : Int} (d : decode cc pc = .ok (.iaload, 1)) (h : 0 ≤ i ∧ i < 5) (k : SV l D dA (wM dA ad) RX2 cc nL R K (pen, wd, lt, ln, pr, kd, sl, sp, tx, ty, lk, be, ma, cs) (pc + 1) lv (vI (sl i) :: st)) : SV l D dA (wM dA ad) RX2 cc nL R K (pen, wd, lt, ln, pr, kd, sl, sp, tx, ty, lk, be, ma, cs) pc lv (vI i :: .ref (ad 5) :: st) := s_iald (n := 5) 5 rfl h.1 h.2 (by decide) d k
theorem mw_sl {i v : Int} (d : decode cc pc = .ok (.iastore, 1)) (h : 0 ≤ i ∧ i < 5) (k : SV l D dA (wM dA ad) RX2 cc nL R K (pen, wd, lt, ln, pr, kd, upI sl i v, sp, tx, ty, lk, be, ma, cs) (pc + 1) lv st) : SV l D dA (wM dA ad) RX2 cc nL R K (pen, wd, lt, ln, pr, kd, sl, sp, tx, ty, lk, be, ma, cs) pc lv (vI v :: vI i :: .ref (ad 5) :: st) := s_iast (n := 5) 5 rfl h.1 h.2 (by decide) rfl d k
theorem mg_sp (d : decode cc pc = .ok (.getfield 35, 3)) (k : SV l D dA (wM dA ad) RX2 cc nL R K (pen, wd, lt, ln, pr, kd, sl, sp, tx, ty, lk, be, ma, cs) (pc + 3) lv (vI sp :: st)) : SV l D dA (wM dA ad) RX2 cc nL R K (pen, wd, lt, ln, pr, kd, sl, sp, tx, ty, lk, be, ma, cs) pc lv (.ref (ad 0) :: st) := s_get (ci := 1) (T := TX2) (N := 14) 7 in_X2 rfl rfl (by decide) rfl q196 rfl d k
theorem mp_sp {v : Int} (d : decode cc pc = .ok (.putfield 35, 3)) (k : SV l D dA (wM dA ad) RX2 cc nL R K (pen, wd, lt, ln, pr, kd, sl, v, tx, ty, lk, be, ma, cs) (pc + 3) lv st) : SV l D dA (wM dA ad) RX2 cc nL R K (pen, wd, lt, ln, pr, kd, sl, sp, tx, ty, lk, be, ma, cs) pc lv (vI v :: .ref (ad 0) :: st) := s_put (ci := 1) (T := TX2) (N := 14) (ty := .int) 7 in_X2 tyX2 tyX2_ok nmX2 rfl rfl (by decide) rfl q196 rfl (by decide +kernel) rfl rfl (Nat.le_of_ble_eq_true rfl) rfl d k
theorem mg_tx (d : decode cc pc = .ok (.getfield 25, 3)) (k : SV l D dA (wM dA ad) RX2 cc nL R K (pen, wd, lt, ln, pr, kd, sl, sp, tx, ty, lk, be, ma, cs) (pc + 3) lv (.ref (ad 6) :: st)) : SV l D dA (wM dA ad) RX2 cc nL R K (pen, wd, lt, ln, pr, kd, sl, sp, tx, ty, lk, be, ma, cs) pc lv (.ref (ad 0) :: st) := s_get (ci := 1) (T := TX2) (N := 14) 8 in_X2 rfl rfl (by decide) rfl q197 rfl d k
theorem mr_tx {i : Int} (d : decode cc pc = .ok (.iaload, 1)) (h : 0 ≤ i ∧ i < 12) (k : SV l D dA (wM dA ad) RX2 cc nL R K (pen, wd, lt, ln, pr, kd, sl, sp, tx, ty, lk, be, ma, cs) (pc + 1) lv (vI (tx i) :: st)) : SV l D dA (wM dA ad) RX2 cc nL R K (pen, wd, lt, ln, pr, kd, sl, sp, tx, ty, lk, be, ma, cs) pc lv (vI i :: .ref (ad 6) :: st) := s_iald (n := 12) 6 rfl h.1 h.2 (by decide) d k
theorem mw_tx {i v : Int} (d : decode cc pc = .ok (.iastore, 1)) (h : 0 ≤ i ∧ i < 12) (k : SV l D dA (wM dA ad) RX2 cc nL R K (pen, wd, lt, ln, pr, kd, sl, sp, upI tx i v, ty, lk, be, ma, cs) (pc + 1) lv st) : SV l D dA (wM dA ad) RX2 cc nL R K (pen, wd, lt, ln, pr, kd, sl, sp, tx, ty, lk, be, ma, cs) pc lv (vI v :: vI i :: .ref (ad 6) :: st) := s_iast (n := 12) 6 rfl h.1 h.2 (by decide) rfl d k
theorem mg_ty (d : decode cc pc = .ok (.getfield 49, 3)) (k : SV l D dA (wM dA ad) RX2 cc nL R K (pen, wd, lt, ln, pr, kd, sl, sp, tx, ty, lk, be, ma, cs) (pc + 3) lv (vI ty :: st)) : SV l D dA (wM dA ad) RX2 cc nL R K (pen, wd, lt, ln, pr, kd, sl, sp, tx, ty, lk, be, ma, cs) pc lv (.ref (ad 0) :: st) := s_get (ci := 1) (T := TX2) (N := 14) 9 in_X2 rfl rfl (by decide) rfl q198 rfl d k
theorem mp_ty {v : Int} (d : decode cc pc = .ok (.putfield 49, 3)) (k : SV l D dA (wM dA ad) RX2 cc nL R K (pen, wd, lt, ln, pr, kd, sl, sp, tx, v, lk, be, ma, cs) (pc + 3) lv st) : SV l D dA (wM dA ad) RX2 cc nL R K (pen, wd, lt, ln, pr, kd, sl, sp, tx, ty, lk, be, ma, cs) pc lv (vI v :: .ref (ad 0) :: st) := s_put (ci := 1) (T := TX2) (N := 14) (ty := .int) 9 in_X2 tyX2 tyX2_ok nmX2 rfl rfl (by decide) rfl q198 rfl (by decide +kernel) rfl rfl (Nat.le_of_ble_eq_true rfl) rfl d k
theorem mg_lk (d : decode cc pc = .ok (.getfield 28, 3)) (k : SV l D dA (wM dA ad) RX2 cc nL R K (pen, wd, lt, ln, pr, kd, sl, sp, tx, ty, lk, be, ma, cs) (pc + 3) lv (.ref (ad 7) :: st)) : SV l D dA (wM dA ad) RX2 cc nL R K (pen, wd, lt, ln, pr, kd, sl, sp, tx, ty, lk, be, ma, cs) pc lv (.ref (ad 0) :: st) := s_get (ci := 1) (T := TX2) (N := 14) 10 in_X2 rfl rfl (by decide) rfl q199 rfl d k
theorem mr_lk {i : Int} (d : decode cc pc = .ok (.iaload, 1)) (h : 0 ≤ i ∧ i < 16) (k : SV l D dA (wM dA ad) RX2 cc nL R K (pen, wd, lt, ln, pr, kd, sl, sp, tx, ty, lk, be, ma, cs) (pc + 1) lv (vI (lk i) :: st)) : SV l D dA (wM dA ad) RX2 cc nL R K (pen, wd, lt, ln, pr, kd, sl, sp, tx, ty, lk, be, ma, cs) pc lv (vI i :: .ref (ad 7) :: st) := s_iald (n := 16) 7 rfl h.1 h.2 (by decide) d k
theorem mw_lk {i v : Int} (d : decode cc pc = .ok (.iastore, 1)) (h : 0 ≤ i ∧ i < 16) (k : SV l D dA (wM dA ad) RX2 cc nL R K (pen, wd, lt, ln, pr, kd, sl, sp, tx, ty, upI lk i v, be, ma, cs) (pc + 1) lv st) : SV l D dA (wM dA ad) RX2 cc nL R K (pen, wd, lt, ln, pr, kd, sl, sp, tx, ty, lk, be, ma, cs) pc lv (vI v :: vI i :: .ref (ad 7) :: st) := s_iast (n := 16) 7 rfl h.1 h.2 (by decide) rfl d k
theorem mg_be (d : decode cc pc = .ok (.getfield 63, 3)) (k : SV l D dA (wM dA ad) RX2 cc nL R K (pen, wd, lt, ln, pr, kd, sl, sp, tx, ty, lk, be, ma, cs) (pc + 3) lv (vI be :: st)) : SV l D dA (wM dA ad) RX2 cc nL R K (pen, wd, lt, ln, pr, kd, sl, sp, tx, ty, lk, be, ma, cs) pc lv (.ref (ad 0) :: st) := s_get (ci := 1) (T := TX2) (N := 14) 11 in_X2 rfl rfl (by decide) rfl q200 rfl d k
theorem mp_be {v : Int} (d : decode cc pc = .ok (.putfield 63, 3)) (k : SV l D dA (wM dA ad) RX2 cc nL R K (pen, wd, lt, ln, pr, kd, sl, sp, tx, ty, lk, v, ma, cs) (pc + 3) lv st) : SV l D dA (wM dA ad) RX2 cc nL R K (pen, wd, lt, ln, pr, kd, sl, sp, tx, ty, lk, be, ma, cs) pc lv (vI v :: .ref (ad 0) :: st) := s_put (ci := 1) (T := TX2) (N := 14) (ty := .int) 11 in_X2 tyX2 tyX2_ok nmX2 rfl rfl (by decide) rfl q200 rfl (by decide +kernel) rfl rfl (Nat.le_of_ble_eq_true rfl) rfl d k
theorem mg_ma (d : decode cc pc = .ok (.getfield 66, 3)) (k : SV l D dA (wM dA ad) RX2 cc nL R K (pen, wd, lt, ln, pr, kd, sl, sp, tx, ty, lk, be, ma, cs) (pc + 3) lv (vI ma :: st)) : SV l D dA (wM dA ad) RX2 cc nL R K (pen, wd, lt, ln, pr, kd, sl, sp, tx, ty, lk, be, ma, cs) pc lv (.ref (ad 0) :: st) := s_get (ci := 1) (T := TX2) (N := 14) 12 in_X2 rfl rfl (by decide) rfl q201 rfl d k
theorem mp_ma {v : Int} (d : decode cc pc = .ok (.putfield 66, 3)) (k : SV l D dA (wM dA ad) RX2 cc nL R K (pen, wd, lt, ln, pr, kd, sl, sp, tx, ty, lk, be, v, cs) (pc + 3) lv st) : SV l D dA (wM dA ad) RX2 cc nL R K (pen, wd, lt, ln, pr, kd, sl, sp, tx, ty, lk, be, ma, cs) pc lv (vI v :: .ref (ad 0) :: st) := s_put (ci := 1) (T := TX2) (N := 14) (ty := .int) 12 in_X2 tyX2 tyX2_ok nmX2 rfl rfl (by decide) rfl q201 rfl (by decide +kernel) rfl rfl (Nat.le_of_ble_eq_true rfl) rfl d k
theorem mg_cs (d : decode cc pc = .ok (.getfield 69, 3)) (k : SV l D dA (wM dA ad) RX2 cc nL R K (pen, wd, lt, ln, pr, kd, sl, sp, tx, ty, lk, be, ma, cs) (pc + 3) lv (vI cs :: st)) : SV l D dA (wM dA ad) RX2 cc nL R K (pen, wd, lt, ln, pr, kd, sl, sp, tx, ty, lk, be, ma, cs) pc lv (.ref (ad 0) :: st) := s_get (ci := 1) (T := TX2) (N := 14) 13 in_X2 rfl rfl (by decide) rfl q202 rfl d k
theorem mp_cs {v : Int} (d : decode cc pc = .ok (.putfield 69, 3)) (k : SV l D dA (wM dA ad) RX2 cc nL R K (pen, wd, lt, ln, pr, kd, sl, sp, tx, ty, lk, be, ma, v) (pc + 3) lv st) : SV l D dA (wM dA ad) RX2 cc nL R K (pen, wd, lt, ln, pr, kd, sl, sp, tx, ty, lk, be, ma, cs) pc lv (vI v :: .ref (ad 0) :: st) := s_put (ci := 1) (T := TX2) (N := 14) (ty := .int) 13 in_X2 tyX2 tyX2_ok nmX2 rfl rfl (by decide) rfl q202 rfl (by decide +kernel) rfl rfl (Nat.le_of_ble_eq_true rfl) rfl d k
theorem mc_named {f : Nat} {post : Int → SM → Prop} (hM : MetI l D dA (wM dA ad) (ad 0) yX2_named (ws_ yX2_named cX2_named 2 (some .int)) (rmf f) [] (pen, wd, lt, ln, pr, kd, sl, sp, tx, ty, lk, be, ma, cs) post) (hR : f + 1 ≤ R.frames ∧ 8 + (2 + 11) + 32 * f ≤ R.locals) (hrest : (st.map fun v => v.category).sum ≤ 8) (d : decode cc pc = .ok (.invokevirtual 45, 3)) (kk : ∀ (r : Int) (u' : SM), post r u' → SV l D dA (wM dA ad) RX2 cc nL R K u' (pc + 3) lv (vI r :: st)) : SV l D dA (wM dA ad) RX2 cc nL R K (pen, wd, lt, ln, pr, kd, sl, sp, tx, ty, lk, be, ma, cs) pc lv (.ref (ad 0) :: st) := s_calli (ci := 1) (T := TX2) (N := 14) (n := 0) rfl rfl hM (lw_V q240 q242 qs12 q21 q243) (by decide +kernel) rfl hR rfl hrest d kk
theorem mc_begins {a0 : Int} {f : Nat} {post : Int → SM → Prop} (hM : MetI l D dA (wM dA ad) (ad 0) yX2_begins (ws_ yX2_begins cX2_begins 3 (some .boolean)) (rmf f) [vI a0] (pen, wd, lt, ln, pr, kd, sl, sp, tx, ty, lk, be, ma, cs) post) (hR : f + 1 ≤ R.frames ∧ 8 + (3 + 11) + 32 * f ≤ R.locals) (hrest : (st.map fun v => v.category).sum ≤ 8) (d : decode cc pc = .ok (.invokevirtual 41, 3)) (kk : ∀ (r : Int) (u' : SM), post r u' → SV l D dA (wM dA ad) RX2 cc nL R K u' (pc + 3) lv (vI r :: st)) : SV l D dA (wM dA ad) RX2 cc nL R K (pen, wd, lt, ln, pr, kd, sl, sp, tx, ty, lk, be, ma, cs) pc lv (vI a0 :: .ref (ad 0) :: st) := s_calli (ci := 1) (T := TX2) (N := 14) (n := 1) rfl rfl hM (lw_V q244 q246 qs13 q21 q247) (by decide +kernel) rfl hR rfl hrest d kk
theorem mc_look {f : Nat} {post : SM → Prop} (hM : MetV l D dA (wM dA ad) (ad 0) yX2_look (ws_ yX2_look cX2_look 4 none) (rmf f) [] (pen, wd, lt, ln, pr, kd, sl, sp, tx, ty, lk, be, ma, cs) post) (hR : f + 1 ≤ R.frames ∧ 8 + (4 + 11) + 32 * f ≤ R.locals) (hrest : (st.map fun v => v.category).sum ≤ 8) (d : decode cc pc = .ok (.invokevirtual 76, 3)) (kk : ∀ (u' : SM), post u' → SV l D dA (wM dA ad) RX2 cc nL R K u' (pc + 3) lv st) : SV l D dA (wM dA ad) RX2 cc nL R K (pen, wd, lt, ln, pr, kd, sl, sp, tx, ty, lk, be, ma, cs) pc lv (.ref (ad 0) :: st) := s_callv (ci := 1) (T := TX2) (N := 14) (n := 0) rfl rfl hM (lw_V q276 q278 qs14 q21 q279) (by decide +kernel) rfl hR rfl hrest d kk
theorem mc_costOf {a0 : Int} {f : Nat} {post : Int → SM → Prop} (hM : MetI l D dA (wM dA ad) (ad 0) yX2_costOf (ws_ yX2_costOf cX2_costOf 8 (some .int)) (rmf f) [vI a0] (pen, wd, lt, ln, pr, kd, sl, sp, tx, ty, lk, be, ma, cs) post) (hR : f + 1 ≤ R.frames ∧ 8 + (8 + 11) + 32 * f ≤ R.locals) (hrest : (st.map fun v => v.category).sum ≤ 8) (d : decode cc pc = .ok (.invokevirtual 72, 3)) (kk : ∀ (r : Int) (u' : SM), post r u' → SV l D dA (wM dA ad) RX2 cc nL R K u' (pc + 3) lv (vI r :: st)) : SV l D dA (wM dA ad) RX2 cc nL R K (pen, wd, lt, ln, pr, kd, sl, sp, tx, ty, lk, be, ma, cs) pc lv (vI a0 :: .ref (ad 0) :: st) := s_calli (ci := 1) (T := TX2) (N := 14) (n := 1) rfl rfl hM (lw_V q280 q282 qs15 q21 q283) (by decide +kernel) rfl hR rfl hrest d kk
theorem mc_border {a0 a1 : Int} {f : Nat} {post : Int → SM → Prop} (hM : MetI l D dA (wM dA ad) (ad 0) yX2_border (ws_ yX2_border cX2_border 3 (some .boolean)) (rmf f) [vI a0, vI a1] (pen, wd, lt, ln, pr, kd, sl, sp, tx, ty, lk, be, ma, cs) post) (hR : f + 1 ≤ R.frames ∧ 8 + (3 + 11) + 32 * f ≤ R.locals) (hrest : (st.map fun v => v.category).sum ≤ 8) (d : decode cc pc = .ok (.invokevirtual 56, 3)) (kk : ∀ (r : Int) (u' : SM), post r u' → SV l D dA (wM dA ad) RX2 cc nL R K u' (pc + 3) lv (vI r :: st)) : SV l D dA (wM dA ad) RX2 cc nL R K (pen, wd, lt, ln, pr, kd, sl, sp, tx, ty, lk, be, ma, cs) pc lv (vI a1 :: vI a0 :: .ref (ad 0) :: st) := s_calli (ci := 1) (T := TX2) (N := 14) (n := 2) rfl rfl hM (lw_V q284 q286 qs16 q21 q287) (by decide +kernel) rfl hR rfl hrest d kk
theorem mc_word {a0 a1 : Int} {f : Nat} {post : Int → SM → Prop} (hM : MetI l D dA (wM dA ad) (ad 0) yX2_word (ws_ yX2_word cX2_word 4 (some .int)) (rmf f) [vI a0, vI a1] (pen, wd, lt, ln, pr, kd, sl, sp, tx, ty, lk, be, ma, cs) post) (hR : f + 1 ≤ R.frames ∧ 8 + (4 + 11) + 32 * f ≤ R.locals) (hrest : (st.map fun v => v.category).sum ≤ 8) (d : decode cc pc = .ok (.invokevirtual 59, 3)) (kk : ∀ (r : Int) (u' : SM), post r u' → SV l D dA (wM dA ad) RX2 cc nL R K u' (pc + 3) lv (vI r :: st)) : SV l D dA (wM dA ad) RX2 cc nL R K (pen, wd, lt, ln, pr, kd, sl, sp, tx, ty, lk, be, ma, cs) pc lv (vI a1 :: vI a0 :: .ref (ad 0) :: st) := s_calli (ci := 1) (T := TX2) (N := 14) (n := 2) rfl rfl hM (lw_V q288 q290 qs17 q21 q291) (by decide +kernel) rfl hR rfl hrest d kk
theorem mc_stands {a0 a1 : Int} {f : Nat} {post : Int → SM → Prop} (hM : MetI l D dA (wM dA ad) (ad 0) yX2_stands (ws_ yX2_stands cX2_stands 4 (some .boolean)) (rmf f) [vI a0, vI a1] (pen, wd, lt, ln, pr, kd, sl, sp, tx, ty, lk, be, ma, cs) post) (hR : f + 1 ≤ R.frames ∧ 8 + (4 + 11) + 32 * f ≤ R.locals) (hrest : (st.map fun v => v.category).sum ≤ 8) (d : decode cc pc = .ok (.invokevirtual 52, 3)) (kk : ∀ (r : Int) (u' : SM), post r u' → SV l D dA (wM dA ad) RX2 cc nL R K u' (pc + 3) lv (vI r :: st)) : SV l D dA (wM dA ad) RX2 cc nL R K (pen, wd, lt, ln, pr, kd, sl, sp, tx, ty, lk, be, ma, cs) pc lv (vI a1 :: vI a0 :: .ref (ad 0) :: st) := s_calli (ci := 1) (T := TX2) (N := 14) (n := 2) rfl rfl hM (lw_V q292 q294 qs18 q21 q295) (by decide +kernel) rfl hR rfl hrest d kk
end WORLDm
end
section
/-! PURE: the tree of letters in two arrays -/
def lst (g : Int → Int) : Int → Nat → List Int
  | _, 0 => []
  | o, n + 1 => g o :: lst g (o + 1) n
theorem lst_length (g : Int → Int) : ∀ (n : Nat) (o : Int), (lst g o n).length = n := by
  intro n
  induction n with
  | zero => intro o; rfl
  | succ n ih => intro o; simp [lst, ih]
theorem lst_snoc (g : Int → Int) : ∀ (n : Nat) (o : Int), lst g o (n + 1) = lst g o n ++ [g (o + n)] := by
  intro n
  induction n with
  | zero => intro o; simp [lst]
  | succ n ih =>
    intro o
    rw [lst, ih (o + 1), lst]
    simp only [List.cons_append]
    congr 3
    rw [show o + 1 + (n : Int) = o + ((n + 1 : Nat) : Int) by omega]
theorem lst_congr {g h : Int → Int} : ∀ (n : Nat) (o : Int), (∀ i, o ≤ i → i < o + n → g i = h i) → lst g o n = lst h o n := by
  intro n
  induction n with
  | zero => intro o _; rfl
  | succ n ih =>
    intro o hh
    rw [lst, lst, hh o (by omega) (by omega), ih (o + 1) (fun i h1 h2 => hh i (by omega) (by omega))]
theorem lst_app (g : Int → Int) : ∀ (n m : Nat) (o : Int), lst g o (n + m) = lst g o n ++ lst g (o + n) m := by
  intro n
  induction n with
  | zero => intro m o; simp [lst]
  | succ n ih =>
    intro m o
    rw [show n + 1 + m = (n + m) + 1 by omega, lst, lst, ih m (o + 1)]
    simp only [List.cons_append]
    rw [show o + 1 + (n : Int) = o + ((n + 1 : Nat) : Int) by omega]
/-- the child of a state by a letter, -1 if there is none -/
def chP (ba ch : Int → Int) (s c : Int) : Int := if ch (ba s + c + 1) = s then ba s + c + 1 else -1
/-- the state that the letters lead to -/
def wk (ba ch : Int → Int) : Int → List Int → Int
  | s, [] => s
  | s, c :: cs => if s < 0 then s else wk ba ch (chP ba ch s c) cs
abbrev live (ch : Int → Int) (s : Int) : Prop := 0 ≤ s ∧ s < 512 ∧ 0 ≤ ch s
def Rg (ba ch : Int → Int) : Prop := ∀ x, 0 ≤ x → x < 512 → 0 ≤ ba x ∧ ba x ≤ 500 ∧ -1 ≤ ch x ∧ ch x < 512
def GI (B : Int → Int → Int) (ch : Int → Int) (pth : Int → List Int) : Prop :=
  ch 0 = 0 ∧ pth 0 = [] ∧
  (∀ s, 0 < s → s < 512 → 0 ≤ ch s → ch s < 512 ∧ 0 ≤ ch (ch s) ∧ ∃ c, 0 ≤ c ∧ c < 4 ∧ s = B (ch s) c + c + 1 ∧ pth s = pth (ch s) ++ [c]) ∧
  (∀ s t, live ch s → live ch t → pth s = pth t → s = t)
def AT1 (co ki wo : Int → Int) (pth : Int → List Int) (DC DK CN : List Int → Int) (s : Int) : Prop := co s = DC (pth s) ∧ (0 ≤ DC (pth s) → ki s = DK (pth s)) ∧ wo s = CN (pth s)
def LV (ch : Int → Int) (pth : Int → List Int) (L : List Int → Prop) : Prop := ∀ q, (∃ s, live ch s ∧ pth s = q) ↔ L q
def TI (ba ch co ki wo : Int → Int) (pth : Int → List Int) (DC DK CN : List Int → Int) (L : List Int → Prop) : Prop :=
  Rg ba ch ∧ GI (fun s _ => ba s) ch pth ∧ (∀ s, live ch s → AT1 co ki wo pth DC DK CN s) ∧ LV ch pth L
theorem GI.congr {B B' : Int → Int → Int} {ch : Int → Int} {pth : Int → List Int} (h : GI B ch pth) (hB : ∀ s c, live ch s → 0 ≤ c → c < 4 → (∃ t, live ch t ∧ pth t = pth s ++ [c]) → B s c = B' s c) : GI B' ch pth := by
  obtain ⟨h0, h1, h2, h3⟩ := h
  refine ⟨h0, h1, fun s a b d => ?_, h3⟩
  obtain ⟨e1, e2, c, e3, e4, e5, e6⟩ := h2 s a b d
  refine ⟨e1, e2, c, e3, e4, ?_, e6⟩
  rw [← hB (ch s) c ⟨d, e1, e2⟩ e3 e4 ⟨s, ⟨by omega, b, d⟩, e6⟩]
  exact e5
theorem GI.root {B : Int → Int → Int} {ch : Int → Int} {pth : Int → List Int} (h : GI B ch pth) : live ch 0 := ⟨by omega, by omega, by rw [h.1]; omega⟩
/-- a live cell with a path of this form is a child of the state -/
theorem GI.kid {B : Int → Int → Int} {ch : Int → Int} {pth : Int → List Int} (h : GI B ch pth) {s t c : Int} (hs : live ch s) (ht : live ch t) (hp : pth t = pth s ++ [c]) : ch t = s ∧ 0 ≤ c ∧ c < 4 ∧ t = B s c + c + 1 ∧ 0 < t := by
  obtain ⟨h0, h1, h2, h3⟩ := h
  have ht0 : t ≠ 0 := by
    intro e
    rw [e, h1] at hp
    have := congrArg List.length hp
    simp at this
  obtain ⟨e1, e2, c', e3, e4, e5, e6⟩ := h2 t (by omega) ht.2.1 ht.2.2
  rw [e6] at hp
  have hl := List.append_inj' hp rfl
  have hc : c' = c := by simpa using hl.2
  have hs' := h3 _ _ ⟨ht.2.2, e1, e2⟩ hs hl.1
  subst hc
  rw [hs'] at e5
  exact ⟨hs', e3, e4, e5, by omega⟩
theorem chP_pos {ba ch : Int → Int} {pth : Int → List Int} (hR : Rg ba ch) (h : GI (fun s _ => ba s) ch pth) {s c : Int} (hs : live ch s) (hc : 0 ≤ c ∧ c < 4) (hp : 0 ≤ chP ba ch s c) : live ch (chP ba ch s c) ∧ 0 < chP ba ch s c ∧ pth (chP ba ch s c) = pth s ++ [c] ∧ ch (chP ba ch s c) = s := by
  unfold chP at hp ⊢
  by_cases hh : ch (ba s + c + 1) = s
  · rw [if_pos hh]
    have hr := hR s hs.1 hs.2.1
    have hl : live ch (ba s + c + 1) := ⟨by omega, by omega, by rw [hh]; exact hs.1⟩
    obtain ⟨e1, e2, c', e3, e4, e5, e6⟩ := h.2.2.1 (ba s + c + 1) (by omega) (by omega) hl.2.2
    rw [hh] at e5 e6
    have e5 : ba s + c + 1 = ba s + c' + 1 := e5
    have : c' = c := by omega
    subst this
    exact ⟨hl, by omega, e6, hh⟩
  · rw [if_neg hh] at hp
    omega
theorem chP_neg {ba ch : Int → Int} {pth : Int → List Int} (h : GI (fun s _ => ba s) ch pth) {s c : Int} (hs : live ch s) (hp : chP ba ch s c < 0) : ∀ t, live ch t → pth t ≠ pth s ++ [c] := by
  intro t ht e
  obtain ⟨e1, e2, e3, e4, e5⟩ := h.kid hs ht e
  unfold chP at hp
  rw [← e4, if_pos e1] at hp
  omega
theorem chP_of {ba ch : Int → Int} {pth : Int → List Int} (h : GI (fun s _ => ba s) ch pth) {s t c : Int} (hs : live ch s) (ht : live ch t) (e : pth t = pth s ++ [c]) : chP ba ch s c = t := by
  obtain ⟨e1, e2, e3, e4, e5⟩ := h.kid hs ht e
  unfold chP
  rw [← e4, if_pos e1]
theorem chP_rg {ba ch : Int → Int} (hR : Rg ba ch) {s c : Int} (hs : 0 ≤ s ∧ s < 512) (hc : 0 ≤ c ∧ c < 4) : -1 ≤ chP ba ch s c ∧ chP ba ch s c < 512 := by
  have hr := hR s hs.1 hs.2
  unfold chP
  by_cases hh : ch (ba s + c + 1) = s
  · rw [if_pos hh]; omega
  · rw [if_neg hh]; omega
theorem GI.anc {B : Int → Int → Int} {ch : Int → Int} {pth : Int → List Int} (h : GI B ch pth) : ∀ (n : Nat) (r q : List Int) (t : Int), r.length = n → live ch t → pth t = q ++ r → ∃ t', live ch t' ∧ pth t' = q := by
  intro n
  induction n with
  | zero =>
    intro r q t hn ht hp
    have : r = [] := List.eq_nil_of_length_eq_zero hn
    subst this
    exact ⟨t, ht, by simpa using hp⟩
  | succ n ih =>
    intro r q t hn ht hp
    have hne : r ≠ [] := by intro e; rw [e] at hn; simp at hn
    have hd : r = r.dropLast ++ [r.getLast hne] := (List.dropLast_concat_getLast hne).symm
    have ht0 : t ≠ 0 := by
      intro e
      rw [e, h.2.1] at hp
      have := congrArg List.length hp
      simp at this
      omega
    obtain ⟨e1, e2, c', e3, e4, e5, e6⟩ := h.2.2.1 t (by have := ht.1; omega) ht.2.1 ht.2.2
    rw [e6, hd, ← List.append_assoc] at hp
    have hl := List.append_inj' hp rfl
    exact ih r.dropLast q (ch t) (by simp [hn]) ⟨ht.2.2, e1, e2⟩ hl.1
theorem wk_spec {ba ch : Int → Int} {pth : Int → List Int} (hR : Rg ba ch) (h : GI (fun s _ => ba s) ch pth) : ∀ (p : List Int) (s : Int), (∀ c ∈ p, 0 ≤ c ∧ c < 4) → live ch s → (0 ≤ wk ba ch s p ∧ live ch (wk ba ch s p) ∧ pth (wk ba ch s p) = pth s ++ p) ∨ (wk ba ch s p = -1 ∧ ∀ t, live ch t → pth t ≠ pth s ++ p) := by
  intro p
  induction p with
  | nil =>
    intro s _ hs
    left
    exact ⟨hs.1, hs, by simp [wk]⟩
  | cons c cs ih =>
    intro s hc hs
    have hc0 := hc c List.mem_cons_self
    have hs0 : ¬ s < 0 := by have := hs.1; omega
    rw [wk, if_neg hs0]
    by_cases hp : 0 ≤ chP ba ch s c
    · obtain ⟨a1, a2, a3, a4⟩ := chP_pos hR h hs hc0 hp
      rcases ih (chP ba ch s c) (fun x hx => hc x (List.mem_cons_of_mem _ hx)) a1 with ⟨b1, b2, b3⟩ | ⟨b1, b2⟩
      · left
        exact ⟨b1, b2, by rw [b3, a3]; simp⟩
      · right
        exact ⟨b1, fun t ht e => b2 t ht (by rw [e, a3]; simp)⟩
    · right
      have hlt : chP ba ch s c < 0 := by omega
      have hm : chP ba ch s c = -1 := by
        unfold chP at hlt ⊢
        by_cases hh : ch (ba s + c + 1) = s
        · rw [if_pos hh] at hlt
          have := hR s hs.1 hs.2.1
          omega
        · rw [if_neg hh]
      have hw : ∀ l : List Int, wk ba ch (-1) l = -1 := by
        intro l
        cases l with
        | nil => rfl
        | cons x xs => rw [wk, if_pos (by omega)]
      rw [hm, hw]
      refine ⟨rfl, fun t ht e => ?_⟩
      obtain ⟨t', ht', et⟩ := h.anc cs.length cs (pth s ++ [c]) t rfl ht (by rw [e]; simp)
      exact chP_neg h hs hlt t' ht' et
theorem wk_rg {ba ch : Int → Int} (hR : Rg ba ch) : ∀ (p : List Int) (s : Int), (∀ c ∈ p, 0 ≤ c ∧ c < 4) → -1 ≤ s → s < 512 → -1 ≤ wk ba ch s p ∧ wk ba ch s p < 512 := by
  intro p
  induction p with
  | nil => intro s _ h1 h2; exact ⟨h1, h2⟩
  | cons c cs ih =>
    intro s hc h1 h2
    rw [wk]
    by_cases hs : s < 0
    · rw [if_pos hs]; exact ⟨h1, h2⟩
    · rw [if_neg hs]
      have := chP_rg hR (s := s) (c := c) ⟨by omega, h2⟩ (hc c List.mem_cons_self)
      exact ih _ (fun x hx => hc x (List.mem_cons_of_mem _ hx)) this.1 this.2
/-- how many cells below n are taken -/
def cntN (ch : Int → Int) : Nat → Nat
  | 0 => 0
  | n + 1 => cntN ch n + (if 0 ≤ ch (n : Int) then 1 else 0)
theorem cntN_s (ch : Int → Int) (n : Nat) : cntN ch (n + 1) = cntN ch n + (if 0 ≤ ch (n : Int) then 1 else 0) := rfl
theorem cntN_mono {ch ch' : Int → Int} : ∀ n : Nat, (∀ x : Nat, x < n → 0 ≤ ch' x → 0 ≤ ch x) → cntN ch' n ≤ cntN ch n := by
  intro n
  induction n with
  | zero => intro _; exact Nat.le_refl _
  | succ n ih =>
    intro h
    have h1 := ih (fun x hx => h x (by omega))
    have h2 := h n (by omega)
    unfold cntN
    by_cases a : 0 ≤ ch' n
    · rw [if_pos a, if_pos (h2 a)]; omega
    · rw [if_neg a]; omega
theorem cntN_congr {ch ch' : Int → Int} (n : Nat) (h : ∀ x : Nat, x < n → (0 ≤ ch' x ↔ 0 ≤ ch x)) : cntN ch' n = cntN ch n :=
  Nat.le_antisymm (cntN_mono n (fun x hx => (h x hx).mp)) (cntN_mono n (fun x hx => (h x hx).mpr))
theorem cntN_add {ch ch' : Int → Int} (x0 : Nat) (hd : ch x0 < 0) (hl : 0 ≤ ch' x0) : ∀ n : Nat, (∀ x : Nat, x < n → x ≠ x0 → (0 ≤ ch' x ↔ 0 ≤ ch x)) → cntN ch' n = cntN ch n + (if x0 < n then 1 else 0) := by
  intro n
  induction n with
  | zero => intro _; simp [cntN]
  | succ n ih =>
    intro h
    have h1 := ih (fun x hx => h x (by omega))
    unfold cntN
    rw [h1]
    by_cases hx : n = x0
    · subst hx
      rw [if_pos hl, if_neg (by omega : ¬ 0 ≤ ch (n : Int)), if_neg (by omega : ¬ n < n), if_pos (by omega : n < n + 1)]
    · have h2 := h n (by omega) hx
      by_cases a : 0 ≤ ch' n
      · rw [if_pos a, if_pos (h2.mp a)]
        by_cases b : x0 < n
        · rw [if_pos b, if_pos (by omega)]
        · rw [if_neg b, if_neg (by omega)]
      · rw [if_neg a, if_neg (fun z => a (h2.mpr z))]
        by_cases b : x0 < n
        · rw [if_pos b, if_pos (by omega)]
        · rw [if_neg b, if_neg (by omega)]
theorem cntN_block {ch : Int → Int} {x : Nat} : ∀ (n : Nat), x < n → 0 ≤ ch (x : Int) → 1 + cntN ch x ≤ cntN ch n := by
  intro n
  induction n with
  | zero => intro h; omega
  | succ n ih =>
    intro h hx
    rw [cntN_s]
    by_cases e : x = n
    · subst e
      rw [if_pos hx]; omega
    · have := ih (by omega) hx
      omega
theorem cntN_le {ch : Int → Int} : ∀ (n m : Nat), n ≤ m → cntN ch n ≤ cntN ch m := by
  intro n m h
  induction m with
  | zero => have : n = 0 := by omega
            subst this; exact Nat.le_refl _
  | succ m ih =>
    by_cases e : n = m + 1
    · subst e; exact Nat.le_refl _
    · have := ih (by omega)
      rw [cntN_s]
      omega
/-- while at most 124 cells are taken, some base below 500 has its four cells free -/
theorem base_free {ch : Int → Int} (hc : cntN ch 512 ≤ 124) : ∃ b : Int, 0 ≤ b ∧ b < 500 ∧ ∀ c : Int, 0 ≤ c → c < 4 → ch (b + c + 1) < 0 := by
  apply Classical.byContradiction
  intro hno
  have key : ∀ j : Nat, j ≤ 125 → j ≤ cntN ch (4 * j + 1) := by
    intro j
    induction j with
    | zero => intro _; omega
    | succ j ih =>
      intro hj
      have h1 := ih (by omega)
      apply Classical.byContradiction
      intro hlt
      apply hno
      refine ⟨4 * (j : Int), by omega, by omega, fun c h0 h4 => ?_⟩
      apply Classical.byContradiction
      intro hh
      have hx : 0 ≤ ch (((4 * j + c.toNat + 1 : Nat) : Int)) := by
        rw [show ((4 * j + c.toNat + 1 : Nat) : Int) = 4 * (j : Int) + c + 1 by omega]
        omega
      have h2 := cntN_block (x := 4 * j + c.toNat + 1) (4 * (j + 1) + 1) (by omega) hx
      have h3 := cntN_le (ch := ch) (4 * j + 1) (4 * j + c.toNat + 1) (by omega)
      omega
  have h1 := key 125 (by omega)
  have h2 := cntN_le (ch := ch) (4 * 125 + 1) 512 (by omega)
  omega
end
section
/-! PURE: moving a state, its children, adding a child -/
def rpl (b fr to : Int) : Nat → Int → (Int → Int) → (Int → Int)
  | 0, _, ch => ch
  | n + 1, c, ch => rpl b fr to n (c + 1) (if ch (b + c) = fr then upI ch (b + c) to else ch)
theorem rpl_at (b fr to : Int) : ∀ (n : Nat) (c : Int) (ch : Int → Int) (x : Int), rpl b fr to n c ch x = if b + c ≤ x ∧ x < b + c + n ∧ ch x = fr then to else ch x := by
  intro n
  induction n with
  | zero =>
    intro c ch x
    rw [rpl, if_neg (by omega)]
  | succ n ih =>
    intro c ch x
    rw [rpl, ih]
    by_cases hx : x = b + c
    · subst hx
      rw [if_neg (by omega)]
      by_cases hh : ch (b + c) = fr
      · rw [if_pos hh, upI_s, if_pos ⟨by omega, by omega, hh⟩]
      · rw [if_neg hh, if_neg (by intro a; exact hh a.2.2)]
    · have e : (if ch (b + c) = fr then upI ch (b + c) to else ch) x = ch x := by
        by_cases hh : ch (b + c) = fr
        · rw [if_pos hh, upI_n hx]
        · rw [if_neg hh]
      rw [e]
      by_cases a : b + (c + 1) ≤ x ∧ x < b + (c + 1) + (n : Int) ∧ ch x = fr
      · rw [if_pos a, if_pos ⟨by omega, by omega, a.2.2⟩]
      · rw [if_neg a, if_neg (by intro z; exact a ⟨by omega, by omega, z.2.2⟩)]
theorem rpl_rg {b fr to : Int} {n : Nat} {c : Int} {ch : Int → Int} (hto : 0 ≤ to ∧ to < 512) (h : ∀ x, 0 ≤ x → x < 512 → -1 ≤ ch x ∧ ch x < 512) : ∀ x, 0 ≤ x → x < 512 → -1 ≤ rpl b fr to n c ch x ∧ rpl b fr to n c ch x < 512 := by
  intro x h0 h1
  rw [rpl_at]
  have := h x h0 h1
  by_cases a : b + c ≤ x ∧ x < b + c + (n : Int) ∧ ch x = fr
  · rw [if_pos a]; omega
  · rw [if_neg a]; exact this
def mvP (pth : Int → List Int) (fr to : Int) : Int → List Int := fun x => if x = to then pth fr else pth x
section MVS
variable {B B' : Int → Int → Int} {ch ch' : Int → Int} {pth : Int → List Int} {st c fr to : Int}
theorem move_live (hst : live ch st) (hfr : live ch fr) (hto : 0 ≤ to ∧ to < 512 ∧ ch to < 0) (hch : ∀ x, 0 ≤ x → x < 512 → ch' x = if x = fr then -1 else if x = to then st else if ch x = fr then to else ch x) : ∀ x, live ch' x ↔ (x = to ∨ (x ≠ fr ∧ live ch x)) := by
  have hne : to ≠ fr := by intro e; rw [e] at hto; have := hfr.2.2; omega
  intro x
  constructor
  · rintro ⟨a, b, e⟩
    rw [hch x a b] at e
    by_cases h1 : x = fr
    · rw [if_pos h1] at e; omega
    · rw [if_neg h1] at e
      by_cases h2 : x = to
      · exact Or.inl h2
      · rw [if_neg h2] at e
        by_cases h3 : ch x = fr
        · exact Or.inr ⟨h1, a, b, by rw [h3]; exact hfr.1⟩
        · rw [if_neg h3] at e
          exact Or.inr ⟨h1, a, b, e⟩
  · rintro (rfl | ⟨h1, a, b, e⟩)
    · refine ⟨hto.1, hto.2.1, ?_⟩
      rw [hch x hto.1 hto.2.1, if_neg hne, if_pos rfl]
      exact hst.1
    · refine ⟨a, b, ?_⟩
      rw [hch x a b, if_neg h1]
      by_cases h2 : x = to
      · rw [if_pos h2]; exact hst.1
      · rw [if_neg h2]
        by_cases h3 : ch x = fr
        · rw [if_pos h3]; exact hto.1
        · rw [if_neg h3]; exact e
theorem move_step (h : GI B ch pth) (hst : live ch st) (hfr : live ch fr) (hpf : pth fr = pth st ++ [c]) (hc : 0 ≤ c ∧ c < 4) (hto : 0 ≤ to ∧ to < 512 ∧ ch to < 0) (hch : ∀ x, 0 ≤ x → x < 512 → ch' x = if x = fr then -1 else if x = to then st else if ch x = fr then to else ch x)
    (hB1 : to = B' st c + c + 1) (hB2 : ∀ k, 0 ≤ k → k < 4 → B' to k = B fr k) (hB3 : ∀ s k, live ch s → s ≠ fr → ¬ (s = st ∧ k = c) → B' s k = B s k) : GI B' ch' (mvP pth fr to) := by
  have hlive := move_live hst hfr hto hch
  have hk := h.kid hst hfr hpf
  obtain ⟨h0, h1, h2, h3⟩ := h
  have nef : to ≠ fr := by intro e; rw [e] at hto; have := hfr.2.2; omega
  have nes : to ≠ st := by intro e; rw [e] at hto; have := hst.2.2; omega
  have sf : st ≠ fr := by
    intro e
    rw [e] at hpf
    have := congrArg List.length hpf
    simp at this
  have to0 : to ≠ 0 := by intro e; rw [e, h0] at hto; omega
  have fr0 : 0 < fr := hk.2.2.2.2
  refine ⟨?_, ?_, ?_, ?_⟩
  · rw [hch 0 (by omega) (by omega), if_neg (by omega), if_neg (by omega), h0, if_neg (by omega)]
  · unfold mvP
    rw [if_neg (by omega)]
    exact h1
  · intro s a b d
    rcases (hlive s).mp ⟨by omega, b, d⟩ with e | ⟨e1, e2⟩
    · subst e
      have e3 : ch' s = st := by rw [hch s (by omega) b, if_neg nef, if_pos rfl]
      rw [e3]
      refine ⟨hst.2.1, ((hlive st).mpr (Or.inr ⟨sf, hst⟩)).2.2, c, hc.1, hc.2, hB1, ?_⟩
      unfold mvP
      rw [if_pos rfl, if_neg (fun z => nes z.symm)]
      exact hpf
    · by_cases hs : s = to
      · exact absurd e2.2.2 (by rw [hs]; omega)
      · obtain ⟨g1, g2, k, g3, g4, g5, g6⟩ := h2 s a b e2.2.2
        have e3 := hch s (by omega) b
        rw [if_neg e1, if_neg hs] at e3
        by_cases h4 : ch s = fr
        · rw [if_pos h4] at e3
          rw [e3]
          rw [h4] at g5 g6
          refine ⟨hto.2.1, ((hlive to).mpr (Or.inl rfl)).2.2, k, g3, g4, by rw [hB2 k g3 g4]; exact g5, ?_⟩
          unfold mvP
          rw [if_neg hs, if_pos rfl]
          exact g6
        · rw [if_neg h4] at e3
          rw [e3]
          have lp : live ch (ch s) := ⟨e2.2.2, g1, g2⟩
          refine ⟨g1, ((hlive (ch s)).mpr (Or.inr ⟨h4, lp⟩)).2.2, k, g3, g4, ?_, ?_⟩
          · rw [hB3 (ch s) k lp h4 ?_]
            · exact g5
            · rintro ⟨z1, z2⟩
              rw [z1, z2] at g5
              exact e1 (by rw [g5]; exact hk.2.2.2.1.symm)
          · unfold mvP
            rw [if_neg hs, if_neg (fun z => by rw [z] at g2; omega)]
            exact g6
  · intro s t hs ht e
    unfold mvP at e
    rcases (hlive s).mp hs with a | ⟨a1, a2⟩
    · rcases (hlive t).mp ht with b | ⟨b1, b2⟩
      · rw [a, b]
      · have tt : t ≠ to := by intro z; rw [z] at b2; have := b2.2.2; omega
        rw [if_pos a, if_neg tt] at e
        exact absurd (h3 _ _ hfr b2 e).symm b1
    · have ss : s ≠ to := by intro z; rw [z] at a2; have := a2.2.2; omega
      rw [if_neg ss] at e
      rcases (hlive t).mp ht with b | ⟨b1, b2⟩
      · rw [if_pos b] at e
        exact absurd (h3 _ _ a2 hfr e) a1
      · have tt : t ≠ to := by intro z; rw [z] at b2; have := b2.2.2; omega
        rw [if_neg tt] at e
        exact h3 _ _ a2 b2 e
theorem move_LV {L : List Int → Prop} (hst : live ch st) (hfr : live ch fr) (hto : 0 ≤ to ∧ to < 512 ∧ ch to < 0) (hch : ∀ x, 0 ≤ x → x < 512 → ch' x = if x = fr then -1 else if x = to then st else if ch x = fr then to else ch x) (h : LV ch pth L) : LV ch' (mvP pth fr to) L := by
  have hlive := move_live hst hfr hto hch
  intro q
  rw [← h q]
  constructor
  · rintro ⟨s, hs, e⟩
    unfold mvP at e
    rcases (hlive s).mp hs with a | ⟨a1, a2⟩
    · rw [if_pos a] at e
      exact ⟨fr, hfr, e⟩
    · rw [if_neg (by intro z; rw [z] at a2; have := a2.2.2; omega)] at e
      exact ⟨s, a2, e⟩
  · rintro ⟨s, hs, e⟩
    by_cases a : s = fr
    · refine ⟨to, (hlive to).mpr (Or.inl rfl), ?_⟩
      unfold mvP
      rw [if_pos rfl, ← a]
      exact e
    · refine ⟨s, (hlive s).mpr (Or.inr ⟨a, hs⟩), ?_⟩
      unfold mvP
      rw [if_neg (by intro z; rw [z] at hs; have := hs.2.2; omega)]
      exact e
theorem move_cnt (hst : live ch st) (hfr : live ch fr) (hto : 0 ≤ to ∧ to < 512 ∧ ch to < 0) (hch : ∀ x, 0 ≤ x → x < 512 → ch' x = if x = fr then -1 else if x = to then st else if ch x = fr then to else ch x) : cntN ch' 512 = cntN ch 512 := by
  have hlive := move_live hst hfr hto hch
  have nef : to ≠ fr := by intro e; rw [e] at hto; have := hfr.2.2; omega
  have e1 := cntN_add (ch := ch) (ch' := fun x => if x = to then 0 else ch x) to.toNat (by rw [Int.toNat_of_nonneg hto.1]; exact hto.2.2) (by rw [Int.toNat_of_nonneg hto.1]; simp) 512 (fun x hx hn => by
    show (0 ≤ (if (x : Int) = to then 0 else ch x)) ↔ _
    rw [if_neg (by omega)])
  have e2 := cntN_add (ch := ch') (ch' := fun x => if x = to then 0 else ch x) fr.toNat (by
      rw [Int.toNat_of_nonneg hfr.1]
      have := (hlive fr).mp
      apply Classical.byContradiction
      intro z
      rcases (hlive fr).mp ⟨hfr.1, hfr.2.1, by omega⟩ with a | ⟨a, -⟩
      · exact nef a.symm
      · exact a rfl) (by
      rw [Int.toNat_of_nonneg hfr.1]
      show 0 ≤ (if fr = to then 0 else ch fr)
      rw [if_neg (fun z => nef z.symm)]
      exact hfr.2.2) 512 (fun x hx hn => by
    show (0 ≤ (if (x : Int) = to then 0 else ch x)) ↔ _
    have h1 := hlive (x : Int)
    by_cases a : (x : Int) = to
    · rw [if_pos a]
      exact ⟨fun _ => (h1.mpr (Or.inl a)).2.2, fun _ => by omega⟩
    · rw [if_neg a]
      constructor
      · intro z
        exact (h1.mpr (Or.inr ⟨by omega, by omega, by omega, z⟩)).2.2
      · intro z
        rcases h1.mp ⟨by omega, by omega, z⟩ with b | ⟨-, b⟩
        · exact absurd b a
        · exact b.2.2)
  have q1 := hto.1
  have q2 := hto.2.1
  have q3 := hfr.1
  have q4 := hfr.2.1
  rw [if_pos (by omega)] at e1 e2
  omega
end MVS
def shrI (s c : Int) : Int := ((s.toNat >>> c.toNat : Nat) : Int)
def bitI (s c : Int) : Int := (((s.toNat >>> c.toNat) % 2 : Nat) : Int)
def orI (s t : Int) : Int := ((s.toNat ||| t.toNat : Nat) : Int)
def pwI (c : Int) : Int := ((1 <<< c.toNat : Nat) : Int)
theorem fin_of {x : Int} {n : Nat} (h : 0 ≤ x ∧ x < n) : ∃ k : Fin n, x = (k.val : Int) := ⟨⟨x.toNat, by omega⟩, by simp [Int.toNat_of_nonneg h.1]⟩
set_option maxRecDepth 100000 in
theorem shr_fin : ∀ (s : Fin 16) (c : Fin 4), ((iI (s.val : Int)).toUInt32 >>> ((iI (c.val : Int)).toUInt32 &&& Int32.toUInt32 31)).toInt32 = iI (shrI s.val c.val) := by decide +kernel
set_option maxRecDepth 100000 in
theorem and1_fin : ∀ (s : Fin 16) (c : Fin 4), iI (shrI s.val c.val) &&& iI 1 = iI (bitI s.val c.val) := by decide +kernel
set_option maxRecDepth 100000 in
theorem or_fin : ∀ (s t : Fin 16), iI (s.val : Int) ||| iI (t.val : Int) = iI (orI s.val t.val) ∧ 0 ≤ orI s.val t.val ∧ orI s.val t.val < 16 := by decide +kernel
set_option maxRecDepth 100000 in
theorem shl_fin : ∀ (c : Fin 4), iI 1 <<< (iI (c.val : Int) &&& 31) = iI (pwI c.val) ∧ 0 ≤ pwI c.val ∧ pwI c.val < 16 := by decide +kernel
set_option maxRecDepth 100000 in
theorem bit_fin : ∀ (s : Fin 16) (c j : Fin 4), bitI (orI s.val (pwI c.val)) j.val = if j = c then 1 else bitI s.val j.val := by decide +kernel
set_option maxRecDepth 100000 in
theorem bit01_fin : ∀ (s : Fin 16) (j : Fin 4), bitI s.val j.val = 0 ∨ bitI s.val j.val = 1 := by decide +kernel
theorem shr_ok {s c : Int} (hs : 0 ≤ s ∧ s < 16) (hc : 0 ≤ c ∧ c < 4) : ((iI s).toUInt32 >>> ((iI c).toUInt32 &&& Int32.toUInt32 31)).toInt32 = iI (shrI s c) := by
  obtain ⟨a, rfl⟩ := fin_of (n := 16) hs
  obtain ⟨b, rfl⟩ := fin_of (n := 4) hc
  exact shr_fin a b
theorem and1_ok {s c : Int} (hs : 0 ≤ s ∧ s < 16) (hc : 0 ≤ c ∧ c < 4) : iI (shrI s c) &&& iI 1 = iI (bitI s c) := by
  obtain ⟨a, rfl⟩ := fin_of (n := 16) hs
  obtain ⟨b, rfl⟩ := fin_of (n := 4) hc
  exact and1_fin a b
theorem or_ok {s t : Int} (hs : 0 ≤ s ∧ s < 16) (ht : 0 ≤ t ∧ t < 16) : iI s ||| iI t = iI (orI s t) ∧ 0 ≤ orI s t ∧ orI s t < 16 := by
  obtain ⟨a, rfl⟩ := fin_of (n := 16) hs
  obtain ⟨b, rfl⟩ := fin_of (n := 16) ht
  exact or_fin a b
theorem shl_ok {c : Int} (hc : 0 ≤ c ∧ c < 4) : iI 1 <<< (iI c &&& 31) = iI (pwI c) ∧ 0 ≤ pwI c ∧ pwI c < 16 := by
  obtain ⟨b, rfl⟩ := fin_of (n := 4) hc
  exact shl_fin b
theorem bit_or {s c j : Int} (hs : 0 ≤ s ∧ s < 16) (hc : 0 ≤ c ∧ c < 4) (hj : 0 ≤ j ∧ j < 4) : bitI (orI s (pwI c)) j = if j = c then 1 else bitI s j := by
  obtain ⟨a, rfl⟩ := fin_of (n := 16) hs
  obtain ⟨b, rfl⟩ := fin_of (n := 4) hc
  obtain ⟨k, rfl⟩ := fin_of (n := 4) hj
  rw [bit_fin a b k]
  by_cases h : k = b
  · subst h; simp
  · rw [if_neg h, if_neg (fun z => h (Fin.ext (by omega)))]
theorem bit01 {s j : Int} (hs : 0 ≤ s ∧ s < 16) (hj : 0 ≤ j ∧ j < 4) : bitI s j = 0 ∨ bitI s j = 1 := by
  obtain ⟨a, rfl⟩ := fin_of (n := 16) hs
  obtain ⟨k, rfl⟩ := fin_of (n := 4) hj
  exact bit01_fin a k
/-- in the midst of moving a state's children: those by letters below i are at the new base -/
def MvI (old tg st i : Int) (ba ch co ki wo : Int → Int) (pth : Int → List Int) (DC DK CN : List Int → Int) (L : List Int → Prop) (P : List Int) (lt s : Int) (N : Nat) : Prop :=
  Rg ba ch ∧ GI (fun p k => if p = st then (if k < i then tg else old) else ba p) ch pth ∧ (∀ x, live ch x → AT1 co ki wo pth DC DK CN x) ∧ LV ch pth L ∧ live ch st ∧ pth st = P ∧ ba st = old ∧ (∀ j, i ≤ j → j < 4 → bitI s j = 1 → ch (tg + j + 1) < 0) ∧ ch (tg + lt + 1) < 0 ∧ cntN ch 512 = N
section MVI
variable {old tg st i : Int} {ba ch co ki wo : Int → Int} {pth : Int → List Int} {DC DK CN : List Int → Int} {L : List Int → Prop} {P : List Int} {lt s : Int} {N : Nat}
theorem MvI.none (h : MvI old tg st i ba ch co ki wo pth DC DK CN L P lt s N) (hL : ∀ j, 0 ≤ j → j < 4 → (bitI s j = 1 ↔ L (P ++ [j]))) (hi : 0 ≤ i ∧ i < 4) (hb : bitI s i ≠ 1) : MvI old tg st (i + 1) ba ch co ki wo pth DC DK CN L P lt s N := by
  obtain ⟨h1, h2, h3, h4, h5, h6, h7, h8, h9, h10⟩ := h
  refine ⟨h1, ?_, h3, h4, h5, h6, h7, fun j a b c => h8 j (by omega) b c, h9, h10⟩
  refine h2.congr (fun p k hp k0 k4 hk => ?_)
  by_cases e : p = st
  · simp only [if_pos e]
    by_cases ki : k < i
    · rw [if_pos ki, if_pos (by omega)]
    · by_cases ke : k = i
      · exfalso
        obtain ⟨t, ht, et⟩ := hk
        rw [e, h6, ke] at et
        exact hb ((hL i hi.1 hi.2).mpr ((h4 _).mp ⟨t, ht, et⟩))
      · rw [if_neg ki, if_neg (by omega)]
  · simp only [if_neg e]
theorem MvI.move (h : MvI old tg st i ba ch co ki wo pth DC DK CN L P lt s N) (hL : ∀ j, 0 ≤ j → j < 4 → (bitI s j = 1 ↔ L (P ++ [j]))) (hi : 0 ≤ i ∧ i < 4) (hb : bitI s i = 1) (htg : 0 ≤ tg ∧ tg < 500) (hlt : 0 ≤ lt ∧ lt < 4 ∧ ¬ L (P ++ [lt])) :
    MvI old tg st (i + 1) (upI (upI ba (tg + i + 1) (ba (old + i + 1))) (old + i + 1) 0) (upI (rpl (ba (old + i + 1)) (old + i + 1) (tg + i + 1) 4 1 (upI ch (tg + i + 1) (ch (old + i + 1)))) (old + i + 1) (-1)) (upI (upI co (tg + i + 1) (co (old + i + 1))) (old + i + 1) (-1)) (upI ki (tg + i + 1) (ki (old + i + 1))) (upI (upI wo (tg + i + 1) (wo (old + i + 1))) (old + i + 1) 0) (mvP pth (old + i + 1) (tg + i + 1)) DC DK CN L P lt s N
    ∧ live ch (old + i + 1) ∧ old + i + 1 ≠ tg + i + 1 := by
  obtain ⟨h1, h2, h3, h4, h5, h6, h7, h8, h9, h10⟩ := h
  obtain ⟨t, ht, et⟩ := (h4 _).mpr ((hL i hi.1 hi.2).mp hb)
  have hk := h2.kid h5 ht (by rw [h6]; exact et)
  have hfr : t = old + i + 1 := by
    have := hk.2.2.2.1
    simp only [if_pos trivial, if_neg (show ¬ i < i by omega)] at this
    simpa using this
  subst hfr
  generalize hfe : old + i + 1 = fr at *
  have hto : 0 ≤ tg + i + 1 ∧ tg + i + 1 < 512 ∧ ch (tg + i + 1) < 0 := ⟨by omega, by omega, h8 i (by omega) hi.2 hb⟩
  generalize hte : tg + i + 1 = to at *
  have nef : to ≠ fr := by intro e; rw [e] at hto; have := ht.2.2; omega
  have nes : to ≠ st := by intro e; rw [e] at hto; have := h5.2.2; omega
  have sf : fr ≠ st := by
    intro e
    have h6' := h6
    rw [← e, et] at h6'
    have := congrArg List.length h6'
    simp at this
  have hrf := h1 fr ht.1 ht.2.1
  have hch : ∀ x, 0 ≤ x → x < 512 → (upI (rpl (ba fr) fr to 4 1 (upI ch to (ch fr))) fr (-1)) x = if x = fr then -1 else if x = to then st else if ch x = fr then to else ch x := by
    intro x x0 x1
    rw [upI_at]
    by_cases a : x = fr
    · rw [if_pos a, if_pos a]
    · rw [if_neg a, if_neg a, rpl_at]
      by_cases b : x = to
      · subst b
        rw [upI_s, hk.1, if_pos rfl, if_neg (fun z => sf z.2.2.symm)]
      · rw [upI_n b, if_neg b]
        by_cases d : ch x = fr
        · have x00 : x ≠ 0 := by
            intro z
            rw [z, h2.1] at d
            have := hk.2.2.2.2
            omega
          obtain ⟨g1, g2, k, g3, g4, g5, g6⟩ := h2.2.2.1 x (by omega) x1 (by rw [d]; exact ht.1)
          rw [d] at g5
          simp only [if_neg sf] at g5
          rw [if_pos ⟨by omega, by omega, d⟩, if_pos d]
        · rw [if_neg d, if_neg (fun z => d z.2.2)]
  refine ⟨⟨?_, ?_, ?_, move_LV h5 ht hto hch h4, ?_, ?_, ?_, ?_, ?_, ?_⟩, ht, fun z => nef z.symm⟩
  · intro x x0 x1
    have hx := h1 x x0 x1
    have hs := h5
    rw [hch x x0 x1, upI_at, upI_at]
    by_cases a : x = fr
    · rw [if_pos a, if_pos a]; omega
    · rw [if_neg a, if_neg a]
      by_cases b : x = to
      · rw [if_pos b, if_pos b]
        have := hs.1
        have := hs.2.1
        omega
      · rw [if_neg b, if_neg b]
        by_cases d : ch x = fr
        · rw [if_pos d]; omega
        · rw [if_neg d]; omega
  · refine move_step h2 h5 ht (by rw [h6]; exact et) hi hto hch ?_ ?_ ?_
    · simp only [if_pos trivial, if_pos (show i < i + 1 by omega)]
      simp [← hte]
    · intro k k0 k4
      simp only [if_neg nes, if_neg sf]
      rw [upI_n nef, upI_s]
    · intro x k hx hxf hn
      by_cases a : x = st
      · simp only [if_pos a]
        by_cases b : k < i
        · rw [if_pos b, if_pos (by omega)]
        · rw [if_neg b, if_neg (by intro z; exact hn ⟨a, by omega⟩)]
      · simp only [if_neg a]
        rw [upI_n hxf, upI_n (by intro z; rw [z] at hx; have := hx.2.2; omega)]
  · intro x hx
    rcases (move_live h5 ht hto hch x).mp hx with a | ⟨a1, a2⟩
    · subst a
      obtain ⟨q1, q2, q3⟩ := h3 fr ht
      unfold AT1 mvP
      rw [if_pos rfl, upI_n nef, upI_s, upI_s, upI_n nef, upI_s]
      exact ⟨q1, q2, q3⟩
    · have b : x ≠ to := by intro z; rw [z] at a2; have := a2.2.2; omega
      obtain ⟨q1, q2, q3⟩ := h3 x a2
      unfold AT1 mvP
      rw [if_neg b, upI_n a1, upI_n b, upI_n b, upI_n a1, upI_n b]
      exact ⟨q1, q2, q3⟩
  · exact (move_live h5 ht hto hch st).mpr (Or.inr ⟨fun z => sf z.symm, h5⟩)
  · unfold mvP
    rw [if_neg (fun z => nes z.symm)]
    exact h6
  · rw [upI_n (fun z => sf z.symm), upI_n (fun z => nes z.symm)]
    exact h7
  · intro j a b d
    have := h8 j (by omega) b d
    rw [hch _ (by omega) (by omega)]
    by_cases e : tg + j + 1 = fr
    · rw [if_pos e]; omega
    · rw [if_neg e, if_neg (by omega), if_neg (by have := ht.1; omega)]
      exact this
  · rw [hch _ (by omega) (by omega)]
    by_cases e : tg + lt + 1 = fr
    · rw [if_pos e]; omega
    · have nl : lt ≠ i := by
        intro z
        rw [z] at hlt
        exact hlt.2.2 ((hL i hi.1 hi.2).mp hb)
      rw [if_neg e, if_neg (by omega), if_neg (by have := ht.1; omega)]
      exact h9
  · rw [move_cnt h5 ht hto hch]
    exact h10
theorem MvI.start (h : TI ba ch co ki wo pth DC DK CN L) (hst : live ch st) (hf : ∀ j, 0 ≤ j → j < 4 → bitI s j = 1 → ch (tg + j + 1) < 0) (hl : ch (tg + lt + 1) < 0) : MvI (ba st) tg st 0 ba ch co ki wo pth DC DK CN L (pth st) lt s (cntN ch 512) := by
  obtain ⟨h1, h2, h3, h4⟩ := h
  refine ⟨h1, ?_, h3, h4, hst, rfl, rfl, hf, hl, rfl⟩
  refine h2.congr (fun p k hp k0 k4 hk => ?_)
  by_cases e : p = st
  · simp only [if_pos e, if_neg (show ¬ k < 0 by omega)]
    rw [e]
  · simp only [if_neg e]
theorem MvI.done (h : MvI old tg st 4 ba ch co ki wo pth DC DK CN L P lt s N) (htg : 0 ≤ tg ∧ tg < 500) : TI (upI ba st tg) ch co ki wo pth DC DK CN L ∧ live ch st ∧ pth st = P ∧ ch ((upI ba st tg) st + lt + 1) < 0 ∧ cntN ch 512 = N := by
  obtain ⟨h1, h2, h3, h4, h5, h6, h7, h8, h9, h10⟩ := h
  refine ⟨⟨?_, ?_, h3, h4⟩, h5, h6, by rw [upI_s]; exact h9, h10⟩
  · intro x x0 x1
    have := h1 x x0 x1
    rw [upI_at]
    by_cases a : x = st
    · rw [if_pos a]; omega
    · rw [if_neg a]; omega
  · refine h2.congr (fun p k hp k0 k4 hk => ?_)
    by_cases e : p = st
    · simp only [if_pos e, if_pos k4]
      rw [e, upI_s]
    · simp only [if_neg e]
      rw [upI_n e]
end MVI
end
section
/-! PURE: a child more, a word more, a word less; the loops' conditions -/
def FB (ch : Int → Int) (s b c f : Int) : Prop := (f = 1 ∧ ∀ j, 0 ≤ j → j < c → bitI s j = 1 → ch (b + j + 1) < 0) ∨ (f = 0 ∧ ∃ j, 0 ≤ j ∧ j < c ∧ bitI s j = 1 ∧ 0 ≤ ch (b + j + 1))
theorem FB.skip {ch : Int → Int} {s b c f : Int} (h : FB ch s b c f) (hb : bitI s c = 0) : FB ch s b (c + 1) f := by
  rcases h with ⟨e, h⟩ | ⟨e, j, h1, h2, h3, h4⟩
  · refine Or.inl ⟨e, fun j a d g => ?_⟩
    by_cases z : j = c
    · rw [z, hb] at g; omega
    · exact h j a (by omega) g
  · exact Or.inr ⟨e, j, h1, by omega, h3, h4⟩
theorem FB.ok {ch : Int → Int} {s b c f : Int} (h : FB ch s b c f) (hc : ch (b + c + 1) < 0) : FB ch s b (c + 1) f := by
  rcases h with ⟨e, h⟩ | ⟨e, j, h1, h2, h3, h4⟩
  · refine Or.inl ⟨e, fun j a d g => ?_⟩
    by_cases z : j = c
    · rw [z]; exact hc
    · exact h j a (by omega) g
  · exact Or.inr ⟨e, j, h1, by omega, h3, h4⟩
theorem FB.bad {ch : Int → Int} {s b c f : Int} (_ : FB ch s b c f) (h0 : 0 ≤ c) (hb : bitI s c = 1) (hc : 0 ≤ ch (b + c + 1)) : FB ch s b (c + 1) 0 := Or.inr ⟨rfl, c, h0, by omega, hb, hc⟩
def FBp (ch : Int → Int) (s r : Int) : Prop := (0 ≤ r ∧ r < 500 ∧ ∀ j, 0 ≤ j → j < 4 → bitI s j = 1 → ch (r + j + 1) < 0) ∨ (r = 500 ∧ ∀ b, 0 ≤ b → b < 500 → ∃ j, 0 ≤ j ∧ j < 4 ∧ bitI s j = 1 ∧ 0 ≤ ch (b + j + 1))
theorem FBp.use {ch : Int → Int} {s r : Int} (h : FBp ch s r) (hc : cntN ch 512 ≤ 124) : 0 ≤ r ∧ r < 500 ∧ ∀ j, 0 ≤ j → j < 4 → bitI s j = 1 → ch (r + j + 1) < 0 := by
  rcases h with h | ⟨-, h⟩
  · exact h
  · obtain ⟨b, b0, b1, hb⟩ := base_free hc
    obtain ⟨j, j0, j1, j2, j3⟩ := h b b0 b1
    have := hb j j0 j1
    omega
def MC1 (ba ch : Int → Int) (st s c : Int) : Prop := 0 ≤ s ∧ s < 16 ∧ (∀ j, 0 ≤ j → j < c → (bitI s j = 1 ↔ 0 ≤ chP ba ch st j)) ∧ (∀ j, c ≤ j → j < 4 → bitI s j = 0)
theorem MC1.zero (ba ch : Int → Int) (st : Int) : MC1 ba ch st 0 0 := by
  refine ⟨by omega, by omega, fun j a b => by omega, fun j a b => ?_⟩
  have : ∀ k : Fin 4, bitI 0 k.val = 0 := by decide +kernel
  obtain ⟨k, rfl⟩ := fin_of (n := 4) ⟨a, b⟩
  exact this k
theorem MC1.skip {ba ch : Int → Int} {st s c : Int} (h : MC1 ba ch st s c) (hc : 0 ≤ c ∧ c < 4) (hn : chP ba ch st c < 0) : MC1 ba ch st s (c + 1) := by
  obtain ⟨h1, h2, h3, h4⟩ := h
  refine ⟨h1, h2, fun j a b => ?_, fun j a b => h4 j (by omega) b⟩
  by_cases z : j = c
  · rw [z, h4 c (by omega) hc.2]
    exact ⟨fun q => by omega, fun q => by omega⟩
  · exact h3 j a (by omega)
theorem MC1.add {ba ch : Int → Int} {st s c : Int} (h : MC1 ba ch st s c) (hc : 0 ≤ c ∧ c < 4) (hn : 0 ≤ chP ba ch st c) : MC1 ba ch st (orI s (pwI c)) (c + 1) := by
  obtain ⟨h1, h2, h3, h4⟩ := h
  have ho := (or_ok (s := s) (t := pwI c) ⟨h1, h2⟩ (shl_ok hc).2).2
  refine ⟨ho.1, ho.2, fun j a b => ?_, fun j a b => ?_⟩
  · rw [bit_or ⟨h1, h2⟩ hc ⟨a, by omega⟩]
    by_cases z : j = c
    · rw [if_pos z, z]
      exact ⟨fun _ => hn, fun _ => rfl⟩
    · rw [if_neg z]
      exact h3 j a (by omega)
  · rw [bit_or ⟨h1, h2⟩ hc ⟨by omega, b⟩, if_neg (by omega)]
    exact h4 j (by omega) b
section ADDC
variable {ba ch co ki wo : Int → Int} {pth : Int → List Int} {DC DK CN : List Int → Int} {L : List Int → Prop}
theorem MC1.lw {st s : Int} (h : MC1 ba ch st s 4) (hT : TI ba ch co ki wo pth DC DK CN L) (hst : live ch st) : ∀ j, 0 ≤ j → j < 4 → (bitI s j = 1 ↔ L (pth st ++ [j])) := by
  intro j a b
  rw [h.2.2.1 j a b, ← hT.2.2.2]
  constructor
  · intro hp
    have := chP_pos hT.1 hT.2.1 hst ⟨a, b⟩ hp
    exact ⟨_, this.1, this.2.2.1⟩
  · rintro ⟨t, ht, e⟩
    rw [chP_of hT.2.1 hst ht e]
    exact ht.1
def upP (pth : Int → List Int) (k : Int) (q : List Int) : Int → List Int := fun x => if x = k then q else pth x
theorem upP_s (pth : Int → List Int) (k : Int) (q : List Int) : upP pth k q k = q := by simp [upP]
theorem upP_n {pth : Int → List Int} {k : Int} {q : List Int} {x : Int} (h : x ≠ k) : upP pth k q x = pth x := by simp [upP, h]
/-- behind addChild: r is the new child, no word in it yet -/
def AddP (ba ch co ki wo : Int → Int) (pth : Int → List Int) (DC DK CN : List Int → Int) (L : List Int → Prop) (q : List Int) (r : Int) : Prop :=
  Rg ba ch ∧ GI (fun s _ => ba s) ch pth ∧ live ch r ∧ pth r = q ∧ co r = -1 ∧ wo r = 0 ∧ (∀ s, live ch s → s ≠ r → AT1 co ki wo pth DC DK CN s) ∧ LV ch pth (fun z => L z ∨ z = q)
theorem add_child {st c : Int} (hT : TI ba ch co ki wo pth DC DK CN L) (hst : live ch st) (hc : 0 ≤ c ∧ c < 4) (hn : ¬ L (pth st ++ [c])) (hf : ch (ba st + c + 1) < 0) :
    AddP (upI ba (ba st + c + 1) 0) (upI ch (ba st + c + 1) st) (upI co (ba st + c + 1) (-1)) ki (upI wo (ba st + c + 1) 0) (upP pth (ba st + c + 1) (pth st ++ [c])) DC DK CN L (pth st ++ [c]) (ba st + c + 1) ∧ cntN (upI ch (ba st + c + 1) st) 512 = cntN ch 512 + 1 := by
  obtain ⟨h1, h2, h3, h4⟩ := hT
  have hr := h1 st hst.1 hst.2.1
  have hcell : 0 < ba st + c + 1 ∧ ba st + c + 1 < 512 := ⟨by omega, by omega⟩
  have hce : ∃ z, z = ba st + c + 1 := ⟨_, rfl⟩
  obtain ⟨z, hz⟩ := hce
  rw [← hz] at hf hcell ⊢
  have nst : st ≠ z := by intro e; rw [e] at hst; have := hst.2.2; omega
  have hl : ∀ x, live (upI ch z st) x ↔ (x = z ∨ live ch x) := by
    intro x
    unfold live
    rw [upI_at]
    by_cases a : x = z
    · rw [if_pos a]
      exact ⟨fun _ => Or.inl a, fun _ => ⟨by omega, by omega, hst.1⟩⟩
    · rw [if_neg a]
      exact ⟨fun q => Or.inr q, fun q => q.resolve_left a⟩
  refine ⟨⟨?_, ⟨?_, ?_, ?_, ?_⟩, (hl z).mpr (Or.inl rfl), upP_s _ _ _, upI_s _ _ _, upI_s _ _ _, ?_, ?_⟩, ?_⟩
  · intro x x0 x1
    have := h1 x x0 x1
    rw [upI_at, upI_at]
    by_cases a : x = z
    · rw [if_pos a, if_pos a]; have := hst.1; have := hst.2.1; omega
    · rw [if_neg a, if_neg a]; exact this
  · rw [upI_n (by omega)]; exact h2.1
  · rw [upP_n (by omega)]; exact h2.2.1
  · intro s s0 s1 s2
    rcases (hl s).mp ⟨by omega, s1, s2⟩ with a | a
    · rw [a, upI_s, upP_s, upP_n nst]
      refine ⟨hst.2.1, ((hl st).mpr (Or.inr hst)).2.2, c, hc.1, hc.2, ?_, rfl⟩
      show z = upI ba z 0 st + c + 1
      rw [upI_n nst]; exact hz
    · have sz : s ≠ z := by intro e; rw [e] at a; have := a.2.2; omega
      rw [upI_n sz]
      obtain ⟨g1, g2, k, g3, g4, g5, g6⟩ := h2.2.2.1 s s0 s1 a.2.2
      have pz : ch s ≠ z := by intro e; rw [e] at g2; omega
      refine ⟨g1, ((hl (ch s)).mpr (Or.inr ⟨a.2.2, g1, g2⟩)).2.2, k, g3, g4, ?_, ?_⟩
      · show s = upI ba z 0 (ch s) + k + 1
        rw [upI_n pz]; exact g5
      · rw [upP_n sz, upP_n pz]; exact g6
  · intro s t hs ht e
    have nz : ∀ y, live ch y → pth y ≠ pth st ++ [c] := fun y hy e => hn ((h4 _).mp ⟨y, hy, e⟩)
    have yz : ∀ y, live ch y → y ≠ z := by intro y hy e; rw [e] at hy; have := hy.2.2; omega
    rcases (hl s).mp hs with a | a
    · rcases (hl t).mp ht with b | b
      · rw [a, b]
      · rw [a, upP_s, upP_n (yz t b)] at e
        exact absurd e.symm (nz t b)
    · rcases (hl t).mp ht with b | b
      · rw [b, upP_s, upP_n (yz s a)] at e
        exact absurd e (nz s a)
      · rw [upP_n (yz s a), upP_n (yz t b)] at e
        exact h2.2.2.2 s t a b e
  · intro s hs hsz
    have a := ((hl s).mp hs).resolve_left hsz
    obtain ⟨q1, q2, q3⟩ := h3 s a
    unfold AT1
    rw [upP_n hsz, upI_n hsz, upI_n hsz]
    exact ⟨q1, q2, q3⟩
  · intro q
    constructor
    · rintro ⟨s, hs, e⟩
      rcases (hl s).mp hs with a | a
      · rw [a, upP_s] at e
        exact Or.inr e.symm
      · rw [upP_n (by intro e2; rw [e2] at a; have := a.2.2; omega)] at e
        exact Or.inl ((h4 q).mp ⟨s, a, e⟩)
    · rintro (a | a)
      · obtain ⟨s, hs, e⟩ := (h4 q).mpr a
        refine ⟨s, (hl s).mpr (Or.inr hs), ?_⟩
        rw [upP_n (by intro e2; rw [e2] at hs; have := hs.2.2; omega)]
        exact e
      · exact ⟨z, (hl z).mpr (Or.inl rfl), by rw [upP_s]; exact a.symm⟩
  · have := cntN_add (ch := ch) (ch' := upI ch z st) z.toNat (by rw [Int.toNat_of_nonneg (by omega)]; exact hf) (by rw [Int.toNat_of_nonneg (by omega), upI_s]; exact hst.1) 512 (fun x hx hne => by rw [upI_n (by omega)])
    rw [if_pos (by omega)] at this
    exact this
end ADDC
/-- the words below: one more for each beginning of p -/
def cnA (CN : List Int → Int) (p : List Int) : List Int → Int := fun q => CN q + (if q <+: p then 1 else 0)
abbrev Lw (CN : List Int → Int) : List Int → Prop := fun q => q = [] ∨ 1 ≤ CN q
def CNok (DC CN : List Int → Int) : Prop := ∀ q, 0 ≤ CN q ∧ (CN q = 0 → DC q = -1)
theorem cnA_nil (CN : List Int → Int) (q : List Int) : cnA CN [] q = CN q + (if q = [] then 1 else 0) := by
  unfold cnA
  simp only [List.prefix_nil]
theorem cnA_snoc (CN : List Int → Int) (p : List Int) (c : Int) (q : List Int) : cnA CN (p ++ [c]) q = if q = p ++ [c] then CN q + 1 else cnA CN p q := by
  unfold cnA
  by_cases h : q = p ++ [c]
  · rw [if_pos h, if_pos (by rw [h]; exact List.prefix_rfl)]
  · rw [if_neg h]
    simp only [List.prefix_concat_iff, h, false_or]
theorem cnA_self (CN : List Int → Int) (p : List Int) (c : Int) : cnA CN p (p ++ [c]) = CN (p ++ [c]) := by
  unfold cnA
  rw [if_neg ?_]
  · omega
  · intro h
    have := h.length_le
    simp at this; omega
section GROW
variable {ba ch co ki wo : Int → Int} {pth : Int → List Int} {DC DK CN : List Int → Int}
theorem grow_zero (h : TI ba ch co ki wo pth DC DK CN (Lw CN)) : TI ba ch co ki (upI wo 0 (wo 0 + 1)) pth DC DK (cnA CN []) (Lw (cnA CN [])) := by
  obtain ⟨h1, h2, h3, h4⟩ := h
  refine ⟨h1, h2, fun s hs => ?_, fun q => ?_⟩
  · obtain ⟨q1, q2, q3⟩ := h3 s hs
    refine ⟨q1, q2, ?_⟩
    rw [upI_at, cnA_nil]
    by_cases e : s = 0
    · rw [if_pos e, if_pos (by rw [e]; exact h2.2.1), ← e, q3]
    · rw [if_neg e, if_neg (fun z => e (h2.2.2.2 s 0 hs h2.root (by rw [z, h2.2.1]))), q3]
      omega
  · rw [h4 q]
    unfold Lw
    rw [cnA_nil]
    by_cases e : q = []
    · exact ⟨fun _ => Or.inl e, fun _ => Or.inl e⟩
    · rw [if_neg e]
      simp
/-- one letter on: the child was there -/
theorem grow_old {p : List Int} {c t : Int} (h : TI ba ch co ki wo pth DC DK (cnA CN p) (Lw (cnA CN p))) (ht : live ch t) (e : pth t = p ++ [c]) (hC : ∀ q, 0 ≤ CN q) : TI ba ch co ki (upI wo t (wo t + 1)) pth DC DK (cnA CN (p ++ [c])) (Lw (cnA CN (p ++ [c]))) := by
  obtain ⟨h1, h2, h3, h4⟩ := h
  refine ⟨h1, h2, fun s hs => ?_, fun q => ?_⟩
  · obtain ⟨q1, q2, q3⟩ := h3 s hs
    refine ⟨q1, q2, ?_⟩
    rw [upI_at, cnA_snoc]
    by_cases a : s = t
    · subst a
      rw [if_pos rfl, if_pos e, q3, e, cnA_self]
    · rw [if_neg a, if_neg (fun z => a (h2.2.2.2 s t hs ht (by rw [z, e])))]
      exact q3
  · rw [h4 q]
    unfold Lw
    rw [cnA_snoc]
    by_cases a : q = p ++ [c]
    · rw [if_pos a]
      have hq := (h4 q).mp ⟨t, ht, by rw [a]; exact e⟩
      exact ⟨fun _ => Or.inr (by have := hC q; omega), fun _ => hq⟩
    · rw [if_neg a]
/-- one letter on: the child is new -/
theorem grow_new {p : List Int} {c t : Int} (h : AddP ba ch co ki wo pth DC DK (cnA CN p) (Lw (cnA CN p)) (p ++ [c]) t) (hn : ¬ Lw (cnA CN p) (p ++ [c])) (hC : CNok DC CN) : TI ba ch co ki (upI wo t (wo t + 1)) pth DC DK (cnA CN (p ++ [c])) (Lw (cnA CN (p ++ [c]))) := by
  obtain ⟨h1, h2, h3, h4, h5, h6, h7, h8⟩ := h
  have hz : CN (p ++ [c]) = 0 := by
    have := (hC (p ++ [c])).1
    apply Classical.byContradiction
    intro a
    apply hn
    right
    rw [cnA_self]
    omega
  refine ⟨h1, h2, fun s hs => ?_, fun q => ?_⟩
  · by_cases a : s = t
    · subst a
      unfold AT1
      rw [h4, h5, upI_s, h6, cnA_snoc, if_pos rfl, hz, (hC _).2 hz]
      exact ⟨rfl, fun z => by omega, rfl⟩
    · obtain ⟨q1, q2, q3⟩ := h7 s hs a
      refine ⟨q1, q2, ?_⟩
      rw [upI_n a, cnA_snoc, if_neg (fun z => a (h2.2.2.2 s t hs h3 (by rw [z, h4])))]
      exact q3
  · rw [h8 q]
    unfold Lw
    rw [cnA_snoc]
    by_cases a : q = p ++ [c]
    · rw [if_pos a]
      exact ⟨fun _ => Or.inr (by have := (hC q).1; omega), fun _ => Or.inr a⟩
    · rw [if_neg a]
      exact ⟨fun z => z.resolve_right a, fun z => Or.inl z⟩
end GROW
/-- the words below: one fewer for each beginning of p -/
def cnS (CN : List Int → Int) (p : List Int) : List Int → Int := fun q => CN q - (if q <+: p then 1 else 0)
/-- which cells have been released when the beginning q of the spelling has been passed -/
def RelS (ch : Int → Int) (pth : Int → List Int) (CN : List Int → Int) (q : List Int) (s : Int) : Prop := live ch s ∧ pth s ≠ [] ∧ pth s <+: q ∧ pth s ≠ q ∧ CN (pth s) = 1
/-- in the midst of prune: the arrays against those of its start -/
def PrI (ba ch co wo : Int → Int) (pth : Int → List Int) (CN : List Int → Int) (q : List Int) (ba' ch' co' wo' : Int → Int) : Prop :=
  ∀ s, 0 ≤ s → s < 512 → (RelS ch pth CN q s → ch' s = -1 ∧ ba' s = 0 ∧ co' s = -1 ∧ wo' s = 0) ∧ (¬ RelS ch pth CN q s → ch' s = ch s ∧ ba' s = ba s ∧ co' s = co s ∧ (live ch s ∧ pth s <+: q → wo' s = wo s - 1) ∧ (¬ (live ch s ∧ pth s <+: q) → wo' s = wo s))
section PRUNE
variable {ba ch co ki wo : Int → Int} {pth : Int → List Int} {DC DK CN : List Int → Int} {L : List Int → Prop} {ba' ch' co' wo' : Int → Int}
theorem PrI.zero (h : GI (fun s _ => ba s) ch pth) : PrI ba ch co wo pth CN [] ba ch co (upI wo 0 (wo 0 - 1)) := by
  intro s s0 s1
  have hn : ¬ RelS ch pth CN [] s := by
    rintro ⟨a, b, c, -⟩
    exact b (List.prefix_nil.mp c)
  refine ⟨fun a => absurd a hn, fun _ => ⟨rfl, rfl, rfl, fun ⟨a, b⟩ => ?_, fun a => ?_⟩⟩
  · have : s = 0 := h.2.2.2 s 0 a h.root (by rw [h.2.1]; exact List.prefix_nil.mp b)
    rw [this, upI_s]
  · rw [upI_n]
    intro e
    apply a
    rw [e]
    exact ⟨h.root, by rw [h.2.1]; exact List.prefix_rfl⟩
theorem PrI.here {q : List Int} {s : Int} (h : PrI ba ch co wo pth CN q ba' ch' co' wo') (hs : live ch s) (e : pth s = q) : ch' s = ch s ∧ ba' s = ba s ∧ wo' s = wo s - 1 := by
  have := (h s hs.1 hs.2.1).2 (fun a => a.2.2.2.1 e)
  exact ⟨this.1, this.2.1, this.2.2.2.1 ⟨hs, by rw [e]; exact List.prefix_rfl⟩⟩
theorem PrI.next {q : List Int} {s c : Int} (h : PrI ba ch co wo pth CN q ba' ch' co' wo') (hG : GI (fun s _ => ba s) ch pth) (hs : live ch s) (e : pth s = q) {t : Int} (ht : live ch t) (et : pth t = q ++ [c]) : chP ba' ch' s c = t := by
  obtain ⟨a1, a2, a3, a4, a5⟩ := hG.kid hs ht (by rw [e]; exact et)
  have hn : ¬ RelS ch pth CN q t := by
    intro a
    have := a.2.2.1.length_le
    rw [et] at this
    simp at this; omega
  have b1 := ((h t ht.1 ht.2.1).2 hn).1
  have b2 := (h.here hs e).2.1
  unfold chP
  rw [b2, ← a4, b1, if_pos a1]
theorem PrI.step {q : List Int} {s c t : Int} (h : PrI ba ch co wo pth CN q ba' ch' co' wo') (hG : GI (fun s _ => ba s) ch pth) (hs : live ch s) (e : pth s = q) (ht : live ch t) (et : pth t = q ++ [c]) (hd : s = 0 ∨ CN q ≠ 1) : PrI ba ch co wo pth CN (q ++ [c]) ba' ch' co' (upI wo' t (wo' t - 1)) := by
  have key : ∀ x, 0 ≤ x → x < 512 → (RelS ch pth CN (q ++ [c]) x ↔ RelS ch pth CN q x) := by
    intro x x0 x1
    constructor
    · rintro ⟨b1, b2, b3, b4, b5⟩
      have b6 := (List.prefix_concat_iff.mp b3).resolve_left b4
      refine ⟨b1, b2, b6, fun z => ?_, b5⟩
      have xs := hG.2.2.2 x s b1 hs (by rw [z, e])
      rcases hd with d | d
      · rw [xs, d, hG.2.1] at b2
        exact b2 rfl
      · rw [z] at b5
        exact d b5
    · rintro ⟨b1, b2, b3, b4, b5⟩
      refine ⟨b1, b2, b3.trans (List.prefix_append q [c]), fun z => ?_, b5⟩
      have := b3.length_le
      rw [z] at this
      simp at this; omega
  intro x x0 x1
  obtain ⟨g1, g2⟩ := h x x0 x1
  have tn : ¬ RelS ch pth CN q t := by
    intro a
    have := a.2.2.1.length_le
    rw [et] at this
    simp at this; omega
  refine ⟨fun r => ?_, fun r => ?_⟩
  · have r' := (key x x0 x1).mp r
    have xt : x ≠ t := by intro z; rw [z] at r'; exact tn r'
    rw [upI_n xt]
    exact g1 r'
  · have r' : ¬ RelS ch pth CN q x := fun z => r ((key x x0 x1).mpr z)
    obtain ⟨k1, k2, k3, k4, k5⟩ := g2 r'
    refine ⟨k1, k2, k3, fun ⟨a, b⟩ => ?_, fun a => ?_⟩
    · by_cases xt : x = t
      · rw [xt, upI_s]
        have k5' := k5 (by
          rintro ⟨-, z⟩
          have := z.length_le
          rw [xt, et] at this
          simp at this; omega)
        rw [← xt, k5']
      · rw [upI_n xt]
        refine k4 ⟨a, (List.prefix_concat_iff.mp b).resolve_left (fun z => xt (hG.2.2.2 x t a ht (by rw [z, et])))⟩
    · have xt : x ≠ t := by intro z; exact a ⟨by rw [z]; exact ht, by rw [z, et]; exact List.prefix_rfl⟩
      rw [upI_n xt]
      exact k5 (fun z => a ⟨z.1, z.2.trans (List.prefix_append q [c])⟩)
theorem PrI.stepR {q : List Int} {s c t : Int} (h : PrI ba ch co wo pth CN q ba' ch' co' wo') (hG : GI (fun s _ => ba s) ch pth) (hs : live ch s) (e : pth s = q) (ht : live ch t) (et : pth t = q ++ [c]) (hd : s ≠ 0) (hq : CN q = 1) : PrI ba ch co wo pth CN (q ++ [c]) (upI ba' s 0) (upI ch' s (-1)) (upI co' s (-1)) (upI (upI wo' s 0) t ((upI wo' s 0) t - 1)) := by
  have qn : q ≠ [] := by
    intro z
    apply hd
    exact hG.2.2.2 s 0 hs hG.root (by rw [e, z, hG.2.1])
  have st : t ≠ s := by
    intro z
    rw [z, e] at et
    have := congrArg List.length et
    simp at this
  have key : ∀ x, 0 ≤ x → x < 512 → (RelS ch pth CN (q ++ [c]) x ↔ (x = s ∨ RelS ch pth CN q x)) := by
    intro x x0 x1
    constructor
    · rintro ⟨b1, b2, b3, b4, b5⟩
      have b6 := (List.prefix_concat_iff.mp b3).resolve_left b4
      by_cases z : pth x = q
      · exact Or.inl (hG.2.2.2 x s b1 hs (by rw [z, e]))
      · exact Or.inr ⟨b1, b2, b6, z, b5⟩
    · rintro (b | ⟨b1, b2, b3, b4, b5⟩)
      · rw [b]
        refine ⟨hs, by rw [e]; exact qn, by rw [e]; exact List.prefix_append q [c], ?_, by rw [e]; exact hq⟩
        rw [e]
        intro z
        have := congrArg List.length z
        simp at this
      · refine ⟨b1, b2, b3.trans (List.prefix_append q [c]), fun z => ?_, b5⟩
        have := b3.length_le
        rw [z] at this
        simp at this; omega
  intro x x0 x1
  obtain ⟨g1, g2⟩ := h x x0 x1
  have tn : ¬ RelS ch pth CN q t := by
    intro a
    have := a.2.2.1.length_le
    rw [et] at this
    simp at this; omega
  refine ⟨fun r => ?_, fun r => ?_⟩
  · rcases (key x x0 x1).mp r with a | r'
    · rw [a, upI_s, upI_s, upI_s, upI_n (fun z => st z.symm), upI_s]
      exact ⟨rfl, rfl, rfl, rfl⟩
    · have xt : x ≠ t := by intro z; rw [z] at r'; exact tn r'
      have xs : x ≠ s := by intro z; exact r'.2.2.2.1 (by rw [z]; exact e)
      rw [upI_n xt, upI_n xs, upI_n xs, upI_n xs, upI_n xs]
      exact g1 r'
  · have r1 : ¬ RelS ch pth CN q x := fun z => r ((key x x0 x1).mpr (Or.inr z))
    have xs : x ≠ s := fun z => r ((key x x0 x1).mpr (Or.inl z))
    obtain ⟨k1, k2, k3, k4, k5⟩ := g2 r1
    rw [upI_n xs, upI_n xs, upI_n xs]
    refine ⟨k1, k2, k3, fun ⟨a, b⟩ => ?_, fun a => ?_⟩
    · by_cases xt : x = t
      · rw [xt, upI_s, upI_n st]
        have k5' := k5 (by
          rintro ⟨-, z⟩
          have := z.length_le
          rw [xt, et] at this
          simp at this; omega)
        rw [← xt, k5']
      · rw [upI_n xt, upI_n xs]
        refine k4 ⟨a, (List.prefix_concat_iff.mp b).resolve_left (fun z => xt (hG.2.2.2 x t a ht (by rw [z, et])))⟩
    · have xt : x ≠ t := by intro z; exact a ⟨by rw [z]; exact ht, by rw [z, et]; exact List.prefix_rfl⟩
      rw [upI_n xt, upI_n xs]
      exact k5 (fun z => a ⟨z.1, z.2.trans (List.prefix_append q [c])⟩)
/-- the end of prune, the last state kept or released -/
def PrE (ch : Int → Int) (pth : Int → List Int) (CN : List Int → Int) (q : List Int) (s : Int) : Prop := live ch s ∧ pth s ≠ [] ∧ pth s <+: q ∧ CN (pth s) = 1
def PrF (ba ch co wo : Int → Int) (pth : Int → List Int) (CN : List Int → Int) (q : List Int) (ba' ch' co' wo' : Int → Int) : Prop :=
  ∀ s, 0 ≤ s → s < 512 → (PrE ch pth CN q s → ch' s = -1 ∧ ba' s = 0) ∧ (¬ PrE ch pth CN q s → ch' s = ch s ∧ ba' s = ba s ∧ co' s = co s ∧ (live ch s ∧ pth s <+: q → wo' s = wo s - 1) ∧ (¬ (live ch s ∧ pth s <+: q) → wo' s = wo s))
theorem PrI.endK {q : List Int} {s : Int} (h : PrI ba ch co wo pth CN q ba' ch' co' wo') (hs : live ch s) (e : pth s = q) (hq : CN q ≠ 1) : PrF ba ch co wo pth CN q ba' ch' co' wo' := by
  intro x x0 x1
  obtain ⟨g1, g2⟩ := h x x0 x1
  have key : PrE ch pth CN q x ↔ RelS ch pth CN q x := by
    constructor
    · rintro ⟨b1, b2, b3, b4⟩
      exact ⟨b1, b2, b3, fun z => hq (by rw [← z]; exact b4), b4⟩
    · rintro ⟨b1, b2, b3, b4, b5⟩
      exact ⟨b1, b2, b3, b5⟩
  exact ⟨fun r => ⟨(g1 (key.mp r)).1, (g1 (key.mp r)).2.1⟩, fun r => g2 (fun z => r (key.mpr z))⟩
theorem PrI.endR {q : List Int} {s : Int} (h : PrI ba ch co wo pth CN q ba' ch' co' wo') (hG : GI (fun s _ => ba s) ch pth) (hs : live ch s) (e : pth s = q) (hq : CN q = 1) (hn : q ≠ []) : PrF ba ch co wo pth CN q (upI ba' s 0) (upI ch' s (-1)) (upI co' s (-1)) (upI wo' s 0) := by
  intro x x0 x1
  obtain ⟨g1, g2⟩ := h x x0 x1
  have key : PrE ch pth CN q x ↔ (x = s ∨ RelS ch pth CN q x) := by
    constructor
    · rintro ⟨b1, b2, b3, b4⟩
      by_cases z : pth x = q
      · exact Or.inl (hG.2.2.2 x s b1 hs (by rw [z, e]))
      · exact Or.inr ⟨b1, b2, b3, z, b4⟩
    · rintro (b | ⟨b1, b2, b3, b4, b5⟩)
      · rw [b]
        exact ⟨hs, by rw [e]; exact hn, by rw [e]; exact List.prefix_rfl, by rw [e]; exact hq⟩
      · exact ⟨b1, b2, b3, b5⟩
  refine ⟨fun r => ?_, fun r => ?_⟩
  · rcases key.mp r with a | a
    · rw [a, upI_s, upI_s]
      exact ⟨rfl, rfl⟩
    · have xs : x ≠ s := by intro z; exact a.2.2.2.1 (by rw [z]; exact e)
      rw [upI_n xs, upI_n xs]
      exact ⟨(g1 a).1, (g1 a).2.1⟩
  · have xs : x ≠ s := fun z => r (key.mpr (Or.inl z))
    rw [upI_n xs, upI_n xs, upI_n xs, upI_n xs]
    exact g2 (fun z => r (key.mpr (Or.inr z)))
theorem PrF.done {p : List Int} (h : PrF ba ch co wo pth CN p ba' ch' co' wo') (hT : TI ba ch co ki wo pth DC DK CN (Lw CN)) (hm : ∀ q c, CN (q ++ [c]) ≤ CN q) (hm2 : ∀ q c, q <+: p → ¬ (q ++ [c]) <+: p → CN (q ++ [c]) + 1 ≤ CN q) : TI ba' ch' co' ki wo' pth DC DK (cnS CN p) (Lw (cnS CN p)) ∧ cntN ch' 512 ≤ cntN ch 512 := by
  obtain ⟨h1, h2, h3, h4⟩ := hT
  have hl : ∀ x, live ch' x ↔ (live ch x ∧ ¬ PrE ch pth CN p x) := by
    intro x
    constructor
    · rintro ⟨a, b, c⟩
      by_cases e : PrE ch pth CN p x
      · have := ((h x a b).1 e).1
        rw [this] at c
        omega
      · rw [((h x a b).2 e).1] at c
        exact ⟨⟨a, b, c⟩, e⟩
    · rintro ⟨⟨a, b, c⟩, e⟩
      exact ⟨a, b, by rw [((h x a b).2 e).1]; exact c⟩
  have r0 : ¬ PrE ch pth CN p 0 := fun a => a.2.1 h2.2.1
  refine ⟨⟨?_, ⟨?_, h2.2.1, ?_, ?_⟩, ?_, ?_⟩, ?_⟩
  · intro x x0 x1
    have := h1 x x0 x1
    by_cases e : PrE ch pth CN p x
    · have q := (h x x0 x1).1 e
      rw [q.1, q.2]; omega
    · have q := (h x x0 x1).2 e
      rw [q.1, q.2.1]; exact this
  · rw [((h 0 (by omega) (by omega)).2 r0).1]; exact h2.1
  · intro s a b c
    obtain ⟨e1, e2⟩ := (hl s).mp ⟨by omega, b, c⟩
    have q := (h s (by omega) b).2 e2
    rw [q.1]
    obtain ⟨g1, g2, k, g3, g4, g5, g6⟩ := h2.2.2.1 s a b e1.2.2
    have lp : live ch (ch s) := ⟨e1.2.2, g1, g2⟩
    have np : ¬ PrE ch pth CN p (ch s) := by
      rintro ⟨b1, b2, b3, b4⟩
      apply e2
      have m := hm (pth (ch s)) k
      rw [← g6, b4] at m
      have l1 : 1 ≤ CN (pth s) := by
        rcases (h4 (pth s)).mp ⟨s, e1, rfl⟩ with z | z
        · rw [z] at g6
          have := congrArg List.length g6
          simp at this
        · exact z
      have hp1 : CN (pth s) = 1 := by omega
      refine ⟨e1, by rw [g6]; simp, ?_, hp1⟩
      apply Classical.byContradiction
      intro hnp
      have m2 := hm2 (pth (ch s)) k b3 (by rw [← g6]; exact hnp)
      rw [← g6] at m2
      omega
    have qp := (h (ch s) e1.2.2 g1).2 np
    refine ⟨g1, ((hl (ch s)).mpr ⟨lp, np⟩).2.2, k, g3, g4, by show s = ba' (ch s) + k + 1; rw [qp.2.1]; exact g5, g6⟩
  · intro s t hs ht e
    exact h2.2.2.2 s t ((hl s).mp hs).1 ((hl t).mp ht).1 e
  · intro s hs
    obtain ⟨e1, e2⟩ := (hl s).mp hs
    obtain ⟨q1, q2, q3⟩ := h3 s e1
    obtain ⟨k1, k2, k3, k4, k5⟩ := (h s hs.1 hs.2.1).2 e2
    refine ⟨by rw [k3]; exact q1, q2, ?_⟩
    unfold cnS
    by_cases z : pth s <+: p
    · rw [k4 ⟨e1, z⟩, if_pos z, q3]
    · rw [k5 (fun y => z y.2), if_neg z, q3]; omega
  · intro q
    unfold Lw cnS
    constructor
    · rintro ⟨s, hs, e⟩
      obtain ⟨e1, e2⟩ := (hl s).mp hs
      by_cases z : q = []
      · exact Or.inl z
      · right
        rcases (h4 q).mp ⟨s, e1, e⟩ with y | y
        · exact absurd y z
        · by_cases w : q <+: p
          · rw [if_pos w]
            have : CN q ≠ 1 := fun v => e2 ⟨e1, by rw [e]; exact z, by rw [e]; exact w, by rw [e]; exact v⟩
            omega
          · rw [if_neg w]; omega
    · intro a
      have b : Lw CN q := by
        rcases a with a | a
        · exact Or.inl a
        · right
          by_cases w : q <+: p
          · rw [if_pos w] at a; omega
          · rw [if_neg w] at a; omega
      obtain ⟨s, hs, e⟩ := (h4 q).mpr b
      refine ⟨s, (hl s).mpr ⟨hs, ?_⟩, e⟩
      rintro ⟨b1, b2, b3, b4⟩
      rw [e] at b2 b3 b4
      rcases a with a | a
      · exact b2 a
      · rw [if_pos b3, b4] at a; omega
  · exact cntN_mono 512 (fun x hx hc => (((hl x).mp ⟨by omega, by omega, hc⟩).1).2.2)
end PRUNE
end
section
/-! WALKS: the dictionary of WordLattice, method by method: printed by gen/methA.py -/
set_option maxRecDepth 100000
section DICT
variable {l : Launch} {D : va_G} {dA : ClassId} {ad : Nat → Nat} {K : KX} {pen sp le cf pC pK : Int} {ba ch co ki wo sl tx lk cp nu fl : Int → Int}
theorem m_release {x : Int} (hx : 0 ≤ x ∧ x < 512) : MetV l D dA (wX dA ad) (ad 0) yX1_release (ws_ yX1_release cX1_release 2 none) (rmf 0) [vI x] (pen, ba, ch, co, ki, wo, sp, sl, le, tx, lk, cf, cp, nu, fl, pC, pK) (fun u' => u' = (pen, upI ba x 0, upI ch x (-1), upI co x (-1), ki, upI wo x 0, sp, sl, le, tx, lk, cf, cp, nu, fl, pC, pK)) := by
  refine metV_intro [some (.ref (ad 0)), some (vI x)] (by decide) rfl rfl rfl (Nat.le_of_ble_eq_true rfl) (fun K kr => ?_)
  refine s_aload_n 0 dX1_release_0 rfl rfl ?_
  refine xg_ch dX1_release_1 ?_
  refine s_iload_n 1 dX1_release_4 rfl rfl ?_
  refine s_iconst dX1_release_5 ?_
  refine xw_ch dX1_release_6 ⟨by omega, by omega⟩ ?_
  refine s_aload_n 0 dX1_release_7 rfl rfl ?_
  refine xg_ba dX1_release_8 ?_
  refine s_iload_n 1 dX1_release_11 rfl rfl ?_
  refine s_iconst dX1_release_12 ?_
  refine xw_ba dX1_release_13 ⟨by omega, by omega⟩ ?_
  refine s_aload_n 0 dX1_release_14 rfl rfl ?_
  refine xg_co dX1_release_15 ?_
  refine s_iload_n 1 dX1_release_18 rfl rfl ?_
  refine s_iconst dX1_release_19 ?_
  refine xw_co dX1_release_20 ⟨by omega, by omega⟩ ?_
  refine s_aload_n 0 dX1_release_21 rfl rfl ?_
  refine xg_wo dX1_release_22 ?_
  refine s_iload_n 1 dX1_release_25 rfl rfl ?_
  refine s_iconst dX1_release_26 ?_
  refine xw_wo dX1_release_27 ⟨by omega, by omega⟩ ?_
  exact kr _ _ _ dX1_release_28 rfl
theorem m_childOf {s c : Int} (hs : 0 ≤ s ∧ s < 512) (hc : 0 ≤ c ∧ c < 4) (hR : Rg ba ch) : MetI l D dA (wX dA ad) (ad 0) yX1_childOf (ws_ yX1_childOf cX1_childOf 4 (some .int)) (rmf 0) [vI s, vI c] (pen, ba, ch, co, ki, wo, sp, sl, le, tx, lk, cf, cp, nu, fl, pC, pK) (fun r u' => u' = (pen, ba, ch, co, ki, wo, sp, sl, le, tx, lk, cf, cp, nu, fl, pC, pK) ∧ r = chP ba ch s c) := by
  refine metI_intro [some (.ref (ad 0)), some (vI s), some (vI c), none] (by decide) rfl rfl rfl (Nat.le_of_ble_eq_true rfl) (fun _ _ _ => vp_nar_int _) (fun K kr => ?_)
  have r1 := hR s hs.1 hs.2
  have r2 := hR (ba s + c + 1) (by omega) (by omega)
  refine s_aload_n 0 dX1_childOf_0 rfl rfl ?_
  refine xg_ba dX1_childOf_1 ?_
  refine s_iload_n 1 dX1_childOf_4 rfl rfl ?_
  refine xr_ba dX1_childOf_5 ⟨by omega, by omega⟩ ?_
  refine s_iload_n 2 dX1_childOf_6 rfl rfl ?_
  refine s_iadd dX1_childOf_7 ?_
  refine s_iconst dX1_childOf_8 ?_
  refine s_iadd dX1_childOf_9 ?_
  refine s_istore_n 3 [some (.ref (ad 0)), some (vI s), some (vI c), some (vI (((ba s) + c) + 1))] dX1_childOf_10 rfl (by decide) rfl ?_
  refine s_iload_n 3 dX1_childOf_11 rfl rfl ?_
  refine s_if_le 29 dX1_childOf_12 (by decide) ⟨by omega, by omega⟩ (fun h12 => ?_) (fun h12 => ?_)
  · skip
    exfalso; omega
  · skip
    refine s_aload_n 0 dX1_childOf_15 rfl rfl ?_
    refine xg_ch dX1_childOf_16 ?_
    refine s_iload_n 3 dX1_childOf_19 rfl rfl ?_
    refine xr_ch dX1_childOf_20 ⟨by omega, by omega⟩ ?_
    refine s_iload_n 1 dX1_childOf_21 rfl rfl ?_
    refine s_icmp_ne 29 dX1_childOf_22 (by decide) ⟨by omega, by omega⟩ ⟨by omega, by omega⟩ (fun h22 => ?_) (fun h22 => ?_)
    · skip
      refine s_iconst dX1_childOf_29 ?_
      exact kr _ _ _ _ dX1_childOf_30 (⟨rfl, by simp [chP, h22]⟩)
    · skip
      refine s_iload_n 3 dX1_childOf_25 rfl rfl ?_
      refine s_goto 30 dX1_childOf_26 (by decide) ?_
      exact kr _ _ _ _ dX1_childOf_30 (⟨rfl, by simp [chP, h22]⟩)
theorem m_childOf1 {s c : Int} (hs : 0 ≤ s ∧ s < 512) (hc : 0 ≤ c ∧ c < 4) (r1 : 0 ≤ ba s ∧ ba s ≤ 500) (r2 : -1 ≤ ch (ba s + c + 1) ∧ ch (ba s + c + 1) < 512) : MetI l D dA (wX dA ad) (ad 0) yX1_childOf (ws_ yX1_childOf cX1_childOf 4 (some .int)) (rmf 0) [vI s, vI c] (pen, ba, ch, co, ki, wo, sp, sl, le, tx, lk, cf, cp, nu, fl, pC, pK) (fun r u' => u' = (pen, ba, ch, co, ki, wo, sp, sl, le, tx, lk, cf, cp, nu, fl, pC, pK) ∧ r = chP ba ch s c) := by
  refine metI_intro [some (.ref (ad 0)), some (vI s), some (vI c), none] (by decide) rfl rfl rfl (Nat.le_of_ble_eq_true rfl) (fun _ _ _ => vp_nar_int _) (fun K kr => ?_)
  refine s_aload_n 0 dX1_childOf_0 rfl rfl ?_
  refine xg_ba dX1_childOf_1 ?_
  refine s_iload_n 1 dX1_childOf_4 rfl rfl ?_
  refine xr_ba dX1_childOf_5 ⟨by omega, by omega⟩ ?_
  refine s_iload_n 2 dX1_childOf_6 rfl rfl ?_
  refine s_iadd dX1_childOf_7 ?_
  refine s_iconst dX1_childOf_8 ?_
  refine s_iadd dX1_childOf_9 ?_
  refine s_istore_n 3 [some (.ref (ad 0)), some (vI s), some (vI c), some (vI (((ba s) + c) + 1))] dX1_childOf_10 rfl (by decide) rfl ?_
  refine s_iload_n 3 dX1_childOf_11 rfl rfl ?_
  refine s_if_le 29 dX1_childOf_12 (by decide) ⟨by omega, by omega⟩ (fun h12 => ?_) (fun h12 => ?_)
  · skip
    exfalso; omega
  · skip
    refine s_aload_n 0 dX1_childOf_15 rfl rfl ?_
    refine xg_ch dX1_childOf_16 ?_
    refine s_iload_n 3 dX1_childOf_19 rfl rfl ?_
    refine xr_ch dX1_childOf_20 ⟨by omega, by omega⟩ ?_
    refine s_iload_n 1 dX1_childOf_21 rfl rfl ?_
    refine s_icmp_ne 29 dX1_childOf_22 (by decide) ⟨by omega, by omega⟩ ⟨by omega, by omega⟩ (fun h22 => ?_) (fun h22 => ?_)
    · skip
      refine s_iconst dX1_childOf_29 ?_
      exact kr _ _ _ _ dX1_childOf_30 (⟨rfl, by simp [chP, h22]⟩)
    · skip
      refine s_iload_n 3 dX1_childOf_25 rfl rfl ?_
      refine s_goto 30 dX1_childOf_26 (by decide) ?_
      exact kr _ _ _ _ dX1_childOf_30 (⟨rfl, by simp [chP, h22]⟩)
theorem l_find (hR : Rg ba ch) (hsp : sp ≤ 5) (hsl : ∀ i, 0 ≤ i → i < sp → 0 ≤ sl i ∧ sl i < 4) : ∀ (n : Nat) (t i : Int), i + n = sp → 0 ≤ i → -1 ≤ t → t < 512 → (∀ i', SV l D dA (wX dA ad) RX1 cX1_find 3 (rmf 1) K (pen, ba, ch, co, ki, wo, sp, sl, le, tx, lk, cf, cp, nu, fl, pC, pK) 34 [some (.ref (ad 0)), some (vI (wk ba ch t (lst sl i n))), some (vI i')] []) → SV l D dA (wX dA ad) RX1 cX1_find 3 (rmf 1) K (pen, ba, ch, co, ki, wo, sp, sl, le, tx, lk, cf, cp, nu, fl, pC, pK) 4 [some (.ref (ad 0)), some (vI t), some (vI i)] [] := by
  intro n
  induction n with
  | zero =>
    intro t i h1 h2 h3 h4 kx
    refine s_iload_n 2 dX1_find_4 rfl rfl ?_
    refine s_aload_n 0 dX1_find_5 rfl rfl ?_
    refine xg_sp dX1_find_6 ?_
    refine s_icmp_ge 34 dX1_find_9 (by decide) ⟨by omega, by omega⟩ ⟨by omega, by omega⟩ (fun h9 => ?_) (fun h9 => ?_)
    · skip
      exact kx _
    · skip
      exfalso; omega
  | succ n ih =>
    intro t i h1 h2 h3 h4 kx
    have e1 := hsl i h2 (by omega)
    refine s_iload_n 2 dX1_find_4 rfl rfl ?_
    refine s_aload_n 0 dX1_find_5 rfl rfl ?_
    refine xg_sp dX1_find_6 ?_
    refine s_icmp_ge 34 dX1_find_9 (by decide) ⟨by omega, by omega⟩ ⟨by omega, by omega⟩ (fun h9 => ?_) (fun h9 => ?_)
    · skip
      exfalso; omega
    · skip
      refine s_iload_n 1 dX1_find_12 rfl rfl ?_
      refine s_if_lt 34 dX1_find_13 (by decide) ⟨by omega, by omega⟩ (fun h13 => ?_) (fun h13 => ?_)
      · skip
        have kk := kx i
        rw [lst, wk, if_pos h13] at kk
        exact kk
      · skip
        refine s_aload_n 0 dX1_find_16 rfl rfl ?_
        refine s_iload_n 1 dX1_find_17 rfl rfl ?_
        refine s_aload_n 0 dX1_find_18 rfl rfl ?_
        refine xg_sl dX1_find_19 ?_
        refine s_iload_n 2 dX1_find_22 rfl rfl ?_
        refine xr_sl dX1_find_23 ⟨by omega, by omega⟩ ?_
        refine xc_childOf (m_childOf ⟨by omega, by omega⟩ ⟨by omega, by omega⟩ hR) ⟨Nat.le_of_ble_eq_true rfl, Nat.le_of_ble_eq_true rfl⟩ (Nat.le_of_ble_eq_true rfl) dX1_find_24 (fun r24 u_ hp => ?_)
        obtain ⟨rfl, rfl⟩ := hp
        refine s_istore_n 1 [some (.ref (ad 0)), some (vI (chP ba ch t (sl i))), some (vI i)] dX1_find_27 rfl (by decide) rfl ?_
        have e2 := chP_rg hR (s := t) (c := sl i) ⟨by omega, by omega⟩ ⟨by omega, by omega⟩
        refine s_iinc [some (.ref (ad 0)), some (vI (chP ba ch t (sl i))), some (vI (i + 1))] dX1_find_28 rfl (by decide) rfl ?_
        refine s_goto 4 dX1_find_31 (by decide) ?_
        exact ih _ _ (by omega) (by omega) e2.1 e2.2 (fun i' => by have kk := kx i'; rw [lst, wk, if_neg (by omega)] at kk; exact kk)
theorem m_find (hR : Rg ba ch) (hsp : 0 ≤ sp ∧ sp ≤ 5) (hsl : ∀ i, 0 ≤ i → i < sp → 0 ≤ sl i ∧ sl i < 4) : MetI l D dA (wX dA ad) (ad 0) yX1_find (ws_ yX1_find cX1_find 3 (some .int)) (rmf 1) [] (pen, ba, ch, co, ki, wo, sp, sl, le, tx, lk, cf, cp, nu, fl, pC, pK) (fun r u' => u' = (pen, ba, ch, co, ki, wo, sp, sl, le, tx, lk, cf, cp, nu, fl, pC, pK) ∧ r = wk ba ch 0 (lst sl 0 sp.toNat)) := by
  refine metI_intro [some (.ref (ad 0)), none, none] (by decide) rfl rfl rfl (Nat.le_of_ble_eq_true rfl) (fun _ _ _ => vp_nar_int _) (fun K kr => ?_)
  refine s_iconst dX1_find_0 ?_
  refine s_istore_n 1 [some (.ref (ad 0)), some (vI 0), none] dX1_find_1 rfl (by decide) rfl ?_
  refine s_iconst dX1_find_2 ?_
  refine s_istore_n 2 [some (.ref (ad 0)), some (vI 0), some (vI 0)] dX1_find_3 rfl (by decide) rfl ?_
  refine l_find hR hsp.2 hsl sp.toNat 0 0 (by omega) (by omega) (by omega) (by omega) (fun i' => ?_)
  refine s_iload_n 1 dX1_find_34 rfl rfl ?_
  exact kr _ _ _ _ dX1_find_35 (⟨rfl, rfl⟩)
theorem l_fbi {s b : Int} (hR : ∀ x, 0 ≤ x → x < 512 → -1 ≤ ch x ∧ ch x < 512) (hs : 0 ≤ s ∧ s < 16) (hb : 0 ≤ b ∧ b < 500) : ∀ (n : Nat) (c f : Int), c + n = 4 → 0 ≤ c → FB ch s b c f → (∀ f c', FB ch s b 4 f → SV l D dA (wX dA ad) RX1 cX1_freeBase 5 (rmf 0) K (pen, ba, ch, co, ki, wo, sp, sl, le, tx, lk, cf, cp, nu, fl, pC, pK) 51 [some (.ref (ad 0)), some (vI s), some (vI b), some (vI f), some (vI c')] []) → SV l D dA (wX dA ad) RX1 cX1_freeBase 5 (rmf 0) K (pen, ba, ch, co, ki, wo, sp, sl, le, tx, lk, cf, cp, nu, fl, pC, pK) 14 [some (.ref (ad 0)), some (vI s), some (vI b), some (vI f), some (vI c)] [] := by
  intro n
  induction n with
  | zero =>
    intro c f h1 h2 hf kx
    obtain rfl : c = 4 := by omega
    refine s_iload dX1_freeBase_14 rfl ?_
    refine s_iconst dX1_freeBase_16 ?_
    refine s_icmp_ge 51 dX1_freeBase_17 (by decide) ⟨by omega, by omega⟩ ⟨by omega, by omega⟩ (fun h17 => ?_) (fun h17 => ?_)
    · skip
      exact kx _ _ hf
    · skip
      exfalso; omega
  | succ n ih =>
    intro c f h1 h2 hf kx
    have e1 := bit01 hs (j := c) ⟨by omega, by omega⟩
    have e2 := hR (b + c + 1) (by omega) (by omega)
    refine s_iload dX1_freeBase_14 rfl ?_
    refine s_iconst dX1_freeBase_16 ?_
    refine s_icmp_ge 51 dX1_freeBase_17 (by decide) ⟨by omega, by omega⟩ ⟨by omega, by omega⟩ (fun h17 => ?_) (fun h17 => ?_)
    · skip
      exfalso; omega
    · skip
      refine s_iload_n 1 dX1_freeBase_20 rfl rfl ?_
      refine s_iload dX1_freeBase_21 rfl ?_
      refine s_iushr (shrI s c) (shr_ok hs ⟨by omega, by omega⟩) dX1_freeBase_23 ?_
      refine s_iconst dX1_freeBase_24 ?_
      refine s_iand (bitI s c) (and1_ok hs ⟨by omega, by omega⟩) dX1_freeBase_25 ?_
      refine s_if_eq 45 dX1_freeBase_26 (by decide) ⟨by omega, by omega⟩ (fun h26 => ?_) (fun h26 => ?_)
      · skip
        refine s_iinc [some (.ref (ad 0)), some (vI s), some (vI b), some (vI f), some (vI (c + 1))] dX1_freeBase_45 rfl (by decide) rfl ?_
        refine s_goto 14 dX1_freeBase_48 (by decide) ?_
        exact ih _ _ (by omega) (by omega) (by first | exact FB.skip hf h26 | exact FB.ok hf h40 | exact FB.bad hf h2 (by omega) h40) kx
      · skip
        refine s_aload_n 0 dX1_freeBase_29 rfl rfl ?_
        refine xg_ch dX1_freeBase_30 ?_
        refine s_iload_n 2 dX1_freeBase_33 rfl rfl ?_
        refine s_iload dX1_freeBase_34 rfl ?_
        refine s_iadd dX1_freeBase_36 ?_
        refine s_iconst dX1_freeBase_37 ?_
        refine s_iadd dX1_freeBase_38 ?_
        refine xr_ch dX1_freeBase_39 ⟨by omega, by omega⟩ ?_
        refine s_if_lt 45 dX1_freeBase_40 (by decide) ⟨by omega, by omega⟩ (fun h40 => ?_) (fun h40 => ?_)
        · skip
          refine s_iinc [some (.ref (ad 0)), some (vI s), some (vI b), some (vI f), some (vI (c + 1))] dX1_freeBase_45 rfl (by decide) rfl ?_
          refine s_goto 14 dX1_freeBase_48 (by decide) ?_
          exact ih _ _ (by omega) (by omega) (by first | exact FB.skip hf h26 | exact FB.ok hf h40 | exact FB.bad hf h2 (by omega) h40) kx
        · skip
          refine s_iconst dX1_freeBase_43 ?_
          refine s_istore_n 3 [some (.ref (ad 0)), some (vI s), some (vI b), some (vI 0), some (vI c)] dX1_freeBase_44 rfl (by decide) rfl ?_
          refine s_iinc [some (.ref (ad 0)), some (vI s), some (vI b), some (vI 0), some (vI (c + 1))] dX1_freeBase_45 rfl (by decide) rfl ?_
          refine s_goto 14 dX1_freeBase_48 (by decide) ?_
          exact ih _ _ (by omega) (by omega) (by first | exact FB.skip hf h26 | exact FB.ok hf h40 | exact FB.bad hf h2 (by omega) h40) kx
theorem l_fbo {s : Int} (hR : ∀ x, 0 ≤ x → x < 512 → -1 ≤ ch x ∧ ch x < 512) (hs : 0 ≤ s ∧ s < 16) (kr : ∀ (pc : Nat) (lv : List (Option Value)) (r : Int) (u' : SX), decode cX1_freeBase pc = .ok (.ireturn, 1) → (u' = (pen, ba, ch, co, ki, wo, sp, sl, le, tx, lk, cf, cp, nu, fl, pC, pK) ∧ FBp ch s r) → SV l D dA (wX dA ad) RX1 cX1_freeBase 5 (rmf 0) K u' pc lv [vI r]) : ∀ (n : Nat) (b : Int) (o3 o4 : Option Value), b + n = 500 → 0 ≤ b → (∀ b', 0 ≤ b' → b' < b → ∃ j, 0 ≤ j ∧ j < 4 ∧ bitI s j = 1 ∧ 0 ≤ ch (b' + j + 1)) → SV l D dA (wX dA ad) RX1 cX1_freeBase 5 (rmf 0) K (pen, ba, ch, co, ki, wo, sp, sl, le, tx, lk, cf, cp, nu, fl, pC, pK) 2 [some (.ref (ad 0)), some (vI s), some (vI b), o3, o4] [] := by
  intro n
  induction n with
  | zero =>
    intro b o3 o4 h1 h2 hf
    refine s_iload_n 2 dX1_freeBase_2 rfl rfl ?_
    refine s_sipush dX1_freeBase_3 rfl ?_
    refine s_icmp_ge 63 dX1_freeBase_6 (by decide) ⟨by omega, by omega⟩ ⟨by omega, by omega⟩ (fun h6 => ?_) (fun h6 => ?_)
    · skip
      refine s_sipush dX1_freeBase_63 rfl ?_
      exact kr _ _ _ _ dX1_freeBase_66 (⟨rfl, Or.inr ⟨rfl, fun b' a1 a2 => hf b' a1 (by omega)⟩⟩)
    · skip
      exfalso; omega
  | succ n ih =>
    intro b o3 o4 h1 h2 hf
    refine s_iload_n 2 dX1_freeBase_2 rfl rfl ?_
    refine s_sipush dX1_freeBase_3 rfl ?_
    refine s_icmp_ge 63 dX1_freeBase_6 (by decide) ⟨by omega, by omega⟩ ⟨by omega, by omega⟩ (fun h6 => ?_) (fun h6 => ?_)
    · skip
      exfalso; omega
    · skip
      refine s_iconst dX1_freeBase_9 ?_
      refine s_istore_n 3 [some (.ref (ad 0)), some (vI s), some (vI b), some (vI 1), o4] dX1_freeBase_10 rfl (by decide) rfl ?_
      refine s_iconst dX1_freeBase_11 ?_
      refine s_istore [some (.ref (ad 0)), some (vI s), some (vI b), some (vI 1), some (vI 0)] dX1_freeBase_12 (by decide) rfl ?_
      refine l_fbi hR hs ⟨h2, by omega⟩ 4 0 1 (by omega) (by omega) (Or.inl ⟨rfl, fun j a1 a2 => by omega⟩) (fun f c' hF => ?_)
      refine s_iload_n 3 dX1_freeBase_51 rfl rfl ?_
      have e3 : f = 0 ∨ f = 1 := by rcases hF with a | a; exact Or.inr a.1; exact Or.inl a.1
      refine s_if_eq 57 dX1_freeBase_52 (by decide) ⟨by omega, by omega⟩ (fun h52 => ?_) (fun h52 => ?_)
      · skip
        refine s_iinc [some (.ref (ad 0)), some (vI s), some (vI (b + 1)), some (vI f), some (vI c')] dX1_freeBase_57 rfl (by decide) rfl ?_
        refine s_goto 2 dX1_freeBase_60 (by decide) ?_
        refine ih _ _ _ (by omega) (by omega) (fun b' a1 a2 => ?_)
        by_cases z : b' = b
        · rw [z]
          rcases hF with a | a
          · exact absurd (a.1.symm.trans h52) (by omega)
          · exact a.2
        · exact hf b' a1 (by omega)
      · skip
        refine s_iload_n 2 dX1_freeBase_55 rfl rfl ?_
        exact kr _ _ _ _ dX1_freeBase_56 (⟨rfl, Or.inl ⟨h2, by omega, by rcases hF with a | a; exact a.2; exact absurd a.1 h52⟩⟩)
theorem m_freeBase {s : Int} (hR : ∀ x, 0 ≤ x → x < 512 → -1 ≤ ch x ∧ ch x < 512) (hs : 0 ≤ s ∧ s < 16) : MetI l D dA (wX dA ad) (ad 0) yX1_freeBase (ws_ yX1_freeBase cX1_freeBase 5 (some .int)) (rmf 0) [vI s] (pen, ba, ch, co, ki, wo, sp, sl, le, tx, lk, cf, cp, nu, fl, pC, pK) (fun r u' => u' = (pen, ba, ch, co, ki, wo, sp, sl, le, tx, lk, cf, cp, nu, fl, pC, pK) ∧ FBp ch s r) := by
  refine metI_intro [some (.ref (ad 0)), some (vI s), none, none, none] (by decide) rfl rfl rfl (Nat.le_of_ble_eq_true rfl) (fun _ _ _ => vp_nar_int _) (fun K kr => ?_)
  refine s_iconst dX1_freeBase_0 ?_
  refine s_istore_n 2 [some (.ref (ad 0)), some (vI s), some (vI 0), none, none] dX1_freeBase_1 rfl (by decide) rfl ?_
  exact l_fbo hR hs kr 500 0 _ _ (by omega) (by omega) (fun b' a1 a2 => by omega)
theorem l_ms {fr to : Int} (hfr : 0 ≤ fr ∧ fr < 512) (hto : 0 ≤ to ∧ to < 512) (hb : 0 ≤ ba fr ∧ ba fr ≤ 500) : ∀ (n : Nat) (c : Int) (ch : Int → Int), c + n = 5 → 1 ≤ c → (∀ x, 0 ≤ x → x < 512 → -1 ≤ ch x ∧ ch x < 512) → (∀ c', SV l D dA (wX dA ad) RX1 cX1_moveState 4 (rmf 1) K (pen, ba, rpl (ba fr) fr to n c ch, co, ki, wo, sp, sl, le, tx, lk, cf, cp, nu, fl, pC, pK) 104 [some (.ref (ad 0)), some (vI fr), some (vI to), some (vI c')] []) → SV l D dA (wX dA ad) RX1 cX1_moveState 4 (rmf 1) K (pen, ba, ch, co, ki, wo, sp, sl, le, tx, lk, cf, cp, nu, fl, pC, pK) 62 [some (.ref (ad 0)), some (vI fr), some (vI to), some (vI c)] [] := by
  intro n
  induction n with
  | zero =>
    intro c ch h1 h2 hR kx
    refine s_iload_n 3 dX1_moveState_62 rfl rfl ?_
    refine s_iconst dX1_moveState_63 ?_
    refine s_icmp_gt 104 dX1_moveState_64 (by decide) ⟨by omega, by omega⟩ ⟨by omega, by omega⟩ (fun h64 => ?_) (fun h64 => ?_)
    · skip
      exact kx _
    · skip
      exfalso; omega
  | succ n ih =>
    intro c ch h1 h2 hR kx
    have e1 := hR (ba fr + c) (by omega) (by omega)
    refine s_iload_n 3 dX1_moveState_62 rfl rfl ?_
    refine s_iconst dX1_moveState_63 ?_
    refine s_icmp_gt 104 dX1_moveState_64 (by decide) ⟨by omega, by omega⟩ ⟨by omega, by omega⟩ (fun h64 => ?_) (fun h64 => ?_)
    · skip
      exfalso; omega
    · skip
      refine s_aload_n 0 dX1_moveState_67 rfl rfl ?_
      refine xg_ch dX1_moveState_68 ?_
      refine s_aload_n 0 dX1_moveState_71 rfl rfl ?_
      refine xg_ba dX1_moveState_72 ?_
      refine s_iload_n 1 dX1_moveState_75 rfl rfl ?_
      refine xr_ba dX1_moveState_76 ⟨by omega, by omega⟩ ?_
      refine s_iload_n 3 dX1_moveState_77 rfl rfl ?_
      refine s_iadd dX1_moveState_78 ?_
      refine xr_ch dX1_moveState_79 ⟨by omega, by omega⟩ ?_
      refine s_iload_n 1 dX1_moveState_80 rfl rfl ?_
      refine s_icmp_ne 98 dX1_moveState_81 (by decide) ⟨by omega, by omega⟩ ⟨by omega, by omega⟩ (fun h81 => ?_) (fun h81 => ?_)
      · skip
        refine s_iinc [some (.ref (ad 0)), some (vI fr), some (vI to), some (vI (c + 1))] dX1_moveState_98 rfl (by decide) rfl ?_
        refine s_goto 62 dX1_moveState_101 (by decide) ?_
        first
          | exact ih _ _ (by omega) (by omega) hR (fun c' => by have kk := kx c'; rw [rpl, if_neg h81] at kk; exact kk)
          | exact ih _ _ (by omega) (by omega) (fun x x0 x1 => by rw [upI_at]; have := hR x x0 x1; split <;> omega) (fun c' => by have kk := kx c'; rw [rpl, if_pos h81] at kk; exact kk)
      · skip
        refine s_aload_n 0 dX1_moveState_84 rfl rfl ?_
        refine xg_ch dX1_moveState_85 ?_
        refine s_aload_n 0 dX1_moveState_88 rfl rfl ?_
        refine xg_ba dX1_moveState_89 ?_
        refine s_iload_n 1 dX1_moveState_92 rfl rfl ?_
        refine xr_ba dX1_moveState_93 ⟨by omega, by omega⟩ ?_
        refine s_iload_n 3 dX1_moveState_94 rfl rfl ?_
        refine s_iadd dX1_moveState_95 ?_
        refine s_iload_n 2 dX1_moveState_96 rfl rfl ?_
        refine xw_ch dX1_moveState_97 ⟨by omega, by omega⟩ ?_
        refine s_iinc [some (.ref (ad 0)), some (vI fr), some (vI to), some (vI (c + 1))] dX1_moveState_98 rfl (by decide) rfl ?_
        refine s_goto 62 dX1_moveState_101 (by decide) ?_
        first
          | exact ih _ _ (by omega) (by omega) hR (fun c' => by have kk := kx c'; rw [rpl, if_neg h81] at kk; exact kk)
          | exact ih _ _ (by omega) (by omega) (fun x x0 x1 => by rw [upI_at]; have := hR x x0 x1; split <;> omega) (fun c' => by have kk := kx c'; rw [rpl, if_pos h81] at kk; exact kk)
theorem m_moveState {fr to : Int} (hfr : 0 ≤ fr ∧ fr < 512) (hto : 0 ≤ to ∧ to < 512) (hne : fr ≠ to) (hR : Rg ba ch) : MetV l D dA (wX dA ad) (ad 0) yX1_moveState (ws_ yX1_moveState cX1_moveState 4 none) (rmf 1) [vI fr, vI to] (pen, ba, ch, co, ki, wo, sp, sl, le, tx, lk, cf, cp, nu, fl, pC, pK) (fun u' => u' = (pen, upI (upI ba to (ba fr)) fr 0, upI (rpl (ba fr) fr to 4 1 (upI ch to (ch fr))) fr (-1), upI (upI co to (co fr)) fr (-1), upI ki to (ki fr), upI (upI wo to (wo fr)) fr 0, sp, sl, le, tx, lk, cf, cp, nu, fl, pC, pK)) := by
  refine metV_intro [some (.ref (ad 0)), some (vI fr), some (vI to), none] (by decide) rfl rfl rfl (Nat.le_of_ble_eq_true rfl) (fun K kr => ?_)
  have r1 := hR fr hfr.1 hfr.2
  have eb : upI ba to (ba fr) fr = ba fr := upI_n hne
  refine s_aload_n 0 dX1_moveState_0 rfl rfl ?_
  refine xg_ch dX1_moveState_1 ?_
  refine s_iload_n 2 dX1_moveState_4 rfl rfl ?_
  refine s_aload_n 0 dX1_moveState_5 rfl rfl ?_
  refine xg_ch dX1_moveState_6 ?_
  refine s_iload_n 1 dX1_moveState_9 rfl rfl ?_
  refine xr_ch dX1_moveState_10 ⟨by omega, by omega⟩ ?_
  refine xw_ch dX1_moveState_11 ⟨by omega, by omega⟩ ?_
  refine s_aload_n 0 dX1_moveState_12 rfl rfl ?_
  refine xg_ba dX1_moveState_13 ?_
  refine s_iload_n 2 dX1_moveState_16 rfl rfl ?_
  refine s_aload_n 0 dX1_moveState_17 rfl rfl ?_
  refine xg_ba dX1_moveState_18 ?_
  refine s_iload_n 1 dX1_moveState_21 rfl rfl ?_
  refine xr_ba dX1_moveState_22 ⟨by omega, by omega⟩ ?_
  refine xw_ba dX1_moveState_23 ⟨by omega, by omega⟩ ?_
  refine s_aload_n 0 dX1_moveState_24 rfl rfl ?_
  refine xg_co dX1_moveState_25 ?_
  refine s_iload_n 2 dX1_moveState_28 rfl rfl ?_
  refine s_aload_n 0 dX1_moveState_29 rfl rfl ?_
  refine xg_co dX1_moveState_30 ?_
  refine s_iload_n 1 dX1_moveState_33 rfl rfl ?_
  refine xr_co dX1_moveState_34 ⟨by omega, by omega⟩ ?_
  refine xw_co dX1_moveState_35 ⟨by omega, by omega⟩ ?_
  refine s_aload_n 0 dX1_moveState_36 rfl rfl ?_
  refine xg_ki dX1_moveState_37 ?_
  refine s_iload_n 2 dX1_moveState_40 rfl rfl ?_
  refine s_aload_n 0 dX1_moveState_41 rfl rfl ?_
  refine xg_ki dX1_moveState_42 ?_
  refine s_iload_n 1 dX1_moveState_45 rfl rfl ?_
  refine xr_ki dX1_moveState_46 ⟨by omega, by omega⟩ ?_
  refine xw_ki dX1_moveState_47 ⟨by omega, by omega⟩ ?_
  refine s_aload_n 0 dX1_moveState_48 rfl rfl ?_
  refine xg_wo dX1_moveState_49 ?_
  refine s_iload_n 2 dX1_moveState_52 rfl rfl ?_
  refine s_aload_n 0 dX1_moveState_53 rfl rfl ?_
  refine xg_wo dX1_moveState_54 ?_
  refine s_iload_n 1 dX1_moveState_57 rfl rfl ?_
  refine xr_wo dX1_moveState_58 ⟨by omega, by omega⟩ ?_
  refine xw_wo dX1_moveState_59 ⟨by omega, by omega⟩ ?_
  refine s_iconst dX1_moveState_60 ?_
  refine s_istore_n 3 [some (.ref (ad 0)), some (vI fr), some (vI to), some (vI 1)] dX1_moveState_61 rfl (by decide) rfl ?_
  refine l_ms hfr hto (by rw [eb]; omega) 4 1 _ (by omega) (by omega) (fun x x0 x1 => by rw [upI_at]; have := hR x x0 x1; split <;> omega) (fun c' => ?_)
  rw [eb]
  refine s_aload_n 0 dX1_moveState_104 rfl rfl ?_
  refine s_iload_n 1 dX1_moveState_105 rfl rfl ?_
  refine xc_release (m_release hfr) ⟨Nat.le_of_ble_eq_true rfl, Nat.le_of_ble_eq_true rfl⟩ (Nat.le_of_ble_eq_true rfl) dX1_moveState_106 (fun u_ hp => ?_)
  subst hp
  exact kr _ _ _ dX1_moveState_109 rfl
theorem l_mc1 {st lt : Int} (hst : 0 ≤ st ∧ st < 512) (hR : Rg ba ch) : ∀ (n : Nat) (c s : Int) (o5 : Option Value), c + n = 4 → 0 ≤ c → MC1 ba ch st s c → (∀ s c' (o5 : Option Value), MC1 ba ch st s 4 → SV l D dA (wX dA ad) RX1 cX1_moveChildren 7 (rmf 2) K (pen, ba, ch, co, ki, wo, sp, sl, le, tx, lk, cf, cp, nu, fl, pC, pK) 38 [some (.ref (ad 0)), some (vI st), some (vI lt), some (vI s), some (vI c'), o5, none] []) → SV l D dA (wX dA ad) RX1 cX1_moveChildren 7 (rmf 2) K (pen, ba, ch, co, ki, wo, sp, sl, le, tx, lk, cf, cp, nu, fl, pC, pK) 5 [some (.ref (ad 0)), some (vI st), some (vI lt), some (vI s), some (vI c), o5, none] [] := by
  intro n
  induction n with
  | zero =>
    intro c s o5 h1 h2 hm kx
    obtain rfl : c = 4 := by omega
    refine s_iload dX1_moveChildren_5 rfl ?_
    refine s_iconst dX1_moveChildren_7 ?_
    refine s_icmp_ge 38 dX1_moveChildren_8 (by decide) ⟨by omega, by omega⟩ ⟨by omega, by omega⟩ (fun h8 => ?_) (fun h8 => ?_)
    · skip
      exact kx _ _ _ hm
    · skip
      exfalso; omega
  | succ n ih =>
    intro c s o5 h1 h2 hm kx
    have hc : 0 ≤ c ∧ c < 4 := ⟨by omega, by omega⟩
    have e2 := chP_rg hR (s := st) hst hc
    refine s_iload dX1_moveChildren_5 rfl ?_
    refine s_iconst dX1_moveChildren_7 ?_
    refine s_icmp_ge 38 dX1_moveChildren_8 (by decide) ⟨by omega, by omega⟩ ⟨by omega, by omega⟩ (fun h8 => ?_) (fun h8 => ?_)
    · skip
      exfalso; omega
    · skip
      refine s_aload_n 0 dX1_moveChildren_11 rfl rfl ?_
      refine s_iload_n 1 dX1_moveChildren_12 rfl rfl ?_
      refine s_iload dX1_moveChildren_13 rfl ?_
      refine xc_childOf (m_childOf hst hc hR) ⟨Nat.le_of_ble_eq_true rfl, Nat.le_of_ble_eq_true rfl⟩ (Nat.le_of_ble_eq_true rfl) dX1_moveChildren_15 (fun r15 u_ hp => ?_)
      obtain ⟨rfl, rfl⟩ := hp
      refine s_istore [some (.ref (ad 0)), some (vI st), some (vI lt), some (vI s), some (vI c), some (vI (chP ba ch st c)), none] dX1_moveChildren_18 (by decide) rfl ?_
      refine s_iload dX1_moveChildren_20 rfl ?_
      refine s_if_lt 32 dX1_moveChildren_22 (by decide) ⟨by omega, by omega⟩ (fun h22 => ?_) (fun h22 => ?_)
      · skip
        refine s_iinc [some (.ref (ad 0)), some (vI st), some (vI lt), some (vI s), some (vI (c + 1)), some (vI (chP ba ch st c)), none] dX1_moveChildren_32 rfl (by decide) rfl ?_
        refine s_goto 5 dX1_moveChildren_35 (by decide) ?_
        exact ih _ _ _ (by omega) (by omega) (by first | exact MC1.skip hm hc h22 | exact MC1.add hm hc h22) kx
      · skip
        refine s_iload_n 3 dX1_moveChildren_25 rfl rfl ?_
        refine s_iconst dX1_moveChildren_26 ?_
        refine s_iload dX1_moveChildren_27 rfl ?_
        refine s_ishl (pwI c) (shl_ok hc).1 dX1_moveChildren_29 ?_
        refine s_ior (orI s (pwI c)) (or_ok ⟨hm.1, hm.2.1⟩ (shl_ok hc).2).1 dX1_moveChildren_30 ?_
        refine s_istore_n 3 [some (.ref (ad 0)), some (vI st), some (vI lt), some (vI (orI s (pwI c))), some (vI c), some (vI (chP ba ch st c)), none] dX1_moveChildren_31 rfl (by decide) rfl ?_
        refine s_iinc [some (.ref (ad 0)), some (vI st), some (vI lt), some (vI (orI s (pwI c))), some (vI (c + 1)), some (vI (chP ba ch st c)), none] dX1_moveChildren_32 rfl (by decide) rfl ?_
        refine s_goto 5 dX1_moveChildren_35 (by decide) ?_
        exact ih _ _ _ (by omega) (by omega) (by first | exact MC1.skip hm hc h22 | exact MC1.add hm hc h22) kx
theorem l_mc2 {pth : Int → List Int} {DC DK CN : List Int → Int} {L : List Int → Prop} {P : List Int} {st lt s tg old : Int} {N : Nat} (hs : 0 ≤ s ∧ s < 16) (hL : ∀ j, 0 ≤ j → j < 4 → (bitI s j = 1 ↔ L (P ++ [j]))) (htg : 0 ≤ tg ∧ tg < 500) (hlt : 0 ≤ lt ∧ lt < 4 ∧ ¬ L (P ++ [lt])) : ∀ (n : Nat) (c : Int) (ba ch co ki wo : Int → Int) (pth : Int → List Int), c + n = 4 → 0 ≤ c → MvI old tg st c ba ch co ki wo pth DC DK CN L P lt s N → (∀ c' ba ch co ki wo pth, MvI old tg st 4 ba ch co ki wo pth DC DK CN L P lt s N → SV l D dA (wX dA ad) RX1 cX1_moveChildren 7 (rmf 2) K (pen, ba, ch, co, ki, wo, sp, sl, le, tx, lk, cf, cp, nu, fl, pC, pK) 99 [some (.ref (ad 0)), some (vI st), some (vI lt), some (vI s), some (vI tg), some (vI old), some (vI c')] []) → SV l D dA (wX dA ad) RX1 cX1_moveChildren 7 (rmf 2) K (pen, ba, ch, co, ki, wo, sp, sl, le, tx, lk, cf, cp, nu, fl, pC, pK) 60 [some (.ref (ad 0)), some (vI st), some (vI lt), some (vI s), some (vI tg), some (vI old), some (vI c)] [] := by
  intro n
  induction n with
  | zero =>
    intro c ba ch co ki wo pth h1 h2 hm kx
    obtain rfl : c = 4 := by omega
    refine s_iload dX1_moveChildren_60 rfl ?_
    refine s_iconst dX1_moveChildren_62 ?_
    refine s_icmp_ge 99 dX1_moveChildren_63 (by decide) ⟨by omega, by omega⟩ ⟨by omega, by omega⟩ (fun h63 => ?_) (fun h63 => ?_)
    · skip
      exact kx _ _ _ _ _ _ _ hm
    · skip
      exfalso; omega
  | succ n ih =>
    intro c ba ch co ki wo pth h1 h2 hm kx
    have hc : 0 ≤ c ∧ c < 4 := ⟨by omega, by omega⟩
    have e1 := bit01 hs hc
    refine s_iload dX1_moveChildren_60 rfl ?_
    refine s_iconst dX1_moveChildren_62 ?_
    refine s_icmp_ge 99 dX1_moveChildren_63 (by decide) ⟨by omega, by omega⟩ ⟨by omega, by omega⟩ (fun h63 => ?_) (fun h63 => ?_)
    · skip
      exfalso; omega
    · skip
      refine s_iload_n 3 dX1_moveChildren_66 rfl rfl ?_
      refine s_iload dX1_moveChildren_67 rfl ?_
      refine s_iushr (shrI s c) (shr_ok hs hc) dX1_moveChildren_69 ?_
      refine s_iconst dX1_moveChildren_70 ?_
      refine s_iand (bitI s c) (and1_ok hs hc) dX1_moveChildren_71 ?_
      refine s_if_eq 93 dX1_moveChildren_72 (by decide) ⟨by omega, by omega⟩ (fun h72 => ?_) (fun h72 => ?_)
      · skip
        refine s_iinc [some (.ref (ad 0)), some (vI st), some (vI lt), some (vI s), some (vI tg), some (vI old), some (vI (c + 1))] dX1_moveChildren_93 rfl (by decide) rfl ?_
        refine s_goto 60 dX1_moveChildren_96 (by decide) ?_
        first | exact ih _ _ _ _ _ _ _ (by omega) (by omega) (MvI.none hm hL hc (by omega)) kx | exact ih _ _ _ _ _ _ _ (by omega) (by omega) hm2.1 kx
      · skip
        refine s_aload_n 0 dX1_moveChildren_75 rfl rfl ?_
        refine s_iload dX1_moveChildren_76 rfl ?_
        refine s_iload dX1_moveChildren_78 rfl ?_
        refine s_iadd dX1_moveChildren_80 ?_
        refine s_iconst dX1_moveChildren_81 ?_
        refine s_iadd dX1_moveChildren_82 ?_
        refine s_iload dX1_moveChildren_83 rfl ?_
        refine s_iload dX1_moveChildren_85 rfl ?_
        refine s_iadd dX1_moveChildren_87 ?_
        refine s_iconst dX1_moveChildren_88 ?_
        refine s_iadd dX1_moveChildren_89 ?_
        have hm2 := MvI.move hm hL hc (by omega) htg hlt
        refine xc_moveState (m_moveState ⟨hm2.2.1.1, hm2.2.1.2.1⟩ ⟨by omega, by omega⟩ hm2.2.2 hm.1) ⟨Nat.le_of_ble_eq_true rfl, Nat.le_of_ble_eq_true rfl⟩ (Nat.le_of_ble_eq_true rfl) dX1_moveChildren_90 (fun u_ hp => ?_)
        subst hp
        refine s_iinc [some (.ref (ad 0)), some (vI st), some (vI lt), some (vI s), some (vI tg), some (vI old), some (vI (c + 1))] dX1_moveChildren_93 rfl (by decide) rfl ?_
        refine s_goto 60 dX1_moveChildren_96 (by decide) ?_
        first | exact ih _ _ _ _ _ _ _ (by omega) (by omega) (MvI.none hm hL hc (by omega)) kx | exact ih _ _ _ _ _ _ _ (by omega) (by omega) hm2.1 kx
theorem m_moveChildren {pth : Int → List Int} {DC DK CN : List Int → Int} {L : List Int → Prop} {st lt : Int} (hT : TI ba ch co ki wo pth DC DK CN L) (hst : live ch st) (hlt : 0 ≤ lt ∧ lt < 4 ∧ ¬ L (pth st ++ [lt])) (hN : cntN ch 512 ≤ 124) : MetV l D dA (wX dA ad) (ad 0) yX1_moveChildren (ws_ yX1_moveChildren cX1_moveChildren 7 none) (rmf 2) [vI st, vI lt] (pen, ba, ch, co, ki, wo, sp, sl, le, tx, lk, cf, cp, nu, fl, pC, pK) (fun u' => ∃ ba' ch' co' ki' wo' pth', u' = (pen, ba', ch', co', ki', wo', sp, sl, le, tx, lk, cf, cp, nu, fl, pC, pK) ∧ TI ba' ch' co' ki' wo' pth' DC DK CN L ∧ live ch' st ∧ pth' st = pth st ∧ ch' (ba' st + lt + 1) < 0 ∧ cntN ch' 512 = cntN ch 512) := by
  refine metV_intro [some (.ref (ad 0)), some (vI st), some (vI lt), none, none, none, none] (by decide) rfl rfl rfl (Nat.le_of_ble_eq_true rfl) (fun K kr => ?_)
  have hs0 : 0 ≤ st ∧ st < 512 := ⟨hst.1, hst.2.1⟩
  have hlt0 : 0 ≤ lt ∧ lt < 4 := ⟨hlt.1, hlt.2.1⟩
  refine s_iconst dX1_moveChildren_0 ?_
  refine s_istore_n 3 [some (.ref (ad 0)), some (vI st), some (vI lt), some (vI 0), none, none, none] dX1_moveChildren_1 rfl (by decide) rfl ?_
  refine s_iconst dX1_moveChildren_2 ?_
  refine s_istore [some (.ref (ad 0)), some (vI st), some (vI lt), some (vI 0), some (vI 0), none, none] dX1_moveChildren_3 (by decide) rfl ?_
  refine l_mc1 hs0 hT.1 4 0 0 _ (by omega) (by omega) (MC1.zero ba ch st) (fun s c' o5 hm => ?_)
  refine s_aload_n 0 dX1_moveChildren_38 rfl rfl ?_
  refine s_iload_n 3 dX1_moveChildren_39 rfl rfl ?_
  refine s_iconst dX1_moveChildren_40 ?_
  refine s_iload_n 2 dX1_moveChildren_41 rfl rfl ?_
  refine s_ishl (pwI lt) (shl_ok hlt0).1 dX1_moveChildren_42 ?_
  refine s_ior (orI s (pwI lt)) (or_ok ⟨hm.1, hm.2.1⟩ (shl_ok hlt0).2).1 dX1_moveChildren_43 ?_
  refine xc_freeBase (m_freeBase (fun x x0 x1 => ⟨(hT.1 x x0 x1).2.2.1, (hT.1 x x0 x1).2.2.2⟩) (or_ok ⟨hm.1, hm.2.1⟩ (shl_ok hlt0).2).2) ⟨Nat.le_of_ble_eq_true rfl, Nat.le_of_ble_eq_true rfl⟩ (Nat.le_of_ble_eq_true rfl) dX1_moveChildren_44 (fun tg u_ hp => ?_)
  obtain ⟨rfl, hp⟩ := hp
  obtain ⟨t0, t1, t2⟩ := hp.use hN
  refine s_istore [some (.ref (ad 0)), some (vI st), some (vI lt), some (vI s), some (vI tg), o5, none] dX1_moveChildren_47 (by decide) rfl ?_
  refine s_aload_n 0 dX1_moveChildren_49 rfl rfl ?_
  refine xg_ba dX1_moveChildren_50 ?_
  refine s_iload_n 1 dX1_moveChildren_53 rfl rfl ?_
  refine xr_ba dX1_moveChildren_54 ⟨by omega, by omega⟩ ?_
  refine s_istore [some (.ref (ad 0)), some (vI st), some (vI lt), some (vI s), some (vI tg), some (vI (ba st)), none] dX1_moveChildren_55 (by decide) rfl ?_
  refine s_iconst dX1_moveChildren_57 ?_
  refine s_istore [some (.ref (ad 0)), some (vI st), some (vI lt), some (vI s), some (vI tg), some (vI (ba st)), some (vI 0)] dX1_moveChildren_58 (by decide) rfl ?_
  refine l_mc2 (pth := pth) ⟨hm.1, hm.2.1⟩ (hm.lw hT hst) ⟨t0, t1⟩ hlt 4 0 ba ch co ki wo pth (by omega) (by omega) (MvI.start hT hst (fun j a b d => t2 j a b (by rw [bit_or ⟨hm.1, hm.2.1⟩ hlt0 ⟨a, b⟩, d]; split <;> rfl)) (t2 lt hlt.1 hlt.2.1 (by rw [bit_or ⟨hm.1, hm.2.1⟩ hlt0 hlt0, if_pos rfl]))) (fun c' ba' ch' co' ki' wo' pth' hm' => ?_)
  refine s_aload_n 0 dX1_moveChildren_99 rfl rfl ?_
  refine xg_ba dX1_moveChildren_100 ?_
  refine s_iload_n 1 dX1_moveChildren_103 rfl rfl ?_
  refine s_iload dX1_moveChildren_104 rfl ?_
  refine xw_ba dX1_moveChildren_106 ⟨by omega, by omega⟩ ?_
  exact kr _ _ _ dX1_moveChildren_107 (⟨_, _, _, _, _, pth', rfl, (hm'.done ⟨t0, t1⟩).1, (hm'.done ⟨t0, t1⟩).2.1, (hm'.done ⟨t0, t1⟩).2.2.1, (hm'.done ⟨t0, t1⟩).2.2.2.1, (hm'.done ⟨t0, t1⟩).2.2.2.2⟩)
theorem l_ac {pth : Int → List Int} {DC DK CN : List Int → Int} {L : List Int → Prop} {P : List Int} {N : Nat} {st lt : Int} (kr : ∀ (pc : Nat) (lv : List (Option Value)) (r : Int) (u' : SX), decode cX1_addChild pc = .ok (.ireturn, 1) → (∃ ba' ch' co' ki' wo' pth', u' = (pen, ba', ch', co', ki', wo', sp, sl, le, tx, lk, cf, cp, nu, fl, pC, pK) ∧ AddP ba' ch' co' ki' wo' pth' DC DK CN L (P ++ [lt]) r ∧ cntN ch' 512 = N + 1) → SV l D dA (wX dA ad) RX1 cX1_addChild 4 (rmf 3) K u' pc lv [vI r]) (hT : TI ba ch co ki wo pth DC DK CN L) (hst : live ch st) (hP : pth st = P) (hlt : 0 ≤ lt ∧ lt < 4 ∧ ¬ L (P ++ [lt])) (hN : cntN ch 512 = N) (hf : ch (ba st + lt + 1) < 0) : SV l D dA (wX dA ad) RX1 cX1_addChild 4 (rmf 3) K (pen, ba, ch, co, ki, wo, sp, sl, le, tx, lk, cf, cp, nu, fl, pC, pK) 41 [some (.ref (ad 0)), some (vI st), some (vI lt), some (vI (ba st + lt + 1))] [] := by
  subst hP
  subst hN
  have r1 := hT.1 st hst.1 hst.2.1
  have ha := add_child hT hst ⟨hlt.1, hlt.2.1⟩ hlt.2.2 hf
  refine s_aload_n 0 dX1_addChild_41 rfl rfl ?_
  refine xg_ch dX1_addChild_42 ?_
  refine s_iload_n 3 dX1_addChild_45 rfl rfl ?_
  refine s_iload_n 1 dX1_addChild_46 rfl rfl ?_
  refine xw_ch dX1_addChild_47 ⟨by omega, by omega⟩ ?_
  refine s_aload_n 0 dX1_addChild_48 rfl rfl ?_
  refine xg_ba dX1_addChild_49 ?_
  refine s_iload_n 3 dX1_addChild_52 rfl rfl ?_
  refine s_iconst dX1_addChild_53 ?_
  refine xw_ba dX1_addChild_54 ⟨by omega, by omega⟩ ?_
  refine s_aload_n 0 dX1_addChild_55 rfl rfl ?_
  refine xg_co dX1_addChild_56 ?_
  refine s_iload_n 3 dX1_addChild_59 rfl rfl ?_
  refine s_iconst dX1_addChild_60 ?_
  refine xw_co dX1_addChild_61 ⟨by omega, by omega⟩ ?_
  refine s_aload_n 0 dX1_addChild_62 rfl rfl ?_
  refine xg_wo dX1_addChild_63 ?_
  refine s_iload_n 3 dX1_addChild_66 rfl rfl ?_
  refine s_iconst dX1_addChild_67 ?_
  refine xw_wo dX1_addChild_68 ⟨by omega, by omega⟩ ?_
  refine s_iload_n 3 dX1_addChild_69 rfl rfl ?_
  exact kr _ _ _ _ dX1_addChild_70 (⟨_, _, _, _, _, _, rfl, ha.1, ha.2⟩)
theorem m_addChild {pth : Int → List Int} {DC DK CN : List Int → Int} {L : List Int → Prop} {st lt : Int} (hT : TI ba ch co ki wo pth DC DK CN L) (hst : live ch st) (hlt : 0 ≤ lt ∧ lt < 4 ∧ ¬ L (pth st ++ [lt])) (hN : cntN ch 512 ≤ 124) : MetI l D dA (wX dA ad) (ad 0) yX1_addChild (ws_ yX1_addChild cX1_addChild 4 (some .int)) (rmf 3) [vI st, vI lt] (pen, ba, ch, co, ki, wo, sp, sl, le, tx, lk, cf, cp, nu, fl, pC, pK) (fun r u' => ∃ ba' ch' co' ki' wo' pth', u' = (pen, ba', ch', co', ki', wo', sp, sl, le, tx, lk, cf, cp, nu, fl, pC, pK) ∧ AddP ba' ch' co' ki' wo' pth' DC DK CN L (pth st ++ [lt]) r ∧ cntN ch' 512 = cntN ch 512 + 1) := by
  refine metI_intro [some (.ref (ad 0)), some (vI st), some (vI lt), none] (by decide) rfl rfl rfl (Nat.le_of_ble_eq_true rfl) (fun _ _ _ => vp_nar_int _) (fun K kr => ?_)
  have r1 := hT.1 st hst.1 hst.2.1
  have r2 := hT.1 (ba st + lt + 1) (by omega) (by omega)
  refine s_aload_n 0 dX1_addChild_0 rfl rfl ?_
  refine xg_ba dX1_addChild_1 ?_
  refine s_iload_n 1 dX1_addChild_4 rfl rfl ?_
  refine xr_ba dX1_addChild_5 ⟨by omega, by omega⟩ ?_
  refine s_iload_n 2 dX1_addChild_6 rfl rfl ?_
  refine s_iadd dX1_addChild_7 ?_
  refine s_iconst dX1_addChild_8 ?_
  refine s_iadd dX1_addChild_9 ?_
  refine s_istore_n 3 [some (.ref (ad 0)), some (vI st), some (vI lt), some (vI (((ba st) + lt) + 1))] dX1_addChild_10 rfl (by decide) rfl ?_
  refine s_aload_n 0 dX1_addChild_11 rfl rfl ?_
  refine xg_ch dX1_addChild_12 ?_
  refine s_iload_n 3 dX1_addChild_15 rfl rfl ?_
  refine xr_ch dX1_addChild_16 ⟨by omega, by omega⟩ ?_
  refine s_if_ge 24 dX1_addChild_17 (by decide) ⟨by omega, by omega⟩ (fun h17 => ?_) (fun h17 => ?_)
  · skip
    refine s_aload_n 0 dX1_addChild_24 rfl rfl ?_
    refine s_iload_n 1 dX1_addChild_25 rfl rfl ?_
    refine s_iload_n 2 dX1_addChild_26 rfl rfl ?_
    refine xc_moveChildren (m_moveChildren hT hst hlt hN) ⟨Nat.le_of_ble_eq_true rfl, Nat.le_of_ble_eq_true rfl⟩ (Nat.le_of_ble_eq_true rfl) dX1_addChild_27 (fun u_ hp => ?_)
    obtain ⟨ba1, ch1, co1, ki1, wo1, pth1, rfl, hT1, hs1, hp1, hf1, hn1⟩ := hp
    have r3 := hT1.1 st hst.1 hst.2.1
    refine s_aload_n 0 dX1_addChild_30 rfl rfl ?_
    refine xg_ba dX1_addChild_31 ?_
    refine s_iload_n 1 dX1_addChild_34 rfl rfl ?_
    refine xr_ba dX1_addChild_35 ⟨by omega, by omega⟩ ?_
    refine s_iload_n 2 dX1_addChild_36 rfl rfl ?_
    refine s_iadd dX1_addChild_37 ?_
    refine s_iconst dX1_addChild_38 ?_
    refine s_iadd dX1_addChild_39 ?_
    refine s_istore_n 3 [some (.ref (ad 0)), some (vI st), some (vI lt), some (vI (((ba1 st) + lt) + 1))] dX1_addChild_40 rfl (by decide) rfl ?_
    first | exact l_ac kr hT hst rfl hlt rfl h17 | exact l_ac kr hT1 hs1 hp1 hlt hn1 hf1
  · skip
    refine s_iload_n 3 dX1_addChild_20 rfl rfl ?_
    refine s_if_ne 41 dX1_addChild_21 (by decide) ⟨by omega, by omega⟩ (fun h21 => ?_) (fun h21 => ?_)
    · skip
      first | exact l_ac kr hT hst rfl hlt rfl h17 | exact l_ac kr hT1 hs1 hp1 hlt hn1 hf1
    · skip
      exfalso; omega
theorem l_grow {DC DK CN : List Int → Int} {N : Nat} (hC : CNok DC CN) (hsp : 0 ≤ sp ∧ sp ≤ 5) (hsl : ∀ i, 0 ≤ i → i < sp → 0 ≤ sl i ∧ sl i < 4) (hN : N ≤ 100) (kr : ∀ (pc : Nat) (lv : List (Option Value)) (r : Int) (u' : SX), decode cX1_grow pc = .ok (.ireturn, 1) → (∃ ba' ch' co' ki' wo' pth', u' = (pen, ba', ch', co', ki', wo', sp, sl, le, tx, lk, cf, cp, nu, fl, pC, pK) ∧ TI ba' ch' co' ki' wo' pth' DC DK (cnA CN (lst sl 0 sp.toNat)) (Lw (cnA CN (lst sl 0 sp.toNat))) ∧ live ch' r ∧ pth' r = lst sl 0 sp.toNat ∧ (cntN ch' 512 : Int) ≤ N + sp) → SV l D dA (wX dA ad) RX1 cX1_grow 4 (rmf 4) K u' pc lv [vI r]) : ∀ (n : Nat) (i st : Int) (o3 : Option Value) (ba ch co ki wo : Int → Int) (pth : Int → List Int), i + n = sp → 0 ≤ i → TI ba ch co ki wo pth DC DK (cnA CN (lst sl 0 i.toNat)) (Lw (cnA CN (lst sl 0 i.toNat))) → live ch st → pth st = lst sl 0 i.toNat → (cntN ch 512 : Int) ≤ N + i → SV l D dA (wX dA ad) RX1 cX1_grow 4 (rmf 4) K (pen, ba, ch, co, ki, wo, sp, sl, le, tx, lk, cf, cp, nu, fl, pC, pK) 14 [some (.ref (ad 0)), some (vI st), some (vI i), o3] [] := by
  intro n
  induction n with
  | zero =>
    intro i st o3 ba ch co ki wo pth h1 h2 hT hst hP hn
    obtain rfl : i = sp := by omega
    refine s_iload_n 2 dX1_grow_14 rfl rfl ?_
    refine s_aload_n 0 dX1_grow_15 rfl rfl ?_
    refine xg_sp dX1_grow_16 ?_
    refine s_icmp_ge 68 dX1_grow_19 (by decide) ⟨by omega, by omega⟩ ⟨by omega, by omega⟩ (fun h19 => ?_) (fun h19 => ?_)
    · skip
      refine s_iload_n 1 dX1_grow_68 rfl rfl ?_
      exact kr _ _ _ _ dX1_grow_69 (⟨_, _, _, _, _, pth, rfl, hT, hst, hP, hn⟩)
    · skip
      exfalso; omega
  | succ n ih =>
    intro i st o3 ba ch co ki wo pth h1 h2 hT hst hP hn
    have hc : 0 ≤ sl i ∧ sl i < 4 := hsl i h2 (by omega)
    have e2 := chP_rg hT.1 (s := st) ⟨hst.1, hst.2.1⟩ hc
    have es : lst sl 0 (i + 1).toNat = lst sl 0 i.toNat ++ [sl i] := by
      rw [show (i + 1).toNat = i.toNat + 1 by omega, lst_snoc, show (0 : Int) + (i.toNat : Int) = i by omega]
    refine s_iload_n 2 dX1_grow_14 rfl rfl ?_
    refine s_aload_n 0 dX1_grow_15 rfl rfl ?_
    refine xg_sp dX1_grow_16 ?_
    refine s_icmp_ge 68 dX1_grow_19 (by decide) ⟨by omega, by omega⟩ ⟨by omega, by omega⟩ (fun h19 => ?_) (fun h19 => ?_)
    · skip
      exfalso; omega
    · skip
      refine s_aload_n 0 dX1_grow_22 rfl rfl ?_
      refine s_iload_n 1 dX1_grow_23 rfl rfl ?_
      refine s_aload_n 0 dX1_grow_24 rfl rfl ?_
      refine xg_sl dX1_grow_25 ?_
      refine s_iload_n 2 dX1_grow_28 rfl rfl ?_
      refine xr_sl dX1_grow_29 ⟨by omega, by omega⟩ ?_
      refine xc_childOf (m_childOf ⟨hst.1, hst.2.1⟩ hc hT.1) ⟨Nat.le_of_ble_eq_true rfl, Nat.le_of_ble_eq_true rfl⟩ (Nat.le_of_ble_eq_true rfl) dX1_grow_30 (fun r30 u_ hp => ?_)
      obtain ⟨rfl, rfl⟩ := hp
      refine s_istore_n 3 [some (.ref (ad 0)), some (vI st), some (vI i), some (vI (chP ba ch st (sl i)))] dX1_grow_33 rfl (by decide) rfl ?_
      refine s_iload_n 3 dX1_grow_34 rfl rfl ?_
      refine s_if_ge 50 dX1_grow_35 (by decide) ⟨by omega, by omega⟩ (fun h35 => ?_) (fun h35 => ?_)
      · skip
        obtain ⟨l1, l2, l3, l4⟩ := chP_pos hT.1 hT.2.1 hst hc h35
        refine s_aload_n 0 dX1_grow_50 rfl rfl ?_
        refine xg_wo dX1_grow_51 ?_
        refine s_iload_n 3 dX1_grow_54 rfl rfl ?_
        refine s_dup2 dX1_grow_55 rfl rfl ?_
        refine xr_wo dX1_grow_56 ⟨l1.1, l1.2.1⟩ ?_
        refine s_iconst dX1_grow_57 ?_
        refine s_iadd dX1_grow_58 ?_
        refine xw_wo dX1_grow_59 ⟨l1.1, l1.2.1⟩ ?_
        refine s_iload_n 3 dX1_grow_60 rfl rfl ?_
        refine s_istore_n 1 [some (.ref (ad 0)), some (vI (chP ba ch st (sl i))), some (vI i), some (vI (chP ba ch st (sl i)))] dX1_grow_61 rfl (by decide) rfl ?_
        refine s_iinc [some (.ref (ad 0)), some (vI (chP ba ch st (sl i))), some (vI (i + 1)), some (vI (chP ba ch st (sl i)))] dX1_grow_62 rfl (by decide) rfl ?_
        refine s_goto 14 dX1_grow_65 (by decide) ?_
        first
          | exact ih _ _ _ _ _ _ _ _ _ (by omega) (by omega) (by rw [es]; exact grow_old hT l1 (by rw [l3, hP]) (fun q => (hC q).1)) l1 (by rw [es, l3, hP]) (by omega)
          | exact ih _ _ _ _ _ _ _ _ _ (by omega) (by omega) (by rw [es]; exact grow_new (by rw [← hP]; rw [← hP] at hA; exact hA) (by rw [← hP]; rw [← hP] at hnl; exact hnl) hC) l1 (by rw [es, hA.2.2.2.1, hP]) (by omega)
      · skip
        have hnl : ¬ Lw (cnA CN (lst sl 0 i.toNat)) (pth st ++ [sl i]) := by
          intro z
          obtain ⟨t, ht, et⟩ := (hT.2.2.2 _).mpr z
          exact chP_neg hT.2.1 hst h35 t ht et
        refine s_aload_n 0 dX1_grow_38 rfl rfl ?_
        refine s_iload_n 1 dX1_grow_39 rfl rfl ?_
        refine s_aload_n 0 dX1_grow_40 rfl rfl ?_
        refine xg_sl dX1_grow_41 ?_
        refine s_iload_n 2 dX1_grow_44 rfl rfl ?_
        refine xr_sl dX1_grow_45 ⟨by omega, by omega⟩ ?_
        refine xc_addChild (m_addChild hT hst ⟨hc.1, hc.2, hnl⟩ (by omega)) ⟨Nat.le_of_ble_eq_true rfl, Nat.le_of_ble_eq_true rfl⟩ (Nat.le_of_ble_eq_true rfl) dX1_grow_46 (fun nx u_ hp => ?_)
        obtain ⟨ba1, ch1, co1, ki1, wo1, pth1, rfl, hA, hn1⟩ := hp
        have l1 := hA.2.2.1
        refine s_istore_n 3 [some (.ref (ad 0)), some (vI st), some (vI i), some (vI nx)] dX1_grow_49 rfl (by decide) rfl ?_
        refine s_aload_n 0 dX1_grow_50 rfl rfl ?_
        refine xg_wo dX1_grow_51 ?_
        refine s_iload_n 3 dX1_grow_54 rfl rfl ?_
        refine s_dup2 dX1_grow_55 rfl rfl ?_
        refine xr_wo dX1_grow_56 ⟨l1.1, l1.2.1⟩ ?_
        refine s_iconst dX1_grow_57 ?_
        refine s_iadd dX1_grow_58 ?_
        refine xw_wo dX1_grow_59 ⟨l1.1, l1.2.1⟩ ?_
        refine s_iload_n 3 dX1_grow_60 rfl rfl ?_
        refine s_istore_n 1 [some (.ref (ad 0)), some (vI nx), some (vI i), some (vI nx)] dX1_grow_61 rfl (by decide) rfl ?_
        refine s_iinc [some (.ref (ad 0)), some (vI nx), some (vI (i + 1)), some (vI nx)] dX1_grow_62 rfl (by decide) rfl ?_
        refine s_goto 14 dX1_grow_65 (by decide) ?_
        first
          | exact ih _ _ _ _ _ _ _ _ _ (by omega) (by omega) (by rw [es]; exact grow_old hT l1 (by rw [l3, hP]) (fun q => (hC q).1)) l1 (by rw [es, l3, hP]) (by omega)
          | exact ih _ _ _ _ _ _ _ _ _ (by omega) (by omega) (by rw [es]; exact grow_new (by rw [← hP]; rw [← hP] at hA; exact hA) (by rw [← hP]; rw [← hP] at hnl; exact hnl) hC) l1 (by rw [es, hA.2.2.2.1, hP]) (by omega)
theorem m_grow {pth : Int → List Int} {DC DK CN : List Int → Int} (hT : TI ba ch co ki wo pth DC DK CN (Lw CN)) (hC : CNok DC CN) (hsp : 0 ≤ sp ∧ sp ≤ 5) (hsl : ∀ i, 0 ≤ i → i < sp → 0 ≤ sl i ∧ sl i < 4) (hN : cntN ch 512 ≤ 100) : MetI l D dA (wX dA ad) (ad 0) yX1_grow (ws_ yX1_grow cX1_grow 4 (some .int)) (rmf 4) [] (pen, ba, ch, co, ki, wo, sp, sl, le, tx, lk, cf, cp, nu, fl, pC, pK) (fun r u' => ∃ ba' ch' co' ki' wo' pth', u' = (pen, ba', ch', co', ki', wo', sp, sl, le, tx, lk, cf, cp, nu, fl, pC, pK) ∧ TI ba' ch' co' ki' wo' pth' DC DK (cnA CN (lst sl 0 sp.toNat)) (Lw (cnA CN (lst sl 0 sp.toNat))) ∧ live ch' r ∧ pth' r = lst sl 0 sp.toNat ∧ (cntN ch' 512 : Int) ≤ cntN ch 512 + sp) := by
  refine metI_intro [some (.ref (ad 0)), none, none, none] (by decide) rfl rfl rfl (Nat.le_of_ble_eq_true rfl) (fun _ _ _ => vp_nar_int _) (fun K kr => ?_)
  refine s_iconst dX1_grow_0 ?_
  refine s_istore_n 1 [some (.ref (ad 0)), some (vI 0), none, none] dX1_grow_1 rfl (by decide) rfl ?_
  refine s_aload_n 0 dX1_grow_2 rfl rfl ?_
  refine xg_wo dX1_grow_3 ?_
  refine s_iconst dX1_grow_6 ?_
  refine s_dup2 dX1_grow_7 rfl rfl ?_
  refine xr_wo dX1_grow_8 ⟨by omega, by omega⟩ ?_
  refine s_iconst dX1_grow_9 ?_
  refine s_iadd dX1_grow_10 ?_
  refine xw_wo dX1_grow_11 ⟨by omega, by omega⟩ ?_
  refine s_iconst dX1_grow_12 ?_
  refine s_istore_n 2 [some (.ref (ad 0)), some (vI 0), some (vI 0), none] dX1_grow_13 rfl (by decide) rfl ?_
  exact l_grow hC hsp hsl hN kr sp.toNat 0 0 _ _ _ _ _ _ pth (by omega) (by omega) (grow_zero hT) hT.2.1.root hT.2.1.2.1 (by omega)
theorem l_prune {pth : Int → List Int} {DC DK CN : List Int → Int} {L : List Int → Prop} (hT : TI ba ch co ki wo pth DC DK CN L) (hsp : 1 ≤ sp ∧ sp ≤ 5) (hsl : ∀ i, 0 ≤ i → i < sp → 0 ≤ sl i ∧ sl i < 4) (hlv : ∀ q, q <+: lst sl 0 sp.toNat → L q) (hCN : ∀ q, 0 ≤ CN q ∧ CN q ≤ 1000) (kr : ∀ (pc : Nat) (lv : List (Option Value)) (u' : SX), decode cX1_prune pc = .ok (.return_, 1) → (∃ ba' ch' co' wo', u' = (pen, ba', ch', co', ki, wo', sp, sl, le, tx, lk, cf, cp, nu, fl, pC, pK) ∧ PrF ba ch co wo pth CN (lst sl 0 sp.toNat) ba' ch' co' wo') → SV l D dA (wX dA ad) RX1 cX1_prune 4 (rmf 1) K u' pc lv []) : ∀ (n : Nat) (i st : Int) (o3 : Option Value) (ba' ch' co' wo' : Int → Int), i + n = sp → 0 ≤ i → live ch st → pth st = lst sl 0 i.toNat → PrI ba ch co wo pth CN (lst sl 0 i.toNat) ba' ch' co' wo' → SV l D dA (wX dA ad) RX1 cX1_prune 4 (rmf 1) K (pen, ba', ch', co', ki, wo', sp, sl, le, tx, lk, cf, cp, nu, fl, pC, pK) 14 [some (.ref (ad 0)), some (vI st), some (vI i), o3] [] := by
  intro n
  induction n with
  | zero =>
    intro i st o3 ba' ch' co' wo' h1 h2 hst hP hI
    obtain rfl : i = sp := by omega
    have e1 := hI.here hst hP
    have e2 := (hT.2.2.1 st hst).2.2
    have e3 := hCN (pth st)
    refine s_iload_n 2 dX1_prune_14 rfl rfl ?_
    refine s_aload_n 0 dX1_prune_15 rfl rfl ?_
    refine xg_sp dX1_prune_16 ?_
    refine s_icmp_ge 70 dX1_prune_19 (by decide) ⟨by omega, by omega⟩ ⟨by omega, by omega⟩ (fun h19 => ?_) (fun h19 => ?_)
    · skip
      refine s_aload_n 0 dX1_prune_70 rfl rfl ?_
      refine xg_wo dX1_prune_71 ?_
      refine s_iload_n 1 dX1_prune_74 rfl rfl ?_
      refine xr_wo dX1_prune_75 ⟨hst.1, hst.2.1⟩ ?_
      refine s_if_ne 84 dX1_prune_76 (by decide) ⟨by omega, by omega⟩ (fun h76 => ?_) (fun h76 => ?_)
      · skip
        first
          | exact kr _ _ _ dX1_prune_84 ⟨_, _, _, _, rfl, hI.endK hst hP (by rw [← hP]; omega)⟩
          | exact kr _ _ _ dX1_prune_84 ⟨_, _, _, _, rfl, hI.endR hT.2.1 hst hP (by rw [← hP]; omega) (by intro z; have := congrArg List.length z; rw [lst_length] at this; simp at this; omega)⟩
      · skip
        refine s_aload_n 0 dX1_prune_79 rfl rfl ?_
        refine s_iload_n 1 dX1_prune_80 rfl rfl ?_
        refine xc_release (m_release ⟨hst.1, hst.2.1⟩) ⟨Nat.le_of_ble_eq_true rfl, Nat.le_of_ble_eq_true rfl⟩ (Nat.le_of_ble_eq_true rfl) dX1_prune_81 (fun u_ hp => ?_)
        subst hp
        first
          | exact kr _ _ _ dX1_prune_84 ⟨_, _, _, _, rfl, hI.endK hst hP (by rw [← hP]; omega)⟩
          | exact kr _ _ _ dX1_prune_84 ⟨_, _, _, _, rfl, hI.endR hT.2.1 hst hP (by rw [← hP]; omega) (by intro z; have := congrArg List.length z; rw [lst_length] at this; simp at this; omega)⟩
    · skip
      exfalso; omega
  | succ n ih =>
    intro i st o3 ba' ch' co' wo' h1 h2 hst hP hI
    have hc : 0 ≤ sl i ∧ sl i < 4 := hsl i h2 (by omega)
    have es : lst sl 0 (i + 1).toNat = lst sl 0 i.toNat ++ [sl i] := by
      rw [show (i + 1).toNat = i.toNat + 1 by omega, lst_snoc, show (0 : Int) + (i.toNat : Int) = i by omega]
    have ep : lst sl 0 (i + 1).toNat <+: lst sl 0 sp.toNat := by
      rw [show sp.toNat = (i + 1).toNat + n by omega, lst_app]
      exact List.prefix_append _ _
    obtain ⟨t, ht, et⟩ := (hT.2.2.2 _).mpr (hlv _ ep)
    rw [es] at et
    have e0 := hI.here hst hP
    have e1 := hI.next hT.2.1 hst hP ht et
    have e2 := (hT.2.2.1 st hst).2.2
    have e3 := hCN (pth st)
    have r1 := hT.1 st hst.1 hst.2.1
    have hb' : 0 ≤ ba' st ∧ ba' st ≤ 500 := by rw [e0.2.1]; omega
    have hcell : ba' st + sl i + 1 = t := by
      rw [e0.2.1]; exact (hT.2.1.kid hst ht (by rw [hP]; exact et)).2.2.2.1.symm
    have hct : -1 ≤ ch' (ba' st + sl i + 1) ∧ ch' (ba' st + sl i + 1) < 512 := by
      rw [hcell]
      have := hst.1
      have := hst.2.1
      have e7 : ch' t = st := by
        unfold chP at e1
        rw [hcell] at e1
        apply Classical.byContradiction
        intro z
        rw [if_neg z] at e1
        have := ht.1
        omega
      omega
    refine s_iload_n 2 dX1_prune_14 rfl rfl ?_
    refine s_aload_n 0 dX1_prune_15 rfl rfl ?_
    refine xg_sp dX1_prune_16 ?_
    refine s_icmp_ge 70 dX1_prune_19 (by decide) ⟨by omega, by omega⟩ ⟨by omega, by omega⟩ (fun h19 => ?_) (fun h19 => ?_)
    · skip
      exfalso; omega
    · skip
      refine s_aload_n 0 dX1_prune_22 rfl rfl ?_
      refine s_iload_n 1 dX1_prune_23 rfl rfl ?_
      refine s_aload_n 0 dX1_prune_24 rfl rfl ?_
      refine xg_sl dX1_prune_25 ?_
      refine s_iload_n 2 dX1_prune_28 rfl rfl ?_
      refine xr_sl dX1_prune_29 ⟨by omega, by omega⟩ ?_
      refine xc_childOf (m_childOf1 ⟨hst.1, hst.2.1⟩ hc hb' hct) ⟨Nat.le_of_ble_eq_true rfl, Nat.le_of_ble_eq_true rfl⟩ (Nat.le_of_ble_eq_true rfl) dX1_prune_30 (fun r30 u_ hp => ?_)
      obtain ⟨rfl, rfl⟩ := hp
      rw [e1]
      refine s_istore_n 3 [some (.ref (ad 0)), some (vI st), some (vI i), some (vI t)] dX1_prune_33 rfl (by decide) rfl ?_
      refine s_aload_n 0 dX1_prune_34 rfl rfl ?_
      refine xg_wo dX1_prune_35 ?_
      refine s_iload_n 1 dX1_prune_38 rfl rfl ?_
      refine xr_wo dX1_prune_39 ⟨hst.1, hst.2.1⟩ ?_
      refine s_if_ne 52 dX1_prune_40 (by decide) ⟨by omega, by omega⟩ (fun h40 => ?_) (fun h40 => ?_)
      · skip
        refine s_aload_n 0 dX1_prune_52 rfl rfl ?_
        refine xg_wo dX1_prune_53 ?_
        refine s_iload_n 3 dX1_prune_56 rfl rfl ?_
        refine s_dup2 dX1_prune_57 rfl rfl ?_
        refine xr_wo dX1_prune_58 ⟨ht.1, ht.2.1⟩ ?_
        refine s_iconst dX1_prune_59 ?_
        refine s_isub dX1_prune_60 ?_
        refine xw_wo dX1_prune_61 ⟨ht.1, ht.2.1⟩ ?_
        refine s_iload_n 3 dX1_prune_62 rfl rfl ?_
        refine s_istore_n 1 [some (.ref (ad 0)), some (vI t), some (vI i), some (vI t)] dX1_prune_63 rfl (by decide) rfl ?_
        refine s_iinc [some (.ref (ad 0)), some (vI t), some (vI (i + 1)), some (vI t)] dX1_prune_64 rfl (by decide) rfl ?_
        refine s_goto 14 dX1_prune_67 (by decide) ?_
        first
          | exact ih _ _ _ _ _ _ _ (by omega) (by omega) ht (by rw [es]; exact et) (by rw [es]; exact hI.stepR hT.2.1 hst hP ht et h44 (by rw [← hP]; omega))
          | exact ih _ _ _ _ _ _ _ (by omega) (by omega) ht (by rw [es]; exact et) (by rw [es]; exact hI.step hT.2.1 hst hP ht et (Or.inl h44))
          | exact ih _ _ _ _ _ _ _ (by omega) (by omega) ht (by rw [es]; exact et) (by rw [es]; exact hI.step hT.2.1 hst hP ht et (Or.inr (by rw [← hP]; omega)))
      · skip
        refine s_iload_n 1 dX1_prune_43 rfl rfl ?_
        refine s_if_eq 52 dX1_prune_44 (by decide) ⟨by have := hst.1; omega, by have := hst.2.1; omega⟩ (fun h44 => ?_) (fun h44 => ?_)
        · skip
          refine s_aload_n 0 dX1_prune_52 rfl rfl ?_
          refine xg_wo dX1_prune_53 ?_
          refine s_iload_n 3 dX1_prune_56 rfl rfl ?_
          refine s_dup2 dX1_prune_57 rfl rfl ?_
          refine xr_wo dX1_prune_58 ⟨ht.1, ht.2.1⟩ ?_
          refine s_iconst dX1_prune_59 ?_
          refine s_isub dX1_prune_60 ?_
          refine xw_wo dX1_prune_61 ⟨ht.1, ht.2.1⟩ ?_
          refine s_iload_n 3 dX1_prune_62 rfl rfl ?_
          refine s_istore_n 1 [some (.ref (ad 0)), some (vI t), some (vI i), some (vI t)] dX1_prune_63 rfl (by decide) rfl ?_
          refine s_iinc [some (.ref (ad 0)), some (vI t), some (vI (i + 1)), some (vI t)] dX1_prune_64 rfl (by decide) rfl ?_
          refine s_goto 14 dX1_prune_67 (by decide) ?_
          first
            | exact ih _ _ _ _ _ _ _ (by omega) (by omega) ht (by rw [es]; exact et) (by rw [es]; exact hI.stepR hT.2.1 hst hP ht et h44 (by rw [← hP]; omega))
            | exact ih _ _ _ _ _ _ _ (by omega) (by omega) ht (by rw [es]; exact et) (by rw [es]; exact hI.step hT.2.1 hst hP ht et (Or.inl h44))
            | exact ih _ _ _ _ _ _ _ (by omega) (by omega) ht (by rw [es]; exact et) (by rw [es]; exact hI.step hT.2.1 hst hP ht et (Or.inr (by rw [← hP]; omega)))
        · skip
          refine s_aload_n 0 dX1_prune_47 rfl rfl ?_
          refine s_iload_n 1 dX1_prune_48 rfl rfl ?_
          refine xc_release (m_release ⟨hst.1, hst.2.1⟩) ⟨Nat.le_of_ble_eq_true rfl, Nat.le_of_ble_eq_true rfl⟩ (Nat.le_of_ble_eq_true rfl) dX1_prune_49 (fun u_ hp => ?_)
          subst hp
          refine s_aload_n 0 dX1_prune_52 rfl rfl ?_
          refine xg_wo dX1_prune_53 ?_
          refine s_iload_n 3 dX1_prune_56 rfl rfl ?_
          refine s_dup2 dX1_prune_57 rfl rfl ?_
          refine xr_wo dX1_prune_58 ⟨ht.1, ht.2.1⟩ ?_
          refine s_iconst dX1_prune_59 ?_
          refine s_isub dX1_prune_60 ?_
          refine xw_wo dX1_prune_61 ⟨ht.1, ht.2.1⟩ ?_
          refine s_iload_n 3 dX1_prune_62 rfl rfl ?_
          refine s_istore_n 1 [some (.ref (ad 0)), some (vI t), some (vI i), some (vI t)] dX1_prune_63 rfl (by decide) rfl ?_
          refine s_iinc [some (.ref (ad 0)), some (vI t), some (vI (i + 1)), some (vI t)] dX1_prune_64 rfl (by decide) rfl ?_
          refine s_goto 14 dX1_prune_67 (by decide) ?_
          first
            | exact ih _ _ _ _ _ _ _ (by omega) (by omega) ht (by rw [es]; exact et) (by rw [es]; exact hI.stepR hT.2.1 hst hP ht et h44 (by rw [← hP]; omega))
            | exact ih _ _ _ _ _ _ _ (by omega) (by omega) ht (by rw [es]; exact et) (by rw [es]; exact hI.step hT.2.1 hst hP ht et (Or.inl h44))
            | exact ih _ _ _ _ _ _ _ (by omega) (by omega) ht (by rw [es]; exact et) (by rw [es]; exact hI.step hT.2.1 hst hP ht et (Or.inr (by rw [← hP]; omega)))
theorem m_prune {pth : Int → List Int} {DC DK CN : List Int → Int} {L : List Int → Prop} (hT : TI ba ch co ki wo pth DC DK CN L) (hsp : 1 ≤ sp ∧ sp ≤ 5) (hsl : ∀ i, 0 ≤ i → i < sp → 0 ≤ sl i ∧ sl i < 4) (hlv : ∀ q, q <+: lst sl 0 sp.toNat → L q) (hCN : ∀ q, 0 ≤ CN q ∧ CN q ≤ 1000) : MetV l D dA (wX dA ad) (ad 0) yX1_prune (ws_ yX1_prune cX1_prune 4 none) (rmf 1) [] (pen, ba, ch, co, ki, wo, sp, sl, le, tx, lk, cf, cp, nu, fl, pC, pK) (fun u' => ∃ ba' ch' co' wo', u' = (pen, ba', ch', co', ki, wo', sp, sl, le, tx, lk, cf, cp, nu, fl, pC, pK) ∧ PrF ba ch co wo pth CN (lst sl 0 sp.toNat) ba' ch' co' wo') := by
  refine metV_intro [some (.ref (ad 0)), none, none, none] (by decide) rfl rfl rfl (Nat.le_of_ble_eq_true rfl) (fun K kr => ?_)
  refine s_iconst dX1_prune_0 ?_
  refine s_istore_n 1 [some (.ref (ad 0)), some (vI 0), none, none] dX1_prune_1 rfl (by decide) rfl ?_
  refine s_aload_n 0 dX1_prune_2 rfl rfl ?_
  refine xg_wo dX1_prune_3 ?_
  refine s_iconst dX1_prune_6 ?_
  refine s_dup2 dX1_prune_7 rfl rfl ?_
  refine xr_wo dX1_prune_8 ⟨by omega, by omega⟩ ?_
  refine s_iconst dX1_prune_9 ?_
  refine s_isub dX1_prune_10 ?_
  refine xw_wo dX1_prune_11 ⟨by omega, by omega⟩ ?_
  refine s_iconst dX1_prune_12 ?_
  refine s_istore_n 2 [some (.ref (ad 0)), some (vI 0), some (vI 0), none] dX1_prune_13 rfl (by decide) rfl ?_
  exact l_prune hT hsp hsl hlv hCN kr sp.toNat 0 0 _ _ _ _ _ (by omega) (by omega) hT.2.1.root hT.2.1.2.1 (PrI.zero hT.2.1)
end DICT
end
section
/-! PURE: what a dictionary is; the table of cuts -/
def Dic (DC DK CN : List Int → Int) : Prop :=
  (∀ q, 0 ≤ CN q ∧ CN q ≤ 16) ∧ (∀ q, CN q = 0 → DC q = -1) ∧ (∀ q, -1 ≤ DC q ∧ DC q ≤ 99) ∧ (∀ q, 0 ≤ DC q → 0 ≤ DK q ∧ DK q ≤ 2 ∧ q.length ≤ 5 ∧ q ≠ []) ∧ (∀ q c, CN (q ++ [c]) ≤ CN q) ∧ (∀ p, 0 ≤ DC p → ∀ q, q <+: p → 1 ≤ CN q) ∧ (∀ p, 0 ≤ DC p → ∀ q c, q <+: p → ¬ (q ++ [c]) <+: p → CN (q ++ [c]) + 1 ≤ CN q)
theorem Dic.ok {DC DK CN : List Int → Int} (h : Dic DC DK CN) : CNok DC CN := fun q => ⟨(h.1 q).1, h.2.1 q⟩
def upW (D : List Int → Int) (p : List Int) (v : Int) : List Int → Int := fun q => if q = p then v else D q
theorem upW_s (D : List Int → Int) (p : List Int) (v : Int) : upW D p v p = v := by simp [upW]
theorem upW_n {D : List Int → Int} {p q : List Int} {v : Int} (h : q ≠ p) : upW D p v q = D q := by simp [upW, h]
/-- the dictionary in the arrays: at most N cells taken -/
def XT (ba ch co ki wo : Int → Int) (DC DK CN : List Int → Int) (N : Int) : Prop := ∃ pth, TI ba ch co ki wo pth DC DK CN (Lw CN) ∧ (cntN ch 512 : Int) ≤ N
theorem lst_mem {g : Int → Int} {P : Int → Prop} : ∀ (n : Nat) (o : Int), (∀ i, o ≤ i → i < o + n → P (g i)) → ∀ c ∈ lst g o n, P c := by
  intro n
  induction n with
  | zero => intro o _ c hc; simp [lst] at hc
  | succ n ih =>
    intro o h c hc
    rw [lst] at hc
    rcases List.mem_cons.mp hc with e | e
    · rw [e]; exact h o (by omega) (by omega)
    · exact ih (o + 1) (fun i h1 h2 => h i (by omega) (by omega)) c e
section FIND
variable {ba ch co ki wo : Int → Int} {pth : Int → List Int} {DC DK CN : List Int → Int} {L : List Int → Prop}
theorem find_spec {p : List Int} (hT : TI ba ch co ki wo pth DC DK CN L) (hp : ∀ c ∈ p, 0 ≤ c ∧ c < 4) : (0 ≤ wk ba ch 0 p ∧ live ch (wk ba ch 0 p) ∧ pth (wk ba ch 0 p) = p) ∨ (wk ba ch 0 p = -1 ∧ ¬ L p) := by
  have h := wk_spec hT.1 hT.2.1 p 0 hp hT.2.1.root
  rw [hT.2.1.2.1, List.nil_append] at h
  rcases h with h | ⟨h1, h2⟩
  · exact Or.inl h
  · refine Or.inr ⟨h1, fun z => ?_⟩
    obtain ⟨t, ht, et⟩ := (hT.2.2.2 p).mpr z
    exact h2 t ht et
theorem TI.setW {p : List Int} {t v k : Int} (hT : TI ba ch co ki wo pth DC DK CN L) (ht : live ch t) (e : pth t = p) : TI ba ch (upI co t v) (upI ki t k) wo pth (upW DC p v) (upW DK p k) CN L := by
  obtain ⟨h1, h2, h3, h4⟩ := hT
  refine ⟨h1, h2, fun s hs => ?_, h4⟩
  obtain ⟨q1, q2, q3⟩ := h3 s hs
  unfold AT1
  by_cases a : s = t
  · rw [a, upI_s, upI_s, e, upW_s, upW_s]
    refine ⟨rfl, fun _ => rfl, ?_⟩
    rw [← a, q3, a, e]
  · have hn : pth s ≠ p := fun z => a (h2.2.2.2 s t hs ht (by rw [z, e]))
    rw [upI_n a, upI_n a, upW_n hn, upW_n hn]
    exact ⟨q1, q2, q3⟩
theorem TI.delW {p : List Int} {t : Int} (hT : TI ba ch co ki wo pth DC DK CN L) (ht : live ch t) (e : pth t = p) : TI ba ch (upI co t (-1)) ki wo pth (upW DC p (-1)) DK CN L := by
  obtain ⟨h1, h2, h3, h4⟩ := hT
  refine ⟨h1, h2, fun s hs => ?_, h4⟩
  obtain ⟨q1, q2, q3⟩ := h3 s hs
  unfold AT1
  by_cases a : s = t
  · rw [a, upI_s, e, upW_s]
    refine ⟨rfl, fun z => by omega, ?_⟩
    rw [← a, q3, a, e]
  · have hn : pth s ≠ p := fun z => a (h2.2.2.2 s t hs ht (by rw [z, e]))
    rw [upI_n a, upW_n hn]
    exact ⟨q1, q2, q3⟩
end FIND
/-- learn changes nothing -/
def lrNo (sp c k : Int) (p : List Int) (DC CN : List Int → Int) : Prop := (sp = 0 ∨ c < 0 ∨ 99 < c ∨ k < 0 ∨ 2 < k) ∨ (DC p < 0 ∧ 16 ≤ CN [])
def lrCN (DC CN : List Int → Int) (p : List Int) : List Int → Int := if 0 ≤ DC p then CN else cnA CN p
theorem lrCN_old {DC CN : List Int → Int} {p : List Int} (h : 0 ≤ DC p) : lrCN DC CN p = CN := by unfold lrCN; rw [if_pos h]
theorem lrCN_new {DC CN : List Int → Int} {p : List Int} (h : DC p < 0) : lrCN DC CN p = cnA CN p := by unfold lrCN; rw [if_neg (by omega)]
/-- x & 3 -/
def lt3 (x : Int) : Int := (((iI x).toBitVec.toNat % 4 : Nat) : Int)
theorem lt3_rg (x : Int) : 0 ≤ lt3 x ∧ lt3 x < 4 := by
  unfold lt3
  have := Nat.mod_lt (iI x).toBitVec.toNat (show 4 > 0 by decide)
  omega
theorem lt3_ok (x : Int) : iI x &&& iI 3 = iI (lt3 x) := by
  have h := pk_and (iI x) (m := iI 3) 2 (by decide +kernel)
  rw [h]
  unfold lt3 iI nI
  rw [Int32.ofInt_eq_ofNat]
/-- the piece of n letters from the place a on: its cost, -1 if it doesn't fit; its kind -/
def fpC (DC : List Int → Int) (pen le : Int) (tx : Int → Int) (a n : Int) : Int := if le < a + n then -1 else if 0 ≤ DC (lst tx a n.toNat) then DC (lst tx a n.toNat) else if n = 1 then pen else -1
def fpK (DC DK : List Int → Int) (le : Int) (tx : Int → Int) (a n : Int) : Int := if le < a + n then 3 else if 0 ≤ DC (lst tx a n.toNat) then DK (lst tx a n.toNat) else 3
theorem fpC_rg {DC DK CN : List Int → Int} (h : Dic DC DK CN) {pen le : Int} {tx : Int → Int} {a n : Int} (hp : 1 ≤ pen ∧ pen ≤ 99) : -1 ≤ fpC DC pen le tx a n ∧ fpC DC pen le tx a n ≤ 99 := by
  unfold fpC
  have := h.2.2.1 (lst tx a n.toNat)
  split
  · omega
  · split
    · omega
    · split <;> omega
theorem fpC_in {DC : List Int → Int} {pen le : Int} {tx : Int → Int} {a n : Int} (h : 0 ≤ fpC DC pen le tx a n) : a + n ≤ le := by
  unfold fpC at h
  split at h <;> omega
theorem fpC_one {DC DK CN : List Int → Int} (_ : Dic DC DK CN) {pen le : Int} {tx : Int → Int} {a : Int} (hp : 1 ≤ pen ∧ pen ≤ 99) (ha : a < le) : 0 ≤ fpC DC pen le tx a 1 := by
  unfold fpC
  rw [if_neg (by omega)]
  split
  · assumption
  · rw [if_pos rfl]; omega
theorem fpK_rg {DC DK CN : List Int → Int} (h : Dic DC DK CN) {le : Int} {tx : Int → Int} {a n : Int} : 0 ≤ fpK DC DK le tx a n ∧ fpK DC DK le tx a n ≤ 3 := by
  unfold fpK
  split
  · omega
  · split
    · have := h.2.2.2.1 (lst tx a n.toNat) (by assumption)
      omega
    · omega
/-- a way of this cost, so many of them, beginning with a piece of this length, beside the best so far -/
def relax (way cnt len : Int) (t : Int × Int × Int) : Int × Int × Int := if way < t.1 then (way, cnt, len) else if way = t.1 then (t.1, t.2.1 + cnt, len) else t
def wy (cp lk : Int → Int) (fc fk : Int → Int) (a k n : Int) : Int := fc n + cp (5 * (a + n) + fk n) + (if k < 4 then lk (4 * k + fk n) else 0)
def rl (cp nu lk : Int → Int) (fc fk : Int → Int) (a k : Int) : Nat → Int × Int × Int
  | 0 => (1000000, 0, 0)
  | n + 1 => if 0 ≤ fc ((n + 1 : Nat) : Int) then relax (wy cp lk fc fk a k ((n + 1 : Nat) : Int)) (nu (5 * (a + ((n + 1 : Nat) : Int)) + fk ((n + 1 : Nat) : Int))) ((n + 1 : Nat) : Int) (rl cp nu lk fc fk a k n) else rl cp nu lk fc fk a k n
theorem rl_s (cp nu lk : Int → Int) (fc fk : Int → Int) (a k : Int) (n : Nat) : rl cp nu lk fc fk a k (n + 1) = if 0 ≤ fc ((n + 1 : Nat) : Int) then relax (wy cp lk fc fk a k ((n + 1 : Nat) : Int)) (nu (5 * (a + ((n + 1 : Nat) : Int)) + fk ((n + 1 : Nat) : Int))) ((n + 1 : Nat) : Int) (rl cp nu lk fc fk a k n) else rl cp nu lk fc fk a k n := rfl
theorem rl_congr {cp nu cp' nu' lk : Int → Int} {fc fk : Int → Int} {a k : Int} (hk : ∀ n, 0 ≤ fk n) (h : ∀ x, 5 * a + 5 ≤ x → cp x = cp' x ∧ nu x = nu' x) : ∀ n : Nat, rl cp nu lk fc fk a k n = rl cp' nu' lk fc fk a k n := by
  intro n
  induction n with
  | zero => rfl
  | succ n ih =>
    have h1 := hk ((n + 1 : Nat) : Int)
    have h2 := h (5 * (a + ((n + 1 : Nat) : Int)) + fk ((n + 1 : Nat) : Int)) (by omega)
    rw [rl_s, rl_s, ih]
    unfold wy
    rw [h2.1, h2.2]
/-- the table's rows from a0 on are right -/
def Tab (DC DK : List Int → Int) (pen le : Int) (tx lk cp nu fl : Int → Int) (a0 : Int) : Prop :=
  (∀ k, 0 ≤ k → k < 5 → cp (5 * le + k) = 0 ∧ nu (5 * le + k) = 1 ∧ fl (5 * le + k) = 0) ∧
  ∀ a, a0 ≤ a → a < le → ∀ k, 0 ≤ k → k < 5 →
    cp (5 * a + k) = (rl cp nu lk (fpC DC pen le tx a) (fpK DC DK le tx a) a k 5).1 ∧ nu (5 * a + k) = (rl cp nu lk (fpC DC pen le tx a) (fpK DC DK le tx a) a k 5).2.1 ∧
    ((rl cp nu lk (fpC DC pen le tx a) (fpK DC DK le tx a) a k 5).1 < 1000000 → fl (5 * a + k) = (rl cp nu lk (fpC DC pen le tx a) (fpK DC DK le tx a) a k 5).2.2)
theorem relax_le (way cnt len : Int) (t : Int × Int × Int) : (relax way cnt len t).1 ≤ t.1 ∧ (relax way cnt len t).1 ≤ way ∧ (0 ≤ way → 0 ≤ t.1 → 0 ≤ (relax way cnt len t).1) := by
  unfold relax
  by_cases h1 : way < t.1
  · rw [if_pos h1]; exact ⟨by show way ≤ t.1; omega, Int.le_refl _, fun h _ => h⟩
  · rw [if_neg h1]
    by_cases h2 : way = t.1
    · rw [if_pos h2]; exact ⟨Int.le_refl _, by show t.1 ≤ way; omega, fun _ h => h⟩
    · rw [if_neg h2]; exact ⟨Int.le_refl _, by omega, fun _ h => h⟩
theorem rl_rg {cp nu lk : Int → Int} {fc fk : Int → Int} {a k : Int} (hk : 0 ≤ k ∧ k < 5) (hlk : ∀ i, 0 ≤ i → i < 16 → 0 ≤ lk i ∧ lk i ≤ 99) (hfk : ∀ n, 0 ≤ fk n ∧ fk n ≤ 3) (hc : ∀ n : Nat, 1 ≤ n → n ≤ 5 → 0 ≤ fc n → 0 ≤ cp (5 * (a + n) + fk n)) : ∀ n : Nat, n ≤ 5 → 0 ≤ (rl cp nu lk fc fk a k n).1 ∧ (rl cp nu lk fc fk a k n).1 ≤ 1000000 := by
  intro n
  induction n with
  | zero =>
    intro _
    show (0 : Int) ≤ 1000000 ∧ (1000000 : Int) ≤ 1000000
    omega
  | succ n ih =>
    intro hn
    have h1 := ih (by omega)
    rw [rl_s]
    by_cases h2 : 0 ≤ fc ((n + 1 : Nat) : Int)
    · rw [if_pos h2]
      have h3 := hc (n + 1) (by omega) hn h2
      have h4 := hfk ((n + 1 : Nat) : Int)
      have h5 := relax_le (wy cp lk fc fk a k ((n + 1 : Nat) : Int)) (nu (5 * (a + ((n + 1 : Nat) : Int)) + fk ((n + 1 : Nat) : Int))) ((n + 1 : Nat) : Int) (rl cp nu lk fc fk a k n)
      have h6 : 0 ≤ wy cp lk fc fk a k ((n + 1 : Nat) : Int) := by
        unfold wy
        by_cases h7 : k < 4
        · rw [if_pos h7]
          have := hlk (4 * k + fk ((n + 1 : Nat) : Int)) (by omega) (by omega)
          omega
        · rw [if_neg h7]; omega
      exact ⟨h5.2.2 h6 h1.1, by omega⟩
    · rw [if_neg h2]; exact h1
theorem rl_one {cp nu lk : Int → Int} {fc fk : Int → Int} {a k : Int} (h1 : 0 ≤ fc 1) : ∀ n : Nat, 1 ≤ n → (rl cp nu lk fc fk a k n).1 ≤ wy cp lk fc fk a k 1 := by
  intro n
  induction n with
  | zero => intro h; omega
  | succ n ih =>
    intro _
    rw [rl_s]
    by_cases h0 : n = 0
    · subst h0
      rw [if_pos (by exact h1)]
      exact (relax_le _ _ _ _).2.1
    · have := ih (by omega)
      by_cases h2 : 0 ≤ fc ((n + 1 : Nat) : Int)
      · rw [if_pos h2]
        have h5 := relax_le (wy cp lk fc fk a k ((n + 1 : Nat) : Int)) (nu (5 * (a + ((n + 1 : Nat) : Int)) + fk ((n + 1 : Nat) : Int))) ((n + 1 : Nat) : Int) (rl cp nu lk fc fk a k n)
        omega
      · rw [if_neg h2]; exact this
/-- the first piece of the best is one that fits -/
theorem rl_len {cp nu lk : Int → Int} {fc fk : Int → Int} {a k : Int} : ∀ n : Nat, (rl cp nu lk fc fk a k n).1 < 1000000 → 1 ≤ (rl cp nu lk fc fk a k n).2.2 ∧ (rl cp nu lk fc fk a k n).2.2 ≤ n ∧ 0 ≤ fc (rl cp nu lk fc fk a k n).2.2 := by
  intro n
  induction n with
  | zero =>
    intro h
    have h : (1000000 : Int) < 1000000 := h
    omega
  | succ n ih =>
    rw [rl_s]
    by_cases h2 : 0 ≤ fc ((n + 1 : Nat) : Int)
    · rw [if_pos h2]
      unfold relax
      by_cases h3 : wy cp lk fc fk a k ((n + 1 : Nat) : Int) < (rl cp nu lk fc fk a k n).1
      · rw [if_pos h3]
        intro _
        exact ⟨by show 1 ≤ ((n + 1 : Nat) : Int); omega, Int.le_refl _, h2⟩
      · rw [if_neg h3]
        by_cases h4 : wy cp lk fc fk a k ((n + 1 : Nat) : Int) = (rl cp nu lk fc fk a k n).1
        · rw [if_pos h4]
          intro _
          exact ⟨by show 1 ≤ ((n + 1 : Nat) : Int); omega, Int.le_refl _, h2⟩
        · rw [if_neg h4]
          intro h
          have := ih h
          omega
    · rw [if_neg h2]
      intro h
      have := ih h
      omega
section TAB
variable {DC DK CN : List Int → Int} {pen le : Int} {tx lk cp nu fl : Int → Int} {a0 : Int}
theorem Tab.rg (h : Tab DC DK pen le tx lk cp nu fl a0) (hd : Dic DC DK CN) (hp : 1 ≤ pen ∧ pen ≤ 99) (hlk : ∀ i, 0 ≤ i → i < 16 → 0 ≤ lk i ∧ lk i ≤ 99) (hle : le ≤ 12) (h0 : 0 ≤ a0) : ∀ (m : Nat) (a : Int), a + m = le → a0 ≤ a → ∀ k, 0 ≤ k → k < 5 → 0 ≤ cp (5 * a + k) ∧ cp (5 * a + k) ≤ 198 * m := by
  intro m
  induction m using Nat.strongRecOn with
  | _ m ih =>
    intro a ha h1 k k0 k5
    by_cases hm : m = 0
    · have : a = le := by omega
      rw [this, (h.1 k k0 k5).1]
      omega
    · have hr := h.2 a h1 (by omega) k k0 k5
      rw [hr.1]
      have hfk : ∀ n, 0 ≤ fpK DC DK le tx a n ∧ fpK DC DK le tx a n ≤ 3 := fun n => fpK_rg hd
      have hc : ∀ n : Nat, 1 ≤ n → n ≤ 5 → 0 ≤ fpC DC pen le tx a n → 0 ≤ cp (5 * (a + n) + fpK DC DK le tx a n) ∧ cp (5 * (a + n) + fpK DC DK le tx a n) ≤ 198 * ((m - n : Nat) : Int) := by
        intro n n1 n5 hf
        have := fpC_in hf
        exact ih (m - n) (by omega) (a + n) (by omega) (by omega) _ (hfk n).1 (by have := hfk n; omega)
      have b1 := rl_rg (nu := nu) (k := k) ⟨k0, k5⟩ hlk hfk (fun n n1 n5 hf => (hc n n1 n5 hf).1) 5 (by omega)
      have f1 := fpC_one hd (tx := tx) hp (show a < le by omega)
      have b2 := rl_one (cp := cp) (nu := nu) (lk := lk) (fk := fpK DC DK le tx a) (a := a) (k := k) f1 5 (by omega)
      have b3 := (hc 1 (by omega) (by omega) f1).2
      have b4 := (fpC_rg hd (le := le) (tx := tx) (a := a) (n := 1) hp).2
      have b5 := hfk 1
      refine ⟨b1.1, ?_⟩
      unfold wy at b2
      have b6 : (if k < 4 then lk (4 * k + fpK DC DK le tx a 1) else 0) ≤ 99 := by
        split
        · exact (hlk _ (by omega) (by omega)).2
        · omega
      have e1 : (((1 : Nat)) : Int) = 1 := rfl
      rw [e1] at b3
      omega
theorem Tab.len (h : Tab DC DK pen le tx lk cp nu fl a0) (hd : Dic DC DK CN) (hp : 1 ≤ pen ∧ pen ≤ 99) (hlk : ∀ i, 0 ≤ i → i < 16 → 0 ≤ lk i ∧ lk i ≤ 99) (hle : le ≤ 12) (h0 : 0 ≤ a0) {a k : Int} (ha : a0 ≤ a) (hal : a < le) (k0 : 0 ≤ k) (k5 : k < 5) : fl (5 * a + k) = (rl cp nu lk (fpC DC pen le tx a) (fpK DC DK le tx a) a k 5).2.2 ∧ 1 ≤ fl (5 * a + k) ∧ fl (5 * a + k) ≤ 5 ∧ a + fl (5 * a + k) ≤ le ∧ 0 ≤ fpC DC pen le tx a (fl (5 * a + k)) := by
  have hr := h.2 a ha hal k k0 k5
  have hb := h.rg hd hp hlk hle h0 (le - a).toNat a (by omega) ha k k0 k5
  rw [hr.1] at hb
  have hlt : (rl cp nu lk (fpC DC pen le tx a) (fpK DC DK le tx a) a k 5).1 < 1000000 := by omega
  have hl := rl_len 5 hlt
  have he := hr.2.2 hlt
  rw [he]
  refine ⟨rfl, hl.1, hl.2.1, ?_, hl.2.2⟩
  exact fpC_in hl.2.2
end TAB
/-- in the midst of usePiece -/
def UPI (cp nu fl cp' nu' fl' : Int → Int) (w : Int → Int) (cnt a n k : Int) : Prop :=
  ∀ x, (5 * a ≤ x ∧ x < 5 * a + k → (cp' x, nu' x, fl' x) = relax (w (x - 5 * a)) cnt n (cp x, nu x, fl x)) ∧ (¬ (5 * a ≤ x ∧ x < 5 * a + k) → cp' x = cp x ∧ nu' x = nu x ∧ fl' x = fl x)
section UP
variable {cp nu fl cp' nu' fl' : Int → Int} {w : Int → Int} {cnt a n k : Int}
theorem UPI.zero : UPI cp nu fl cp nu fl w cnt a n 0 := fun x => ⟨fun h => by omega, fun _ => ⟨rfl, rfl, rfl⟩⟩
theorem UPI.at (h : UPI cp nu fl cp' nu' fl' w cnt a n k) {x : Int} (hx : 5 * a + k ≤ x) : cp' x = cp x ∧ nu' x = nu x ∧ fl' x = fl x := (h x).2 (by omega)
theorem UPI.step {c2 n2 f2 : Int → Int} (h : UPI cp nu fl cp' nu' fl' w cnt a n k) (hk : 0 ≤ k) (h2 : (c2 (5 * a + k), n2 (5 * a + k), f2 (5 * a + k)) = relax (w k) cnt n (cp (5 * a + k), nu (5 * a + k), fl (5 * a + k))) (ho : ∀ x, x ≠ 5 * a + k → c2 x = cp' x ∧ n2 x = nu' x ∧ f2 x = fl' x) : UPI cp nu fl c2 n2 f2 w cnt a n (k + 1) := by
  intro x
  by_cases e : x = 5 * a + k
  · subst e
    refine ⟨fun _ => ?_, fun z => absurd ⟨by omega, by omega⟩ z⟩
    rw [h2, show 5 * a + k - 5 * a = k by omega]
  · obtain ⟨o1, o2, o3⟩ := ho x e
    rw [o1, o2, o3]
    exact ⟨fun z => (h x).1 ⟨by omega, by omega⟩, fun z => (h x).2 (by omega)⟩
theorem UPI.lt (h : UPI cp nu fl cp' nu' fl' w cnt a n k) (hk : 0 ≤ k) (hw : w k < cp' (5 * a + k)) : UPI cp nu fl (upI cp' (5 * a + k) (w k)) (upI nu' (5 * a + k) cnt) (upI fl' (5 * a + k) n) w cnt a n (k + 1) := by
  obtain ⟨e1, e2, e3⟩ := h.at (x := 5 * a + k) (by omega)
  refine h.step hk ?_ (fun x hx => by rw [upI_n hx, upI_n hx, upI_n hx]; exact ⟨rfl, rfl, rfl⟩)
  rw [upI_s, upI_s, upI_s]
  unfold relax
  rw [if_pos (by rw [e1] at hw; exact hw)]
theorem UPI.eq (h : UPI cp nu fl cp' nu' fl' w cnt a n k) (hk : 0 ≤ k) (hw : w k = cp' (5 * a + k)) : UPI cp nu fl cp' (upI nu' (5 * a + k) (nu' (5 * a + k) + cnt)) (upI fl' (5 * a + k) n) w cnt a n (k + 1) := by
  obtain ⟨e1, e2, e3⟩ := h.at (x := 5 * a + k) (by omega)
  refine h.step hk ?_ (fun x hx => by rw [upI_n hx, upI_n hx]; exact ⟨rfl, rfl, rfl⟩)
  rw [upI_s, upI_s, e1, e2]
  unfold relax
  rw [e1] at hw
  rw [if_neg (by show ¬ w k < cp (5 * a + k); omega), if_pos hw]
theorem UPI.gt (h : UPI cp nu fl cp' nu' fl' w cnt a n k) (hk : 0 ≤ k) (h1 : cp' (5 * a + k) ≤ w k) (h2 : ¬ w k = cp' (5 * a + k)) : UPI cp nu fl cp' nu' fl' w cnt a n (k + 1) := by
  obtain ⟨e1, e2, e3⟩ := h.at (x := 5 * a + k) (by omega)
  refine h.step hk ?_ (fun x hx => ⟨rfl, rfl, rfl⟩)
  rw [e1, e2, e3]
  unfold relax
  rw [e1] at h1 h2
  rw [if_neg (by show ¬ w k < cp (5 * a + k); omega), if_neg h2]
end UP
/-- in the midst of cutText: the rows below are right, the row a has seen the lengths up to n -/
def RowI (DC DK : List Int → Int) (pen le : Int) (tx lk cp nu fl : Int → Int) (a : Int) (n : Nat) : Prop :=
  Tab DC DK pen le tx lk cp nu fl (a + 1) ∧ ∀ k, 0 ≤ k → k < 5 → cp (5 * a + k) = (rl cp nu lk (fpC DC pen le tx a) (fpK DC DK le tx a) a k n).1 ∧ nu (5 * a + k) = (rl cp nu lk (fpC DC pen le tx a) (fpK DC DK le tx a) a k n).2.1 ∧ ((rl cp nu lk (fpC DC pen le tx a) (fpK DC DK le tx a) a k n).1 < 1000000 → fl (5 * a + k) = (rl cp nu lk (fpC DC pen le tx a) (fpK DC DK le tx a) a k n).2.2)
section ROW
variable {DC DK CN : List Int → Int} {pen le : Int} {tx lk cp nu fl cp' nu' fl' : Int → Int} {a : Int}
/-- rows below the row a are kept when only that row is written -/
theorem Tab.keep {a0 : Int} (h : Tab DC DK pen le tx lk cp nu fl a0) (hd : Dic DC DK CN) (h2 : ∀ x, 5 * a0 ≤ x → cp' x = cp x ∧ nu' x = nu x ∧ fl' x = fl x) (hl : a0 ≤ le) : Tab DC DK pen le tx lk cp' nu' fl' a0 := by
  refine ⟨fun k k0 k5 => ?_, fun b b0 b1 k k0 k5 => ?_⟩
  · obtain ⟨e1, e2, e3⟩ := h2 (5 * le + k) (by omega)
    rw [e1, e2, e3]
    exact h.1 k k0 k5
  · obtain ⟨e1, e2, e3⟩ := h2 (5 * b + k) (by omega)
    have hc := rl_congr (cp := cp') (nu := nu') (cp' := cp) (nu' := nu) (lk := lk) (fc := fpC DC pen le tx b) (fk := fpK DC DK le tx b) (a := b) (k := k) (fun n => (fpK_rg hd).1) (fun x hx => ⟨(h2 x (by omega)).1, (h2 x (by omega)).2.1⟩) 5
    rw [e1, e2, e3, hc]
    exact h.2 b b0 b1 k k0 k5
theorem RowI.skip {n : Nat} (h : RowI DC DK pen le tx lk cp nu fl a n) (hf : fpC DC pen le tx a ((n + 1 : Nat) : Int) < 0) : RowI DC DK pen le tx lk cp nu fl a (n + 1) := by
  refine ⟨h.1, fun k k0 k5 => ?_⟩
  rw [rl_s, if_neg (by omega)]
  exact h.2 k k0 k5
theorem RowI.use {n : Nat} (h : RowI DC DK pen le tx lk cp nu fl a n) (hd : Dic DC DK CN) (ha : a < le) (hf : 0 ≤ fpC DC pen le tx a ((n + 1 : Nat) : Int))
    (hU : UPI cp nu fl cp' nu' fl' (fun k => wy cp lk (fpC DC pen le tx a) (fpK DC DK le tx a) a k ((n + 1 : Nat) : Int)) (nu (5 * (a + ((n + 1 : Nat) : Int)) + fpK DC DK le tx a ((n + 1 : Nat) : Int))) a ((n + 1 : Nat) : Int) 5) : RowI DC DK pen le tx lk cp' nu' fl' a (n + 1) := by
  have hk : ∀ x, 5 * a + 5 ≤ x → cp' x = cp x ∧ nu' x = nu x ∧ fl' x = fl x := fun x hx => hU.at hx
  refine ⟨h.1.keep hd (fun x hx => hk x (by omega)) (by omega), fun k k0 k5 => ?_⟩
  have hc := rl_congr (cp := cp') (nu := nu') (cp' := cp) (nu' := nu) (lk := lk) (fc := fpC DC pen le tx a) (fk := fpK DC DK le tx a) (a := a) (k := k) (fun n => (fpK_rg hd).1) (fun x hx => ⟨(hk x hx).1, (hk x hx).2.1⟩) (n + 1)
  rw [hc, rl_s, if_pos hf]
  obtain ⟨g1, g2, g3⟩ := h.2 k k0 k5
  have hx := (hU (5 * a + k)).1 ⟨by omega, by omega⟩
  rw [show 5 * a + k - 5 * a = k by omega] at hx
  have hx1 := congrArg Prod.fst hx
  have hx2 := congrArg (fun t => t.2.1) hx
  have hx3 := congrArg (fun t => t.2.2) hx
  simp only at hx1 hx2 hx3
  unfold relax at hx1 hx2 hx3 ⊢
  simp only [g1, g2] at hx1 hx2 hx3
  by_cases c1 : wy cp lk (fpC DC pen le tx a) (fpK DC DK le tx a) a k ((n + 1 : Nat) : Int) < (rl cp nu lk (fpC DC pen le tx a) (fpK DC DK le tx a) a k n).1
  · rw [if_pos c1] at hx1 hx2 hx3 ⊢
    exact ⟨hx1, hx2, fun _ => hx3⟩
  · rw [if_neg c1] at hx1 hx2 hx3 ⊢
    by_cases c2 : wy cp lk (fpC DC pen le tx a) (fpK DC DK le tx a) a k ((n + 1 : Nat) : Int) = (rl cp nu lk (fpC DC pen le tx a) (fpK DC DK le tx a) a k n).1
    · rw [if_pos c2] at hx1 hx2 hx3 ⊢
      exact ⟨hx1, hx2, fun _ => hx3⟩
    · rw [if_neg c2] at hx1 hx2 hx3 ⊢
      exact ⟨hx1, hx2, fun z => by rw [hx3]; exact g3 z⟩
theorem RowI.rg {n : Nat} (h : RowI DC DK pen le tx lk cp nu fl a n) (hd : Dic DC DK CN) (hp : 1 ≤ pen ∧ pen ≤ 99) (hlk : ∀ i, 0 ≤ i → i < 16 → 0 ≤ lk i ∧ lk i ≤ 99) (hle : le ≤ 12) (h0 : 0 ≤ a) (ha : a < le) (hn : n ≤ 5) : ∀ x, 5 * a ≤ x → x < 5 * le + 5 → 0 ≤ cp x ∧ cp x ≤ 1000000 := by
  intro x x0 x1
  have hx : x = 5 * (x / 5) + x % 5 := by omega
  by_cases e : x / 5 = a
  · have hr := h.2 (x % 5) (by omega) (by omega)
    rw [hx, e, hr.1]
    refine rl_rg (a := a) ⟨by omega, by omega⟩ hlk (fun n => fpK_rg hd) (fun m m1 m5 hf => ?_) n hn
    have hi := fpC_in hf
    have hk : 0 ≤ fpK DC DK le tx a m ∧ fpK DC DK le tx a m ≤ 3 := fpK_rg hd
    exact (h.1.rg hd hp hlk hle (by omega) (le - (a + m)).toNat (a + m) (by omega) (by omega) _ hk.1 (by omega)).1
  · have := h.1.rg hd hp hlk hle (by omega) (le - x / 5).toNat (x / 5) (by omega) (by omega) (x % 5) (by omega) (by omega)
    rw [← hx] at this
    omega
theorem RowI.done (h : RowI DC DK pen le tx lk cp nu fl a 5) : Tab DC DK pen le tx lk cp nu fl a := by
  refine ⟨h.1.1, fun b b0 b1 k k0 k5 => ?_⟩
  by_cases e : b = a
  · rw [e]; exact h.2 k k0 k5
  · exact h.1.2 b (by omega) b1 k k0 k5
end ROW
/-- following the first pieces: the place behind n pieces, -1 if there are not so many -/
def fol (DC DK : List Int → Int) (le : Int) (tx fl : Int → Int) : Nat → Int → Int → Int
  | 0, a, _ => a
  | n + 1, a, k => if le ≤ a then -1 else fol DC DK le tx fl n (a + fl (5 * a + k)) (fpK DC DK le tx a (fl (5 * a + k)))
end
section
/-! WALKS: WordLattice's other methods: printed by gen/methB.py -/
set_option maxRecDepth 100000
section PUBX
variable {l : Launch} {D : va_G} {dA : ClassId} {ad : Nat → Nat} {K : KX} {pen sp le cf pC pK : Int} {ba ch co ki wo sl tx lk cp nu fl : Int → Int}
theorem m_spell {x : Int} (hsp : 0 ≤ sp ∧ sp ≤ 5) : MetI l D dA (wX dA ad) (ad 0) yX1_spell (ws_ yX1_spell cX1_spell 2 (some .int)) (rmf 0) [vI x] (pen, ba, ch, co, ki, wo, sp, sl, le, tx, lk, cf, cp, nu, fl, pC, pK) (fun r u' => (5 ≤ sp ∧ r = -1 ∧ u' = (pen, ba, ch, co, ki, wo, sp, sl, le, tx, lk, cf, cp, nu, fl, pC, pK)) ∨ (sp < 5 ∧ r = sp + 1 ∧ u' = (pen, ba, ch, co, ki, wo, sp + 1, upI sl sp (lt3 x), le, tx, lk, cf, cp, nu, fl, pC, pK))) := by
  refine metI_intro [some (.ref (ad 0)), some (vI x)] (by decide) rfl rfl rfl (Nat.le_of_ble_eq_true rfl) (fun _ _ _ => vp_nar_int _) (fun K kr => ?_)
  refine s_aload_n 0 dX1_spell_0 rfl rfl ?_
  refine xg_sp dX1_spell_1 ?_
  refine s_iconst dX1_spell_4 ?_
  refine s_icmp_lt 10 dX1_spell_5 (by decide) ⟨by omega, by omega⟩ ⟨by omega, by omega⟩ (fun h5 => ?_) (fun h5 => ?_)
  · skip
    refine s_aload_n 0 dX1_spell_10 rfl rfl ?_
    refine xg_sl dX1_spell_11 ?_
    refine s_aload_n 0 dX1_spell_14 rfl rfl ?_
    refine xg_sp dX1_spell_15 ?_
    refine s_iload_n 1 dX1_spell_18 rfl rfl ?_
    refine s_iconst dX1_spell_19 ?_
    refine s_iand (lt3 x) (lt3_ok x) dX1_spell_20 ?_
    refine xw_sl dX1_spell_21 ⟨by omega, by omega⟩ ?_
    refine s_aload_n 0 dX1_spell_22 rfl rfl ?_
    refine s_dup dX1_spell_23 rfl ?_
    refine xg_sp dX1_spell_24 ?_
    refine s_iconst dX1_spell_27 ?_
    refine s_iadd dX1_spell_28 ?_
    refine xp_sp dX1_spell_29 ?_
    refine s_aload_n 0 dX1_spell_32 rfl rfl ?_
    refine xg_sp dX1_spell_33 ?_
    exact kr _ _ _ _ dX1_spell_36 (Or.inr ⟨h5, rfl, rfl⟩)
  · skip
    refine s_iconst dX1_spell_8 ?_
    exact kr _ _ _ _ dX1_spell_9 (Or.inl ⟨h5, rfl, rfl⟩)
theorem m_clearSpelling  : MetV l D dA (wX dA ad) (ad 0) yX1_clearSpelling (ws_ yX1_clearSpelling cX1_clearSpelling 1 none) (rmf 0) [] (pen, ba, ch, co, ki, wo, sp, sl, le, tx, lk, cf, cp, nu, fl, pC, pK) (fun u' => u' = (pen, ba, ch, co, ki, wo, 0, sl, le, tx, lk, cf, cp, nu, fl, pC, pK)) := by
  refine metV_intro [some (.ref (ad 0))] (by decide) rfl rfl rfl (Nat.le_of_ble_eq_true rfl) (fun K kr => ?_)
  refine s_aload_n 0 dX1_clearSpelling_0 rfl rfl ?_
  refine s_iconst dX1_clearSpelling_1 ?_
  refine xp_sp dX1_clearSpelling_2 ?_
  exact kr _ _ _ dX1_clearSpelling_5 rfl
theorem m_clearText  : MetV l D dA (wX dA ad) (ad 0) yX1_clearText (ws_ yX1_clearText cX1_clearText 1 none) (rmf 0) [] (pen, ba, ch, co, ki, wo, sp, sl, le, tx, lk, cf, cp, nu, fl, pC, pK) (fun u' => u' = (pen, ba, ch, co, ki, wo, sp, sl, 0, tx, lk, 0, cp, nu, fl, pC, pK)) := by
  refine metV_intro [some (.ref (ad 0))] (by decide) rfl rfl rfl (Nat.le_of_ble_eq_true rfl) (fun K kr => ?_)
  refine s_aload_n 0 dX1_clearText_0 rfl rfl ?_
  refine s_iconst dX1_clearText_1 ?_
  refine xp_le dX1_clearText_2 ?_
  refine s_aload_n 0 dX1_clearText_5 rfl rfl ?_
  refine s_iconst dX1_clearText_6 ?_
  refine xp_cf0 dX1_clearText_7 ?_
  exact kr _ _ _ dX1_clearText_10 rfl
theorem m_type {x : Int} (hle : 0 ≤ le ∧ le ≤ 12) : MetI l D dA (wX dA ad) (ad 0) yX1_type (ws_ yX1_type cX1_type 2 (some .int)) (rmf 0) [vI x] (pen, ba, ch, co, ki, wo, sp, sl, le, tx, lk, cf, cp, nu, fl, pC, pK) (fun r u' => (12 ≤ le ∧ r = -1 ∧ u' = (pen, ba, ch, co, ki, wo, sp, sl, le, tx, lk, cf, cp, nu, fl, pC, pK)) ∨ (le < 12 ∧ r = le + 1 ∧ u' = (pen, ba, ch, co, ki, wo, sp, sl, le + 1, upI tx le (lt3 x), lk, 0, cp, nu, fl, pC, pK))) := by
  refine metI_intro [some (.ref (ad 0)), some (vI x)] (by decide) rfl rfl rfl (Nat.le_of_ble_eq_true rfl) (fun _ _ _ => vp_nar_int _) (fun K kr => ?_)
  refine s_aload_n 0 dX1_type_0 rfl rfl ?_
  refine xg_le dX1_type_1 ?_
  refine s_bipush dX1_type_4 rfl ?_
  refine s_icmp_lt 11 dX1_type_6 (by decide) ⟨by omega, by omega⟩ ⟨by omega, by omega⟩ (fun h6 => ?_) (fun h6 => ?_)
  · skip
    refine s_aload_n 0 dX1_type_11 rfl rfl ?_
    refine xg_tx dX1_type_12 ?_
    refine s_aload_n 0 dX1_type_15 rfl rfl ?_
    refine xg_le dX1_type_16 ?_
    refine s_iload_n 1 dX1_type_19 rfl rfl ?_
    refine s_iconst dX1_type_20 ?_
    refine s_iand (lt3 x) (lt3_ok x) dX1_type_21 ?_
    refine xw_tx dX1_type_22 ⟨by omega, by omega⟩ ?_
    refine s_aload_n 0 dX1_type_23 rfl rfl ?_
    refine s_dup dX1_type_24 rfl ?_
    refine xg_le dX1_type_25 ?_
    refine s_iconst dX1_type_28 ?_
    refine s_iadd dX1_type_29 ?_
    refine xp_le dX1_type_30 ?_
    refine s_aload_n 0 dX1_type_33 rfl rfl ?_
    refine s_iconst dX1_type_34 ?_
    refine xp_cf0 dX1_type_35 ?_
    refine s_aload_n 0 dX1_type_38 rfl rfl ?_
    refine xg_le dX1_type_39 ?_
    exact kr _ _ _ _ dX1_type_42 (Or.inr ⟨h6, rfl, rfl⟩)
  · skip
    refine s_iconst dX1_type_9 ?_
    exact kr _ _ _ _ dX1_type_10 (Or.inl ⟨h6, rfl, rfl⟩)
theorem m_link {k j c : Int} (hk : inR k) (hj : inR j) (hc : inR c) : MetI l D dA (wX dA ad) (ad 0) yX1_link (ws_ yX1_link cX1_link 5 (some .int)) (rmf 0) [vI k, vI j, vI c] (pen, ba, ch, co, ki, wo, sp, sl, le, tx, lk, cf, cp, nu, fl, pC, pK) (fun r u' => ((k < 0 ∨ 3 < k ∨ j < 0 ∨ 3 < j ∨ c < 0 ∨ 99 < c) ∧ r = -1 ∧ u' = (pen, ba, ch, co, ki, wo, sp, sl, le, tx, lk, cf, cp, nu, fl, pC, pK)) ∨ (¬ (k < 0 ∨ 3 < k ∨ j < 0 ∨ 3 < j ∨ c < 0 ∨ 99 < c) ∧ r = lk (4 * k + j) ∧ u' = (pen, ba, ch, co, ki, wo, sp, sl, le, tx, upI lk (4 * k + j) c, 0, cp, nu, fl, pC, pK))) := by
  refine metI_intro [some (.ref (ad 0)), some (vI k), some (vI j), some (vI c), none] (by decide) rfl rfl rfl (Nat.le_of_ble_eq_true rfl) (fun _ _ _ => vp_nar_int _) (fun K kr => ?_)
  refine s_iload_n 1 dX1_link_0 rfl rfl ?_
  refine s_if_lt 28 dX1_link_1 (by decide) ⟨by omega, by omega⟩ (fun h1 => ?_) (fun h1 => ?_)
  · skip
    refine s_iconst dX1_link_28 ?_
    exact kr _ _ _ _ dX1_link_29 (Or.inl ⟨by omega, rfl, rfl⟩)
  · skip
    refine s_iload_n 1 dX1_link_4 rfl rfl ?_
    refine s_iconst dX1_link_5 ?_
    refine s_icmp_gt 28 dX1_link_6 (by decide) ⟨by omega, by omega⟩ ⟨by omega, by omega⟩ (fun h6 => ?_) (fun h6 => ?_)
    · skip
      refine s_iconst dX1_link_28 ?_
      exact kr _ _ _ _ dX1_link_29 (Or.inl ⟨by omega, rfl, rfl⟩)
    · skip
      refine s_iload_n 2 dX1_link_9 rfl rfl ?_
      refine s_if_lt 28 dX1_link_10 (by decide) ⟨by omega, by omega⟩ (fun h10 => ?_) (fun h10 => ?_)
      · skip
        refine s_iconst dX1_link_28 ?_
        exact kr _ _ _ _ dX1_link_29 (Or.inl ⟨by omega, rfl, rfl⟩)
      · skip
        refine s_iload_n 2 dX1_link_13 rfl rfl ?_
        refine s_iconst dX1_link_14 ?_
        refine s_icmp_gt 28 dX1_link_15 (by decide) ⟨by omega, by omega⟩ ⟨by omega, by omega⟩ (fun h15 => ?_) (fun h15 => ?_)
        · skip
          refine s_iconst dX1_link_28 ?_
          exact kr _ _ _ _ dX1_link_29 (Or.inl ⟨by omega, rfl, rfl⟩)
        · skip
          refine s_iload_n 3 dX1_link_18 rfl rfl ?_
          refine s_if_lt 28 dX1_link_19 (by decide) ⟨by omega, by omega⟩ (fun h19 => ?_) (fun h19 => ?_)
          · skip
            refine s_iconst dX1_link_28 ?_
            exact kr _ _ _ _ dX1_link_29 (Or.inl ⟨by omega, rfl, rfl⟩)
          · skip
            refine s_iload_n 3 dX1_link_22 rfl rfl ?_
            refine s_bipush dX1_link_23 rfl ?_
            refine s_icmp_le 30 dX1_link_25 (by decide) ⟨by omega, by omega⟩ ⟨by omega, by omega⟩ (fun h25 => ?_) (fun h25 => ?_)
            · skip
              refine s_aload_n 0 dX1_link_30 rfl rfl ?_
              refine xg_lk dX1_link_31 ?_
              refine s_iconst dX1_link_34 ?_
              refine s_iload_n 1 dX1_link_35 rfl rfl ?_
              refine s_imul dX1_link_36 ?_
              refine s_iload_n 2 dX1_link_37 rfl rfl ?_
              refine s_iadd dX1_link_38 ?_
              refine xr_lk dX1_link_39 ⟨by omega, by omega⟩ ?_
              refine s_istore [some (.ref (ad 0)), some (vI k), some (vI j), some (vI c), some (vI (lk ((4 * k) + j)))] dX1_link_40 (by decide) rfl ?_
              refine s_aload_n 0 dX1_link_42 rfl rfl ?_
              refine xg_lk dX1_link_43 ?_
              refine s_iconst dX1_link_46 ?_
              refine s_iload_n 1 dX1_link_47 rfl rfl ?_
              refine s_imul dX1_link_48 ?_
              refine s_iload_n 2 dX1_link_49 rfl rfl ?_
              refine s_iadd dX1_link_50 ?_
              refine s_iload_n 3 dX1_link_51 rfl rfl ?_
              refine xw_lk dX1_link_52 ⟨by omega, by omega⟩ ?_
              refine s_aload_n 0 dX1_link_53 rfl rfl ?_
              refine s_iconst dX1_link_54 ?_
              refine xp_cf0 dX1_link_55 ?_
              refine s_iload dX1_link_58 rfl ?_
              exact kr _ _ _ _ dX1_link_60 (Or.inr ⟨by omega, rfl, rfl⟩)
            · skip
              refine s_iconst dX1_link_28 ?_
              exact kr _ _ _ _ dX1_link_29 (Or.inl ⟨by omega, rfl, rfl⟩)
theorem m_lookUp {DC DK CN : List Int → Int} {N : Int} (hX : XT ba ch co ki wo DC DK CN N) (hd : Dic DC DK CN) (hsp : 0 ≤ sp ∧ sp ≤ 5) (hsl : ∀ i, 0 ≤ i → i < sp → 0 ≤ sl i ∧ sl i < 4) : MetI l D dA (wX dA ad) (ad 0) yX1_lookUp (ws_ yX1_lookUp cX1_lookUp 2 (some .int)) (rmf 2) [] (pen, ba, ch, co, ki, wo, sp, sl, le, tx, lk, cf, cp, nu, fl, pC, pK) (fun r u' => u' = (pen, ba, ch, co, ki, wo, sp, sl, le, tx, lk, cf, cp, nu, fl, pC, pK) ∧ r = DC (lst sl 0 sp.toNat)) := by
  obtain ⟨pth, hT, hN⟩ := hX
  have hs := find_spec (p := (lst sl 0 sp.toNat)) hT (lst_mem _ _ (fun i a b => hsl i a (by omega)))
  have e0 := wk_rg hT.1 (lst sl 0 sp.toNat) 0 (lst_mem _ _ (fun i a b => hsl i a (by omega))) (by omega) (by omega)
  refine metI_intro [some (.ref (ad 0)), none] (by decide) rfl rfl rfl (Nat.le_of_ble_eq_true rfl) (fun _ _ _ => vp_nar_int _) (fun K kr => ?_)
  refine s_aload_n 0 dX1_lookUp_0 rfl rfl ?_
  refine xc_find (m_find hT.1 hsp hsl) ⟨Nat.le_of_ble_eq_true rfl, Nat.le_of_ble_eq_true rfl⟩ (Nat.le_of_ble_eq_true rfl) dX1_lookUp_1 (fun r1 u_ hp => ?_)
  obtain ⟨rfl, rfl⟩ := hp
  refine s_istore_n 1 [some (.ref (ad 0)), some (vI (wk ba ch 0 (lst sl 0 sp.toNat)))] dX1_lookUp_4 rfl (by decide) rfl ?_
  refine s_iload_n 1 dX1_lookUp_5 rfl rfl ?_
  refine s_if_ge 13 dX1_lookUp_6 (by decide) ⟨by omega, by omega⟩ (fun h6 => ?_) (fun h6 => ?_)
  · skip
    obtain ⟨s1, s2, s3⟩ := hs.resolve_right (fun z => by omega)
    obtain ⟨a1, a2, a3⟩ := hT.2.2.1 _ s2
    rw [s3] at a1 a2 a3
    refine s_aload_n 0 dX1_lookUp_13 rfl rfl ?_
    refine xg_co dX1_lookUp_14 ?_
    refine s_iload_n 1 dX1_lookUp_17 rfl rfl ?_
    refine xr_co dX1_lookUp_18 ⟨by omega, by omega⟩ ?_
    first | exact kr _ _ _ _ dX1_lookUp_19 ⟨rfl, a1⟩ | exact kr _ _ _ _ dX1_lookUp_19 ⟨rfl, (hd.2.1 _ s3).symm⟩
  · skip
    obtain ⟨s1, s2⟩ := hs.resolve_left (fun z => by omega)
    have s3 : CN (lst sl 0 sp.toNat) = 0 := by have := (hd.1 (lst sl 0 sp.toNat)).1; have : ¬ 1 ≤ CN (lst sl 0 sp.toNat) := fun z => s2 (Or.inr z); omega
    refine s_iconst dX1_lookUp_9 ?_
    refine s_goto 19 dX1_lookUp_10 (by decide) ?_
    first | exact kr _ _ _ _ dX1_lookUp_19 ⟨rfl, a1⟩ | exact kr _ _ _ _ dX1_lookUp_19 ⟨rfl, (hd.2.1 _ s3).symm⟩
theorem m_beginning {DC DK CN : List Int → Int} {N : Int} (hX : XT ba ch co ki wo DC DK CN N) (hd : Dic DC DK CN) (hsp : 0 ≤ sp ∧ sp ≤ 5) (hsl : ∀ i, 0 ≤ i → i < sp → 0 ≤ sl i ∧ sl i < 4) : MetI l D dA (wX dA ad) (ad 0) yX1_beginning (ws_ yX1_beginning cX1_beginning 2 (some .int)) (rmf 2) [] (pen, ba, ch, co, ki, wo, sp, sl, le, tx, lk, cf, cp, nu, fl, pC, pK) (fun r u' => u' = (pen, ba, ch, co, ki, wo, sp, sl, le, tx, lk, cf, cp, nu, fl, pC, pK) ∧ r = CN (lst sl 0 sp.toNat)) := by
  obtain ⟨pth, hT, hN⟩ := hX
  have hs := find_spec (p := (lst sl 0 sp.toNat)) hT (lst_mem _ _ (fun i a b => hsl i a (by omega)))
  have e0 := wk_rg hT.1 (lst sl 0 sp.toNat) 0 (lst_mem _ _ (fun i a b => hsl i a (by omega))) (by omega) (by omega)
  refine metI_intro [some (.ref (ad 0)), none] (by decide) rfl rfl rfl (Nat.le_of_ble_eq_true rfl) (fun _ _ _ => vp_nar_int _) (fun K kr => ?_)
  refine s_aload_n 0 dX1_beginning_0 rfl rfl ?_
  refine xc_find (m_find hT.1 hsp hsl) ⟨Nat.le_of_ble_eq_true rfl, Nat.le_of_ble_eq_true rfl⟩ (Nat.le_of_ble_eq_true rfl) dX1_beginning_1 (fun r1 u_ hp => ?_)
  obtain ⟨rfl, rfl⟩ := hp
  refine s_istore_n 1 [some (.ref (ad 0)), some (vI (wk ba ch 0 (lst sl 0 sp.toNat)))] dX1_beginning_4 rfl (by decide) rfl ?_
  refine s_iload_n 1 dX1_beginning_5 rfl rfl ?_
  refine s_if_ge 13 dX1_beginning_6 (by decide) ⟨by omega, by omega⟩ (fun h6 => ?_) (fun h6 => ?_)
  · skip
    obtain ⟨s1, s2, s3⟩ := hs.resolve_right (fun z => by omega)
    obtain ⟨a1, a2, a3⟩ := hT.2.2.1 _ s2
    rw [s3] at a1 a2 a3
    refine s_aload_n 0 dX1_beginning_13 rfl rfl ?_
    refine xg_wo dX1_beginning_14 ?_
    refine s_iload_n 1 dX1_beginning_17 rfl rfl ?_
    refine xr_wo dX1_beginning_18 ⟨by omega, by omega⟩ ?_
    first | exact kr _ _ _ _ dX1_beginning_19 ⟨rfl, a3⟩ | exact kr _ _ _ _ dX1_beginning_19 ⟨rfl, s3.symm⟩
  · skip
    obtain ⟨s1, s2⟩ := hs.resolve_left (fun z => by omega)
    have s3 : CN (lst sl 0 sp.toNat) = 0 := by have := (hd.1 (lst sl 0 sp.toNat)).1; have : ¬ 1 ≤ CN (lst sl 0 sp.toNat) := fun z => s2 (Or.inr z); omega
    refine s_iconst dX1_beginning_9 ?_
    refine s_goto 19 dX1_beginning_10 (by decide) ?_
    first | exact kr _ _ _ _ dX1_beginning_19 ⟨rfl, a3⟩ | exact kr _ _ _ _ dX1_beginning_19 ⟨rfl, s3.symm⟩
theorem m_learn {DC DK CN : List Int → Int} {N : Int} {c k : Int} (hc : inR c) (hk : inR k) (hN : N ≤ 100) (hX : XT ba ch co ki wo DC DK CN N) (hd : Dic DC DK CN) (hsp : 0 ≤ sp ∧ sp ≤ 5) (hsl : ∀ i, 0 ≤ i → i < sp → 0 ≤ sl i ∧ sl i < 4) : MetI l D dA (wX dA ad) (ad 0) yX1_learn (ws_ yX1_learn cX1_learn 5 (some .int)) (rmf 5) [vI c, vI k] (pen, ba, ch, co, ki, wo, sp, sl, le, tx, lk, cf, cp, nu, fl, pC, pK) (fun r u' => (lrNo sp c k (lst sl 0 sp.toNat) DC CN ∧ r = -1 ∧ u' = (pen, ba, ch, co, ki, wo, sp, sl, le, tx, lk, cf, cp, nu, fl, pC, pK)) ∨ (¬ lrNo sp c k (lst sl 0 sp.toNat) DC CN ∧ r = lrCN DC CN (lst sl 0 sp.toNat) [] ∧ ∃ ba' ch' co' ki' wo', u' = (pen, ba', ch', co', ki', wo', 0, sl, le, tx, lk, 0, cp, nu, fl, pC, pK) ∧ XT ba' ch' co' ki' wo' (upW DC (lst sl 0 sp.toNat) c) (upW DK (lst sl 0 sp.toNat) k) (lrCN DC CN (lst sl 0 sp.toNat)) (N + sp))) := by
  obtain ⟨pth, hT, hN2⟩ := hX
  have hs := find_spec (p := (lst sl 0 sp.toNat)) hT (lst_mem _ _ (fun i a b => hsl i a (by omega)))
  have e0 := wk_rg hT.1 (lst sl 0 sp.toNat) 0 (lst_mem _ _ (fun i a b => hsl i a (by omega))) (by omega) (by omega)
  have w0 := (hT.2.2.1 0 hT.2.1.root).2.2
  rw [hT.2.1.2.1] at w0
  have c0 := hd.1 []
  refine metI_intro [some (.ref (ad 0)), some (vI c), some (vI k), none, none] (by decide) rfl rfl rfl (Nat.le_of_ble_eq_true rfl) (fun _ _ _ => vp_nar_int _) (fun K kr => ?_)
  refine s_aload_n 0 dX1_learn_0 rfl rfl ?_
  refine xg_sp dX1_learn_1 ?_
  refine s_if_eq 26 dX1_learn_4 (by decide) ⟨by omega, by omega⟩ (fun h4 => ?_) (fun h4 => ?_)
  · skip
    refine s_iconst dX1_learn_26 ?_
    exact kr _ _ _ _ dX1_learn_27 (Or.inl ⟨Or.inl (by omega), rfl, rfl⟩)
  · skip
    refine s_iload_n 1 dX1_learn_7 rfl rfl ?_
    refine s_if_lt 26 dX1_learn_8 (by decide) ⟨by omega, by omega⟩ (fun h8 => ?_) (fun h8 => ?_)
    · skip
      refine s_iconst dX1_learn_26 ?_
      exact kr _ _ _ _ dX1_learn_27 (Or.inl ⟨Or.inl (by omega), rfl, rfl⟩)
    · skip
      refine s_iload_n 1 dX1_learn_11 rfl rfl ?_
      refine s_bipush dX1_learn_12 rfl ?_
      refine s_icmp_gt 26 dX1_learn_14 (by decide) ⟨by omega, by omega⟩ ⟨by omega, by omega⟩ (fun h14 => ?_) (fun h14 => ?_)
      · skip
        refine s_iconst dX1_learn_26 ?_
        exact kr _ _ _ _ dX1_learn_27 (Or.inl ⟨Or.inl (by omega), rfl, rfl⟩)
      · skip
        refine s_iload_n 2 dX1_learn_17 rfl rfl ?_
        refine s_if_lt 26 dX1_learn_18 (by decide) ⟨by omega, by omega⟩ (fun h18 => ?_) (fun h18 => ?_)
        · skip
          refine s_iconst dX1_learn_26 ?_
          exact kr _ _ _ _ dX1_learn_27 (Or.inl ⟨Or.inl (by omega), rfl, rfl⟩)
        · skip
          refine s_iload_n 2 dX1_learn_21 rfl rfl ?_
          refine s_iconst dX1_learn_22 ?_
          refine s_icmp_le 28 dX1_learn_23 (by decide) ⟨by omega, by omega⟩ ⟨by omega, by omega⟩ (fun h23 => ?_) (fun h23 => ?_)
          · skip
            refine s_aload_n 0 dX1_learn_28 rfl rfl ?_
            refine xc_find (m_find hT.1 hsp hsl) ⟨Nat.le_of_ble_eq_true rfl, Nat.le_of_ble_eq_true rfl⟩ (Nat.le_of_ble_eq_true rfl) dX1_learn_29 (fun r29 u_ hp => ?_)
            obtain ⟨rfl, rfl⟩ := hp
            refine s_istore_n 3 [some (.ref (ad 0)), some (vI c), some (vI k), some (vI (wk ba ch 0 (lst sl 0 sp.toNat))), none] dX1_learn_32 rfl (by decide) rfl ?_
            refine s_iload_n 3 dX1_learn_33 rfl rfl ?_
            refine s_if_lt 50 dX1_learn_34 (by decide) ⟨by omega, by omega⟩ (fun h34 => ?_) (fun h34 => ?_)
            · skip
              have dn : DC (lst sl 0 sp.toNat) < 0 := by
                obtain ⟨s1, s2⟩ := hs.resolve_left (fun z => by omega)
                have s3 : CN (lst sl 0 sp.toNat) = 0 := by have := (hd.1 (lst sl 0 sp.toNat)).1; have : ¬ 1 ≤ CN (lst sl 0 sp.toNat) := fun z => s2 (Or.inr z); omega
                rw [hd.2.1 _ s3]; omega
              refine s_iconst dX1_learn_50 ?_
              refine s_istore [some (.ref (ad 0)), some (vI c), some (vI k), some (vI (wk ba ch 0 (lst sl 0 sp.toNat))), some (vI 0)] dX1_learn_51 (by decide) rfl ?_
              refine s_iload dX1_learn_53 rfl ?_
              refine s_if_ne 76 dX1_learn_55 (by decide) ⟨by omega, by omega⟩ (fun h55 => ?_) (fun h55 => ?_)
              · skip
                exfalso; omega
              · skip
                refine s_aload_n 0 dX1_learn_58 rfl rfl ?_
                refine xg_wo dX1_learn_59 ?_
                refine s_iconst dX1_learn_62 ?_
                refine xr_wo dX1_learn_63 ⟨by omega, by omega⟩ ?_
                refine s_bipush dX1_learn_64 rfl ?_
                refine s_icmp_lt 71 dX1_learn_66 (by decide) ⟨by omega, by omega⟩ ⟨by omega, by omega⟩ (fun h66 => ?_) (fun h66 => ?_)
                · skip
                  refine s_aload_n 0 dX1_learn_71 rfl rfl ?_
                  refine xc_grow (m_grow hT hd.ok hsp hsl (by omega)) ⟨Nat.le_of_ble_eq_true rfl, Nat.le_of_ble_eq_true rfl⟩ (Nat.le_of_ble_eq_true rfl) dX1_learn_72 (fun g u_ hp => ?_)
                  obtain ⟨ba1, ch1, co1, ki1, wo1, pth1, rfl, hT1, l1, l2, n1⟩ := hp
                  have w1 := (hT1.2.2.1 0 hT1.2.1.root).2.2
                  rw [hT1.2.1.2.1] at w1
                  refine s_istore_n 3 [some (.ref (ad 0)), some (vI c), some (vI k), some (vI g), some (vI 0)] dX1_learn_75 rfl (by decide) rfl ?_
                  refine s_aload_n 0 dX1_learn_76 rfl rfl ?_
                  refine xg_co dX1_learn_77 ?_
                  refine s_iload_n 3 dX1_learn_80 rfl rfl ?_
                  refine s_iload_n 1 dX1_learn_81 rfl rfl ?_
                  refine xw_co dX1_learn_82 (by first | exact ⟨l1.1, l1.2.1⟩ | exact ⟨s2.1, s2.2.1⟩) ?_
                  refine s_aload_n 0 dX1_learn_83 rfl rfl ?_
                  refine xg_ki dX1_learn_84 ?_
                  refine s_iload_n 3 dX1_learn_87 rfl rfl ?_
                  refine s_iload_n 2 dX1_learn_88 rfl rfl ?_
                  refine xw_ki dX1_learn_89 (by first | exact ⟨l1.1, l1.2.1⟩ | exact ⟨s2.1, s2.2.1⟩) ?_
                  refine s_aload_n 0 dX1_learn_90 rfl rfl ?_
                  refine s_iconst dX1_learn_91 ?_
                  refine xp_sp dX1_learn_92 ?_
                  refine s_aload_n 0 dX1_learn_95 rfl rfl ?_
                  refine s_iconst dX1_learn_96 ?_
                  refine xp_cf0 dX1_learn_97 ?_
                  refine s_aload_n 0 dX1_learn_100 rfl rfl ?_
                  refine xg_wo dX1_learn_101 ?_
                  refine s_iconst dX1_learn_104 ?_
                  refine xr_wo dX1_learn_105 ⟨by omega, by omega⟩ ?_
                  first
                    | exact kr _ _ _ _ dX1_learn_106 (Or.inr ⟨by unfold lrNo; omega, by rw [lrCN_old dy]; exact w0, _, _, _, _, _, rfl, by rw [lrCN_old dy]; exact ⟨pth, hT.setW s2 s3, by omega⟩⟩)
                    | exact kr _ _ _ _ dX1_learn_106 (Or.inr ⟨by unfold lrNo; omega, by rw [lrCN_new dn]; exact w1, _, _, _, _, _, rfl, by rw [lrCN_new dn]; exact ⟨pth1, hT1.setW l1 l2, by omega⟩⟩)
                · skip
                  refine s_iconst dX1_learn_69 ?_
                  exact kr _ _ _ _ dX1_learn_70 (Or.inl ⟨Or.inr ⟨dn, by omega⟩, rfl, rfl⟩)
            · skip
              obtain ⟨s1, s2, s3⟩ := hs.resolve_right (fun z => by omega)
              obtain ⟨a1, a2, a3⟩ := hT.2.2.1 _ s2
              rw [s3] at a1 a2 a3
              refine s_aload_n 0 dX1_learn_37 rfl rfl ?_
              refine xg_co dX1_learn_38 ?_
              refine s_iload_n 3 dX1_learn_41 rfl rfl ?_
              refine xr_co dX1_learn_42 ⟨s2.1, s2.2.1⟩ ?_
              refine s_if_lt 50 dX1_learn_43 (by decide) ⟨by have := hd.2.2.1 (lst sl 0 sp.toNat); omega, by have := hd.2.2.1 (lst sl 0 sp.toNat); omega⟩ (fun h43 => ?_) (fun h43 => ?_)
              · skip
                have dn : DC (lst sl 0 sp.toNat) < 0 := by omega
                refine s_iconst dX1_learn_50 ?_
                refine s_istore [some (.ref (ad 0)), some (vI c), some (vI k), some (vI (wk ba ch 0 (lst sl 0 sp.toNat))), some (vI 0)] dX1_learn_51 (by decide) rfl ?_
                refine s_iload dX1_learn_53 rfl ?_
                refine s_if_ne 76 dX1_learn_55 (by decide) ⟨by omega, by omega⟩ (fun h55 => ?_) (fun h55 => ?_)
                · skip
                  exfalso; omega
                · skip
                  refine s_aload_n 0 dX1_learn_58 rfl rfl ?_
                  refine xg_wo dX1_learn_59 ?_
                  refine s_iconst dX1_learn_62 ?_
                  refine xr_wo dX1_learn_63 ⟨by omega, by omega⟩ ?_
                  refine s_bipush dX1_learn_64 rfl ?_
                  refine s_icmp_lt 71 dX1_learn_66 (by decide) ⟨by omega, by omega⟩ ⟨by omega, by omega⟩ (fun h66 => ?_) (fun h66 => ?_)
                  · skip
                    refine s_aload_n 0 dX1_learn_71 rfl rfl ?_
                    refine xc_grow (m_grow hT hd.ok hsp hsl (by omega)) ⟨Nat.le_of_ble_eq_true rfl, Nat.le_of_ble_eq_true rfl⟩ (Nat.le_of_ble_eq_true rfl) dX1_learn_72 (fun g u_ hp => ?_)
                    obtain ⟨ba1, ch1, co1, ki1, wo1, pth1, rfl, hT1, l1, l2, n1⟩ := hp
                    have w1 := (hT1.2.2.1 0 hT1.2.1.root).2.2
                    rw [hT1.2.1.2.1] at w1
                    refine s_istore_n 3 [some (.ref (ad 0)), some (vI c), some (vI k), some (vI g), some (vI 0)] dX1_learn_75 rfl (by decide) rfl ?_
                    refine s_aload_n 0 dX1_learn_76 rfl rfl ?_
                    refine xg_co dX1_learn_77 ?_
                    refine s_iload_n 3 dX1_learn_80 rfl rfl ?_
                    refine s_iload_n 1 dX1_learn_81 rfl rfl ?_
                    refine xw_co dX1_learn_82 (by first | exact ⟨l1.1, l1.2.1⟩ | exact ⟨s2.1, s2.2.1⟩) ?_
                    refine s_aload_n 0 dX1_learn_83 rfl rfl ?_
                    refine xg_ki dX1_learn_84 ?_
                    refine s_iload_n 3 dX1_learn_87 rfl rfl ?_
                    refine s_iload_n 2 dX1_learn_88 rfl rfl ?_
                    refine xw_ki dX1_learn_89 (by first | exact ⟨l1.1, l1.2.1⟩ | exact ⟨s2.1, s2.2.1⟩) ?_
                    refine s_aload_n 0 dX1_learn_90 rfl rfl ?_
                    refine s_iconst dX1_learn_91 ?_
                    refine xp_sp dX1_learn_92 ?_
                    refine s_aload_n 0 dX1_learn_95 rfl rfl ?_
                    refine s_iconst dX1_learn_96 ?_
                    refine xp_cf0 dX1_learn_97 ?_
                    refine s_aload_n 0 dX1_learn_100 rfl rfl ?_
                    refine xg_wo dX1_learn_101 ?_
                    refine s_iconst dX1_learn_104 ?_
                    refine xr_wo dX1_learn_105 ⟨by omega, by omega⟩ ?_
                    first
                      | exact kr _ _ _ _ dX1_learn_106 (Or.inr ⟨by unfold lrNo; omega, by rw [lrCN_old dy]; exact w0, _, _, _, _, _, rfl, by rw [lrCN_old dy]; exact ⟨pth, hT.setW s2 s3, by omega⟩⟩)
                      | exact kr _ _ _ _ dX1_learn_106 (Or.inr ⟨by unfold lrNo; omega, by rw [lrCN_new dn]; exact w1, _, _, _, _, _, rfl, by rw [lrCN_new dn]; exact ⟨pth1, hT1.setW l1 l2, by omega⟩⟩)
                  · skip
                    refine s_iconst dX1_learn_69 ?_
                    exact kr _ _ _ _ dX1_learn_70 (Or.inl ⟨Or.inr ⟨dn, by omega⟩, rfl, rfl⟩)
              · skip
                have dy : 0 ≤ DC (lst sl 0 sp.toNat) := by omega
                refine s_iconst dX1_learn_46 ?_
                refine s_goto 51 dX1_learn_47 (by decide) ?_
                refine s_istore [some (.ref (ad 0)), some (vI c), some (vI k), some (vI (wk ba ch 0 (lst sl 0 sp.toNat))), some (vI 1)] dX1_learn_51 (by decide) rfl ?_
                refine s_iload dX1_learn_53 rfl ?_
                refine s_if_ne 76 dX1_learn_55 (by decide) ⟨by omega, by omega⟩ (fun h55 => ?_) (fun h55 => ?_)
                · skip
                  refine s_aload_n 0 dX1_learn_76 rfl rfl ?_
                  refine xg_co dX1_learn_77 ?_
                  refine s_iload_n 3 dX1_learn_80 rfl rfl ?_
                  refine s_iload_n 1 dX1_learn_81 rfl rfl ?_
                  refine xw_co dX1_learn_82 (by first | exact ⟨l1.1, l1.2.1⟩ | exact ⟨s2.1, s2.2.1⟩) ?_
                  refine s_aload_n 0 dX1_learn_83 rfl rfl ?_
                  refine xg_ki dX1_learn_84 ?_
                  refine s_iload_n 3 dX1_learn_87 rfl rfl ?_
                  refine s_iload_n 2 dX1_learn_88 rfl rfl ?_
                  refine xw_ki dX1_learn_89 (by first | exact ⟨l1.1, l1.2.1⟩ | exact ⟨s2.1, s2.2.1⟩) ?_
                  refine s_aload_n 0 dX1_learn_90 rfl rfl ?_
                  refine s_iconst dX1_learn_91 ?_
                  refine xp_sp dX1_learn_92 ?_
                  refine s_aload_n 0 dX1_learn_95 rfl rfl ?_
                  refine s_iconst dX1_learn_96 ?_
                  refine xp_cf0 dX1_learn_97 ?_
                  refine s_aload_n 0 dX1_learn_100 rfl rfl ?_
                  refine xg_wo dX1_learn_101 ?_
                  refine s_iconst dX1_learn_104 ?_
                  refine xr_wo dX1_learn_105 ⟨by omega, by omega⟩ ?_
                  first
                    | exact kr _ _ _ _ dX1_learn_106 (Or.inr ⟨by unfold lrNo; omega, by rw [lrCN_old dy]; exact w0, _, _, _, _, _, rfl, by rw [lrCN_old dy]; exact ⟨pth, hT.setW s2 s3, by omega⟩⟩)
                    | exact kr _ _ _ _ dX1_learn_106 (Or.inr ⟨by unfold lrNo; omega, by rw [lrCN_new dn]; exact w1, _, _, _, _, _, rfl, by rw [lrCN_new dn]; exact ⟨pth1, hT1.setW l1 l2, by omega⟩⟩)
                · skip
                  exfalso; omega
          · skip
            refine s_iconst dX1_learn_26 ?_
            exact kr _ _ _ _ dX1_learn_27 (Or.inl ⟨Or.inl (by omega), rfl, rfl⟩)
theorem m_forget {DC DK CN : List Int → Int} {N : Int} (hX : XT ba ch co ki wo DC DK CN N) (hd : Dic DC DK CN) (hsp : 0 ≤ sp ∧ sp ≤ 5) (hsl : ∀ i, 0 ≤ i → i < sp → 0 ≤ sl i ∧ sl i < 4) : MetI l D dA (wX dA ad) (ad 0) yX1_forget (ws_ yX1_forget cX1_forget 2 (some .int)) (rmf 2) [] (pen, ba, ch, co, ki, wo, sp, sl, le, tx, lk, cf, cp, nu, fl, pC, pK) (fun r u' => (DC (lst sl 0 sp.toNat) < 0 ∧ r = -1 ∧ u' = (pen, ba, ch, co, ki, wo, sp, sl, le, tx, lk, cf, cp, nu, fl, pC, pK)) ∨ (0 ≤ DC (lst sl 0 sp.toNat) ∧ r = cnS CN (lst sl 0 sp.toNat) [] ∧ ∃ ba' ch' co' wo', u' = (pen, ba', ch', co', ki, wo', 0, sl, le, tx, lk, 0, cp, nu, fl, pC, pK) ∧ XT ba' ch' co' ki wo' (upW DC (lst sl 0 sp.toNat) (-1)) DK (cnS CN (lst sl 0 sp.toNat)) N)) := by
  obtain ⟨pth, hT, hN2⟩ := hX
  have hs := find_spec (p := (lst sl 0 sp.toNat)) hT (lst_mem _ _ (fun i a b => hsl i a (by omega)))
  have e0 := wk_rg hT.1 (lst sl 0 sp.toNat) 0 (lst_mem _ _ (fun i a b => hsl i a (by omega))) (by omega) (by omega)
  refine metI_intro [some (.ref (ad 0)), none] (by decide) rfl rfl rfl (Nat.le_of_ble_eq_true rfl) (fun _ _ _ => vp_nar_int _) (fun K kr => ?_)
  refine s_aload_n 0 dX1_forget_0 rfl rfl ?_
  refine xc_find (m_find hT.1 hsp hsl) ⟨Nat.le_of_ble_eq_true rfl, Nat.le_of_ble_eq_true rfl⟩ (Nat.le_of_ble_eq_true rfl) dX1_forget_1 (fun r1 u_ hp => ?_)
  obtain ⟨rfl, rfl⟩ := hp
  refine s_istore_n 1 [some (.ref (ad 0)), some (vI (wk ba ch 0 (lst sl 0 sp.toNat)))] dX1_forget_4 rfl (by decide) rfl ?_
  refine s_iload_n 1 dX1_forget_5 rfl rfl ?_
  refine s_if_lt 18 dX1_forget_6 (by decide) ⟨by omega, by omega⟩ (fun h6 => ?_) (fun h6 => ?_)
  · skip
    have dn : DC (lst sl 0 sp.toNat) < 0 := by
      obtain ⟨s1, s2⟩ := hs.resolve_left (fun z => by omega)
      have s3 : CN (lst sl 0 sp.toNat) = 0 := by have := (hd.1 (lst sl 0 sp.toNat)).1; have : ¬ 1 ≤ CN (lst sl 0 sp.toNat) := fun z => s2 (Or.inr z); omega
      rw [hd.2.1 _ s3]; omega
    refine s_iconst dX1_forget_18 ?_
    exact kr _ _ _ _ dX1_forget_19 (Or.inl ⟨dn, rfl, rfl⟩)
  · skip
    obtain ⟨s1, s2, s3⟩ := hs.resolve_right (fun z => by omega)
    obtain ⟨a1, a2, a3⟩ := hT.2.2.1 _ s2
    rw [s3] at a1 a2 a3
    refine s_aload_n 0 dX1_forget_9 rfl rfl ?_
    refine xg_co dX1_forget_10 ?_
    refine s_iload_n 1 dX1_forget_13 rfl rfl ?_
    refine xr_co dX1_forget_14 ⟨s2.1, s2.2.1⟩ ?_
    refine s_if_ge 20 dX1_forget_15 (by decide) ⟨by have := hd.2.2.1 (lst sl 0 sp.toNat); omega, by have := hd.2.2.1 (lst sl 0 sp.toNat); omega⟩ (fun h15 => ?_) (fun h15 => ?_)
    · skip
      have dy : 0 ≤ DC (lst sl 0 sp.toNat) := by omega
      have hne := (hd.2.2.2.1 _ dy).2.2.2
      have hs1 : 1 ≤ sp := by
        apply Classical.byContradiction
        intro z
        apply hne
        rw [show sp.toNat = 0 by omega]
        rfl
      have hT2 := hT.delW s2 s3
      refine s_aload_n 0 dX1_forget_20 rfl rfl ?_
      refine xg_co dX1_forget_21 ?_
      refine s_iload_n 1 dX1_forget_24 rfl rfl ?_
      refine s_iconst dX1_forget_25 ?_
      refine xw_co dX1_forget_26 ⟨s2.1, s2.2.1⟩ ?_
      refine s_aload_n 0 dX1_forget_27 rfl rfl ?_
      refine xc_prune (m_prune hT2 ⟨hs1, hsp.2⟩ hsl (fun q hq => Or.inr (hd.2.2.2.2.2.1 _ dy q hq)) (fun q => ⟨(hd.1 q).1, by have := (hd.1 q).2; omega⟩)) ⟨Nat.le_of_ble_eq_true rfl, Nat.le_of_ble_eq_true rfl⟩ (Nat.le_of_ble_eq_true rfl) dX1_forget_28 (fun u_ hp => ?_)
      obtain ⟨ba1, ch1, co1, wo1, rfl, hF⟩ := hp
      obtain ⟨hT3, n3⟩ := hF.done hT2 hd.2.2.2.2.1 (hd.2.2.2.2.2.2 _ dy)
      have w1 := (hT3.2.2.1 0 hT3.2.1.root).2.2
      rw [hT3.2.1.2.1] at w1
      refine s_aload_n 0 dX1_forget_31 rfl rfl ?_
      refine s_iconst dX1_forget_32 ?_
      refine xp_sp dX1_forget_33 ?_
      refine s_aload_n 0 dX1_forget_36 rfl rfl ?_
      refine s_iconst dX1_forget_37 ?_
      refine xp_cf0 dX1_forget_38 ?_
      refine s_aload_n 0 dX1_forget_41 rfl rfl ?_
      refine xg_wo dX1_forget_42 ?_
      refine s_iconst dX1_forget_45 ?_
      refine xr_wo dX1_forget_46 ⟨by omega, by omega⟩ ?_
      exact kr _ _ _ _ dX1_forget_47 (Or.inr ⟨dy, w1, _, _, _, _, rfl, pth, hT3, by omega⟩)
    · skip
      have dn : DC (lst sl 0 sp.toNat) < 0 := by omega
      refine s_iconst dX1_forget_18 ?_
      exact kr _ _ _ _ dX1_forget_19 (Or.inl ⟨dn, rfl, rfl⟩)
theorem l_fit {a n : Int} (hR : Rg ba ch) (ha : 0 ≤ a) (hn : a + n ≤ le) (hle : le ≤ 12) (htx : ∀ i, 0 ≤ i → i < le → 0 ≤ tx i ∧ tx i < 4) : ∀ (m : Nat) (t i : Int), i + m = n → 0 ≤ i → -1 ≤ t → t < 512 → (∀ i', SV l D dA (wX dA ad) RX1 cX1_fitPiece 5 (rmf 1) K (pen, ba, ch, co, ki, wo, sp, sl, le, tx, lk, cf, cp, nu, fl, pC, pK) 57 [some (.ref (ad 0)), some (vI a), some (vI n), some (vI (wk ba ch t (lst tx (a + i) m))), some (vI i')] []) → SV l D dA (wX dA ad) RX1 cX1_fitPiece 5 (rmf 1) K (pen, ba, ch, co, ki, wo, sp, sl, le, tx, lk, cf, cp, nu, fl, pC, pK) 26 [some (.ref (ad 0)), some (vI a), some (vI n), some (vI t), some (vI i)] [] := by
  intro m
  induction m with
  | zero =>
    intro t i h1 h2 h3 h4 kx
    refine s_iload dX1_fitPiece_26 rfl ?_
    refine s_iload_n 2 dX1_fitPiece_28 rfl rfl ?_
    refine s_icmp_ge 57 dX1_fitPiece_29 (by decide) ⟨by omega, by omega⟩ ⟨by omega, by omega⟩ (fun h29 => ?_) (fun h29 => ?_)
    · skip
      exact kx _
    · skip
      exfalso; omega
  | succ m ih =>
    intro t i h1 h2 h3 h4 kx
    have e1 := htx (a + i) (by omega) (by omega)
    refine s_iload dX1_fitPiece_26 rfl ?_
    refine s_iload_n 2 dX1_fitPiece_28 rfl rfl ?_
    refine s_icmp_ge 57 dX1_fitPiece_29 (by decide) ⟨by omega, by omega⟩ ⟨by omega, by omega⟩ (fun h29 => ?_) (fun h29 => ?_)
    · skip
      exfalso; omega
    · skip
      refine s_iload_n 3 dX1_fitPiece_32 rfl rfl ?_
      refine s_if_lt 57 dX1_fitPiece_33 (by decide) ⟨by omega, by omega⟩ (fun h33 => ?_) (fun h33 => ?_)
      · skip
        have kk := kx i
        rw [lst, wk, if_pos h33] at kk
        exact kk
      · skip
        refine s_aload_n 0 dX1_fitPiece_36 rfl rfl ?_
        refine s_iload_n 3 dX1_fitPiece_37 rfl rfl ?_
        refine s_aload_n 0 dX1_fitPiece_38 rfl rfl ?_
        refine xg_tx dX1_fitPiece_39 ?_
        refine s_iload_n 1 dX1_fitPiece_42 rfl rfl ?_
        refine s_iload dX1_fitPiece_43 rfl ?_
        refine s_iadd dX1_fitPiece_45 ?_
        refine xr_tx dX1_fitPiece_46 ⟨by omega, by omega⟩ ?_
        refine xc_childOf (m_childOf ⟨by omega, by omega⟩ ⟨by omega, by omega⟩ hR) ⟨Nat.le_of_ble_eq_true rfl, Nat.le_of_ble_eq_true rfl⟩ (Nat.le_of_ble_eq_true rfl) dX1_fitPiece_47 (fun r47 u_ hp => ?_)
        obtain ⟨rfl, rfl⟩ := hp
        refine s_istore_n 3 [some (.ref (ad 0)), some (vI a), some (vI n), some (vI (chP ba ch t (tx (a + i)))), some (vI i)] dX1_fitPiece_50 rfl (by decide) rfl ?_
        have e2 := chP_rg hR (s := t) (c := tx (a + i)) ⟨by omega, by omega⟩ ⟨by omega, by omega⟩
        refine s_iinc [some (.ref (ad 0)), some (vI a), some (vI n), some (vI (chP ba ch t (tx (a + i)))), some (vI (i + 1))] dX1_fitPiece_51 rfl (by decide) rfl ?_
        refine s_goto 26 dX1_fitPiece_54 (by decide) ?_
        refine ih _ _ (by omega) (by omega) e2.1 e2.2 (fun i' => ?_)
        have kk := kx i'
        rw [lst, wk, if_neg (by omega), show a + i + 1 = a + (i + 1) by omega] at kk
        exact kk
theorem m_fitPiece {DC DK CN : List Int → Int} {N : Int} {a n : Int} (hX : XT ba ch co ki wo DC DK CN N) (hd : Dic DC DK CN) (ha : 0 ≤ a ∧ a ≤ 12) (hn : 1 ≤ n ∧ n ≤ 5) (hle : 0 ≤ le ∧ le ≤ 12) (htx : ∀ i, 0 ≤ i → i < le → 0 ≤ tx i ∧ tx i < 4) : MetV l D dA (wX dA ad) (ad 0) yX1_fitPiece (ws_ yX1_fitPiece cX1_fitPiece 5 none) (rmf 1) [vI a, vI n] (pen, ba, ch, co, ki, wo, sp, sl, le, tx, lk, cf, cp, nu, fl, pC, pK) (fun u' => u' = (pen, ba, ch, co, ki, wo, sp, sl, le, tx, lk, cf, cp, nu, fl, fpC DC pen le tx a n, fpK DC DK le tx a n)) := by
  obtain ⟨pth, hT, hN⟩ := hX
  refine metV_intro [some (.ref (ad 0)), some (vI a), some (vI n), none, none] (by decide) rfl rfl rfl (Nat.le_of_ble_eq_true rfl) (fun K kr => ?_)
  refine s_aload_n 0 dX1_fitPiece_0 rfl rfl ?_
  refine s_iconst dX1_fitPiece_1 ?_
  refine xp_pC dX1_fitPiece_2 ?_
  refine s_aload_n 0 dX1_fitPiece_5 rfl rfl ?_
  refine s_iconst dX1_fitPiece_6 ?_
  refine xp_pK dX1_fitPiece_7 ?_
  refine s_iload_n 1 dX1_fitPiece_10 rfl rfl ?_
  refine s_iload_n 2 dX1_fitPiece_11 rfl rfl ?_
  refine s_iadd dX1_fitPiece_12 ?_
  refine s_aload_n 0 dX1_fitPiece_13 rfl rfl ?_
  refine xg_le dX1_fitPiece_14 ?_
  refine s_icmp_le 21 dX1_fitPiece_17 (by decide) ⟨by omega, by omega⟩ ⟨by omega, by omega⟩ (fun h17 => ?_) (fun h17 => ?_)
  · skip
    refine s_iconst dX1_fitPiece_21 ?_
    refine s_istore_n 3 [some (.ref (ad 0)), some (vI a), some (vI n), some (vI 0), none] dX1_fitPiece_22 rfl (by decide) rfl ?_
    refine s_iconst dX1_fitPiece_23 ?_
    refine s_istore [some (.ref (ad 0)), some (vI a), some (vI n), some (vI 0), some (vI 0)] dX1_fitPiece_24 (by decide) rfl ?_
    refine l_fit hT.1 ha.1 h17 hle.2 htx n.toNat 0 0 (by omega) (by omega) (by omega) (by omega) (fun i' => ?_)
    rw [show a + (0 : Int) = a by omega]
    have hs := find_spec (p := (lst tx a n.toNat)) hT (lst_mem _ _ (fun i a1 b1 => htx i (by omega) (by omega)))
    have e0 := wk_rg hT.1 (lst tx a n.toNat) 0 (lst_mem _ _ (fun i a1 b1 => htx i (by omega) (by omega))) (by omega) (by omega)
    have n17 : ¬ le < a + n := by omega
    refine s_iload_n 3 dX1_fitPiece_57 rfl rfl ?_
    refine s_if_lt 93 dX1_fitPiece_58 (by decide) ⟨by omega, by omega⟩ (fun h58 => ?_) (fun h58 => ?_)
    · skip
      have dn : ¬ 0 ≤ DC (lst tx a n.toNat) := by
        obtain ⟨s1, s2⟩ := hs.resolve_left (fun z => by omega)
        have s3 : CN (lst tx a n.toNat) = 0 := by have := (hd.1 (lst tx a n.toNat)).1; have : ¬ 1 ≤ CN (lst tx a n.toNat) := fun z => s2 (Or.inr z); omega
        rw [hd.2.1 _ s3]; omega
      refine s_iload_n 2 dX1_fitPiece_93 rfl rfl ?_
      refine s_iconst dX1_fitPiece_94 ?_
      refine s_icmp_ne 106 dX1_fitPiece_95 (by decide) ⟨by omega, by omega⟩ ⟨by omega, by omega⟩ (fun h95 => ?_) (fun h95 => ?_)
      · skip
        first
          | exact kr _ _ _ dX1_fitPiece_106 (by unfold fpC fpK; rw [if_neg n17, if_neg n17, if_pos dy, if_pos dy, a1, a2 dy])
          | exact kr _ _ _ dX1_fitPiece_106 (by unfold fpC fpK; rw [if_neg n17, if_neg n17, if_neg dn, if_neg dn, if_pos h95])
          | exact kr _ _ _ dX1_fitPiece_106 (by unfold fpC fpK; rw [if_neg n17, if_neg n17, if_neg dn, if_neg dn, if_neg h95])
      · skip
        refine s_aload_n 0 dX1_fitPiece_98 rfl rfl ?_
        refine s_aload_n 0 dX1_fitPiece_99 rfl rfl ?_
        refine xg_pen dX1_fitPiece_100 ?_
        refine xp_pC dX1_fitPiece_103 ?_
        first
          | exact kr _ _ _ dX1_fitPiece_106 (by unfold fpC fpK; rw [if_neg n17, if_neg n17, if_pos dy, if_pos dy, a1, a2 dy])
          | exact kr _ _ _ dX1_fitPiece_106 (by unfold fpC fpK; rw [if_neg n17, if_neg n17, if_neg dn, if_neg dn, if_pos h95])
          | exact kr _ _ _ dX1_fitPiece_106 (by unfold fpC fpK; rw [if_neg n17, if_neg n17, if_neg dn, if_neg dn, if_neg h95])
    · skip
      obtain ⟨s1, s2, s3⟩ := hs.resolve_right (fun z => by omega)
      obtain ⟨a1, a2, a3⟩ := hT.2.2.1 _ s2
      rw [s3] at a1 a2 a3
      refine s_aload_n 0 dX1_fitPiece_61 rfl rfl ?_
      refine xg_co dX1_fitPiece_62 ?_
      refine s_iload_n 3 dX1_fitPiece_65 rfl rfl ?_
      refine xr_co dX1_fitPiece_66 ⟨s2.1, s2.2.1⟩ ?_
      refine s_if_lt 93 dX1_fitPiece_67 (by decide) ⟨by have := hd.2.2.1 (lst tx a n.toNat); omega, by have := hd.2.2.1 (lst tx a n.toNat); omega⟩ (fun h67 => ?_) (fun h67 => ?_)
      · skip
        have dn : ¬ 0 ≤ DC (lst tx a n.toNat) := by omega
        refine s_iload_n 2 dX1_fitPiece_93 rfl rfl ?_
        refine s_iconst dX1_fitPiece_94 ?_
        refine s_icmp_ne 106 dX1_fitPiece_95 (by decide) ⟨by omega, by omega⟩ ⟨by omega, by omega⟩ (fun h95 => ?_) (fun h95 => ?_)
        · skip
          first
            | exact kr _ _ _ dX1_fitPiece_106 (by unfold fpC fpK; rw [if_neg n17, if_neg n17, if_pos dy, if_pos dy, a1, a2 dy])
            | exact kr _ _ _ dX1_fitPiece_106 (by unfold fpC fpK; rw [if_neg n17, if_neg n17, if_neg dn, if_neg dn, if_pos h95])
            | exact kr _ _ _ dX1_fitPiece_106 (by unfold fpC fpK; rw [if_neg n17, if_neg n17, if_neg dn, if_neg dn, if_neg h95])
        · skip
          refine s_aload_n 0 dX1_fitPiece_98 rfl rfl ?_
          refine s_aload_n 0 dX1_fitPiece_99 rfl rfl ?_
          refine xg_pen dX1_fitPiece_100 ?_
          refine xp_pC dX1_fitPiece_103 ?_
          first
            | exact kr _ _ _ dX1_fitPiece_106 (by unfold fpC fpK; rw [if_neg n17, if_neg n17, if_pos dy, if_pos dy, a1, a2 dy])
            | exact kr _ _ _ dX1_fitPiece_106 (by unfold fpC fpK; rw [if_neg n17, if_neg n17, if_neg dn, if_neg dn, if_pos h95])
            | exact kr _ _ _ dX1_fitPiece_106 (by unfold fpC fpK; rw [if_neg n17, if_neg n17, if_neg dn, if_neg dn, if_neg h95])
      · skip
        have dy : 0 ≤ DC (lst tx a n.toNat) := by omega
        refine s_aload_n 0 dX1_fitPiece_70 rfl rfl ?_
        refine s_aload_n 0 dX1_fitPiece_71 rfl rfl ?_
        refine xg_co dX1_fitPiece_72 ?_
        refine s_iload_n 3 dX1_fitPiece_75 rfl rfl ?_
        refine xr_co dX1_fitPiece_76 ⟨s2.1, s2.2.1⟩ ?_
        refine xp_pC dX1_fitPiece_77 ?_
        refine s_aload_n 0 dX1_fitPiece_80 rfl rfl ?_
        refine s_aload_n 0 dX1_fitPiece_81 rfl rfl ?_
        refine xg_ki dX1_fitPiece_82 ?_
        refine s_iload_n 3 dX1_fitPiece_85 rfl rfl ?_
        refine xr_ki dX1_fitPiece_86 ⟨s2.1, s2.2.1⟩ ?_
        refine xp_pK dX1_fitPiece_87 ?_
        refine s_goto 106 dX1_fitPiece_90 (by decide) ?_
        first
          | exact kr _ _ _ dX1_fitPiece_106 (by unfold fpC fpK; rw [if_neg n17, if_neg n17, if_pos dy, if_pos dy, a1, a2 dy])
          | exact kr _ _ _ dX1_fitPiece_106 (by unfold fpC fpK; rw [if_neg n17, if_neg n17, if_neg dn, if_neg dn, if_pos h95])
          | exact kr _ _ _ dX1_fitPiece_106 (by unfold fpC fpK; rw [if_neg n17, if_neg n17, if_neg dn, if_neg dn, if_neg h95])
  · skip
    exact kr _ _ _ dX1_fitPiece_20 (by unfold fpC fpK; rw [if_pos h17, if_pos h17])
theorem l_up {a n : Int} (ha : 0 ≤ a) (hn : 1 ≤ n ∧ a + n ≤ 12) (hK : 0 ≤ pK ∧ pK ≤ 3) (hC : 0 ≤ pC ∧ pC ≤ 99) (hcp : ∀ x, 5 * a ≤ x → x ≤ 5 * (a + n) + pK → 0 ≤ cp x ∧ cp x ≤ 1000000) (hlk : ∀ i, 0 ≤ i → i < 16 → 0 ≤ lk i ∧ lk i ≤ 99) (kr : ∀ (pc : Nat) (lv : List (Option Value)) (u' : SX), decode cX1_usePiece pc = .ok (.return_, 1) → (∃ cp' nu' fl', u' = (pen, ba, ch, co, ki, wo, sp, sl, le, tx, lk, cf, cp', nu', fl', pC, pK) ∧ UPI cp nu fl cp' nu' fl' (fun k => pC + cp (5 * (a + n) + pK) + (if k < 4 then lk (4 * k + pK) else 0)) (nu (5 * (a + n) + pK)) a n 5) → SV l D dA (wX dA ad) RX1 cX1_usePiece 7 (rmf 0) K u' pc lv []) : ∀ (m : Nat) (k : Int) (o5 o6 : Option Value) (cp' nu' fl' : Int → Int), k + m = 5 → 0 ≤ k → UPI cp nu fl cp' nu' fl' (fun k => pC + cp (5 * (a + n) + pK) + (if k < 4 then lk (4 * k + pK) else 0)) (nu (5 * (a + n) + pK)) a n k → SV l D dA (wX dA ad) RX1 cX1_usePiece 7 (rmf 0) K (pen, ba, ch, co, ki, wo, sp, sl, le, tx, lk, cf, cp', nu', fl', pC, pK) 14 [some (.ref (ad 0)), some (vI a), some (vI n), some (vI (5 * (a + n) + pK)), some (vI k), o5, o6] [] := by
  intro m
  induction m with
  | zero =>
    intro k o5 o6 cp' nu' fl' h1 h2 hU
    obtain rfl : k = 5 := by omega
    refine s_iload dX1_usePiece_14 rfl ?_
    refine s_iconst dX1_usePiece_16 ?_
    refine s_icmp_ge 153 dX1_usePiece_17 (by decide) ⟨by omega, by omega⟩ ⟨by omega, by omega⟩ (fun h17 => ?_) (fun h17 => ?_)
    · skip
      exact kr _ _ _ dX1_usePiece_153 (⟨_, _, _, rfl, hU⟩)
    · skip
      exfalso; omega
  | succ m ih =>
    intro k o5 o6 cp' nu' fl' h1 h2 hU
    have e1 := hU.at (x := 5 * (a + n) + pK) (by omega)
    have e2 := hU.at (x := 5 * a + k) (by omega)
    have e3 := hcp (5 * (a + n) + pK) (by omega) (by omega)
    have e4 := hcp (5 * a + k) (by omega) (by omega)
    have tail : ∀ (o5 o6 : Option Value), SV l D dA (wX dA ad) RX1 cX1_usePiece 7 (rmf 0) K (pen, ba, ch, co, ki, wo, sp, sl, le, tx, lk, cf, cp', nu', fl', pC, pK) 58 [some (.ref (ad 0)), some (vI a), some (vI n), some (vI (5 * (a + n) + pK)), some (vI k), some (vI (pC + cp (5 * (a + n) + pK) + (if k < 4 then lk (4 * k + pK) else 0))), o6] [] := by
      intro o5 o6
      have hw1 : -1000 ≤ (pC + cp (5 * (a + n) + pK) + (if k < 4 then lk (4 * k + pK) else 0)) ∧ (pC + cp (5 * (a + n) + pK) + (if k < 4 then lk (4 * k + pK) else 0)) ≤ 2000000 := by
        split
        · have := hlk (4 * k + pK) (by omega) (by omega)
          omega
        · omega
      refine s_iconst dX1_usePiece_58 ?_
      refine s_iload_n 1 dX1_usePiece_59 rfl rfl ?_
      refine s_imul dX1_usePiece_60 ?_
      refine s_iload dX1_usePiece_61 rfl ?_
      refine s_iadd dX1_usePiece_63 ?_
      refine s_istore [some (.ref (ad 0)), some (vI a), some (vI n), some (vI (5 * (a + n) + pK)), some (vI k), some (vI (pC + cp (5 * (a + n) + pK) + (if k < 4 then lk (4 * k + pK) else 0))), some (vI ((5 * a) + k))] dX1_usePiece_64 (by decide) rfl ?_
      refine s_iload dX1_usePiece_66 rfl ?_
      refine s_aload_n 0 dX1_usePiece_68 rfl rfl ?_
      refine xg_cp dX1_usePiece_69 ?_
      refine s_iload dX1_usePiece_72 rfl ?_
      refine xr_cp dX1_usePiece_74 ⟨by omega, by omega⟩ ?_
      refine s_icmp_ge 111 dX1_usePiece_75 (by decide) ⟨by omega, by omega⟩ ⟨by rw [e2.1]; omega, by rw [e2.1]; omega⟩ (fun h75 => ?_) (fun h75 => ?_)
      · skip
        refine s_iload dX1_usePiece_111 rfl ?_
        refine s_aload_n 0 dX1_usePiece_113 rfl rfl ?_
        refine xg_cp dX1_usePiece_114 ?_
        refine s_iload dX1_usePiece_117 rfl ?_
        refine xr_cp dX1_usePiece_119 ⟨by omega, by omega⟩ ?_
        refine s_icmp_ne 147 dX1_usePiece_120 (by decide) ⟨by omega, by omega⟩ ⟨by rw [e2.1]; omega, by rw [e2.1]; omega⟩ (fun h120 => ?_) (fun h120 => ?_)
        · skip
          refine s_iinc [some (.ref (ad 0)), some (vI a), some (vI n), some (vI (5 * (a + n) + pK)), some (vI (k + 1)), some (vI (pC + cp (5 * (a + n) + pK) + (if k < 4 then lk (4 * k + pK) else 0))), some (vI ((5 * a) + k))] dX1_usePiece_147 rfl (by decide) rfl ?_
          refine s_goto 14 dX1_usePiece_150 (by decide) ?_
          first
            | exact ih _ _ _ _ _ _ (by omega) (by omega) (by have z := hU.lt h2 h75; rw [← e1.2.1] at z ⊢; exact z)
            | exact ih _ _ _ _ _ _ (by omega) (by omega) (by have z := hU.eq h2 h120; rw [← e1.2.1] at z ⊢; exact z)
            | exact ih _ _ _ _ _ _ (by omega) (by omega) (hU.gt h2 h75 h120)
        · skip
          refine s_aload_n 0 dX1_usePiece_123 rfl rfl ?_
          refine xg_nu dX1_usePiece_124 ?_
          refine s_iload dX1_usePiece_127 rfl ?_
          refine s_dup2 dX1_usePiece_129 rfl rfl ?_
          refine xr_nu dX1_usePiece_130 ⟨by omega, by omega⟩ ?_
          refine s_aload_n 0 dX1_usePiece_131 rfl rfl ?_
          refine xg_nu dX1_usePiece_132 ?_
          refine s_iload_n 3 dX1_usePiece_135 rfl rfl ?_
          refine xr_nu dX1_usePiece_136 ⟨by omega, by omega⟩ ?_
          refine s_iadd dX1_usePiece_137 ?_
          refine xw_nu dX1_usePiece_138 ⟨by omega, by omega⟩ ?_
          refine s_aload_n 0 dX1_usePiece_139 rfl rfl ?_
          refine xg_fl dX1_usePiece_140 ?_
          refine s_iload dX1_usePiece_143 rfl ?_
          refine s_iload_n 2 dX1_usePiece_145 rfl rfl ?_
          refine xw_fl dX1_usePiece_146 ⟨by omega, by omega⟩ ?_
          refine s_iinc [some (.ref (ad 0)), some (vI a), some (vI n), some (vI (5 * (a + n) + pK)), some (vI (k + 1)), some (vI (pC + cp (5 * (a + n) + pK) + (if k < 4 then lk (4 * k + pK) else 0))), some (vI ((5 * a) + k))] dX1_usePiece_147 rfl (by decide) rfl ?_
          refine s_goto 14 dX1_usePiece_150 (by decide) ?_
          first
            | exact ih _ _ _ _ _ _ (by omega) (by omega) (by have z := hU.lt h2 h75; rw [← e1.2.1] at z ⊢; exact z)
            | exact ih _ _ _ _ _ _ (by omega) (by omega) (by have z := hU.eq h2 h120; rw [← e1.2.1] at z ⊢; exact z)
            | exact ih _ _ _ _ _ _ (by omega) (by omega) (hU.gt h2 h75 h120)
      · skip
        refine s_aload_n 0 dX1_usePiece_78 rfl rfl ?_
        refine xg_cp dX1_usePiece_79 ?_
        refine s_iload dX1_usePiece_82 rfl ?_
        refine s_iload dX1_usePiece_84 rfl ?_
        refine xw_cp dX1_usePiece_86 ⟨by omega, by omega⟩ ?_
        refine s_aload_n 0 dX1_usePiece_87 rfl rfl ?_
        refine xg_nu dX1_usePiece_88 ?_
        refine s_iload dX1_usePiece_91 rfl ?_
        refine s_aload_n 0 dX1_usePiece_93 rfl rfl ?_
        refine xg_nu dX1_usePiece_94 ?_
        refine s_iload_n 3 dX1_usePiece_97 rfl rfl ?_
        refine xr_nu dX1_usePiece_98 ⟨by omega, by omega⟩ ?_
        refine xw_nu dX1_usePiece_99 ⟨by omega, by omega⟩ ?_
        refine s_aload_n 0 dX1_usePiece_100 rfl rfl ?_
        refine xg_fl dX1_usePiece_101 ?_
        refine s_iload dX1_usePiece_104 rfl ?_
        refine s_iload_n 2 dX1_usePiece_106 rfl rfl ?_
        refine xw_fl dX1_usePiece_107 ⟨by omega, by omega⟩ ?_
        refine s_goto 147 dX1_usePiece_108 (by decide) ?_
        refine s_iinc [some (.ref (ad 0)), some (vI a), some (vI n), some (vI (5 * (a + n) + pK)), some (vI (k + 1)), some (vI (pC + cp (5 * (a + n) + pK) + (if k < 4 then lk (4 * k + pK) else 0))), some (vI ((5 * a) + k))] dX1_usePiece_147 rfl (by decide) rfl ?_
        refine s_goto 14 dX1_usePiece_150 (by decide) ?_
        first
          | exact ih _ _ _ _ _ _ (by omega) (by omega) (by have z := hU.lt h2 h75; rw [← e1.2.1] at z ⊢; exact z)
          | exact ih _ _ _ _ _ _ (by omega) (by omega) (by have z := hU.eq h2 h120; rw [← e1.2.1] at z ⊢; exact z)
          | exact ih _ _ _ _ _ _ (by omega) (by omega) (hU.gt h2 h75 h120)
    refine s_iload dX1_usePiece_14 rfl ?_
    refine s_iconst dX1_usePiece_16 ?_
    refine s_icmp_ge 153 dX1_usePiece_17 (by decide) ⟨by omega, by omega⟩ ⟨by omega, by omega⟩ (fun h17 => ?_) (fun h17 => ?_)
    · skip
      exfalso; omega
    · skip
      refine s_aload_n 0 dX1_usePiece_20 rfl rfl ?_
      refine xg_pC dX1_usePiece_21 ?_
      refine s_aload_n 0 dX1_usePiece_24 rfl rfl ?_
      refine xg_cp dX1_usePiece_25 ?_
      refine s_iload_n 3 dX1_usePiece_28 rfl rfl ?_
      refine xr_cp dX1_usePiece_29 ⟨by omega, by omega⟩ ?_
      refine s_iadd dX1_usePiece_30 ?_
      refine s_iload dX1_usePiece_31 rfl ?_
      refine s_iconst dX1_usePiece_33 ?_
      refine s_icmp_ge 54 dX1_usePiece_34 (by decide) ⟨by omega, by omega⟩ ⟨by omega, by omega⟩ (fun h34 => ?_) (fun h34 => ?_)
      · skip
        refine s_iconst dX1_usePiece_54 ?_
        refine s_iadd dX1_usePiece_55 ?_
        refine s_istore [some (.ref (ad 0)), some (vI a), some (vI n), some (vI (5 * (a + n) + pK)), some (vI k), some (vI ((pC + (cp' (5 * (a + n) + pK))) + 0)), o6] dX1_usePiece_56 (by decide) rfl ?_
        have t := tail o5 o6
        first
          | rw [if_pos h34, ← e1.1] at t; exact t
          | rw [if_neg (by omega), ← e1.1] at t; exact t
      · skip
        refine s_aload_n 0 dX1_usePiece_37 rfl rfl ?_
        refine xg_lk dX1_usePiece_38 ?_
        refine s_iconst dX1_usePiece_41 ?_
        refine s_iload dX1_usePiece_42 rfl ?_
        refine s_imul dX1_usePiece_44 ?_
        refine s_aload_n 0 dX1_usePiece_45 rfl rfl ?_
        refine xg_pK dX1_usePiece_46 ?_
        refine s_iadd dX1_usePiece_49 ?_
        refine xr_lk dX1_usePiece_50 ⟨by omega, by omega⟩ ?_
        refine s_goto 55 dX1_usePiece_51 (by decide) ?_
        refine s_iadd dX1_usePiece_55 ?_
        refine s_istore [some (.ref (ad 0)), some (vI a), some (vI n), some (vI (5 * (a + n) + pK)), some (vI k), some (vI ((pC + (cp' (5 * (a + n) + pK))) + (lk ((4 * k) + pK)))), o6] dX1_usePiece_56 (by decide) rfl ?_
        have t := tail o5 o6
        first
          | rw [if_pos h34, ← e1.1] at t; exact t
          | rw [if_neg (by omega), ← e1.1] at t; exact t
theorem m_usePiece {a n : Int} (ha : 0 ≤ a) (hn : 1 ≤ n ∧ a + n ≤ 12) (hK : 0 ≤ pK ∧ pK ≤ 3) (hC : 0 ≤ pC ∧ pC ≤ 99) (hcp : ∀ x, 5 * a ≤ x → x ≤ 5 * (a + n) + pK → 0 ≤ cp x ∧ cp x ≤ 1000000) (hlk : ∀ i, 0 ≤ i → i < 16 → 0 ≤ lk i ∧ lk i ≤ 99) : MetV l D dA (wX dA ad) (ad 0) yX1_usePiece (ws_ yX1_usePiece cX1_usePiece 7 none) (rmf 0) [vI a, vI n] (pen, ba, ch, co, ki, wo, sp, sl, le, tx, lk, cf, cp, nu, fl, pC, pK) (fun u' => ∃ cp' nu' fl', u' = (pen, ba, ch, co, ki, wo, sp, sl, le, tx, lk, cf, cp', nu', fl', pC, pK) ∧ UPI cp nu fl cp' nu' fl' (fun k => pC + cp (5 * (a + n) + pK) + (if k < 4 then lk (4 * k + pK) else 0)) (nu (5 * (a + n) + pK)) a n 5) := by
  refine metV_intro [some (.ref (ad 0)), some (vI a), some (vI n), none, none, none, none] (by decide) rfl rfl rfl (Nat.le_of_ble_eq_true rfl) (fun K kr => ?_)
  refine s_iconst dX1_usePiece_0 ?_
  refine s_iload_n 1 dX1_usePiece_1 rfl rfl ?_
  refine s_iload_n 2 dX1_usePiece_2 rfl rfl ?_
  refine s_iadd dX1_usePiece_3 ?_
  refine s_imul dX1_usePiece_4 ?_
  refine s_aload_n 0 dX1_usePiece_5 rfl rfl ?_
  refine xg_pK dX1_usePiece_6 ?_
  refine s_iadd dX1_usePiece_9 ?_
  refine s_istore_n 3 [some (.ref (ad 0)), some (vI a), some (vI n), some (vI ((5 * (a + n)) + pK)), none, none, none] dX1_usePiece_10 rfl (by decide) rfl ?_
  refine s_iconst dX1_usePiece_11 ?_
  refine s_istore [some (.ref (ad 0)), some (vI a), some (vI n), some (vI ((5 * (a + n)) + pK)), some (vI 0), none, none] dX1_usePiece_12 (by decide) rfl ?_
  exact l_up ha hn hK hC hcp hlk kr 5 0 _ _ _ _ _ (by omega) (by omega) UPI.zero
end PUBX
end
section
/-! WALKS: cutText, cost, ways, start: printed by gen/methC.py -/
set_option maxRecDepth 100000
def LastI (cp nu fl : Int → Int) (le k : Int) : Prop := ∀ j, 0 ≤ j → j < k → cp (5 * le + j) = 0 ∧ nu (5 * le + j) = 1 ∧ fl (5 * le + j) = 0
theorem LastI.step {cp nu fl : Int → Int} {le k : Int} (h : LastI cp nu fl le k) : LastI (upI cp (5 * le + k) 0) (upI nu (5 * le + k) 1) (upI fl (5 * le + k) 0) le (k + 1) := by
  intro j j0 j1
  by_cases e : j = k
  · rw [e, upI_s, upI_s, upI_s]; exact ⟨rfl, rfl, rfl⟩
  · rw [upI_n (by omega), upI_n (by omega), upI_n (by omega)]; exact h j j0 (by omega)
def InitI (DC DK : List Int → Int) (pen le : Int) (tx lk cp nu fl : Int → Int) (a k : Int) : Prop := Tab DC DK pen le tx lk cp nu fl (a + 1) ∧ ∀ j, 0 ≤ j → j < k → cp (5 * a + j) = 1000000 ∧ nu (5 * a + j) = 0
theorem InitI.step {DC DK CN : List Int → Int} {pen le : Int} {tx lk cp nu fl : Int → Int} {a k : Int} (h : InitI DC DK pen le tx lk cp nu fl a k) (hd : Dic DC DK CN) (ha : a < le) (hk : k < 5) : InitI DC DK pen le tx lk (upI cp (5 * a + k) 1000000) (upI nu (5 * a + k) 0) fl a (k + 1) := by
  refine ⟨h.1.keep hd (fun x hx => by rw [upI_n (by omega), upI_n (by omega)]; exact ⟨rfl, rfl, rfl⟩) (by omega), fun j j0 j1 => ?_⟩
  by_cases e : j = k
  · rw [e, upI_s, upI_s]; exact ⟨rfl, rfl⟩
  · rw [upI_n (by omega), upI_n (by omega)]; exact h.2 j j0 (by omega)
theorem InitI.row {DC DK : List Int → Int} {pen le : Int} {tx lk cp nu fl : Int → Int} {a : Int} (h : InitI DC DK pen le tx lk cp nu fl a 5) : RowI DC DK pen le tx lk cp nu fl a 0 := by
  refine ⟨h.1, fun k k0 k5 => ?_⟩
  obtain ⟨e1, e2⟩ := h.2 k k0 k5
  exact ⟨e1, e2, fun z => absurd z (by show ¬ (1000000 : Int) < 1000000; omega)⟩
section CUTX
variable {l : Launch} {D : va_G} {dA : ClassId} {ad : Nat → Nat} {K : KX} {pen sp le cf pC pK : Int} {ba ch co ki wo sl tx lk cp nu fl : Int → Int}
theorem l_ct1 (hle : 0 ≤ le ∧ le ≤ 12) : ∀ (m : Nat) (k : Int) (cp nu fl : Int → Int), k + m = 5 → 0 ≤ k → LastI cp nu fl le k → (∀ k' cp nu fl, LastI cp nu fl le 5 → SV l D dA (wX dA ad) RX1 cX1_cutText 3 (rmf 2) K (pen, ba, ch, co, ki, wo, sp, sl, le, tx, lk, 1, cp, nu, fl, pC, pK) 68 [some (.ref (ad 0)), some (vI k'), none] []) → SV l D dA (wX dA ad) RX1 cX1_cutText 3 (rmf 2) K (pen, ba, ch, co, ki, wo, sp, sl, le, tx, lk, 1, cp, nu, fl, pC, pK) 15 [some (.ref (ad 0)), some (vI k), none] [] := by
  intro m
  induction m with
  | zero =>
    intro k cp nu fl h1 h2 hI kx
    obtain rfl : k = 5 := by omega
    refine s_iload_n 1 dX1_cutText_15 rfl rfl ?_
    refine s_iconst dX1_cutText_16 ?_
    refine s_icmp_ge 68 dX1_cutText_17 (by decide) ⟨by omega, by omega⟩ ⟨by omega, by omega⟩ (fun h17 => ?_) (fun h17 => ?_)
    · skip
      exact kx _ _ _ _ hI
    · skip
      exfalso; omega
  | succ m ih =>
    intro k cp nu fl h1 h2 hI kx
    refine s_iload_n 1 dX1_cutText_15 rfl rfl ?_
    refine s_iconst dX1_cutText_16 ?_
    refine s_icmp_ge 68 dX1_cutText_17 (by decide) ⟨by omega, by omega⟩ ⟨by omega, by omega⟩ (fun h17 => ?_) (fun h17 => ?_)
    · skip
      exfalso; omega
    · skip
      refine s_aload_n 0 dX1_cutText_20 rfl rfl ?_
      refine xg_cp dX1_cutText_21 ?_
      refine s_iconst dX1_cutText_24 ?_
      refine s_aload_n 0 dX1_cutText_25 rfl rfl ?_
      refine xg_le dX1_cutText_26 ?_
      refine s_imul dX1_cutText_29 ?_
      refine s_iload_n 1 dX1_cutText_30 rfl rfl ?_
      refine s_iadd dX1_cutText_31 ?_
      refine s_iconst dX1_cutText_32 ?_
      refine xw_cp dX1_cutText_33 ⟨by omega, by omega⟩ ?_
      refine s_aload_n 0 dX1_cutText_34 rfl rfl ?_
      refine xg_nu dX1_cutText_35 ?_
      refine s_iconst dX1_cutText_38 ?_
      refine s_aload_n 0 dX1_cutText_39 rfl rfl ?_
      refine xg_le dX1_cutText_40 ?_
      refine s_imul dX1_cutText_43 ?_
      refine s_iload_n 1 dX1_cutText_44 rfl rfl ?_
      refine s_iadd dX1_cutText_45 ?_
      refine s_iconst dX1_cutText_46 ?_
      refine xw_nu dX1_cutText_47 ⟨by omega, by omega⟩ ?_
      refine s_aload_n 0 dX1_cutText_48 rfl rfl ?_
      refine xg_fl dX1_cutText_49 ?_
      refine s_iconst dX1_cutText_52 ?_
      refine s_aload_n 0 dX1_cutText_53 rfl rfl ?_
      refine xg_le dX1_cutText_54 ?_
      refine s_imul dX1_cutText_57 ?_
      refine s_iload_n 1 dX1_cutText_58 rfl rfl ?_
      refine s_iadd dX1_cutText_59 ?_
      refine s_iconst dX1_cutText_60 ?_
      refine xw_fl dX1_cutText_61 ⟨by omega, by omega⟩ ?_
      refine s_iinc [some (.ref (ad 0)), some (vI (k + 1)), none] dX1_cutText_62 rfl (by decide) rfl ?_
      refine s_goto 15 dX1_cutText_65 (by decide) ?_
      exact ih _ _ _ _ (by omega) (by omega) hI.step kx
theorem l_ct3 {DC DK CN : List Int → Int} {a : Int} (hd : Dic DC DK CN) (hle : 0 ≤ le ∧ le ≤ 12) (ha : 0 ≤ a ∧ a < le) : ∀ (m : Nat) (k : Int) (cp nu fl : Int → Int), k + m = 5 → 0 ≤ k → InitI DC DK pen le tx lk cp nu fl a k → (∀ k' cp nu fl, RowI DC DK pen le tx lk cp nu fl a 0 → SV l D dA (wX dA ad) RX1 cX1_cutText 3 (rmf 2) K (pen, ba, ch, co, ki, wo, sp, sl, le, tx, lk, 1, cp, nu, fl, pC, pK) 115 [some (.ref (ad 0)), some (vI a), some (vI k')] []) → SV l D dA (wX dA ad) RX1 cX1_cutText 3 (rmf 2) K (pen, ba, ch, co, ki, wo, sp, sl, le, tx, lk, 1, cp, nu, fl, pC, pK) 81 [some (.ref (ad 0)), some (vI a), some (vI k)] [] := by
  intro m
  induction m with
  | zero =>
    intro k cp nu fl h1 h2 hI kx
    obtain rfl : k = 5 := by omega
    refine s_iload_n 2 dX1_cutText_81 rfl rfl ?_
    refine s_iconst dX1_cutText_82 ?_
    refine s_icmp_ge 115 dX1_cutText_83 (by decide) ⟨by omega, by omega⟩ ⟨by omega, by omega⟩ (fun h83 => ?_) (fun h83 => ?_)
    · skip
      exact kx _ _ _ _ hI.row
    · skip
      exfalso; omega
  | succ m ih =>
    intro k cp nu fl h1 h2 hI kx
    refine s_iload_n 2 dX1_cutText_81 rfl rfl ?_
    refine s_iconst dX1_cutText_82 ?_
    refine s_icmp_ge 115 dX1_cutText_83 (by decide) ⟨by omega, by omega⟩ ⟨by omega, by omega⟩ (fun h83 => ?_) (fun h83 => ?_)
    · skip
      exfalso; omega
    · skip
      refine s_aload_n 0 dX1_cutText_86 rfl rfl ?_
      refine xg_cp dX1_cutText_87 ?_
      refine s_iconst dX1_cutText_90 ?_
      refine s_iload_n 1 dX1_cutText_91 rfl rfl ?_
      refine s_imul dX1_cutText_92 ?_
      refine s_iload_n 2 dX1_cutText_93 rfl rfl ?_
      refine s_iadd dX1_cutText_94 ?_
      refine s_ldc (v := 1000000) q159 dX1_cutText_95 ?_
      refine xw_cp dX1_cutText_97 ⟨by omega, by omega⟩ ?_
      refine s_aload_n 0 dX1_cutText_98 rfl rfl ?_
      refine xg_nu dX1_cutText_99 ?_
      refine s_iconst dX1_cutText_102 ?_
      refine s_iload_n 1 dX1_cutText_103 rfl rfl ?_
      refine s_imul dX1_cutText_104 ?_
      refine s_iload_n 2 dX1_cutText_105 rfl rfl ?_
      refine s_iadd dX1_cutText_106 ?_
      refine s_iconst dX1_cutText_107 ?_
      refine xw_nu dX1_cutText_108 ⟨by omega, by omega⟩ ?_
      refine s_iinc [some (.ref (ad 0)), some (vI a), some (vI (k + 1))] dX1_cutText_109 rfl (by decide) rfl ?_
      refine s_goto 81 dX1_cutText_112 (by decide) ?_
      exact ih _ _ _ _ (by omega) (by omega) (hI.step hd ha.2 (by omega)) kx
theorem l_ct4 {DC DK CN : List Int → Int} {N : Int} {a : Int} (hX : XT ba ch co ki wo DC DK CN N) (hd : Dic DC DK CN) (hle : 0 ≤ le ∧ le ≤ 12) (htx : ∀ i, 0 ≤ i → i < le → 0 ≤ tx i ∧ tx i < 4) (hpen : 1 ≤ pen ∧ pen ≤ 99) (hlk : ∀ i, 0 ≤ i → i < 16 → 0 ≤ lk i ∧ lk i ≤ 99) (ha : 0 ≤ a ∧ a < le) : ∀ (m M : Nat) (n : Int) (cp nu fl : Int → Int) (pC pK : Int), M + m = 5 → n = ((M + 1 : Nat) : Int) → RowI DC DK pen le tx lk cp nu fl a M → (∀ n' cp nu fl pC pK, RowI DC DK pen le tx lk cp nu fl a 5 → SV l D dA (wX dA ad) RX1 cX1_cutText 3 (rmf 2) K (pen, ba, ch, co, ki, wo, sp, sl, le, tx, lk, 1, cp, nu, fl, pC, pK) 147 [some (.ref (ad 0)), some (vI a), some (vI n')] []) → SV l D dA (wX dA ad) RX1 cX1_cutText 3 (rmf 2) K (pen, ba, ch, co, ki, wo, sp, sl, le, tx, lk, 1, cp, nu, fl, pC, pK) 117 [some (.ref (ad 0)), some (vI a), some (vI n)] [] := by
  intro m
  induction m with
  | zero =>
    intro M n cp nu fl pC pK h1 h2 hI kx
    obtain rfl : M = 5 := by omega
    refine s_iload_n 2 dX1_cutText_117 rfl rfl ?_
    refine s_iconst dX1_cutText_118 ?_
    refine s_icmp_gt 147 dX1_cutText_119 (by decide) ⟨by omega, by omega⟩ ⟨by omega, by omega⟩ (fun h119 => ?_) (fun h119 => ?_)
    · skip
      exact kx _ _ _ _ _ _ hI
    · skip
      exfalso; omega
  | succ m ih =>
    intro M n cp nu fl pC pK h1 h2 hI kx
    have r1 := fpC_rg hd (le := le) (tx := tx) (a := a) (n := n) hpen
    have r2 : 0 ≤ fpK DC DK le tx a n ∧ fpK DC DK le tx a n ≤ 3 := fpK_rg hd
    refine s_iload_n 2 dX1_cutText_117 rfl rfl ?_
    refine s_iconst dX1_cutText_118 ?_
    refine s_icmp_gt 147 dX1_cutText_119 (by decide) ⟨by omega, by omega⟩ ⟨by omega, by omega⟩ (fun h119 => ?_) (fun h119 => ?_)
    · skip
      exfalso; omega
    · skip
      refine s_aload_n 0 dX1_cutText_122 rfl rfl ?_
      refine s_iload_n 1 dX1_cutText_123 rfl rfl ?_
      refine s_iload_n 2 dX1_cutText_124 rfl rfl ?_
      refine xc_fitPiece (m_fitPiece hX hd ⟨ha.1, by omega⟩ ⟨by omega, by omega⟩ hle htx) ⟨Nat.le_of_ble_eq_true rfl, Nat.le_of_ble_eq_true rfl⟩ (Nat.le_of_ble_eq_true rfl) dX1_cutText_125 (fun u_ hp => ?_)
      subst hp
      refine s_aload_n 0 dX1_cutText_128 rfl rfl ?_
      refine xg_pC dX1_cutText_129 ?_
      refine s_if_lt 141 dX1_cutText_132 (by decide) ⟨by omega, by omega⟩ (fun h132 => ?_) (fun h132 => ?_)
      · skip
        rw [h2] at h132
        have hI2 := hI.skip h132
        refine s_iinc [some (.ref (ad 0)), some (vI a), some (vI (n + 1))] dX1_cutText_141 rfl (by decide) rfl ?_
        refine s_goto 117 dX1_cutText_144 (by decide) ?_
        exact ih (M + 1) _ _ _ _ _ _ (by omega) (by omega) hI2 kx
      · skip
        have hin := fpC_in h132
        refine s_aload_n 0 dX1_cutText_135 rfl rfl ?_
        refine s_iload_n 1 dX1_cutText_136 rfl rfl ?_
        refine s_iload_n 2 dX1_cutText_137 rfl rfl ?_
        refine xc_usePiece (m_usePiece ha.1 ⟨by omega, by omega⟩ r2 ⟨h132, r1.2⟩ (fun x x0 x1 => hI.rg hd hpen hlk hle.2 ha.1 ha.2 (by omega) x x0 (by omega)) hlk) ⟨Nat.le_of_ble_eq_true rfl, Nat.le_of_ble_eq_true rfl⟩ (Nat.le_of_ble_eq_true rfl) dX1_cutText_138 (fun u_ hp => ?_)
        obtain ⟨cp1, nu1, fl1, rfl, hU⟩ := hp
        rw [h2] at hU h132
        have hI2 := hI.use hd ha.2 h132 hU
        refine s_iinc [some (.ref (ad 0)), some (vI a), some (vI (n + 1))] dX1_cutText_141 rfl (by decide) rfl ?_
        refine s_goto 117 dX1_cutText_144 (by decide) ?_
        exact ih (M + 1) _ _ _ _ _ _ (by omega) (by omega) hI2 kx
theorem l_ct2 {DC DK CN : List Int → Int} {N : Int} (hX : XT ba ch co ki wo DC DK CN N) (hd : Dic DC DK CN) (hle : 0 ≤ le ∧ le ≤ 12) (htx : ∀ i, 0 ≤ i → i < le → 0 ≤ tx i ∧ tx i < 4) (hpen : 1 ≤ pen ∧ pen ≤ 99) (hlk : ∀ i, 0 ≤ i → i < 16 → 0 ≤ lk i ∧ lk i ≤ 99) (kr : ∀ (pc : Nat) (lv : List (Option Value)) (u' : SX), decode cX1_cutText pc = .ok (.return_, 1) → (∃ cp' nu' fl' pC' pK', u' = (pen, ba, ch, co, ki, wo, sp, sl, le, tx, lk, 1, cp', nu', fl', pC', pK') ∧ Tab DC DK pen le tx lk cp' nu' fl' 0) → SV l D dA (wX dA ad) RX1 cX1_cutText 3 (rmf 2) K u' pc lv []) : ∀ (m : Nat) (a : Int) (o2 : Option Value) (cp nu fl : Int → Int) (pC pK : Int), a + 1 = m → a < le → Tab DC DK pen le tx lk cp nu fl (a + 1) → SV l D dA (wX dA ad) RX1 cX1_cutText 3 (rmf 2) K (pen, ba, ch, co, ki, wo, sp, sl, le, tx, lk, 1, cp, nu, fl, pC, pK) 75 [some (.ref (ad 0)), some (vI a), o2] [] := by
  intro m
  induction m with
  | zero =>
    intro a o2 cp nu fl pC pK h1 h2 hI
    refine s_iload_n 1 dX1_cutText_75 rfl rfl ?_
    refine s_if_lt 153 dX1_cutText_76 (by decide) ⟨by omega, by omega⟩ (fun h76 => ?_) (fun h76 => ?_)
    · skip
      exact kr _ _ _ dX1_cutText_153 (⟨_, _, _, _, _, rfl, by rw [show a + 1 = 0 by omega] at hI; exact hI⟩)
    · skip
      exfalso; omega
  | succ m ih =>
    intro a o2 cp nu fl pC pK h1 h2 hI
    refine s_iload_n 1 dX1_cutText_75 rfl rfl ?_
    refine s_if_lt 153 dX1_cutText_76 (by decide) ⟨by omega, by omega⟩ (fun h76 => ?_) (fun h76 => ?_)
    · skip
      exfalso; omega
    · skip
      refine s_iconst dX1_cutText_79 ?_
      refine s_istore_n 2 [some (.ref (ad 0)), some (vI a), some (vI 0)] dX1_cutText_80 rfl (by decide) rfl ?_
      refine l_ct3 hd hle ⟨by omega, h2⟩ 5 0 _ _ _ (by omega) (by omega) ⟨hI, fun j j0 j1 => by omega⟩ (fun k' cp nu fl hR => ?_)
      refine s_iconst dX1_cutText_115 ?_
      refine s_istore_n 2 [some (.ref (ad 0)), some (vI a), some (vI 1)] dX1_cutText_116 rfl (by decide) rfl ?_
      refine l_ct4 hX hd hle htx hpen hlk ⟨by omega, h2⟩ 5 0 1 _ _ _ _ _ (by omega) rfl hR (fun n' cp nu fl pC pK hR => ?_)
      refine s_iinc [some (.ref (ad 0)), some (vI (a + (-1))), some (vI n')] dX1_cutText_147 rfl (by decide) rfl ?_
      refine s_goto 75 dX1_cutText_150 (by decide) ?_
      exact ih _ _ _ _ _ _ _ (by omega) (by omega) (by rw [show a + (-1) + 1 = a by omega]; exact hR.done)
theorem m_cutText {DC DK CN : List Int → Int} {N : Int} (hX : XT ba ch co ki wo DC DK CN N) (hd : Dic DC DK CN) (hle : 0 ≤ le ∧ le ≤ 12) (htx : ∀ i, 0 ≤ i → i < le → 0 ≤ tx i ∧ tx i < 4) (hpen : 1 ≤ pen ∧ pen ≤ 99) (hlk : ∀ i, 0 ≤ i → i < 16 → 0 ≤ lk i ∧ lk i ≤ 99) (hcf : cf = 0 ∨ cf = 1) (hF : cf = 1 → Tab DC DK pen le tx lk cp nu fl 0) : MetV l D dA (wX dA ad) (ad 0) yX1_cutText (ws_ yX1_cutText cX1_cutText 3 none) (rmf 2) [] (pen, ba, ch, co, ki, wo, sp, sl, le, tx, lk, cf, cp, nu, fl, pC, pK) (fun u' => ∃ cp' nu' fl' pC' pK', u' = (pen, ba, ch, co, ki, wo, sp, sl, le, tx, lk, 1, cp', nu', fl', pC', pK') ∧ Tab DC DK pen le tx lk cp' nu' fl' 0) := by
  refine metV_intro [some (.ref (ad 0)), none, none] (by decide) rfl rfl rfl (Nat.le_of_ble_eq_true rfl) (fun K kr => ?_)
  refine s_aload_n 0 dX1_cutText_0 rfl rfl ?_
  refine xg_cf dX1_cutText_1 ?_
  refine s_if_eq 8 dX1_cutText_4 (by decide) ⟨by omega, by omega⟩ (fun h4 => ?_) (fun h4 => ?_)
  · skip
    refine s_aload_n 0 dX1_cutText_8 rfl rfl ?_
    refine s_iconst dX1_cutText_9 ?_
    refine xp_cf1 dX1_cutText_10 ?_
    refine s_iconst dX1_cutText_13 ?_
    refine s_istore_n 1 [some (.ref (ad 0)), some (vI 0), none] dX1_cutText_14 rfl (by decide) rfl ?_
    refine l_ct1 hle 5 0 _ _ _ (by omega) (by omega) (fun j j0 j1 => by omega) (fun k' cp nu fl hL => ?_)
    refine s_aload_n 0 dX1_cutText_68 rfl rfl ?_
    refine xg_le dX1_cutText_69 ?_
    refine s_iconst dX1_cutText_72 ?_
    refine s_isub dX1_cutText_73 ?_
    refine s_istore_n 1 [some (.ref (ad 0)), some (vI (le - 1)), none] dX1_cutText_74 rfl (by decide) rfl ?_
    exact l_ct2 hX hd hle htx hpen hlk kr le.toNat _ _ _ _ _ _ _ (by omega) (by omega) ⟨fun k k0 k5 => hL k k0 k5, fun b b0 b1 => by omega⟩
  · skip
    obtain rfl : cf = 1 := by omega
    exact kr _ _ _ dX1_cutText_7 (⟨_, _, _, _, _, rfl, hF rfl⟩)
theorem m_cost {DC DK CN : List Int → Int} {N : Int} (hX : XT ba ch co ki wo DC DK CN N) (hd : Dic DC DK CN) (hle : 0 ≤ le ∧ le ≤ 12) (htx : ∀ i, 0 ≤ i → i < le → 0 ≤ tx i ∧ tx i < 4) (hpen : 1 ≤ pen ∧ pen ≤ 99) (hlk : ∀ i, 0 ≤ i → i < 16 → 0 ≤ lk i ∧ lk i ≤ 99) (hcf : cf = 0 ∨ cf = 1) (hF : cf = 1 → Tab DC DK pen le tx lk cp nu fl 0) : MetI l D dA (wX dA ad) (ad 0) yX1_cost (ws_ yX1_cost cX1_cost 1 (some .int)) (rmf 3) [] (pen, ba, ch, co, ki, wo, sp, sl, le, tx, lk, cf, cp, nu, fl, pC, pK) (fun r u' => ∃ cp' nu' fl' pC' pK', u' = (pen, ba, ch, co, ki, wo, sp, sl, le, tx, lk, 1, cp', nu', fl', pC', pK') ∧ Tab DC DK pen le tx lk cp' nu' fl' 0 ∧ r = cp' 4) := by
  refine metI_intro [some (.ref (ad 0))] (by decide) rfl rfl rfl (Nat.le_of_ble_eq_true rfl) (fun _ _ _ => vp_nar_int _) (fun K kr => ?_)
  refine s_aload_n 0 dX1_cost_0 rfl rfl ?_
  refine xc_cutText (m_cutText hX hd hle htx hpen hlk hcf hF) ⟨Nat.le_of_ble_eq_true rfl, Nat.le_of_ble_eq_true rfl⟩ (Nat.le_of_ble_eq_true rfl) dX1_cost_1 (fun u_ hp => ?_)
  obtain ⟨cp1, nu1, fl1, pC1, pK1, rfl, hT⟩ := hp
  refine s_aload_n 0 dX1_cost_4 rfl rfl ?_
  refine xg_cp dX1_cost_5 ?_
  refine s_iconst dX1_cost_8 ?_
  refine xr_cp dX1_cost_9 ⟨by omega, by omega⟩ ?_
  exact kr _ _ _ _ dX1_cost_10 (⟨_, _, _, _, _, rfl, hT, rfl⟩)
theorem m_ways {DC DK CN : List Int → Int} {N : Int} (hX : XT ba ch co ki wo DC DK CN N) (hd : Dic DC DK CN) (hle : 0 ≤ le ∧ le ≤ 12) (htx : ∀ i, 0 ≤ i → i < le → 0 ≤ tx i ∧ tx i < 4) (hpen : 1 ≤ pen ∧ pen ≤ 99) (hlk : ∀ i, 0 ≤ i → i < 16 → 0 ≤ lk i ∧ lk i ≤ 99) (hcf : cf = 0 ∨ cf = 1) (hF : cf = 1 → Tab DC DK pen le tx lk cp nu fl 0) : MetI l D dA (wX dA ad) (ad 0) yX1_ways (ws_ yX1_ways cX1_ways 1 (some .int)) (rmf 3) [] (pen, ba, ch, co, ki, wo, sp, sl, le, tx, lk, cf, cp, nu, fl, pC, pK) (fun r u' => ∃ cp' nu' fl' pC' pK', u' = (pen, ba, ch, co, ki, wo, sp, sl, le, tx, lk, 1, cp', nu', fl', pC', pK') ∧ Tab DC DK pen le tx lk cp' nu' fl' 0 ∧ r = nu' 4) := by
  refine metI_intro [some (.ref (ad 0))] (by decide) rfl rfl rfl (Nat.le_of_ble_eq_true rfl) (fun _ _ _ => vp_nar_int _) (fun K kr => ?_)
  refine s_aload_n 0 dX1_ways_0 rfl rfl ?_
  refine xc_cutText (m_cutText hX hd hle htx hpen hlk hcf hF) ⟨Nat.le_of_ble_eq_true rfl, Nat.le_of_ble_eq_true rfl⟩ (Nat.le_of_ble_eq_true rfl) dX1_ways_1 (fun u_ hp => ?_)
  obtain ⟨cp1, nu1, fl1, pC1, pK1, rfl, hT⟩ := hp
  refine s_aload_n 0 dX1_ways_4 rfl rfl ?_
  refine xg_nu dX1_ways_5 ?_
  refine s_iconst dX1_ways_8 ?_
  refine xr_nu dX1_ways_9 ⟨by omega, by omega⟩ ?_
  exact kr _ _ _ _ dX1_ways_10 (⟨_, _, _, _, _, rfl, hT, rfl⟩)
theorem l_st {DC DK CN : List Int → Int} {N : Int} {x V lim : Int} (hX : XT ba ch co ki wo DC DK CN N) (hd : Dic DC DK CN) (hle : 0 ≤ le ∧ le ≤ 12) (htx : ∀ i, 0 ≤ i → i < le → 0 ≤ tx i ∧ tx i < 4) (hpen : 1 ≤ pen ∧ pen ≤ 99) (hlk : ∀ i, 0 ≤ i → i < 16 → 0 ≤ lk i ∧ lk i ≤ 99) (hT : Tab DC DK pen le tx lk cp nu fl 0) (hx : inR x) (hlim : lim ≤ 12 ∧ lim ≤ x ∧ (lim = 12 ∨ lim = x)) (kr : ∀ (pc : Nat) (lv : List (Option Value)) (r : Int) (u' : SX), decode cX1_start pc = .ok (.ireturn, 1) → (∃ pC' pK', u' = (pen, ba, ch, co, ki, wo, sp, sl, le, tx, lk, 1, cp, nu, fl, pC', pK') ∧ r = (if 12 < x then -1 else V)) → SV l D dA (wX dA ad) RX1 cX1_start 6 (rmf 3) K u' pc lv [vI r]) : ∀ (m : Nat) (k a b : Int) (o5 : Option Value) (pC pK : Int), k + m = lim → 0 ≤ k → 0 ≤ a ∧ a ≤ le → 0 ≤ b ∧ b ≤ 4 → fol DC DK le tx fl m a b = V → SV l D dA (wX dA ad) RX1 cX1_start 6 (rmf 3) K (pen, ba, ch, co, ki, wo, sp, sl, le, tx, lk, 1, cp, nu, fl, pC, pK) 17 [some (.ref (ad 0)), some (vI x), some (vI a), some (vI b), some (vI k), o5] [] := by
  intro m
  induction m with
  | zero =>
    intro k a b o5 pC pK h1 h2 ha hb hV
    have hV : a = V := hV
    refine s_iload dX1_start_17 rfl ?_
    refine s_bipush dX1_start_19 rfl ?_
    refine s_icmp_ge 75 dX1_start_21 (by decide) ⟨by omega, by omega⟩ ⟨by omega, by omega⟩ (fun h21 => ?_) (fun h21 => ?_)
    · skip
      refine s_iload_n 1 dX1_start_75 rfl rfl ?_
      refine s_bipush dX1_start_76 rfl ?_
      refine s_icmp_le 85 dX1_start_78 (by decide) ⟨by omega, by omega⟩ ⟨by omega, by omega⟩ (fun h78 => ?_) (fun h78 => ?_)
      · skip
        refine s_iload_n 2 dX1_start_85 rfl rfl ?_
        first | exact kr _ _ _ _ dX1_start_86 ⟨_, _, rfl, by rw [if_neg (by omega)]; exact hV⟩ | exact kr _ _ _ _ dX1_start_86 ⟨_, _, rfl, by rw [if_pos (by omega)]⟩
      · skip
        refine s_iconst dX1_start_81 ?_
        refine s_goto 86 dX1_start_82 (by decide) ?_
        first | exact kr _ _ _ _ dX1_start_86 ⟨_, _, rfl, by rw [if_neg (by omega)]; exact hV⟩ | exact kr _ _ _ _ dX1_start_86 ⟨_, _, rfl, by rw [if_pos (by omega)]⟩
    · skip
      refine s_iload dX1_start_24 rfl ?_
      refine s_iload_n 1 dX1_start_26 rfl rfl ?_
      refine s_icmp_ge 75 dX1_start_27 (by decide) ⟨by omega, by omega⟩ ⟨by omega, by omega⟩ (fun h27 => ?_) (fun h27 => ?_)
      · skip
        refine s_iload_n 1 dX1_start_75 rfl rfl ?_
        refine s_bipush dX1_start_76 rfl ?_
        refine s_icmp_le 85 dX1_start_78 (by decide) ⟨by omega, by omega⟩ ⟨by omega, by omega⟩ (fun h78 => ?_) (fun h78 => ?_)
        · skip
          refine s_iload_n 2 dX1_start_85 rfl rfl ?_
          first | exact kr _ _ _ _ dX1_start_86 ⟨_, _, rfl, by rw [if_neg (by omega)]; exact hV⟩ | exact kr _ _ _ _ dX1_start_86 ⟨_, _, rfl, by rw [if_pos (by omega)]⟩
        · skip
          refine s_iconst dX1_start_81 ?_
          refine s_goto 86 dX1_start_82 (by decide) ?_
          first | exact kr _ _ _ _ dX1_start_86 ⟨_, _, rfl, by rw [if_neg (by omega)]; exact hV⟩ | exact kr _ _ _ _ dX1_start_86 ⟨_, _, rfl, by rw [if_pos (by omega)]⟩
      · skip
        exfalso; omega
  | succ m ih =>
    intro k a b o5 pC pK h1 h2 ha hb hV
    rw [fol] at hV
    refine s_iload dX1_start_17 rfl ?_
    refine s_bipush dX1_start_19 rfl ?_
    refine s_icmp_ge 75 dX1_start_21 (by decide) ⟨by omega, by omega⟩ ⟨by omega, by omega⟩ (fun h21 => ?_) (fun h21 => ?_)
    · skip
      exfalso; omega
    · skip
      refine s_iload dX1_start_24 rfl ?_
      refine s_iload_n 1 dX1_start_26 rfl rfl ?_
      refine s_icmp_ge 75 dX1_start_27 (by decide) ⟨by omega, by omega⟩ ⟨by omega, by omega⟩ (fun h27 => ?_) (fun h27 => ?_)
      · skip
        exfalso; omega
      · skip
        refine s_iload_n 2 dX1_start_30 rfl rfl ?_
        refine s_aload_n 0 dX1_start_31 rfl rfl ?_
        refine xg_le dX1_start_32 ?_
        refine s_icmp_lt 40 dX1_start_35 (by decide) ⟨by omega, by omega⟩ ⟨by omega, by omega⟩ (fun h35 => ?_) (fun h35 => ?_)
        · skip
          have hl := hT.len hd hpen hlk hle.2 (by omega) ha.1 h35 hb.1 (show b < 5 by omega)
          have r2 : 0 ≤ fpK DC DK le tx a (fl (5 * a + b)) ∧ fpK DC DK le tx a (fl (5 * a + b)) ≤ 3 := fpK_rg hd
          refine s_aload_n 0 dX1_start_40 rfl rfl ?_
          refine xg_fl dX1_start_41 ?_
          refine s_iconst dX1_start_44 ?_
          refine s_iload_n 2 dX1_start_45 rfl rfl ?_
          refine s_imul dX1_start_46 ?_
          refine s_iload_n 3 dX1_start_47 rfl rfl ?_
          refine s_iadd dX1_start_48 ?_
          refine xr_fl dX1_start_49 ⟨by omega, by omega⟩ ?_
          refine s_istore [some (.ref (ad 0)), some (vI x), some (vI a), some (vI b), some (vI k), some (vI (fl ((5 * a) + b)))] dX1_start_50 (by decide) rfl ?_
          refine s_aload_n 0 dX1_start_52 rfl rfl ?_
          refine s_iload_n 2 dX1_start_53 rfl rfl ?_
          refine s_iload dX1_start_54 rfl ?_
          refine xc_fitPiece (m_fitPiece hX hd ⟨ha.1, by omega⟩ ⟨hl.2.1, hl.2.2.1⟩ hle htx) ⟨Nat.le_of_ble_eq_true rfl, Nat.le_of_ble_eq_true rfl⟩ (Nat.le_of_ble_eq_true rfl) dX1_start_56 (fun u_ hp => ?_)
          subst hp
          refine s_aload_n 0 dX1_start_59 rfl rfl ?_
          refine xg_pK dX1_start_60 ?_
          refine s_istore_n 3 [some (.ref (ad 0)), some (vI x), some (vI a), some (vI (fpK DC DK le tx a (fl (5 * a + b)))), some (vI k), some (vI (fl ((5 * a) + b)))] dX1_start_63 rfl (by decide) rfl ?_
          refine s_iload_n 2 dX1_start_64 rfl rfl ?_
          refine s_iload dX1_start_65 rfl ?_
          refine s_iadd dX1_start_67 ?_
          refine s_istore_n 2 [some (.ref (ad 0)), some (vI x), some (vI (a + (fl ((5 * a) + b)))), some (vI (fpK DC DK le tx a (fl (5 * a + b)))), some (vI k), some (vI (fl ((5 * a) + b)))] dX1_start_68 rfl (by decide) rfl ?_
          refine s_iinc [some (.ref (ad 0)), some (vI x), some (vI (a + (fl ((5 * a) + b)))), some (vI (fpK DC DK le tx a (fl (5 * a + b)))), some (vI (k + 1)), some (vI (fl ((5 * a) + b)))] dX1_start_69 rfl (by decide) rfl ?_
          refine s_goto 17 dX1_start_72 (by decide) ?_
          exact ih _ _ _ _ _ _ (by omega) (by omega) ⟨by omega, by omega⟩ ⟨by omega, by omega⟩ (by rw [if_neg (by omega)] at hV; exact hV)
        · skip
          refine s_iconst dX1_start_38 ?_
          exact kr _ _ _ _ dX1_start_39 (⟨_, _, rfl, by rw [if_pos h35] at hV; rw [← hV]; split <;> rfl⟩)
theorem m_start {DC DK CN : List Int → Int} {N : Int} {x : Int} (hx : inR x) (hX : XT ba ch co ki wo DC DK CN N) (hd : Dic DC DK CN) (hle : 0 ≤ le ∧ le ≤ 12) (htx : ∀ i, 0 ≤ i → i < le → 0 ≤ tx i ∧ tx i < 4) (hpen : 1 ≤ pen ∧ pen ≤ 99) (hlk : ∀ i, 0 ≤ i → i < 16 → 0 ≤ lk i ∧ lk i ≤ 99) (hcf : cf = 0 ∨ cf = 1) (hF : cf = 1 → Tab DC DK pen le tx lk cp nu fl 0) : MetI l D dA (wX dA ad) (ad 0) yX1_start (ws_ yX1_start cX1_start 6 (some .int)) (rmf 3) [vI x] (pen, ba, ch, co, ki, wo, sp, sl, le, tx, lk, cf, cp, nu, fl, pC, pK) (fun r u' => (x < 0 ∧ r = -1 ∧ u' = (pen, ba, ch, co, ki, wo, sp, sl, le, tx, lk, cf, cp, nu, fl, pC, pK)) ∨ (0 ≤ x ∧ ∃ cp' nu' fl' pC' pK', u' = (pen, ba, ch, co, ki, wo, sp, sl, le, tx, lk, 1, cp', nu', fl', pC', pK') ∧ Tab DC DK pen le tx lk cp' nu' fl' 0 ∧ r = (if 12 < x then -1 else fol DC DK le tx fl' x.toNat 0 4))) := by
  refine metI_intro [some (.ref (ad 0)), some (vI x), none, none, none, none] (by decide) rfl rfl rfl (Nat.le_of_ble_eq_true rfl) (fun _ _ _ => vp_nar_int _) (fun K kr => ?_)
  refine s_iload_n 1 dX1_start_0 rfl rfl ?_
  refine s_if_ge 6 dX1_start_1 (by decide) ⟨by omega, by omega⟩ (fun h1 => ?_) (fun h1 => ?_)
  · skip
    refine s_aload_n 0 dX1_start_6 rfl rfl ?_
    refine xc_cutText (m_cutText hX hd hle htx hpen hlk hcf hF) ⟨Nat.le_of_ble_eq_true rfl, Nat.le_of_ble_eq_true rfl⟩ (Nat.le_of_ble_eq_true rfl) dX1_start_7 (fun u_ hp => ?_)
    obtain ⟨cp1, nu1, fl1, pC1, pK1, rfl, hT⟩ := hp
    refine s_iconst dX1_start_10 ?_
    refine s_istore_n 2 [some (.ref (ad 0)), some (vI x), some (vI 0), none, none, none] dX1_start_11 rfl (by decide) rfl ?_
    refine s_iconst dX1_start_12 ?_
    refine s_istore_n 3 [some (.ref (ad 0)), some (vI x), some (vI 0), some (vI 4), none, none] dX1_start_13 rfl (by decide) rfl ?_
    refine s_iconst dX1_start_14 ?_
    refine s_istore [some (.ref (ad 0)), some (vI x), some (vI 0), some (vI 4), some (vI 0), none] dX1_start_15 (by decide) rfl ?_
    by_cases h12 : x ≤ 12
    · exact l_st (V := fol DC DK le tx fl1 x.toNat 0 4) (lim := x) hX hd hle htx hpen hlk hT hx ⟨h12, by omega, Or.inr rfl⟩ (fun pc lv r u' hd0 hp => kr pc lv r u' hd0 (by obtain ⟨a1, a2, a3, a4⟩ := hp; exact Or.inr ⟨h1, _, _, _, _, _, a3, hT, a4⟩)) x.toNat 0 0 4 _ _ _ (by omega) (by omega) ⟨by omega, by omega⟩ ⟨by omega, by omega⟩ rfl
    · exact l_st (V := fol DC DK le tx fl1 12 0 4) (lim := 12) hX hd hle htx hpen hlk hT hx ⟨by omega, by omega, Or.inl rfl⟩ (fun pc lv r u' hd0 hp => kr pc lv r u' hd0 (by obtain ⟨a1, a2, a3, a4⟩ := hp; rw [if_pos (by omega)] at a4; exact Or.inr ⟨h1, _, _, _, _, _, a3, hT, by rw [if_pos (by omega)]; exact a4⟩)) 12 0 0 4 _ _ _ (by omega) (by omega) ⟨by omega, by omega⟩ ⟨by omega, by omega⟩ rfl
  · skip
    refine s_iconst dX1_start_4 ?_
    exact kr _ _ _ _ dX1_start_5 (Or.inl ⟨h1, rfl, rfl⟩)
end CUTX
end
section
/-! PURE: the list of words of the reference -/
theorem pre_iff {g h : Int → Int} : ∀ (n m : Nat) (a b : Int), n ≤ m → (lst g a n <+: lst h b m ↔ ∀ i : Int, 0 ≤ i → i < n → g (a + i) = h (b + i)) := by
  intro n
  induction n with
  | zero =>
    intro m a b _
    refine ⟨fun _ i h0 h1 => by omega, fun _ => ?_⟩
    rw [lst]
    exact List.nil_prefix
  | succ n ih =>
    intro m a b hm
    obtain ⟨m', rfl⟩ : ∃ m', m = m' + 1 := ⟨m - 1, by omega⟩
    rw [lst, lst, List.cons_prefix_cons, ih m' (a + 1) (b + 1) (by omega)]
    constructor
    · rintro ⟨h1, h2⟩ i i0 i1
      by_cases e : i = 0
      · rw [e, show a + 0 = a by omega, show b + 0 = b by omega]; exact h1
      · have := h2 (i - 1) (by omega) (by omega)
        rw [show a + 1 + (i - 1) = a + i by omega, show b + 1 + (i - 1) = b + i by omega] at this
        exact this
    · intro h1
      refine ⟨?_, fun i i0 i1 => ?_⟩
      · have := h1 0 (by omega) (by omega)
        rw [show a + 0 = a by omega, show b + 0 = b by omega] at this
        exact this
      · have := h1 (i + 1) (by omega) (by omega)
        rw [show a + (i + 1) = a + 1 + i by omega, show b + (i + 1) = b + 1 + i by omega] at this
        exact this
theorem lst_eq_iff {g h : Int → Int} (n : Nat) (a b : Int) : (lst g a n = lst h b n ↔ ∀ i : Int, 0 ≤ i → i < n → g (a + i) = h (b + i)) := by
  rw [← pre_iff n n a b (Nat.le_refl _)]
  constructor
  · intro e; rw [e]; exact List.prefix_rfl
  · intro e; exact e.eq_of_length (by rw [lst_length, lst_length])
def wrd (lt ln : Int → Int) (w : Int) : List Int := lst lt (5 * w) (ln w).toNat
def sm (f : Int → Int) : Nat → Int
  | 0 => 0
  | n + 1 => sm f n + f (n : Int)
theorem sm_s (f : Int → Int) (n : Nat) : sm f (n + 1) = sm f n + f (n : Int) := rfl
theorem sm_congr {f g : Int → Int} : ∀ n : Nat, (∀ v : Int, 0 ≤ v → v < n → f v = g v) → sm f n = sm g n := by
  intro n
  induction n with
  | zero => intro _; rfl
  | succ n ih => intro h; rw [sm_s, sm_s, ih (fun v h0 h1 => h v h0 (by omega)), h n (by omega) (by omega)]
theorem sm_le {f g : Int → Int} : ∀ n : Nat, (∀ v : Int, 0 ≤ v → v < n → f v ≤ g v) → sm f n ≤ sm g n := by
  intro n
  induction n with
  | zero => intro _; exact Int.le_refl _
  | succ n ih =>
    intro h
    have h1 := ih (fun v h0 h1 => h v h0 (by omega))
    have h2 := h n (by omega) (by omega)
    rw [sm_s, sm_s]
    omega
theorem sm_lt {f g : Int → Int} {w : Int} : ∀ n : Nat, (∀ v : Int, 0 ≤ v → v < n → f v ≤ g v) → 0 ≤ w → w < n → f w + 1 ≤ g w → sm f n + 1 ≤ sm g n := by
  intro n
  induction n with
  | zero => intro _ h0 h1; omega
  | succ n ih =>
    intro h w0 w1 hw
    rw [sm_s, sm_s]
    by_cases e : w = n
    · subst e
      have h1 := sm_le n (fun v h0 h1 => h v h0 (by omega))
      omega
    · have h1 := ih (fun v h0 h1 => h v h0 (by omega)) w0 (by omega) hw
      have h2 := h n (by omega) (by omega)
      omega
theorem sm_zero : ∀ n : Nat, sm (fun _ => 0) n = 0 := by
  intro n
  induction n with
  | zero => rfl
  | succ n ih => rw [sm_s, ih]; rfl
theorem sm_one : ∀ n : Nat, sm (fun _ => 1) n = n := by
  intro n
  induction n with
  | zero => rfl
  | succ n ih => rw [sm_s, ih]; omega
theorem sm_chg {f g : Int → Int} {w : Int} : ∀ n : Nat, (∀ v : Int, 0 ≤ v → v < n → v ≠ w → g v = f v) → 0 ≤ w → w < n → sm g n = sm f n - f w + g w := by
  intro n
  induction n with
  | zero => intro _ h0 h1; omega
  | succ n ih =>
    intro h w0 w1
    rw [sm_s, sm_s]
    by_cases e : w = n
    · rw [sm_congr n (fun v h0 h1 => h v h0 (by omega) (by omega)), ← e]
      omega
    · rw [ih (fun v h0 h1 h2 => h v h0 (by omega) h2) w0 (by omega), h n (by omega) (by omega) (fun z => e z.symm)]
      omega
def ipx (lt ln : Int → Int) (q : List Int) (w : Int) : Int := if q <+: wrd lt ln w then 1 else 0
theorem ipx_rg (lt ln : Int → Int) (q : List Int) (w : Int) : 0 ≤ ipx lt ln q w ∧ ipx lt ln q w ≤ 1 := by unfold ipx; split <;> omega
/-- the reference's words are the dictionary DC, DK, CN -/
def MD (wd : Int) (lt ln pr kd : Int → Int) (DC DK CN : List Int → Int) : Prop :=
  0 ≤ wd ∧ wd ≤ 16 ∧ (∀ w, 0 ≤ w → w < wd → 1 ≤ ln w ∧ ln w ≤ 5 ∧ 0 ≤ pr w ∧ pr w ≤ 99 ∧ 0 ≤ kd w ∧ kd w ≤ 2 ∧ ∀ i, 0 ≤ i → i < ln w → 0 ≤ lt (5 * w + i) ∧ lt (5 * w + i) < 4) ∧
  (∀ w v, 0 ≤ w → w < wd → 0 ≤ v → v < wd → wrd lt ln w = wrd lt ln v → w = v) ∧
  (∀ w, 0 ≤ w → w < wd → DC (wrd lt ln w) = pr w ∧ DK (wrd lt ln w) = kd w) ∧
  (∀ q, (∀ w, 0 ≤ w → w < wd → wrd lt ln w ≠ q) → DC q = -1) ∧
  (∀ q, CN q = sm (ipx lt ln q) wd.toNat)
section MDS
variable {wd : Int} {lt ln pr kd : Int → Int} {DC DK CN : List Int → Int}
theorem MD.has (h : MD wd lt ln pr kd DC DK CN) {q : List Int} (hq : 0 ≤ DC q) : ∃ w, 0 ≤ w ∧ w < wd ∧ wrd lt ln w = q := by
  apply Classical.byContradiction
  intro z
  have := h.2.2.2.2.2.1 q (fun w a b e => z ⟨w, a, b, e⟩)
  omega
theorem MD.nil (h : MD wd lt ln pr kd DC DK CN) : CN [] = wd := by
  rw [h.2.2.2.2.2.2, sm_congr (g := fun _ => 1) _ (fun v _ _ => by unfold ipx; rw [if_pos List.nil_prefix]), sm_one]
  have := h.1
  omega
theorem MD.dic (h : MD wd lt ln pr kd DC DK CN) : Dic DC DK CN := by
  obtain ⟨h1, h2, h3, h4, h5, h6, h7⟩ := h
  have hone : ∀ w, 0 ≤ w → w < wd → ∀ q, q <+: wrd lt ln w → 1 ≤ CN q := by
    intro w w0 w1 q hq
    rw [h7 q]
    have := sm_lt (f := fun _ => 0) (g := ipx lt ln q) (w := w) wd.toNat (fun v _ _ => (ipx_rg lt ln q v).1) w0 (by omega) (by unfold ipx; rw [if_pos hq]; omega)
    rw [sm_zero] at this
    omega
  have hw : ∀ q, 0 ≤ DC q → ∃ w, 0 ≤ w ∧ w < wd ∧ wrd lt ln w = q := fun q hq => by
    apply Classical.byContradiction
    intro z
    have := h6 q (fun w a b e => z ⟨w, a, b, e⟩)
    omega
  have hr : ∀ q, DC q = -1 ∨ ∃ w, 0 ≤ w ∧ w < wd ∧ wrd lt ln w = q := fun q => by
    apply Classical.byContradiction
    intro z
    apply z
    left
    exact h6 q (fun w a b e => z (Or.inr ⟨w, a, b, e⟩))
  refine ⟨fun q => ?_, fun q hq => ?_, fun q => ?_, fun q hq => ?_, fun q c => ?_, fun p hp q hq => ?_, fun p hp q c hq hn => ?_⟩
  · rw [h7 q]
    have a := sm_le (f := fun _ => 0) (g := ipx lt ln q) wd.toNat (fun v _ _ => (ipx_rg lt ln q v).1)
    have b := sm_le (f := ipx lt ln q) (g := fun _ => 1) wd.toNat (fun v _ _ => (ipx_rg lt ln q v).2)
    rw [sm_zero] at a
    rw [sm_one] at b
    omega
  · rcases hr q with z | ⟨w, w0, w1, e⟩
    · exact z
    · have := hone w w0 w1 q (by rw [e]; exact List.prefix_rfl)
      omega
  · rcases hr q with z | ⟨w, w0, w1, e⟩
    · omega
    · have a := (h5 w w0 w1).1
      have b := h3 w w0 w1
      rw [e] at a
      omega
  · obtain ⟨w, w0, w1, e⟩ := hw q hq
    have a := (h5 w w0 w1).2
    have b := h3 w w0 w1
    rw [e] at a
    refine ⟨by omega, by omega, ?_, ?_⟩
    · rw [← e]; unfold wrd; rw [lst_length]; omega
    · intro z
      have := congrArg List.length e
      rw [z] at this
      unfold wrd at this
      rw [lst_length] at this
      simp at this
      omega
  · rw [h7 (q ++ [c]), h7 q]
    refine sm_le _ (fun v _ _ => ?_)
    unfold ipx
    by_cases z : (q ++ [c]) <+: wrd lt ln v
    · rw [if_pos z, if_pos ((List.prefix_append q [c]).trans z)]; omega
    · rw [if_neg z]; split <;> omega
  · obtain ⟨w, w0, w1, e⟩ := hw p hp
    exact hone w w0 w1 q (by rw [e]; exact hq)
  · obtain ⟨w, w0, w1, e⟩ := hw p hp
    rw [h7 (q ++ [c]), h7 q]
    refine sm_lt (w := w) _ (fun v _ _ => ?_) w0 (by omega) ?_
    · unfold ipx
      by_cases z : (q ++ [c]) <+: wrd lt ln v
      · rw [if_pos z, if_pos ((List.prefix_append q [c]).trans z)]; omega
      · rw [if_neg z]; split <;> omega
    · unfold ipx
      rw [e, if_neg hn, if_pos hq]; omega
theorem MD.setW (h : MD wd lt ln pr kd DC DK CN) {w c k : Int} {p : List Int} (w0 : 0 ≤ w) (w1 : w < wd) (e : wrd lt ln w = p) (hc : 0 ≤ c ∧ c ≤ 99) (hk : 0 ≤ k ∧ k ≤ 2) : MD wd lt ln (upI pr w c) (upI kd w k) (upW DC p c) (upW DK p k) CN := by
  obtain ⟨h1, h2, h3, h4, h5, h6, h7⟩ := h
  refine ⟨h1, h2, fun v v0 v1 => ?_, h4, fun v v0 v1 => ?_, fun q hq => ?_, h7⟩
  · have := h3 v v0 v1
    rw [upI_at, upI_at]
    by_cases z : v = w
    · rw [if_pos z, if_pos z]; exact ⟨this.1, this.2.1, hc.1, hc.2, hk.1, hk.2, this.2.2.2.2.2.2⟩
    · rw [if_neg z, if_neg z]; exact this
  · by_cases z : v = w
    · rw [z, upI_s, upI_s, e, upW_s, upW_s]; exact ⟨rfl, rfl⟩
    · have hn : wrd lt ln v ≠ p := fun y => z (h4 v w v0 v1 w0 w1 (by rw [y, e]))
      rw [upI_n z, upI_n z, upW_n hn, upW_n hn]
      exact h5 v v0 v1
  · have hn : q ≠ p := fun y => hq w w0 w1 (by rw [e, y])
    rw [upW_n hn]
    exact h6 q hq
/-- a word more at the end -/
theorem MD.addW (h : MD wd lt ln pr kd DC DK CN) {lt' : Int → Int} {sl : Int → Int} {sp c k : Int} (hw : wd < 16) (hsp : 1 ≤ sp ∧ sp ≤ 5) (hsl : ∀ i, 0 ≤ i → i < sp → 0 ≤ sl i ∧ sl i < 4) (hn : DC (lst sl 0 sp.toNat) < 0) (hc : 0 ≤ c ∧ c ≤ 99) (hk : 0 ≤ k ∧ k ≤ 2) (h1 : ∀ x, 5 * wd ≤ x → x < 5 * wd + sp → lt' x = sl (x - 5 * wd)) (h2 : ∀ x, x < 5 * wd → lt' x = lt x) :
    MD (wd + 1) lt' (upI ln wd sp) (upI pr wd c) (upI kd wd k) (upW DC (lst sl 0 sp.toNat) c) (upW DK (lst sl 0 sp.toNat) k) (cnA CN (lst sl 0 sp.toNat)) := by
  obtain ⟨g1, g2, g3, g4, g5, g6, g7⟩ := h
  have eo : ∀ v, 0 ≤ v → v < wd → wrd lt' (upI ln wd sp) v = wrd lt ln v := by
    intro v v0 v1
    unfold wrd
    rw [upI_n (by omega)]
    have := g3 v v0 v1
    exact lst_congr _ _ (fun i i0 i1 => h2 i (by omega))
  have en : wrd lt' (upI ln wd sp) wd = lst sl 0 sp.toNat := by
    unfold wrd
    rw [upI_s, lst_eq_iff]
    intro i i0 i1
    rw [h1 _ (by omega) (by omega), show 5 * wd + i - 5 * wd = 0 + i by omega]
  have hne : ∀ v, 0 ≤ v → v < wd → wrd lt ln v ≠ lst sl 0 sp.toNat := by
    intro v v0 v1 z
    have a := (g5 v v0 v1).1
    have b := (g3 v v0 v1).2.2.1
    rw [z] at a
    omega
  refine ⟨by omega, by omega, fun v v0 v1 => ?_, fun v u v0 v1 u0 u1 e => ?_, fun v v0 v1 => ?_, fun q hq => ?_, fun q => ?_⟩
  · by_cases z : v = wd
    · rw [z, upI_s, upI_s, upI_s]
      refine ⟨hsp.1, hsp.2, hc.1, hc.2, hk.1, hk.2, fun i i0 i1 => ?_⟩
      rw [h1 _ (by omega) (by omega), show 5 * wd + i - 5 * wd = i by omega]
      exact hsl i i0 i1
    · have := g3 v v0 (by omega)
      rw [upI_n z, upI_n z, upI_n z]
      refine ⟨this.1, this.2.1, this.2.2.1, this.2.2.2.1, this.2.2.2.2.1, this.2.2.2.2.2.1, fun i i0 i1 => ?_⟩
      rw [h2 _ (by omega)]
      exact this.2.2.2.2.2.2 i i0 i1
  · by_cases z : v = wd
    · by_cases y : u = wd
      · rw [z, y]
      · rw [z, en, eo u u0 (by omega)] at e
        exact absurd e.symm (hne u u0 (by omega))
    · by_cases y : u = wd
      · rw [y, en, eo v v0 (by omega)] at e
        exact absurd e (hne v v0 (by omega))
      · rw [eo v v0 (by omega), eo u u0 (by omega)] at e
        exact g4 v u v0 (by omega) u0 (by omega) e
  · by_cases z : v = wd
    · rw [z, en, upI_s, upI_s, upW_s, upW_s]; exact ⟨rfl, rfl⟩
    · rw [eo v v0 (by omega), upI_n z, upI_n z, upW_n (hne v v0 (by omega)), upW_n (hne v v0 (by omega))]
      exact g5 v v0 (by omega)
  · have hq1 : q ≠ lst sl 0 sp.toNat := fun y => hq wd (by omega) (by omega) (by rw [en, y])
    rw [upW_n hq1]
    exact g6 q (fun w w0 w1 e => hq w w0 (by omega) (by rw [eo w w0 w1]; exact e))
  · rw [show (wd + 1).toNat = wd.toNat + 1 by omega, sm_s, sm_congr (g := ipx lt ln q) _ (fun v v0 v1 => by unfold ipx; rw [eo v v0 (by omega)])]
    unfold cnA
    rw [g7 q, show ((wd.toNat : Nat) : Int) = wd by omega]
    unfold ipx
    rw [en]
/-- a word less: the last one takes its place -/
theorem MD.delW (h : MD wd lt ln pr kd DC DK CN) {lt' : Int → Int} {w : Int} {p : List Int} (w0 : 0 ≤ w) (w1 : w < wd) (e : wrd lt ln w = p) (h1 : ∀ x, 5 * w ≤ x → x < 5 * w + 5 → lt' x = lt (5 * (wd - 1) + (x - 5 * w))) (h2 : ∀ x, ¬ (5 * w ≤ x ∧ x < 5 * w + 5) → lt' x = lt x) :
    MD (wd - 1) lt' (upI ln w (ln (wd - 1))) (upI pr w (pr (wd - 1))) (upI kd w (kd (wd - 1))) (upW DC p (-1)) DK (cnS CN p) := by
  obtain ⟨g1, g2, g3, g4, g5, g6, g7⟩ := h
  have eo : ∀ v, 0 ≤ v → v < wd → v ≠ w → wrd lt' (upI ln w (ln (wd - 1))) v = wrd lt ln v := by
    intro v v0 v1 v2
    unfold wrd
    rw [upI_n v2]
    have := g3 v v0 v1
    exact lst_congr _ _ (fun i i0 i1 => h2 i (by omega))
  have en : wrd lt' (upI ln w (ln (wd - 1))) w = wrd lt ln (wd - 1) := by
    unfold wrd
    rw [upI_s, lst_eq_iff]
    intro i i0 i1
    have := g3 (wd - 1) (by omega) (by omega)
    rw [h1 _ (by omega) (by omega), show 5 * w + i - 5 * w = i by omega]
  have ef : ∀ v, 0 ≤ v → v < wd - 1 → ∃ v', 0 ≤ v' ∧ v' < wd ∧ v' ≠ w ∧ wrd lt' (upI ln w (ln (wd - 1))) v = wrd lt ln v' ∧ upI pr w (pr (wd - 1)) v = pr v' ∧ upI kd w (kd (wd - 1)) v = kd v' ∧ (v' = v ∨ (v = w ∧ v' = wd - 1)) := by
    intro v v0 v1
    by_cases z : v = w
    · refine ⟨wd - 1, by omega, by omega, by omega, by rw [z]; exact en, by rw [z, upI_s], by rw [z, upI_s], Or.inr ⟨z, rfl⟩⟩
    · exact ⟨v, v0, by omega, z, eo v v0 (by omega) z, upI_n z, upI_n z, Or.inl rfl⟩
  refine ⟨by omega, by omega, fun v v0 v1 => ?_, fun v u v0 v1 u0 u1 ee => ?_, fun v v0 v1 => ?_, fun q hq => ?_, fun q => ?_⟩
  · by_cases z : v = w
    · have := g3 (wd - 1) (by omega) (by omega)
      rw [z, upI_s, upI_s, upI_s]
      refine ⟨this.1, this.2.1, this.2.2.1, this.2.2.2.1, this.2.2.2.2.1, this.2.2.2.2.2.1, fun i i0 i1 => ?_⟩
      rw [h1 _ (by omega) (by omega), show 5 * w + i - 5 * w = i by omega]
      exact this.2.2.2.2.2.2 i i0 i1
    · have := g3 v v0 (by omega)
      rw [upI_n z, upI_n z, upI_n z]
      refine ⟨this.1, this.2.1, this.2.2.1, this.2.2.2.1, this.2.2.2.2.1, this.2.2.2.2.2.1, fun i i0 i1 => ?_⟩
      rw [h2 _ (by omega)]
      exact this.2.2.2.2.2.2 i i0 i1
  · obtain ⟨v', a1, a2, a3, a4, -, -, a5⟩ := ef v v0 v1
    obtain ⟨u', b1, b2, b3, b4, -, -, b5⟩ := ef u u0 u1
    rw [a4, b4] at ee
    have := g4 v' u' a1 a2 b1 b2 ee
    omega
  · obtain ⟨v', a1, a2, a3, a4, a5, a6, -⟩ := ef v v0 v1
    rw [a4, a5, a6, upW_n (fun z => a3 (g4 v' w a1 a2 w0 w1 (by rw [z, e])))]
    exact g5 v' a1 a2
  · by_cases z : q = p
    · rw [z, upW_s]
    · rw [upW_n z]
      refine g6 q (fun u u0 u1 eu => ?_)
      have uw : u ≠ w := fun y => z (by rw [← eu, y, e])
      by_cases ul : u = wd - 1
      · by_cases wl : w = wd - 1
        · omega
        · exact hq w w0 (by omega) (by rw [en, ← ul]; exact eu)
      · exact hq u u0 (by omega) (by rw [eo u u0 u1 uw]; exact eu)
  · unfold cnS
    rw [g7 q, show wd.toNat = (wd - 1).toNat + 1 by omega, sm_s, show (((wd - 1).toNat : Nat) : Int) = wd - 1 by omega]
    have ep : (if q <+: p then (1 : Int) else 0) = ipx lt ln q w := by unfold ipx; rw [e]
    rw [ep]
    by_cases wl : w = wd - 1
    · have e1 : sm (ipx lt' (upI ln w (ln (wd - 1))) q) (wd - 1).toNat = sm (ipx lt ln q) (wd - 1).toNat := sm_congr _ (fun v v0 v1 => by unfold ipx; rw [eo v v0 (by omega) (by omega)])
      rw [e1, ← wl]
      omega
    · have e1 : sm (ipx lt' (upI ln w (ln (wd - 1))) q) (wd - 1).toNat = sm (ipx lt ln q) (wd - 1).toNat - ipx lt ln q w + ipx lt' (upI ln w (ln (wd - 1))) q w := sm_chg _ (fun v v0 v1 v2 => by unfold ipx; rw [eo v v0 (by omega) v2]) w0 (by omega)
      have e2 : ipx lt' (upI ln w (ln (wd - 1))) q w = ipx lt ln q (wd - 1) := by unfold ipx; rw [en]
      rw [e1, e2]
      omega
end MDS
end
section
/-! WALKS: the dictionary of WordLatticeModel: printed by gen/methM.py -/
set_option maxRecDepth 100000
def FillI (lt lt' sl : Int → Int) (w i : Int) : Prop := ∀ x, (5 * w ≤ x ∧ x < 5 * w + i → lt' x = sl (x - 5 * w)) ∧ (¬ (5 * w ≤ x ∧ x < 5 * w + i) → lt' x = lt x)
theorem FillI.zero {lt sl : Int → Int} {w : Int} : FillI lt lt sl w 0 := fun x => ⟨fun h => by omega, fun _ => rfl⟩
theorem FillI.step {lt lt' sl : Int → Int} {w i : Int} (h : FillI lt lt' sl w i) (hi : 0 ≤ i) : FillI lt (upI lt' (5 * w + i) (sl i)) sl w (i + 1) := by
  intro x
  rw [upI_at]
  by_cases e : x = 5 * w + i
  · rw [if_pos e]
    exact ⟨fun _ => by rw [show x - 5 * w = i by omega], fun z => by omega⟩
  · rw [if_neg e]
    exact ⟨fun z => (h x).1 (by omega), fun z => (h x).2 (by omega)⟩
def CopyI (lt lt' : Int → Int) (w v i : Int) : Prop := ∀ x, (5 * w ≤ x ∧ x < 5 * w + i → lt' x = lt (5 * v + (x - 5 * w))) ∧ (¬ (5 * w ≤ x ∧ x < 5 * w + i) → lt' x = lt x)
theorem CopyI.zero {lt : Int → Int} {w v : Int} : CopyI lt lt w v 0 := fun x => ⟨fun h => by omega, fun _ => rfl⟩
theorem CopyI.step {lt lt' : Int → Int} {w v i : Int} (h : CopyI lt lt' w v i) (hi : 0 ≤ i) (h5 : i < 5) (hv : w ≤ v) : CopyI lt (upI lt' (5 * w + i) (lt' (5 * v + i))) w v (i + 1) := by
  have e0 : lt' (5 * v + i) = lt (5 * v + i) := (h (5 * v + i)).2 (by omega)
  intro x
  rw [upI_at, e0]
  by_cases e : x = 5 * w + i
  · rw [if_pos e]
    exact ⟨fun _ => by rw [show x - 5 * w = i by omega], fun z => by omega⟩
  · rw [if_neg e]
    exact ⟨fun z => (h x).1 (by omega), fun z => (h x).2 (by omega)⟩
theorem wrd_eq {lt ln sl : Int → Int} {w sp : Int} (h : ln w = sp) : (lst sl 0 sp.toNat <+: wrd lt ln w ↔ wrd lt ln w = lst sl 0 sp.toNat) := by
  constructor
  · intro z
    exact (z.eq_of_length (by unfold wrd; rw [lst_length, lst_length, h])).symm
  · intro z; rw [z]; exact List.prefix_rfl
theorem wrd_len {lt ln sl : Int → Int} {w sp : Int} (h : wrd lt ln w = lst sl 0 sp.toNat) (h1 : 0 ≤ ln w) (h2 : 0 ≤ sp) : ln w = sp := by
  have := congrArg List.length h
  unfold wrd at this
  rw [lst_length, lst_length] at this
  omega
section DICM
variable {l : Launch} {D : va_G} {dA : ClassId} {ad : Nat → Nat} {K : KX} {pen wd sp ty be ma cs : Int} {lt ln pr kd sl tx lk : Int → Int}
theorem n_spell {x : Int} (hsp : 0 ≤ sp ∧ sp ≤ 5) : MetI l D dA (wM dA ad) (ad 0) yX2_spell (ws_ yX2_spell cX2_spell 2 (some .int)) (rmf 0) [vI x] (pen, wd, lt, ln, pr, kd, sl, sp, tx, ty, lk, be, ma, cs) (fun r u' => (5 ≤ sp ∧ r = -1 ∧ u' = (pen, wd, lt, ln, pr, kd, sl, sp, tx, ty, lk, be, ma, cs)) ∨ (sp < 5 ∧ r = sp + 1 ∧ u' = (pen, wd, lt, ln, pr, kd, upI sl sp (lt3 x), sp + 1, tx, ty, lk, be, ma, cs))) := by
  refine metI_intro [some (.ref (ad 0)), some (vI x)] (by decide) rfl rfl rfl (Nat.le_of_ble_eq_true rfl) (fun _ _ _ => vp_nar_int _) (fun K kr => ?_)
  refine s_aload_n 0 dX2_spell_0 rfl rfl ?_
  refine mg_sp dX2_spell_1 ?_
  refine s_iconst dX2_spell_4 ?_
  refine s_icmp_ne 10 dX2_spell_5 (by decide) ⟨by omega, by omega⟩ ⟨by omega, by omega⟩ (fun h5 => ?_) (fun h5 => ?_)
  · skip
    refine s_aload_n 0 dX2_spell_10 rfl rfl ?_
    refine mg_sl dX2_spell_11 ?_
    refine s_aload_n 0 dX2_spell_14 rfl rfl ?_
    refine mg_sp dX2_spell_15 ?_
    refine s_iload_n 1 dX2_spell_18 rfl rfl ?_
    refine s_iconst dX2_spell_19 ?_
    refine s_iand (lt3 x) (lt3_ok x) dX2_spell_20 ?_
    refine mw_sl dX2_spell_21 ⟨by omega, by omega⟩ ?_
    refine s_aload_n 0 dX2_spell_22 rfl rfl ?_
    refine s_dup dX2_spell_23 rfl ?_
    refine mg_sp dX2_spell_24 ?_
    refine s_iconst dX2_spell_27 ?_
    refine s_iadd dX2_spell_28 ?_
    refine mp_sp dX2_spell_29 ?_
    refine s_aload_n 0 dX2_spell_32 rfl rfl ?_
    refine mg_sp dX2_spell_33 ?_
    exact kr _ _ _ _ dX2_spell_36 (Or.inr ⟨by omega, rfl, rfl⟩)
  · skip
    refine s_iconst dX2_spell_8 ?_
    exact kr _ _ _ _ dX2_spell_9 (Or.inl ⟨by omega, rfl, rfl⟩)
theorem n_clearSpelling  : MetV l D dA (wM dA ad) (ad 0) yX2_clearSpelling (ws_ yX2_clearSpelling cX2_clearSpelling 1 none) (rmf 0) [] (pen, wd, lt, ln, pr, kd, sl, sp, tx, ty, lk, be, ma, cs) (fun u' => u' = (pen, wd, lt, ln, pr, kd, sl, 0, tx, ty, lk, be, ma, cs)) := by
  refine metV_intro [some (.ref (ad 0))] (by decide) rfl rfl rfl (Nat.le_of_ble_eq_true rfl) (fun K kr => ?_)
  refine s_aload_n 0 dX2_clearSpelling_0 rfl rfl ?_
  refine s_iconst dX2_clearSpelling_1 ?_
  refine mp_sp dX2_clearSpelling_2 ?_
  exact kr _ _ _ dX2_clearSpelling_5 rfl
theorem n_clearText  : MetV l D dA (wM dA ad) (ad 0) yX2_clearText (ws_ yX2_clearText cX2_clearText 1 none) (rmf 0) [] (pen, wd, lt, ln, pr, kd, sl, sp, tx, ty, lk, be, ma, cs) (fun u' => u' = (pen, wd, lt, ln, pr, kd, sl, sp, tx, 0, lk, be, ma, cs)) := by
  refine metV_intro [some (.ref (ad 0))] (by decide) rfl rfl rfl (Nat.le_of_ble_eq_true rfl) (fun K kr => ?_)
  refine s_aload_n 0 dX2_clearText_0 rfl rfl ?_
  refine s_iconst dX2_clearText_1 ?_
  refine mp_ty dX2_clearText_2 ?_
  exact kr _ _ _ dX2_clearText_5 rfl
theorem n_type {x : Int} (hle : 0 ≤ ty ∧ ty ≤ 12) : MetI l D dA (wM dA ad) (ad 0) yX2_type (ws_ yX2_type cX2_type 2 (some .int)) (rmf 0) [vI x] (pen, wd, lt, ln, pr, kd, sl, sp, tx, ty, lk, be, ma, cs) (fun r u' => (12 ≤ ty ∧ r = -1 ∧ u' = (pen, wd, lt, ln, pr, kd, sl, sp, tx, ty, lk, be, ma, cs)) ∨ (ty < 12 ∧ r = ty + 1 ∧ u' = (pen, wd, lt, ln, pr, kd, sl, sp, upI tx ty (lt3 x), ty + 1, lk, be, ma, cs))) := by
  refine metI_intro [some (.ref (ad 0)), some (vI x)] (by decide) rfl rfl rfl (Nat.le_of_ble_eq_true rfl) (fun _ _ _ => vp_nar_int _) (fun K kr => ?_)
  refine s_aload_n 0 dX2_type_0 rfl rfl ?_
  refine mg_ty dX2_type_1 ?_
  refine s_bipush dX2_type_4 rfl ?_
  refine s_icmp_ne 11 dX2_type_6 (by decide) ⟨by omega, by omega⟩ ⟨by omega, by omega⟩ (fun h6 => ?_) (fun h6 => ?_)
  · skip
    refine s_aload_n 0 dX2_type_11 rfl rfl ?_
    refine mg_tx dX2_type_12 ?_
    refine s_aload_n 0 dX2_type_15 rfl rfl ?_
    refine mg_ty dX2_type_16 ?_
    refine s_iload_n 1 dX2_type_19 rfl rfl ?_
    refine s_iconst dX2_type_20 ?_
    refine s_iand (lt3 x) (lt3_ok x) dX2_type_21 ?_
    refine mw_tx dX2_type_22 ⟨by omega, by omega⟩ ?_
    refine s_aload_n 0 dX2_type_23 rfl rfl ?_
    refine s_dup dX2_type_24 rfl ?_
    refine mg_ty dX2_type_25 ?_
    refine s_iconst dX2_type_28 ?_
    refine s_iadd dX2_type_29 ?_
    refine mp_ty dX2_type_30 ?_
    refine s_aload_n 0 dX2_type_33 rfl rfl ?_
    refine mg_ty dX2_type_34 ?_
    exact kr _ _ _ _ dX2_type_37 (Or.inr ⟨by omega, rfl, rfl⟩)
  · skip
    refine s_iconst dX2_type_9 ?_
    exact kr _ _ _ _ dX2_type_10 (Or.inl ⟨by omega, rfl, rfl⟩)
theorem n_link {k j c : Int} (hk : inR k) (hj : inR j) (hc : inR c) : MetI l D dA (wM dA ad) (ad 0) yX2_link (ws_ yX2_link cX2_link 5 (some .int)) (rmf 0) [vI k, vI j, vI c] (pen, wd, lt, ln, pr, kd, sl, sp, tx, ty, lk, be, ma, cs) (fun r u' => ((k < 0 ∨ 3 < k ∨ j < 0 ∨ 3 < j ∨ c < 0 ∨ 99 < c) ∧ r = -1 ∧ u' = (pen, wd, lt, ln, pr, kd, sl, sp, tx, ty, lk, be, ma, cs)) ∨ (¬ (k < 0 ∨ 3 < k ∨ j < 0 ∨ 3 < j ∨ c < 0 ∨ 99 < c) ∧ r = lk (4 * k + j) ∧ u' = (pen, wd, lt, ln, pr, kd, sl, sp, tx, ty, upI lk (4 * k + j) c, be, ma, cs))) := by
  refine metI_intro [some (.ref (ad 0)), some (vI k), some (vI j), some (vI c), none] (by decide) rfl rfl rfl (Nat.le_of_ble_eq_true rfl) (fun _ _ _ => vp_nar_int _) (fun K kr => ?_)
  refine s_iload_n 1 dX2_link_0 rfl rfl ?_
  refine s_if_lt 28 dX2_link_1 (by decide) ⟨by omega, by omega⟩ (fun h1 => ?_) (fun h1 => ?_)
  · skip
    refine s_iconst dX2_link_28 ?_
    exact kr _ _ _ _ dX2_link_29 (Or.inl ⟨by omega, rfl, rfl⟩)
  · skip
    refine s_iload_n 1 dX2_link_4 rfl rfl ?_
    refine s_iconst dX2_link_5 ?_
    refine s_icmp_gt 28 dX2_link_6 (by decide) ⟨by omega, by omega⟩ ⟨by omega, by omega⟩ (fun h6 => ?_) (fun h6 => ?_)
    · skip
      refine s_iconst dX2_link_28 ?_
      exact kr _ _ _ _ dX2_link_29 (Or.inl ⟨by omega, rfl, rfl⟩)
    · skip
      refine s_iload_n 2 dX2_link_9 rfl rfl ?_
      refine s_if_lt 28 dX2_link_10 (by decide) ⟨by omega, by omega⟩ (fun h10 => ?_) (fun h10 => ?_)
      · skip
        refine s_iconst dX2_link_28 ?_
        exact kr _ _ _ _ dX2_link_29 (Or.inl ⟨by omega, rfl, rfl⟩)
      · skip
        refine s_iload_n 2 dX2_link_13 rfl rfl ?_
        refine s_iconst dX2_link_14 ?_
        refine s_icmp_gt 28 dX2_link_15 (by decide) ⟨by omega, by omega⟩ ⟨by omega, by omega⟩ (fun h15 => ?_) (fun h15 => ?_)
        · skip
          refine s_iconst dX2_link_28 ?_
          exact kr _ _ _ _ dX2_link_29 (Or.inl ⟨by omega, rfl, rfl⟩)
        · skip
          refine s_iload_n 3 dX2_link_18 rfl rfl ?_
          refine s_if_lt 28 dX2_link_19 (by decide) ⟨by omega, by omega⟩ (fun h19 => ?_) (fun h19 => ?_)
          · skip
            refine s_iconst dX2_link_28 ?_
            exact kr _ _ _ _ dX2_link_29 (Or.inl ⟨by omega, rfl, rfl⟩)
          · skip
            refine s_iload_n 3 dX2_link_22 rfl rfl ?_
            refine s_bipush dX2_link_23 rfl ?_
            refine s_icmp_le 30 dX2_link_25 (by decide) ⟨by omega, by omega⟩ ⟨by omega, by omega⟩ (fun h25 => ?_) (fun h25 => ?_)
            · skip
              refine s_aload_n 0 dX2_link_30 rfl rfl ?_
              refine mg_lk dX2_link_31 ?_
              refine s_iconst dX2_link_34 ?_
              refine s_iload_n 1 dX2_link_35 rfl rfl ?_
              refine s_imul dX2_link_36 ?_
              refine s_iload_n 2 dX2_link_37 rfl rfl ?_
              refine s_iadd dX2_link_38 ?_
              refine mr_lk dX2_link_39 ⟨by omega, by omega⟩ ?_
              refine s_istore [some (.ref (ad 0)), some (vI k), some (vI j), some (vI c), some (vI (lk ((4 * k) + j)))] dX2_link_40 (by decide) rfl ?_
              refine s_aload_n 0 dX2_link_42 rfl rfl ?_
              refine mg_lk dX2_link_43 ?_
              refine s_iconst dX2_link_46 ?_
              refine s_iload_n 1 dX2_link_47 rfl rfl ?_
              refine s_imul dX2_link_48 ?_
              refine s_iload_n 2 dX2_link_49 rfl rfl ?_
              refine s_iadd dX2_link_50 ?_
              refine s_iload_n 3 dX2_link_51 rfl rfl ?_
              refine mw_lk dX2_link_52 ⟨by omega, by omega⟩ ?_
              refine s_iload dX2_link_53 rfl ?_
              exact kr _ _ _ _ dX2_link_55 (Or.inr ⟨by omega, rfl, rfl⟩)
            · skip
              refine s_iconst dX2_link_28 ?_
              exact kr _ _ _ _ dX2_link_29 (Or.inl ⟨by omega, rfl, rfl⟩)
theorem l_beg {w : Int} (hw : 0 ≤ w ∧ w < 16) (hl : 0 ≤ ln w ∧ ln w ≤ 5) (hlt : ∀ i, 0 ≤ i → i < ln w → 0 ≤ lt (5 * w + i) ∧ lt (5 * w + i) < 4) (hsp : 0 ≤ sp ∧ sp ≤ 5) (hsl : ∀ i, 0 ≤ i → i < sp → 0 ≤ sl i ∧ sl i < 4) (hls : sp ≤ ln w) (kr : ∀ (pc : Nat) (lv : List (Option Value)) (r : Int) (u' : SM), decode cX2_begins pc = .ok (.ireturn, 1) → (u' = (pen, wd, lt, ln, pr, kd, sl, sp, tx, ty, lk, be, ma, cs) ∧ r = (if (lst sl 0 sp.toNat) <+: wrd lt ln w then 1 else 0)) → SV l D dA (wM dA ad) RX2 cX2_begins 3 (rmf 0) K u' pc lv [vI r]) : ∀ (m : Nat) (i : Int), i + m = sp → 0 ≤ i → (∀ j, 0 ≤ j → j < i → sl (0 + j) = lt (5 * w + j)) → SV l D dA (wM dA ad) RX2 cX2_begins 3 (rmf 0) K (pen, wd, lt, ln, pr, kd, sl, sp, tx, ty, lk, be, ma, cs) 17 [some (.ref (ad 0)), some (vI w), some (vI i)] [] := by
  intro m
  induction m with
  | zero =>
    intro i h1 h2 hI
    refine s_iload_n 2 dX2_begins_17 rfl rfl ?_
    refine s_aload_n 0 dX2_begins_18 rfl rfl ?_
    refine mg_sp dX2_begins_19 ?_
    refine s_icmp_ge 52 dX2_begins_22 (by decide) ⟨by omega, by omega⟩ ⟨by omega, by omega⟩ (fun h22 => ?_) (fun h22 => ?_)
    · skip
      refine s_iconst dX2_begins_52 ?_
      exact kr _ _ _ _ dX2_begins_53 (⟨rfl, by unfold wrd; rw [if_pos ((pre_iff _ _ _ _ (by omega)).mpr (fun j j0 j1 => hI j j0 (by omega)))]⟩)
    · skip
      exfalso; omega
  | succ m ih =>
    intro i h1 h2 hI
    have e1 := hlt i h2 (by omega)
    have e2 := hsl i h2 (by omega)
    refine s_iload_n 2 dX2_begins_17 rfl rfl ?_
    refine s_aload_n 0 dX2_begins_18 rfl rfl ?_
    refine mg_sp dX2_begins_19 ?_
    refine s_icmp_ge 52 dX2_begins_22 (by decide) ⟨by omega, by omega⟩ ⟨by omega, by omega⟩ (fun h22 => ?_) (fun h22 => ?_)
    · skip
      exfalso; omega
    · skip
      refine s_aload_n 0 dX2_begins_25 rfl rfl ?_
      refine mg_lt dX2_begins_26 ?_
      refine s_iconst dX2_begins_29 ?_
      refine s_iload_n 1 dX2_begins_30 rfl rfl ?_
      refine s_imul dX2_begins_31 ?_
      refine s_iload_n 2 dX2_begins_32 rfl rfl ?_
      refine s_iadd dX2_begins_33 ?_
      refine mr_lt dX2_begins_34 ⟨by omega, by omega⟩ ?_
      refine s_aload_n 0 dX2_begins_35 rfl rfl ?_
      refine mg_sl dX2_begins_36 ?_
      refine s_iload_n 2 dX2_begins_39 rfl rfl ?_
      refine mr_sl dX2_begins_40 ⟨by omega, by omega⟩ ?_
      refine s_icmp_eq 46 dX2_begins_41 (by decide) ⟨by omega, by omega⟩ ⟨by omega, by omega⟩ (fun h41 => ?_) (fun h41 => ?_)
      · skip
        refine s_iinc [some (.ref (ad 0)), some (vI w), some (vI (i + 1))] dX2_begins_46 rfl (by decide) rfl ?_
        refine s_goto 17 dX2_begins_49 (by decide) ?_
        refine ih _ (by omega) (by omega) (fun j j0 j1 => ?_)
        by_cases z : j = i
        · rw [z, show (0 : Int) + i = i by omega]; exact h41.symm
        · exact hI j j0 (by omega)
      · skip
        refine s_iconst dX2_begins_44 ?_
        exact kr _ _ _ _ dX2_begins_45 (⟨rfl, by unfold wrd; rw [if_neg (fun z => h41 (by have y := (pre_iff _ _ _ _ (by omega)).mp z i h2 (by omega); rw [show (0 : Int) + i = i by omega] at y; exact y.symm))]⟩)
theorem n_begins {w : Int} (hw : 0 ≤ w ∧ w < 16) (hl : 0 ≤ ln w ∧ ln w ≤ 5) (hlt : ∀ i, 0 ≤ i → i < ln w → 0 ≤ lt (5 * w + i) ∧ lt (5 * w + i) < 4) (hsp : 0 ≤ sp ∧ sp ≤ 5) (hsl : ∀ i, 0 ≤ i → i < sp → 0 ≤ sl i ∧ sl i < 4) : MetI l D dA (wM dA ad) (ad 0) yX2_begins (ws_ yX2_begins cX2_begins 3 (some .boolean)) (rmf 0) [vI w] (pen, wd, lt, ln, pr, kd, sl, sp, tx, ty, lk, be, ma, cs) (fun r u' => u' = (pen, wd, lt, ln, pr, kd, sl, sp, tx, ty, lk, be, ma, cs) ∧ r = (if (lst sl 0 sp.toNat) <+: wrd lt ln w then 1 else 0)) := by
  refine metI_intro [some (.ref (ad 0)), some (vI w), none] (by decide) rfl rfl rfl (Nat.le_of_ble_eq_true rfl) (fun r u' hp => by rw [hp.2]; split <;> rfl) (fun K kr => ?_)
  refine s_aload_n 0 dX2_begins_0 rfl rfl ?_
  refine mg_ln dX2_begins_1 ?_
  refine s_iload_n 1 dX2_begins_4 rfl rfl ?_
  refine mr_ln dX2_begins_5 ⟨by omega, by omega⟩ ?_
  refine s_aload_n 0 dX2_begins_6 rfl rfl ?_
  refine mg_sp dX2_begins_7 ?_
  refine s_icmp_ge 15 dX2_begins_10 (by decide) ⟨by omega, by omega⟩ ⟨by omega, by omega⟩ (fun h10 => ?_) (fun h10 => ?_)
  · skip
    refine s_iconst dX2_begins_15 ?_
    refine s_istore_n 2 [some (.ref (ad 0)), some (vI w), some (vI 0)] dX2_begins_16 rfl (by decide) rfl ?_
    exact l_beg hw hl hlt hsp hsl h10 kr sp.toNat 0 (by omega) (by omega) (fun j j0 j1 => by omega)
  · skip
    refine s_iconst dX2_begins_13 ?_
    exact kr _ _ _ _ dX2_begins_14 (⟨rfl, by rw [if_neg (fun z => by have y := z.length_le; unfold wrd at y; rw [lst_length, lst_length] at y; omega)]⟩)
theorem l_nam {DC DK CN : List Int → Int} (hM : MD wd lt ln pr kd DC DK CN) (hsp : 0 ≤ sp ∧ sp ≤ 5) (hsl : ∀ i, 0 ≤ i → i < sp → 0 ≤ sl i ∧ sl i < 4) (kr : ∀ (pc : Nat) (lv : List (Option Value)) (r : Int) (u' : SM), decode cX2_named pc = .ok (.ireturn, 1) → (u' = (pen, wd, lt, ln, pr, kd, sl, sp, tx, ty, lk, be, ma, cs) ∧ ((0 ≤ r ∧ r < wd ∧ wrd lt ln r = (lst sl 0 sp.toNat)) ∨ (r = -1 ∧ ∀ w, 0 ≤ w → w < wd → wrd lt ln w ≠ (lst sl 0 sp.toNat)))) → SV l D dA (wM dA ad) RX2 cX2_named 2 (rmf 1) K u' pc lv [vI r]) : ∀ (m : Nat) (w : Int), w + m = wd → 0 ≤ w → (∀ v, 0 ≤ v → v < w → wrd lt ln v ≠ (lst sl 0 sp.toNat)) → SV l D dA (wM dA ad) RX2 cX2_named 2 (rmf 1) K (pen, wd, lt, ln, pr, kd, sl, sp, tx, ty, lk, be, ma, cs) 2 [some (.ref (ad 0)), some (vI w)] [] := by
  have hd := hM.2.1
  intro m
  induction m with
  | zero =>
    intro w h1 h2 hI
    refine s_iload_n 1 dX2_named_2 rfl rfl ?_
    refine s_aload_n 0 dX2_named_3 rfl rfl ?_
    refine mg_wd dX2_named_4 ?_
    refine s_icmp_ge 39 dX2_named_7 (by decide) ⟨by omega, by omega⟩ ⟨by omega, by omega⟩ (fun h7 => ?_) (fun h7 => ?_)
    · skip
      refine s_iconst dX2_named_39 ?_
      exact kr _ _ _ _ dX2_named_40 (⟨rfl, Or.inr ⟨rfl, fun v v0 v1 => hI v v0 (by omega)⟩⟩)
    · skip
      exfalso; omega
  | succ m ih =>
    intro w h1 h2 hI
    have e1 := hM.2.2.1 w h2 (by omega)
    refine s_iload_n 1 dX2_named_2 rfl rfl ?_
    refine s_aload_n 0 dX2_named_3 rfl rfl ?_
    refine mg_wd dX2_named_4 ?_
    refine s_icmp_ge 39 dX2_named_7 (by decide) ⟨by omega, by omega⟩ ⟨by omega, by omega⟩ (fun h7 => ?_) (fun h7 => ?_)
    · skip
      exfalso; omega
    · skip
      refine s_aload_n 0 dX2_named_10 rfl rfl ?_
      refine mg_ln dX2_named_11 ?_
      refine s_iload_n 1 dX2_named_14 rfl rfl ?_
      refine mr_ln dX2_named_15 ⟨by omega, by omega⟩ ?_
      refine s_aload_n 0 dX2_named_16 rfl rfl ?_
      refine mg_sp dX2_named_17 ?_
      refine s_icmp_ne 33 dX2_named_20 (by decide) ⟨by omega, by omega⟩ ⟨by omega, by omega⟩ (fun h20 => ?_) (fun h20 => ?_)
      · skip
        refine s_iinc [some (.ref (ad 0)), some (vI (w + 1))] dX2_named_33 rfl (by decide) rfl ?_
        refine s_goto 2 dX2_named_36 (by decide) ?_
        refine ih _ (by omega) (by omega) (fun v v0 v1 z => ?_)
        by_cases y : v = w
        · rw [y] at z
          first
            | exact h20 (wrd_len z (by omega) hsp.1)
            | (rw [if_pos ((wrd_eq h20).mpr z)] at hr; omega)
        · exact hI v v0 (by omega) z
      · skip
        refine s_aload_n 0 dX2_named_23 rfl rfl ?_
        refine s_iload_n 1 dX2_named_24 rfl rfl ?_
        refine mc_begins (n_begins ⟨h2, by omega⟩ ⟨by omega, by omega⟩ e1.2.2.2.2.2.2 hsp hsl) ⟨Nat.le_of_ble_eq_true rfl, Nat.le_of_ble_eq_true rfl⟩ (Nat.le_of_ble_eq_true rfl) dX2_named_25 (fun r u_ hp => ?_)
        obtain ⟨rfl, hr⟩ := hp
        have hr2 : r = 0 ∨ r = 1 := by rw [hr]; split <;> omega
        refine s_if_eq 33 dX2_named_28 (by decide) ⟨by omega, by omega⟩ (fun h28 => ?_) (fun h28 => ?_)
        · skip
          refine s_iinc [some (.ref (ad 0)), some (vI (w + 1))] dX2_named_33 rfl (by decide) rfl ?_
          refine s_goto 2 dX2_named_36 (by decide) ?_
          refine ih _ (by omega) (by omega) (fun v v0 v1 z => ?_)
          by_cases y : v = w
          · rw [y] at z
            first
              | exact h20 (wrd_len z (by omega) hsp.1)
              | (rw [if_pos ((wrd_eq h20).mpr z)] at hr; omega)
          · exact hI v v0 (by omega) z
        · skip
          refine s_iload_n 1 dX2_named_31 rfl rfl ?_
          exact kr _ _ _ _ dX2_named_32 (⟨rfl, Or.inl ⟨h2, by omega, (wrd_eq h20).mp (by apply Classical.byContradiction; intro z; rw [if_neg z] at hr; exact h28 hr)⟩⟩)
theorem n_named {DC DK CN : List Int → Int} (hM : MD wd lt ln pr kd DC DK CN) (hsp : 0 ≤ sp ∧ sp ≤ 5) (hsl : ∀ i, 0 ≤ i → i < sp → 0 ≤ sl i ∧ sl i < 4) : MetI l D dA (wM dA ad) (ad 0) yX2_named (ws_ yX2_named cX2_named 2 (some .int)) (rmf 1) [] (pen, wd, lt, ln, pr, kd, sl, sp, tx, ty, lk, be, ma, cs) (fun r u' => u' = (pen, wd, lt, ln, pr, kd, sl, sp, tx, ty, lk, be, ma, cs) ∧ ((0 ≤ r ∧ r < wd ∧ wrd lt ln r = (lst sl 0 sp.toNat)) ∨ (r = -1 ∧ ∀ w, 0 ≤ w → w < wd → wrd lt ln w ≠ (lst sl 0 sp.toNat)))) := by
  refine metI_intro [some (.ref (ad 0)), none] (by decide) rfl rfl rfl (Nat.le_of_ble_eq_true rfl) (fun _ _ _ => vp_nar_int _) (fun K kr => ?_)
  refine s_iconst dX2_named_0 ?_
  refine s_istore_n 1 [some (.ref (ad 0)), some (vI 0)] dX2_named_1 rfl (by decide) rfl ?_
  exact l_nam hM hsp hsl kr wd.toNat 0 (by have := hM.1; omega) (by omega) (fun v v0 v1 => by omega)
theorem n_lookUp {DC DK CN : List Int → Int} (hM : MD wd lt ln pr kd DC DK CN) (hsp : 0 ≤ sp ∧ sp ≤ 5) (hsl : ∀ i, 0 ≤ i → i < sp → 0 ≤ sl i ∧ sl i < 4) : MetI l D dA (wM dA ad) (ad 0) yX2_lookUp (ws_ yX2_lookUp cX2_lookUp 2 (some .int)) (rmf 2) [] (pen, wd, lt, ln, pr, kd, sl, sp, tx, ty, lk, be, ma, cs) (fun r u' => u' = (pen, wd, lt, ln, pr, kd, sl, sp, tx, ty, lk, be, ma, cs) ∧ r = DC (lst sl 0 sp.toNat)) := by
  refine metI_intro [some (.ref (ad 0)), none] (by decide) rfl rfl rfl (Nat.le_of_ble_eq_true rfl) (fun _ _ _ => vp_nar_int _) (fun K kr => ?_)
  refine s_aload_n 0 dX2_lookUp_0 rfl rfl ?_
  refine mc_named (n_named hM hsp hsl) ⟨Nat.le_of_ble_eq_true rfl, Nat.le_of_ble_eq_true rfl⟩ (Nat.le_of_ble_eq_true rfl) dX2_lookUp_1 (fun r u_ hp => ?_)
  obtain ⟨rfl, hr⟩ := hp
  have hd := hM.2.1
  refine s_istore_n 1 [some (.ref (ad 0)), some (vI r)] dX2_lookUp_4 rfl (by decide) rfl ?_
  have hrr : -1 ≤ r ∧ r < 16 := by rcases hr with z | z <;> omega
  refine s_iload_n 1 dX2_lookUp_5 rfl rfl ?_
  refine s_if_ge 13 dX2_lookUp_6 (by decide) ⟨by omega, by omega⟩ (fun h6 => ?_) (fun h6 => ?_)
  · skip
    obtain ⟨r0, r1, r2⟩ := hr.resolve_right (fun z => by omega)
    refine s_aload_n 0 dX2_lookUp_13 rfl rfl ?_
    refine mg_pr dX2_lookUp_14 ?_
    refine s_iload_n 1 dX2_lookUp_17 rfl rfl ?_
    refine mr_pr dX2_lookUp_18 ⟨by omega, by omega⟩ ?_
    first | exact kr _ _ _ _ dX2_lookUp_19 ⟨rfl, by rw [← r2, (hM.2.2.2.2.1 r r0 r1).1]⟩ | exact kr _ _ _ _ dX2_lookUp_19 ⟨rfl, (hM.2.2.2.2.2.1 _ r1).symm⟩
  · skip
    obtain ⟨r0, r1⟩ := hr.resolve_left (fun z => by omega)
    refine s_iconst dX2_lookUp_9 ?_
    refine s_goto 19 dX2_lookUp_10 (by decide) ?_
    first | exact kr _ _ _ _ dX2_lookUp_19 ⟨rfl, by rw [← r2, (hM.2.2.2.2.1 r r0 r1).1]⟩ | exact kr _ _ _ _ dX2_lookUp_19 ⟨rfl, (hM.2.2.2.2.2.1 _ r1).symm⟩
theorem l_lrn (hw : 0 ≤ wd ∧ wd < 16) (hsp : 0 ≤ sp ∧ sp ≤ 5) {wx : Int} {c k : Int} {lt0 : Int → Int} : ∀ (m : Nat) (i : Int) (lt : Int → Int), i + m = sp → 0 ≤ i → FillI lt0 lt sl wd i → (∀ i' lt, FillI lt0 lt sl wd sp → SV l D dA (wM dA ad) RX2 cX2_learn 5 (rmf 2) K (pen, wx, lt, ln, pr, kd, sl, sp, tx, ty, lk, be, ma, cs) 113 [some (.ref (ad 0)), some (vI c), some (vI k), some (vI wd), some (vI i')] []) → SV l D dA (wM dA ad) RX2 cX2_learn 5 (rmf 2) K (pen, wx, lt, ln, pr, kd, sl, sp, tx, ty, lk, be, ma, cs) 80 [some (.ref (ad 0)), some (vI c), some (vI k), some (vI wd), some (vI i)] [] := by
  intro m
  induction m with
  | zero =>
    intro i lt h1 h2 hI kx
    obtain rfl : i = sp := by omega
    refine s_iload dX2_learn_80 rfl ?_
    refine s_aload_n 0 dX2_learn_82 rfl rfl ?_
    refine mg_sp dX2_learn_83 ?_
    refine s_icmp_ge 113 dX2_learn_86 (by decide) ⟨by omega, by omega⟩ ⟨by omega, by omega⟩ (fun h86 => ?_) (fun h86 => ?_)
    · skip
      exact kx _ _ hI
    · skip
      exfalso; omega
  | succ m ih =>
    intro i lt h1 h2 hI kx
    refine s_iload dX2_learn_80 rfl ?_
    refine s_aload_n 0 dX2_learn_82 rfl rfl ?_
    refine mg_sp dX2_learn_83 ?_
    refine s_icmp_ge 113 dX2_learn_86 (by decide) ⟨by omega, by omega⟩ ⟨by omega, by omega⟩ (fun h86 => ?_) (fun h86 => ?_)
    · skip
      exfalso; omega
    · skip
      refine s_aload_n 0 dX2_learn_89 rfl rfl ?_
      refine mg_lt dX2_learn_90 ?_
      refine s_iconst dX2_learn_93 ?_
      refine s_iload_n 3 dX2_learn_94 rfl rfl ?_
      refine s_imul dX2_learn_95 ?_
      refine s_iload dX2_learn_96 rfl ?_
      refine s_iadd dX2_learn_98 ?_
      refine s_aload_n 0 dX2_learn_99 rfl rfl ?_
      refine mg_sl dX2_learn_100 ?_
      refine s_iload dX2_learn_103 rfl ?_
      refine mr_sl dX2_learn_105 ⟨by omega, by omega⟩ ?_
      refine mw_lt dX2_learn_106 ⟨by omega, by omega⟩ ?_
      refine s_iinc [some (.ref (ad 0)), some (vI c), some (vI k), some (vI wd), some (vI (i + 1))] dX2_learn_107 rfl (by decide) rfl ?_
      refine s_goto 80 dX2_learn_110 (by decide) ?_
      exact ih _ _ (by omega) (by omega) (hI.step h2) kx
theorem n_learn {DC DK CN : List Int → Int} {c k : Int} (hc : inR c) (hk : inR k) (hM : MD wd lt ln pr kd DC DK CN) (hsp : 0 ≤ sp ∧ sp ≤ 5) (hsl : ∀ i, 0 ≤ i → i < sp → 0 ≤ sl i ∧ sl i < 4) : MetI l D dA (wM dA ad) (ad 0) yX2_learn (ws_ yX2_learn cX2_learn 5 (some .int)) (rmf 2) [vI c, vI k] (pen, wd, lt, ln, pr, kd, sl, sp, tx, ty, lk, be, ma, cs) (fun r u' => (lrNo sp c k (lst sl 0 sp.toNat) DC CN ∧ r = -1 ∧ u' = (pen, wd, lt, ln, pr, kd, sl, sp, tx, ty, lk, be, ma, cs)) ∨ (¬ lrNo sp c k (lst sl 0 sp.toNat) DC CN ∧ r = lrCN DC CN (lst sl 0 sp.toNat) [] ∧ ∃ wd' lt' ln' pr' kd', u' = (pen, wd', lt', ln', pr', kd', sl, 0, tx, ty, lk, be, ma, cs) ∧ MD wd' lt' ln' pr' kd' (upW DC (lst sl 0 sp.toNat) c) (upW DK (lst sl 0 sp.toNat) k) (lrCN DC CN (lst sl 0 sp.toNat)))) := by
  refine metI_intro [some (.ref (ad 0)), some (vI c), some (vI k), none, none] (by decide) rfl rfl rfl (Nat.le_of_ble_eq_true rfl) (fun _ _ _ => vp_nar_int _) (fun K kr => ?_)
  refine s_aload_n 0 dX2_learn_0 rfl rfl ?_
  refine mg_sp dX2_learn_1 ?_
  refine s_if_eq 26 dX2_learn_4 (by decide) ⟨by omega, by omega⟩ (fun h4 => ?_) (fun h4 => ?_)
  · skip
    refine s_iconst dX2_learn_26 ?_
    exact kr _ _ _ _ dX2_learn_27 (Or.inl ⟨Or.inl (by omega), rfl, rfl⟩)
  · skip
    refine s_iload_n 1 dX2_learn_7 rfl rfl ?_
    refine s_if_lt 26 dX2_learn_8 (by decide) ⟨by omega, by omega⟩ (fun h8 => ?_) (fun h8 => ?_)
    · skip
      refine s_iconst dX2_learn_26 ?_
      exact kr _ _ _ _ dX2_learn_27 (Or.inl ⟨Or.inl (by omega), rfl, rfl⟩)
    · skip
      refine s_iload_n 1 dX2_learn_11 rfl rfl ?_
      refine s_bipush dX2_learn_12 rfl ?_
      refine s_icmp_gt 26 dX2_learn_14 (by decide) ⟨by omega, by omega⟩ ⟨by omega, by omega⟩ (fun h14 => ?_) (fun h14 => ?_)
      · skip
        refine s_iconst dX2_learn_26 ?_
        exact kr _ _ _ _ dX2_learn_27 (Or.inl ⟨Or.inl (by omega), rfl, rfl⟩)
      · skip
        refine s_iload_n 2 dX2_learn_17 rfl rfl ?_
        refine s_if_lt 26 dX2_learn_18 (by decide) ⟨by omega, by omega⟩ (fun h18 => ?_) (fun h18 => ?_)
        · skip
          refine s_iconst dX2_learn_26 ?_
          exact kr _ _ _ _ dX2_learn_27 (Or.inl ⟨Or.inl (by omega), rfl, rfl⟩)
        · skip
          refine s_iload_n 2 dX2_learn_21 rfl rfl ?_
          refine s_iconst dX2_learn_22 ?_
          refine s_icmp_le 28 dX2_learn_23 (by decide) ⟨by omega, by omega⟩ ⟨by omega, by omega⟩ (fun h23 => ?_) (fun h23 => ?_)
          · skip
            refine s_aload_n 0 dX2_learn_28 rfl rfl ?_
            refine mc_named (n_named hM hsp hsl) ⟨Nat.le_of_ble_eq_true rfl, Nat.le_of_ble_eq_true rfl⟩ (Nat.le_of_ble_eq_true rfl) dX2_learn_29 (fun r u_ hp => ?_)
            obtain ⟨rfl, hr⟩ := hp
            have hd := hM.2.1
            have hd0 := hM.1
            have hn := hM.nil
            have hrr : -1 ≤ r ∧ r < 16 := by rcases hr with z | z <;> omega
            refine s_istore_n 3 [some (.ref (ad 0)), some (vI c), some (vI k), some (vI r), none] dX2_learn_32 rfl (by decide) rfl ?_
            refine s_iload_n 3 dX2_learn_33 rfl rfl ?_
            refine s_if_ge 48 dX2_learn_34 (by decide) ⟨by omega, by omega⟩ (fun h34 => ?_) (fun h34 => ?_)
            · skip
              obtain ⟨r0, r1, r2⟩ := hr.resolve_right (fun z => by omega)
              have dy : 0 ≤ DC (lst sl 0 sp.toNat) := by
                rw [← r2, (hM.2.2.2.2.1 r r0 r1).1]; exact (hM.2.2.1 r r0 r1).2.2.1
              refine s_iload_n 3 dX2_learn_48 rfl rfl ?_
              refine s_if_ge 113 dX2_learn_49 (by decide) ⟨by omega, by omega⟩ (fun h49 => ?_) (fun h49 => ?_)
              · skip
                refine s_aload_n 0 dX2_learn_113 rfl rfl ?_
                refine mg_pr dX2_learn_114 ?_
                refine s_iload_n 3 dX2_learn_117 rfl rfl ?_
                refine s_iload_n 1 dX2_learn_118 rfl rfl ?_
                refine mw_pr dX2_learn_119 ⟨by omega, by omega⟩ ?_
                refine s_aload_n 0 dX2_learn_120 rfl rfl ?_
                refine mg_kd dX2_learn_121 ?_
                refine s_iload_n 3 dX2_learn_124 rfl rfl ?_
                refine s_iload_n 2 dX2_learn_125 rfl rfl ?_
                refine mw_kd dX2_learn_126 ⟨by omega, by omega⟩ ?_
                refine s_aload_n 0 dX2_learn_127 rfl rfl ?_
                refine s_iconst dX2_learn_128 ?_
                refine mp_sp dX2_learn_129 ?_
                refine s_aload_n 0 dX2_learn_132 rfl rfl ?_
                refine mg_wd dX2_learn_133 ?_
                first
                  | exact kr _ _ _ _ dX2_learn_136 (Or.inr ⟨by unfold lrNo; omega, by rw [lrCN_old dy]; exact hn.symm, _, _, _, _, _, rfl, by rw [lrCN_old dy]; exact hM.setW r0 r1 r2 ⟨by omega, by omega⟩ ⟨by omega, by omega⟩⟩)
                  | exact kr _ _ _ _ dX2_learn_136 (Or.inr ⟨by unfold lrNo; omega, by rw [lrCN_new dn]; unfold cnA; rw [if_pos List.nil_prefix, hn], _, _, _, _, _, rfl, by rw [lrCN_new dn]; exact hM.addW (by omega) ⟨by omega, hsp.2⟩ hsl dn ⟨by omega, by omega⟩ ⟨by omega, by omega⟩ (fun x x0 x1 => (hF x).1 ⟨x0, x1⟩) (fun x x0 => (hF x).2 (by omega))⟩)
              · skip
                exfalso; omega
            · skip
              obtain ⟨r0, r1⟩ := hr.resolve_left (fun z => by omega)
              have dn : DC (lst sl 0 sp.toNat) < 0 := by rw [hM.2.2.2.2.2.1 _ r1]; omega
              refine s_aload_n 0 dX2_learn_37 rfl rfl ?_
              refine mg_wd dX2_learn_38 ?_
              refine s_bipush dX2_learn_41 rfl ?_
              refine s_icmp_ne 48 dX2_learn_43 (by decide) ⟨by omega, by omega⟩ ⟨by omega, by omega⟩ (fun h43 => ?_) (fun h43 => ?_)
              · skip
                refine s_iload_n 3 dX2_learn_48 rfl rfl ?_
                refine s_if_ge 113 dX2_learn_49 (by decide) ⟨by omega, by omega⟩ (fun h49 => ?_) (fun h49 => ?_)
                · skip
                  exfalso; omega
                · skip
                  refine s_aload_n 0 dX2_learn_52 rfl rfl ?_
                  refine mg_wd dX2_learn_53 ?_
                  refine s_istore_n 3 [some (.ref (ad 0)), some (vI c), some (vI k), some (vI wd), none] dX2_learn_56 rfl (by decide) rfl ?_
                  refine s_aload_n 0 dX2_learn_57 rfl rfl ?_
                  refine s_dup dX2_learn_58 rfl ?_
                  refine mg_wd dX2_learn_59 ?_
                  refine s_iconst dX2_learn_62 ?_
                  refine s_iadd dX2_learn_63 ?_
                  refine mp_wd dX2_learn_64 ?_
                  refine s_aload_n 0 dX2_learn_67 rfl rfl ?_
                  refine mg_ln dX2_learn_68 ?_
                  refine s_iload_n 3 dX2_learn_71 rfl rfl ?_
                  refine s_aload_n 0 dX2_learn_72 rfl rfl ?_
                  refine mg_sp dX2_learn_73 ?_
                  refine mw_ln dX2_learn_76 ⟨by omega, by omega⟩ ?_
                  refine s_iconst dX2_learn_77 ?_
                  refine s_istore [some (.ref (ad 0)), some (vI c), some (vI k), some (vI wd), some (vI 0)] dX2_learn_78 (by decide) rfl ?_
                  refine l_lrn (lt0 := lt) ⟨by omega, by omega⟩ hsp sp.toNat 0 lt (by omega) (by omega) FillI.zero (fun i' lt2 hF => ?_)
                  refine s_aload_n 0 dX2_learn_113 rfl rfl ?_
                  refine mg_pr dX2_learn_114 ?_
                  refine s_iload_n 3 dX2_learn_117 rfl rfl ?_
                  refine s_iload_n 1 dX2_learn_118 rfl rfl ?_
                  refine mw_pr dX2_learn_119 ⟨by omega, by omega⟩ ?_
                  refine s_aload_n 0 dX2_learn_120 rfl rfl ?_
                  refine mg_kd dX2_learn_121 ?_
                  refine s_iload_n 3 dX2_learn_124 rfl rfl ?_
                  refine s_iload_n 2 dX2_learn_125 rfl rfl ?_
                  refine mw_kd dX2_learn_126 ⟨by omega, by omega⟩ ?_
                  refine s_aload_n 0 dX2_learn_127 rfl rfl ?_
                  refine s_iconst dX2_learn_128 ?_
                  refine mp_sp dX2_learn_129 ?_
                  refine s_aload_n 0 dX2_learn_132 rfl rfl ?_
                  refine mg_wd dX2_learn_133 ?_
                  first
                    | exact kr _ _ _ _ dX2_learn_136 (Or.inr ⟨by unfold lrNo; omega, by rw [lrCN_old dy]; exact hn.symm, _, _, _, _, _, rfl, by rw [lrCN_old dy]; exact hM.setW r0 r1 r2 ⟨by omega, by omega⟩ ⟨by omega, by omega⟩⟩)
                    | exact kr _ _ _ _ dX2_learn_136 (Or.inr ⟨by unfold lrNo; omega, by rw [lrCN_new dn]; unfold cnA; rw [if_pos List.nil_prefix, hn], _, _, _, _, _, rfl, by rw [lrCN_new dn]; exact hM.addW (by omega) ⟨by omega, hsp.2⟩ hsl dn ⟨by omega, by omega⟩ ⟨by omega, by omega⟩ (fun x x0 x1 => (hF x).1 ⟨x0, x1⟩) (fun x x0 => (hF x).2 (by omega))⟩)
              · skip
                refine s_iconst dX2_learn_46 ?_
                exact kr _ _ _ _ dX2_learn_47 (Or.inl ⟨Or.inr ⟨dn, by omega⟩, rfl, rfl⟩)
          · skip
            refine s_iconst dX2_learn_26 ?_
            exact kr _ _ _ _ dX2_learn_27 (Or.inl ⟨Or.inl (by omega), rfl, rfl⟩)
theorem l_fgt {w : Int} (hw : 0 ≤ w ∧ w ≤ wd ∧ wd < 16) {lt0 : Int → Int} : ∀ (m : Nat) (i : Int) (lt : Int → Int), i + m = 5 → 0 ≤ i → CopyI lt0 lt w wd i → (∀ i' lt, CopyI lt0 lt w wd 5 → SV l D dA (wM dA ad) RX2 cX2_forget 3 (rmf 2) K (pen, wd, lt, ln, pr, kd, sl, sp, tx, ty, lk, be, ma, cs) 102 [some (.ref (ad 0)), some (vI w), some (vI i')] []) → SV l D dA (wM dA ad) RX2 cX2_forget 3 (rmf 2) K (pen, wd, lt, ln, pr, kd, sl, sp, tx, ty, lk, be, ma, cs) 68 [some (.ref (ad 0)), some (vI w), some (vI i)] [] := by
  intro m
  induction m with
  | zero =>
    intro i lt h1 h2 hI kx
    obtain rfl : i = 5 := by omega
    refine s_iload_n 2 dX2_forget_68 rfl rfl ?_
    refine s_iconst dX2_forget_69 ?_
    refine s_icmp_ge 102 dX2_forget_70 (by decide) ⟨by omega, by omega⟩ ⟨by omega, by omega⟩ (fun h70 => ?_) (fun h70 => ?_)
    · skip
      exact kx _ _ hI
    · skip
      exfalso; omega
  | succ m ih =>
    intro i lt h1 h2 hI kx
    refine s_iload_n 2 dX2_forget_68 rfl rfl ?_
    refine s_iconst dX2_forget_69 ?_
    refine s_icmp_ge 102 dX2_forget_70 (by decide) ⟨by omega, by omega⟩ ⟨by omega, by omega⟩ (fun h70 => ?_) (fun h70 => ?_)
    · skip
      exfalso; omega
    · skip
      refine s_aload_n 0 dX2_forget_73 rfl rfl ?_
      refine mg_lt dX2_forget_74 ?_
      refine s_iconst dX2_forget_77 ?_
      refine s_iload_n 1 dX2_forget_78 rfl rfl ?_
      refine s_imul dX2_forget_79 ?_
      refine s_iload_n 2 dX2_forget_80 rfl rfl ?_
      refine s_iadd dX2_forget_81 ?_
      refine s_aload_n 0 dX2_forget_82 rfl rfl ?_
      refine mg_lt dX2_forget_83 ?_
      refine s_iconst dX2_forget_86 ?_
      refine s_aload_n 0 dX2_forget_87 rfl rfl ?_
      refine mg_wd dX2_forget_88 ?_
      refine s_imul dX2_forget_91 ?_
      refine s_iload_n 2 dX2_forget_92 rfl rfl ?_
      refine s_iadd dX2_forget_93 ?_
      refine mr_lt dX2_forget_94 ⟨by omega, by omega⟩ ?_
      refine mw_lt dX2_forget_95 ⟨by omega, by omega⟩ ?_
      refine s_iinc [some (.ref (ad 0)), some (vI w), some (vI (i + 1))] dX2_forget_96 rfl (by decide) rfl ?_
      refine s_goto 68 dX2_forget_99 (by decide) ?_
      exact ih _ _ (by omega) (by omega) (hI.step h2 (by omega) hw.2.1) kx
theorem n_forget {DC DK CN : List Int → Int} (hM : MD wd lt ln pr kd DC DK CN) (hsp : 0 ≤ sp ∧ sp ≤ 5) (hsl : ∀ i, 0 ≤ i → i < sp → 0 ≤ sl i ∧ sl i < 4) : MetI l D dA (wM dA ad) (ad 0) yX2_forget (ws_ yX2_forget cX2_forget 3 (some .int)) (rmf 2) [] (pen, wd, lt, ln, pr, kd, sl, sp, tx, ty, lk, be, ma, cs) (fun r u' => (DC (lst sl 0 sp.toNat) < 0 ∧ r = -1 ∧ u' = (pen, wd, lt, ln, pr, kd, sl, sp, tx, ty, lk, be, ma, cs)) ∨ (0 ≤ DC (lst sl 0 sp.toNat) ∧ r = cnS CN (lst sl 0 sp.toNat) [] ∧ ∃ wd' lt' ln' pr' kd', u' = (pen, wd', lt', ln', pr', kd', sl, 0, tx, ty, lk, be, ma, cs) ∧ MD wd' lt' ln' pr' kd' (upW DC (lst sl 0 sp.toNat) (-1)) DK (cnS CN (lst sl 0 sp.toNat)))) := by
  refine metI_intro [some (.ref (ad 0)), none, none] (by decide) rfl rfl rfl (Nat.le_of_ble_eq_true rfl) (fun _ _ _ => vp_nar_int _) (fun K kr => ?_)
  refine s_aload_n 0 dX2_forget_0 rfl rfl ?_
  refine mc_named (n_named hM hsp hsl) ⟨Nat.le_of_ble_eq_true rfl, Nat.le_of_ble_eq_true rfl⟩ (Nat.le_of_ble_eq_true rfl) dX2_forget_1 (fun r u_ hp => ?_)
  obtain ⟨rfl, hr⟩ := hp
  have hd := hM.2.1
  have hd0 := hM.1
  have hn := hM.nil
  have hrr : -1 ≤ r ∧ r < 16 := by rcases hr with z | z <;> omega
  refine s_istore_n 1 [some (.ref (ad 0)), some (vI r), none] dX2_forget_4 rfl (by decide) rfl ?_
  refine s_iload_n 1 dX2_forget_5 rfl rfl ?_
  refine s_if_ge 11 dX2_forget_6 (by decide) ⟨by omega, by omega⟩ (fun h6 => ?_) (fun h6 => ?_)
  · skip
    obtain ⟨r0, r1, r2⟩ := hr.resolve_right (fun z => by omega)
    have dy : 0 ≤ DC (lst sl 0 sp.toNat) := by
      rw [← r2, (hM.2.2.2.2.1 r r0 r1).1]; exact (hM.2.2.1 r r0 r1).2.2.1
    refine s_aload_n 0 dX2_forget_11 rfl rfl ?_
    refine s_dup dX2_forget_12 rfl ?_
    refine mg_wd dX2_forget_13 ?_
    refine s_iconst dX2_forget_16 ?_
    refine s_isub dX2_forget_17 ?_
    refine mp_wd dX2_forget_18 ?_
    refine s_aload_n 0 dX2_forget_21 rfl rfl ?_
    refine mg_ln dX2_forget_22 ?_
    refine s_iload_n 1 dX2_forget_25 rfl rfl ?_
    refine s_aload_n 0 dX2_forget_26 rfl rfl ?_
    refine mg_ln dX2_forget_27 ?_
    refine s_aload_n 0 dX2_forget_30 rfl rfl ?_
    refine mg_wd dX2_forget_31 ?_
    refine mr_ln dX2_forget_34 ⟨by omega, by omega⟩ ?_
    refine mw_ln dX2_forget_35 ⟨by omega, by omega⟩ ?_
    refine s_aload_n 0 dX2_forget_36 rfl rfl ?_
    refine mg_pr dX2_forget_37 ?_
    refine s_iload_n 1 dX2_forget_40 rfl rfl ?_
    refine s_aload_n 0 dX2_forget_41 rfl rfl ?_
    refine mg_pr dX2_forget_42 ?_
    refine s_aload_n 0 dX2_forget_45 rfl rfl ?_
    refine mg_wd dX2_forget_46 ?_
    refine mr_pr dX2_forget_49 ⟨by omega, by omega⟩ ?_
    refine mw_pr dX2_forget_50 ⟨by omega, by omega⟩ ?_
    refine s_aload_n 0 dX2_forget_51 rfl rfl ?_
    refine mg_kd dX2_forget_52 ?_
    refine s_iload_n 1 dX2_forget_55 rfl rfl ?_
    refine s_aload_n 0 dX2_forget_56 rfl rfl ?_
    refine mg_kd dX2_forget_57 ?_
    refine s_aload_n 0 dX2_forget_60 rfl rfl ?_
    refine mg_wd dX2_forget_61 ?_
    refine mr_kd dX2_forget_64 ⟨by omega, by omega⟩ ?_
    refine mw_kd dX2_forget_65 ⟨by omega, by omega⟩ ?_
    refine s_iconst dX2_forget_66 ?_
    refine s_istore_n 2 [some (.ref (ad 0)), some (vI r), some (vI 0)] dX2_forget_67 rfl (by decide) rfl ?_
    refine l_fgt (lt0 := lt) ⟨r0, by omega, by omega⟩ 5 0 lt (by omega) (by omega) CopyI.zero (fun i' lt2 hF => ?_)
    refine s_aload_n 0 dX2_forget_102 rfl rfl ?_
    refine s_iconst dX2_forget_103 ?_
    refine mp_sp dX2_forget_104 ?_
    refine s_aload_n 0 dX2_forget_107 rfl rfl ?_
    refine mg_wd dX2_forget_108 ?_
    exact kr _ _ _ _ dX2_forget_111 (Or.inr ⟨dy, by unfold cnS; rw [if_pos List.nil_prefix, hn], _, _, _, _, _, rfl, hM.delW r0 r1 r2 (fun x x0 x1 => (hF x).1 ⟨x0, x1⟩) (fun x x0 => (hF x).2 x0)⟩)
  · skip
    obtain ⟨r0, r1⟩ := hr.resolve_left (fun z => by omega)
    have dn : DC (lst sl 0 sp.toNat) < 0 := by rw [hM.2.2.2.2.2.1 _ r1]; omega
    refine s_iconst dX2_forget_9 ?_
    exact kr _ _ _ _ dX2_forget_10 (Or.inl ⟨dn, rfl, rfl⟩)
theorem l_bgn {DC DK CN : List Int → Int} (hM : MD wd lt ln pr kd DC DK CN) (hsp : 0 ≤ sp ∧ sp ≤ 5) (hsl : ∀ i, 0 ≤ i → i < sp → 0 ≤ sl i ∧ sl i < 4) (kr : ∀ (pc : Nat) (lv : List (Option Value)) (r : Int) (u' : SM), decode cX2_beginning pc = .ok (.ireturn, 1) → (u' = (pen, wd, lt, ln, pr, kd, sl, sp, tx, ty, lk, be, ma, cs) ∧ r = CN (lst sl 0 sp.toNat)) → SV l D dA (wM dA ad) RX2 cX2_beginning 3 (rmf 1) K u' pc lv [vI r]) : ∀ (m : Nat) (w c : Int), w + m = wd → 0 ≤ w → c = sm (ipx lt ln (lst sl 0 sp.toNat)) w.toNat → SV l D dA (wM dA ad) RX2 cX2_beginning 3 (rmf 1) K (pen, wd, lt, ln, pr, kd, sl, sp, tx, ty, lk, be, ma, cs) 4 [some (.ref (ad 0)), some (vI c), some (vI w)] [] := by
  have hd := hM.2.1
  intro m
  induction m with
  | zero =>
    intro w c h1 h2 hI
    obtain rfl : w = wd := by omega
    refine s_iload_n 2 dX2_beginning_4 rfl rfl ?_
    refine s_aload_n 0 dX2_beginning_5 rfl rfl ?_
    refine mg_wd dX2_beginning_6 ?_
    refine s_icmp_ge 29 dX2_beginning_9 (by decide) ⟨by omega, by omega⟩ ⟨by omega, by omega⟩ (fun h9 => ?_) (fun h9 => ?_)
    · skip
      refine s_iload_n 1 dX2_beginning_29 rfl rfl ?_
      exact kr _ _ _ _ dX2_beginning_30 (⟨rfl, by rw [hI, hM.2.2.2.2.2.2]⟩)
    · skip
      exfalso; omega
  | succ m ih =>
    intro w c h1 h2 hI
    have e1 := hM.2.2.1 w h2 (by omega)
    have es : sm (ipx lt ln (lst sl 0 sp.toNat)) (w + 1).toNat = sm (ipx lt ln (lst sl 0 sp.toNat)) w.toNat + ipx lt ln (lst sl 0 sp.toNat) w := by
      rw [show (w + 1).toNat = w.toNat + 1 by omega, sm_s, show ((w.toNat : Nat) : Int) = w by omega]
    refine s_iload_n 2 dX2_beginning_4 rfl rfl ?_
    refine s_aload_n 0 dX2_beginning_5 rfl rfl ?_
    refine mg_wd dX2_beginning_6 ?_
    refine s_icmp_ge 29 dX2_beginning_9 (by decide) ⟨by omega, by omega⟩ ⟨by omega, by omega⟩ (fun h9 => ?_) (fun h9 => ?_)
    · skip
      exfalso; omega
    · skip
      refine s_aload_n 0 dX2_beginning_12 rfl rfl ?_
      refine s_iload_n 2 dX2_beginning_13 rfl rfl ?_
      refine mc_begins (n_begins ⟨h2, by omega⟩ ⟨by omega, by omega⟩ e1.2.2.2.2.2.2 hsp hsl) ⟨Nat.le_of_ble_eq_true rfl, Nat.le_of_ble_eq_true rfl⟩ (Nat.le_of_ble_eq_true rfl) dX2_beginning_14 (fun r u_ hp => ?_)
      obtain ⟨rfl, hr⟩ := hp
      have hr : r = ipx lt ln (lst sl 0 sp.toNat) w := hr
      have hr2 := ipx_rg lt ln (lst sl 0 sp.toNat) w
      refine s_if_eq 23 dX2_beginning_17 (by decide) ⟨by omega, by omega⟩ (fun h17 => ?_) (fun h17 => ?_)
      · skip
        refine s_iinc [some (.ref (ad 0)), some (vI c), some (vI (w + 1))] dX2_beginning_23 rfl (by decide) rfl ?_
        refine s_goto 4 dX2_beginning_26 (by decide) ?_
        exact ih _ _ (by omega) (by omega) (by rw [es, ← hI]; omega)
      · skip
        refine s_iinc [some (.ref (ad 0)), some (vI (c + 1)), some (vI w)] dX2_beginning_20 rfl (by decide) rfl ?_
        refine s_iinc [some (.ref (ad 0)), some (vI (c + 1)), some (vI (w + 1))] dX2_beginning_23 rfl (by decide) rfl ?_
        refine s_goto 4 dX2_beginning_26 (by decide) ?_
        exact ih _ _ (by omega) (by omega) (by rw [es, ← hI]; omega)
theorem n_beginning {DC DK CN : List Int → Int} (hM : MD wd lt ln pr kd DC DK CN) (hsp : 0 ≤ sp ∧ sp ≤ 5) (hsl : ∀ i, 0 ≤ i → i < sp → 0 ≤ sl i ∧ sl i < 4) : MetI l D dA (wM dA ad) (ad 0) yX2_beginning (ws_ yX2_beginning cX2_beginning 3 (some .int)) (rmf 1) [] (pen, wd, lt, ln, pr, kd, sl, sp, tx, ty, lk, be, ma, cs) (fun r u' => u' = (pen, wd, lt, ln, pr, kd, sl, sp, tx, ty, lk, be, ma, cs) ∧ r = CN (lst sl 0 sp.toNat)) := by
  refine metI_intro [some (.ref (ad 0)), none, none] (by decide) rfl rfl rfl (Nat.le_of_ble_eq_true rfl) (fun _ _ _ => vp_nar_int _) (fun K kr => ?_)
  refine s_iconst dX2_beginning_0 ?_
  refine s_istore_n 1 [some (.ref (ad 0)), some (vI 0), none] dX2_beginning_1 rfl (by decide) rfl ?_
  refine s_iconst dX2_beginning_2 ?_
  refine s_istore_n 2 [some (.ref (ad 0)), some (vI 0), some (vI 0)] dX2_beginning_3 rfl (by decide) rfl ?_
  exact l_bgn hM hsp hsl kr wd.toNat 0 0 (by have := hM.1; omega) (by omega) rfl
end DICM
end
section
/-! PURE: borders, the cost of a cut, the look through all cuts -/
abbrev bd (ty cut pl : Int) : Prop := pl = 0 ∨ pl = ty ∨ cut / 2 ^ (ty - 1 - pl).toNat % 2 = 1
theorem iI_nat (n : Nat) : iI (n : Int) = nI n := by
  unfold iI nI
  exact Int32.ofInt_eq_ofNat
set_option maxRecDepth 100000 in
theorem sm_fin : ∀ k : Fin 12, ((iI (k.val : Int) &&& 31).toBitVec.smod 32).toNat = k.val := by decide +kernel
set_option maxRecDepth 100000 in
theorem shl2_fin : ∀ k : Fin 12, iI 1 <<< (iI (k.val : Int) &&& 31) = iI (2 ^ k.val) := by decide +kernel
theorem shr2_ok {c k : Int} (hc : 0 ≤ c ∧ c < 4096) (hk : 0 ≤ k ∧ k < 12) : iI c >>> (iI k &&& 31) = iI (c / 2 ^ k.toNat) := by
  obtain ⟨a, rfl⟩ := fin_of (n := 12) hk
  obtain ⟨n, rfl⟩ : ∃ n : Nat, c = (n : Int) := ⟨c.toNat, by omega⟩
  rw [iI_nat n, pk_shrN (n := n) (by omega) (iI (a.val : Int) &&& 31) a.val (sm_fin a), ← iI_nat]
  simp
theorem and2_ok {x : Int} (hx : 0 ≤ x ∧ x < 4096) : iI x &&& iI 1 = iI (x % 2) := by
  obtain ⟨n, rfl⟩ : ∃ n : Nat, x = (n : Int) := ⟨x.toNat, by omega⟩
  rw [iI_nat n, pk_andN (n := n) (by omega) (m := iI 1) 1 (by decide +kernel), ← iI_nat]
  simp
theorem shl2_ok {k : Int} (hk : 0 ≤ k ∧ k < 12) : iI 1 <<< (iI k &&& 31) = iI (2 ^ k.toNat) := by
  obtain ⟨a, rfl⟩ := fin_of (n := 12) hk
  rw [shl2_fin a]
  simp
theorem div_rg {c : Int} (k : Nat) (hc : 0 ≤ c ∧ c < 4096) : 0 ≤ c / 2 ^ k ∧ c / 2 ^ k < 4096 := by
  have h2 : (0 : Int) < 2 ^ k := Int.pow_pos (by omega)
  refine ⟨Int.ediv_nonneg hc.1 (by omega), ?_⟩
  have := Int.ediv_le_self (b := 2 ^ k) (a := c) hc.1
  omega
def cO (DC DK : List Int → Int) (pen ty : Int) (tx lk : Int → Int) (cut : Int) : Nat → Int → Int → Int → Int → Int
  | 0, _, _, _, s => s
  | m + 1, to, fr, be, s => if bd ty cut to then (if fpC DC pen ty tx fr (to - fr) < 0 then -1 else cO DC DK pen ty tx lk cut m (to + 1) to (fpK DC DK ty tx fr (to - fr)) (s + fpC DC pen ty tx fr (to - fr) + (if 0 ≤ be then lk (4 * be + fpK DC DK ty tx fr (to - fr)) else 0))) else cO DC DK pen ty tx lk cut m (to + 1) fr be s
theorem cO_s (DC DK : List Int → Int) (pen ty : Int) (tx lk : Int → Int) (cut : Int) (m : Nat) (to fr be s : Int) : cO DC DK pen ty tx lk cut (m + 1) to fr be s = if bd ty cut to then (if fpC DC pen ty tx fr (to - fr) < 0 then -1 else cO DC DK pen ty tx lk cut m (to + 1) to (fpK DC DK ty tx fr (to - fr)) (s + fpC DC pen ty tx fr (to - fr) + (if 0 ≤ be then lk (4 * be + fpK DC DK ty tx fr (to - fr)) else 0))) else cO DC DK pen ty tx lk cut m (to + 1) fr be s := rfl
theorem cO_rg {DC DK CN : List Int → Int} (hd : Dic DC DK CN) {pen ty : Int} {tx lk : Int → Int} (hp : 1 ≤ pen ∧ pen ≤ 99) (hlk : ∀ i, 0 ≤ i → i < 16 → 0 ≤ lk i ∧ lk i ≤ 99) {cut : Int} : ∀ (m : Nat) (to fr be s : Int), 0 ≤ s → be ≤ 3 → -1 ≤ cO DC DK pen ty tx lk cut m to fr be s ∧ cO DC DK pen ty tx lk cut m to fr be s ≤ s + 198 * m := by
  intro m
  induction m with
  | zero =>
    intro to fr be s hs hb
    rw [cO]
    omega
  | succ m ih =>
    intro to fr be s hs hb
    rw [cO_s]
    by_cases h1 : bd ty cut to
    · rw [if_pos h1]
      by_cases h2 : fpC DC pen ty tx fr (to - fr) < 0
      · rw [if_pos h2]; omega
      · rw [if_neg h2]
        have h3 := fpC_rg hd (le := ty) (tx := tx) (a := fr) (n := to - fr) hp
        have h4 : 0 ≤ fpK DC DK ty tx fr (to - fr) ∧ fpK DC DK ty tx fr (to - fr) ≤ 3 := fpK_rg hd
        have h5 : 0 ≤ (if 0 ≤ be then lk (4 * be + fpK DC DK ty tx fr (to - fr)) else 0) ∧ (if 0 ≤ be then lk (4 * be + fpK DC DK ty tx fr (to - fr)) else 0) ≤ 99 := by
          split
          · exact hlk _ (by omega) (by omega)
          · omega
        have := ih (to + 1) to (fpK DC DK ty tx fr (to - fr)) (s + fpC DC pen ty tx fr (to - fr) + (if 0 ≤ be then lk (4 * be + fpK DC DK ty tx fr (to - fr)) else 0)) (by omega) h4.2
        omega
    · rw [if_neg h1]
      have := ih (to + 1) fr be s hs hb
      omega
/-- the cost of a cut -/
def cF (DC DK : List Int → Int) (pen ty : Int) (tx lk : Int → Int) (cut : Int) : Int := cO DC DK pen ty tx lk cut ty.toNat 1 0 (-1) 0
theorem cF_rg {DC DK CN : List Int → Int} (hd : Dic DC DK CN) {pen ty : Int} {tx lk : Int → Int} (hp : 1 ≤ pen ∧ pen ≤ 99) (hlk : ∀ i, 0 ≤ i → i < 16 → 0 ≤ lk i ∧ lk i ≤ 99) (hty : 0 ≤ ty ∧ ty ≤ 12) (cut : Int) : -1 ≤ cF DC DK pen ty tx lk cut ∧ cF DC DK pen ty tx lk cut ≤ 3000 := by
  unfold cF
  have := cO_rg hd hp hlk (ty := ty) (tx := tx) (cut := cut) ty.toNat 1 0 (-1) 0 (by omega) (by omega)
  omega
def scan (f : Int → Int) : Nat → Int × Int × Int
  | 0 => (-1, 0, 0)
  | n + 1 => if 0 ≤ f n ∧ ((scan f n).1 < 0 ∨ f n < (scan f n).1) then (f n, 1, (n : Int)) else if 0 ≤ f n ∧ f n = (scan f n).1 then ((scan f n).1, (scan f n).2.1 + 1, (scan f n).2.2) else scan f n
theorem scan_s (f : Int → Int) (n : Nat) : scan f (n + 1) = if 0 ≤ f n ∧ ((scan f n).1 < 0 ∨ f n < (scan f n).1) then (f n, 1, (n : Int)) else if 0 ≤ f n ∧ f n = (scan f n).1 then ((scan f n).1, (scan f n).2.1 + 1, (scan f n).2.2) else scan f n := rfl
theorem scan_rg {f : Int → Int} {B : Int} (hf : ∀ i, -1 ≤ f i ∧ f i ≤ B) (hB : -1 ≤ B) : ∀ n : Nat, -1 ≤ (scan f n).1 ∧ (scan f n).1 ≤ B ∧ 0 ≤ (scan f n).2.2 ∧ (scan f n).2.2 ≤ n := by
  intro n
  induction n with
  | zero =>
    show -1 ≤ (-1 : Int) ∧ (-1 : Int) ≤ B ∧ (0 : Int) ≤ 0 ∧ (0 : Int) ≤ ((0 : Nat) : Int)
    omega
  | succ n ih =>
    rw [scan_s]
    have := hf n
    split
    · show -1 ≤ f n ∧ f n ≤ B ∧ (0 : Int) ≤ (n : Int) ∧ (n : Int) ≤ ((n + 1 : Nat) : Int)
      omega
    · split
      · show -1 ≤ (scan f n).1 ∧ (scan f n).1 ≤ B ∧ 0 ≤ (scan f n).2.2 ∧ (scan f n).2.2 ≤ ((n + 1 : Nat) : Int)
        omega
      · omega
theorem scan_ch {f : Int → Int} {n : Nat} (hn : 1 ≤ n) : (scan f n).2.2 < n := by
  obtain ⟨k, rfl⟩ : ∃ k, n = k + 1 := ⟨n - 1, by omega⟩
  clear hn
  induction k with
  | zero =>
    rw [scan_s]
    split
    · show ((0 : Nat) : Int) < ((0 + 1 : Nat) : Int); omega
    · split
      · show (0 : Int) < ((0 + 1 : Nat) : Int); omega
      · show (0 : Int) < ((0 + 1 : Nat) : Int); omega
  | succ k ih =>
    rw [scan_s]
    split
    · show ((k + 1 : Nat) : Int) < ((k + 1 + 1 : Nat) : Int); omega
    · split
      · show (scan f (k + 1)).2.2 < ((k + 1 + 1 : Nat) : Int); omega
      · omega
/-- how many cuts -/
def cuts (ty : Int) : Int := if 1 < ty then 2 ^ (ty - 1).toNat else 1
set_option maxRecDepth 100000 in
theorem cuts_fin : ∀ k : Fin 13, 1 ≤ cuts (k.val : Int) ∧ cuts (k.val : Int) ≤ 2048 := by decide +kernel
theorem cuts_rg {ty : Int} (h : 0 ≤ ty ∧ ty ≤ 12) : 1 ≤ cuts ty ∧ cuts ty ≤ 2048 := by
  obtain ⟨a, rfl⟩ := fin_of (n := 13) ⟨h.1, by omega⟩
  exact cuts_fin a
/-- the place of the border of this number -/
def sB (ty cs x : Int) : Nat → Int → Int → Int
  | 0, _, _ => -1
  | m + 1, pl, ct => if bd ty cs pl then (if ct = x then pl else sB ty cs x m (pl + 1) (ct + 1)) else sB ty cs x m (pl + 1) ct
theorem sB_s (ty cs x : Int) (m : Nat) (pl ct : Int) : sB ty cs x (m + 1) pl ct = if bd ty cs pl then (if ct = x then pl else sB ty cs x m (pl + 1) (ct + 1)) else sB ty cs x m (pl + 1) ct := rfl
theorem fp_word {DC DK : List Int → Int} {pen ty : Int} {tx : Int → Int} {a n : Int} (h : a + n ≤ ty) (hq : 0 ≤ DC (lst tx a n.toNat)) : fpC DC pen ty tx a n = DC (lst tx a n.toNat) ∧ fpK DC DK ty tx a n = DK (lst tx a n.toNat) := by
  have hn : ¬ ty < a + n := by omega
  unfold fpC fpK
  constructor
  · rw [if_neg hn, if_pos hq]
  · rw [if_neg hn, if_pos hq]
theorem fp_none {DC DK : List Int → Int} {pen ty : Int} {tx : Int → Int} {a n : Int} (h : a + n ≤ ty) (hq : DC (lst tx a n.toNat) < 0) : fpC DC pen ty tx a n = (if n = 1 then pen else -1) ∧ fpK DC DK ty tx a n = 3 := by
  have hn : ¬ ty < a + n := by omega
  have hq : ¬ 0 ≤ DC (lst tx a n.toNat) := by omega
  unfold fpC fpK
  constructor
  · rw [if_neg hn, if_neg hq]
  · rw [if_neg hn, if_neg hq]
end
section
/-! WALKS: the cuts of WordLatticeModel: printed by gen/methN.py -/
set_option maxRecDepth 100000
section CUTM
variable {l : Launch} {D : va_G} {dA : ClassId} {ad : Nat → Nat} {K : KX} {pen wd sp ty be ma cs : Int} {lt ln pr kd sl tx lk : Int → Int}
theorem l_std {DC DK CN : List Int → Int} {w a : Int} (hM : MD wd lt ln pr kd DC DK CN) (hw : 0 ≤ w ∧ w < wd) (ha : 0 ≤ a ∧ a + ln w ≤ ty) (hty : 0 ≤ ty ∧ ty ≤ 12) (htx : ∀ i, 0 ≤ i → i < ty → 0 ≤ tx i ∧ tx i < 4) (kr : ∀ (pc : Nat) (lv : List (Option Value)) (r : Int) (u' : SM), decode cX2_stands pc = .ok (.ireturn, 1) → (u' = (pen, wd, lt, ln, pr, kd, sl, sp, tx, ty, lk, be, ma, cs) ∧ r = (if wrd lt ln w = lst tx a (ln w).toNat then 1 else 0)) → SV l D dA (wM dA ad) RX2 cX2_stands 4 (rmf 0) K u' pc lv [vI r]) : ∀ (m : Nat) (i : Int), i + m = ln w → 0 ≤ i → (∀ j, 0 ≤ j → j < i → lt (5 * w + j) = tx (a + j)) → SV l D dA (wM dA ad) RX2 cX2_stands 4 (rmf 0) K (pen, wd, lt, ln, pr, kd, sl, sp, tx, ty, lk, be, ma, cs) 2 [some (.ref (ad 0)), some (vI w), some (vI a), some (vI i)] [] := by
  have hd := hM.2.1
  have e1 := hM.2.2.1 w hw.1 hw.2
  intro m
  induction m with
  | zero =>
    intro i h1 h2 hI
    refine s_iload_n 3 dX2_stands_2 rfl rfl ?_
    refine s_aload_n 0 dX2_stands_3 rfl rfl ?_
    refine mg_ln dX2_stands_4 ?_
    refine s_iload_n 1 dX2_stands_7 rfl rfl ?_
    refine mr_ln dX2_stands_8 ⟨by omega, by omega⟩ ?_
    refine s_icmp_ge 51 dX2_stands_9 (by decide) ⟨by omega, by omega⟩ ⟨by omega, by omega⟩ (fun h9 => ?_) (fun h9 => ?_)
    · skip
      refine s_iconst dX2_stands_51 ?_
      exact kr _ _ _ _ dX2_stands_52 (⟨rfl, by unfold wrd; rw [if_pos ((lst_eq_iff _ _ _).mpr (fun j j0 j1 => hI j j0 (by omega)))]⟩)
    · skip
      exfalso; omega
  | succ m ih =>
    intro i h1 h2 hI
    have e2 := e1.2.2.2.2.2.2 i h2 (by omega)
    have e3 := htx (a + i) (by omega) (by omega)
    refine s_iload_n 3 dX2_stands_2 rfl rfl ?_
    refine s_aload_n 0 dX2_stands_3 rfl rfl ?_
    refine mg_ln dX2_stands_4 ?_
    refine s_iload_n 1 dX2_stands_7 rfl rfl ?_
    refine mr_ln dX2_stands_8 ⟨by omega, by omega⟩ ?_
    refine s_icmp_ge 51 dX2_stands_9 (by decide) ⟨by omega, by omega⟩ ⟨by omega, by omega⟩ (fun h9 => ?_) (fun h9 => ?_)
    · skip
      exfalso; omega
    · skip
      refine s_iload_n 2 dX2_stands_12 rfl rfl ?_
      refine s_iload_n 3 dX2_stands_13 rfl rfl ?_
      refine s_iadd dX2_stands_14 ?_
      refine s_aload_n 0 dX2_stands_15 rfl rfl ?_
      refine mg_ty dX2_stands_16 ?_
      refine s_icmp_ge 43 dX2_stands_19 (by decide) ⟨by omega, by omega⟩ ⟨by omega, by omega⟩ (fun h19 => ?_) (fun h19 => ?_)
      · skip
        exfalso; omega
      · skip
        refine s_aload_n 0 dX2_stands_22 rfl rfl ?_
        refine mg_lt dX2_stands_23 ?_
        refine s_iconst dX2_stands_26 ?_
        refine s_iload_n 1 dX2_stands_27 rfl rfl ?_
        refine s_imul dX2_stands_28 ?_
        refine s_iload_n 3 dX2_stands_29 rfl rfl ?_
        refine s_iadd dX2_stands_30 ?_
        refine mr_lt dX2_stands_31 ⟨by omega, by omega⟩ ?_
        refine s_aload_n 0 dX2_stands_32 rfl rfl ?_
        refine mg_tx dX2_stands_33 ?_
        refine s_iload_n 2 dX2_stands_36 rfl rfl ?_
        refine s_iload_n 3 dX2_stands_37 rfl rfl ?_
        refine s_iadd dX2_stands_38 ?_
        refine mr_tx dX2_stands_39 ⟨by omega, by omega⟩ ?_
        refine s_icmp_eq 45 dX2_stands_40 (by decide) ⟨by omega, by omega⟩ ⟨by omega, by omega⟩ (fun h40 => ?_) (fun h40 => ?_)
        · skip
          refine s_iinc [some (.ref (ad 0)), some (vI w), some (vI a), some (vI (i + 1))] dX2_stands_45 rfl (by decide) rfl ?_
          refine s_goto 2 dX2_stands_48 (by decide) ?_
          refine ih _ (by omega) (by omega) (fun j j0 j1 => ?_)
          by_cases z : j = i
          · rw [z]; exact h40
          · exact hI j j0 (by omega)
        · skip
          refine s_iconst dX2_stands_43 ?_
          exact kr _ _ _ _ dX2_stands_44 (⟨rfl, by unfold wrd; rw [if_neg (fun z => h40 ((lst_eq_iff _ _ _).mp z i h2 (by omega)))]⟩)
theorem n_stands {DC DK CN : List Int → Int} {w a : Int} (hM : MD wd lt ln pr kd DC DK CN) (hw : 0 ≤ w ∧ w < wd) (ha : 0 ≤ a ∧ a + ln w ≤ ty) (hty : 0 ≤ ty ∧ ty ≤ 12) (htx : ∀ i, 0 ≤ i → i < ty → 0 ≤ tx i ∧ tx i < 4) : MetI l D dA (wM dA ad) (ad 0) yX2_stands (ws_ yX2_stands cX2_stands 4 (some .boolean)) (rmf 0) [vI w, vI a] (pen, wd, lt, ln, pr, kd, sl, sp, tx, ty, lk, be, ma, cs) (fun r u' => u' = (pen, wd, lt, ln, pr, kd, sl, sp, tx, ty, lk, be, ma, cs) ∧ r = (if wrd lt ln w = lst tx a (ln w).toNat then 1 else 0)) := by
  refine metI_intro [some (.ref (ad 0)), some (vI w), some (vI a), none] (by decide) rfl rfl rfl (Nat.le_of_ble_eq_true rfl) (fun r u' hp => by rw [hp.2]; split <;> rfl) (fun K kr => ?_)
  refine s_iconst dX2_stands_0 ?_
  refine s_istore_n 3 [some (.ref (ad 0)), some (vI w), some (vI a), some (vI 0)] dX2_stands_1 rfl (by decide) rfl ?_
  exact l_std hM hw ha hty htx kr (ln w).toNat 0 (by have := (hM.2.2.1 w hw.1 hw.2).1; omega) (by omega) (fun j j0 j1 => by omega)
theorem l_wrd {DC DK CN : List Int → Int} {a b : Int} (hM : MD wd lt ln pr kd DC DK CN) (ha : 0 ≤ a ∧ a < b ∧ b ≤ ty) (hty : 0 ≤ ty ∧ ty ≤ 12) (htx : ∀ i, 0 ≤ i → i < ty → 0 ≤ tx i ∧ tx i < 4) (kr : ∀ (pc : Nat) (lv : List (Option Value)) (r : Int) (u' : SM), decode cX2_word pc = .ok (.ireturn, 1) → (u' = (pen, wd, lt, ln, pr, kd, sl, sp, tx, ty, lk, be, ma, cs) ∧ ((0 ≤ r ∧ r < wd ∧ wrd lt ln r = (lst tx a (b - a).toNat)) ∨ (r = -1 ∧ ∀ w, 0 ≤ w → w < wd → wrd lt ln w ≠ (lst tx a (b - a).toNat)))) → SV l D dA (wM dA ad) RX2 cX2_word 4 (rmf 1) K u' pc lv [vI r]) : ∀ (m : Nat) (w : Int), w + m = wd → 0 ≤ w → (∀ v, 0 ≤ v → v < w → wrd lt ln v ≠ (lst tx a (b - a).toNat)) → SV l D dA (wM dA ad) RX2 cX2_word 4 (rmf 1) K (pen, wd, lt, ln, pr, kd, sl, sp, tx, ty, lk, be, ma, cs) 2 [some (.ref (ad 0)), some (vI a), some (vI b), some (vI w)] [] := by
  have hd := hM.2.1
  intro m
  induction m with
  | zero =>
    intro w h1 h2 hI
    refine s_iload_n 3 dX2_word_2 rfl rfl ?_
    refine s_aload_n 0 dX2_word_3 rfl rfl ?_
    refine mg_wd dX2_word_4 ?_
    refine s_icmp_ge 39 dX2_word_7 (by decide) ⟨by omega, by omega⟩ ⟨by omega, by omega⟩ (fun h7 => ?_) (fun h7 => ?_)
    · skip
      refine s_iconst dX2_word_39 ?_
      exact kr _ _ _ _ dX2_word_40 (⟨rfl, Or.inr ⟨rfl, fun v v0 v1 => hI v v0 (by omega)⟩⟩)
    · skip
      exfalso; omega
  | succ m ih =>
    intro w h1 h2 hI
    have e1 := hM.2.2.1 w h2 (by omega)
    refine s_iload_n 3 dX2_word_2 rfl rfl ?_
    refine s_aload_n 0 dX2_word_3 rfl rfl ?_
    refine mg_wd dX2_word_4 ?_
    refine s_icmp_ge 39 dX2_word_7 (by decide) ⟨by omega, by omega⟩ ⟨by omega, by omega⟩ (fun h7 => ?_) (fun h7 => ?_)
    · skip
      exfalso; omega
    · skip
      refine s_aload_n 0 dX2_word_10 rfl rfl ?_
      refine mg_ln dX2_word_11 ?_
      refine s_iload_n 3 dX2_word_14 rfl rfl ?_
      refine mr_ln dX2_word_15 ⟨by omega, by omega⟩ ?_
      refine s_iload_n 2 dX2_word_16 rfl rfl ?_
      refine s_iload_n 1 dX2_word_17 rfl rfl ?_
      refine s_isub dX2_word_18 ?_
      refine s_icmp_ne 33 dX2_word_19 (by decide) ⟨by omega, by omega⟩ ⟨by omega, by omega⟩ (fun h19 => ?_) (fun h19 => ?_)
      · skip
        refine s_iinc [some (.ref (ad 0)), some (vI a), some (vI b), some (vI (w + 1))] dX2_word_33 rfl (by decide) rfl ?_
        refine s_goto 2 dX2_word_36 (by decide) ?_
        refine ih _ (by omega) (by omega) (fun v v0 v1 z => ?_)
        by_cases y : v = w
        · rw [y] at z
          first
            | (have x := congrArg List.length z; unfold wrd at x; rw [lst_length, lst_length] at x; omega)
            | (rw [if_pos z] at hr; omega)
        · exact hI v v0 (by omega) z
      · skip
        refine s_aload_n 0 dX2_word_22 rfl rfl ?_
        refine s_iload_n 3 dX2_word_23 rfl rfl ?_
        refine s_iload_n 1 dX2_word_24 rfl rfl ?_
        refine mc_stands (n_stands hM ⟨h2, by omega⟩ ⟨ha.1, by omega⟩ hty htx) ⟨Nat.le_of_ble_eq_true rfl, Nat.le_of_ble_eq_true rfl⟩ (Nat.le_of_ble_eq_true rfl) dX2_word_25 (fun r u_ hp => ?_)
        obtain ⟨rfl, hr⟩ := hp
        have hr2 : r = 0 ∨ r = 1 := by rw [hr]; split <;> omega
        rw [h19] at hr
        refine s_if_eq 33 dX2_word_28 (by decide) ⟨by omega, by omega⟩ (fun h28 => ?_) (fun h28 => ?_)
        · skip
          refine s_iinc [some (.ref (ad 0)), some (vI a), some (vI b), some (vI (w + 1))] dX2_word_33 rfl (by decide) rfl ?_
          refine s_goto 2 dX2_word_36 (by decide) ?_
          refine ih _ (by omega) (by omega) (fun v v0 v1 z => ?_)
          by_cases y : v = w
          · rw [y] at z
            first
              | (have x := congrArg List.length z; unfold wrd at x; rw [lst_length, lst_length] at x; omega)
              | (rw [if_pos z] at hr; omega)
          · exact hI v v0 (by omega) z
        · skip
          refine s_iload_n 3 dX2_word_31 rfl rfl ?_
          exact kr _ _ _ _ dX2_word_32 (⟨rfl, Or.inl ⟨h2, by omega, by apply Classical.byContradiction; intro z; rw [if_neg z] at hr; exact h28 hr⟩⟩)
theorem n_word {DC DK CN : List Int → Int} {a b : Int} (hM : MD wd lt ln pr kd DC DK CN) (ha : 0 ≤ a ∧ a < b ∧ b ≤ ty) (hty : 0 ≤ ty ∧ ty ≤ 12) (htx : ∀ i, 0 ≤ i → i < ty → 0 ≤ tx i ∧ tx i < 4) : MetI l D dA (wM dA ad) (ad 0) yX2_word (ws_ yX2_word cX2_word 4 (some .int)) (rmf 1) [vI a, vI b] (pen, wd, lt, ln, pr, kd, sl, sp, tx, ty, lk, be, ma, cs) (fun r u' => u' = (pen, wd, lt, ln, pr, kd, sl, sp, tx, ty, lk, be, ma, cs) ∧ ((0 ≤ r ∧ r < wd ∧ wrd lt ln r = (lst tx a (b - a).toNat)) ∨ (r = -1 ∧ ∀ w, 0 ≤ w → w < wd → wrd lt ln w ≠ (lst tx a (b - a).toNat)))) := by
  refine metI_intro [some (.ref (ad 0)), some (vI a), some (vI b), none] (by decide) rfl rfl rfl (Nat.le_of_ble_eq_true rfl) (fun _ _ _ => vp_nar_int _) (fun K kr => ?_)
  refine s_iconst dX2_word_0 ?_
  refine s_istore_n 3 [some (.ref (ad 0)), some (vI a), some (vI b), some (vI 0)] dX2_word_1 rfl (by decide) rfl ?_
  exact l_wrd hM ha hty htx kr wd.toNat 0 (by have := hM.1; omega) (by omega) (fun v v0 v1 => by omega)
theorem n_border {cut pl : Int} (hcut : 0 ≤ cut ∧ cut < 4096) (hpl : 0 ≤ pl ∧ pl ≤ ty) (hty : 0 ≤ ty ∧ ty ≤ 12) : MetI l D dA (wM dA ad) (ad 0) yX2_border (ws_ yX2_border cX2_border 3 (some .boolean)) (rmf 0) [vI cut, vI pl] (pen, wd, lt, ln, pr, kd, sl, sp, tx, ty, lk, be, ma, cs) (fun r u' => u' = (pen, wd, lt, ln, pr, kd, sl, sp, tx, ty, lk, be, ma, cs) ∧ r = (if bd ty cut pl then 1 else 0)) := by
  refine metI_intro [some (.ref (ad 0)), some (vI cut), some (vI pl)] (by decide) rfl rfl rfl (Nat.le_of_ble_eq_true rfl) (fun r u' hp => by rw [hp.2]; split <;> rfl) (fun K kr => ?_)
  have e1 := div_rg (ty - 1 - pl).toNat hcut
  refine s_iload_n 2 dX2_border_0 rfl rfl ?_
  refine s_if_eq 28 dX2_border_1 (by decide) ⟨by omega, by omega⟩ (fun h1 => ?_) (fun h1 => ?_)
  · skip
    refine s_iconst dX2_border_28 ?_
    refine s_goto 33 dX2_border_29 (by decide) ?_
    first
      | exact kr _ _ _ _ dX2_border_33 ⟨rfl, by rw [if_pos (Or.inl h1)]⟩
      | exact kr _ _ _ _ dX2_border_33 ⟨rfl, by rw [if_pos (Or.inr (Or.inl h9))]⟩
      | exact kr _ _ _ _ dX2_border_33 ⟨rfl, by rw [if_pos (Or.inr (Or.inr h25))]⟩
      | exact kr _ _ _ _ dX2_border_33 ⟨rfl, by rw [if_neg (by rintro (z | z | z); exact h1 z; exact h9 z; exact h25 z)]⟩
  · skip
    refine s_iload_n 2 dX2_border_4 rfl rfl ?_
    refine s_aload_n 0 dX2_border_5 rfl rfl ?_
    refine mg_ty dX2_border_6 ?_
    refine s_icmp_eq 28 dX2_border_9 (by decide) ⟨by omega, by omega⟩ ⟨by omega, by omega⟩ (fun h9 => ?_) (fun h9 => ?_)
    · skip
      refine s_iconst dX2_border_28 ?_
      refine s_goto 33 dX2_border_29 (by decide) ?_
      first
        | exact kr _ _ _ _ dX2_border_33 ⟨rfl, by rw [if_pos (Or.inl h1)]⟩
        | exact kr _ _ _ _ dX2_border_33 ⟨rfl, by rw [if_pos (Or.inr (Or.inl h9))]⟩
        | exact kr _ _ _ _ dX2_border_33 ⟨rfl, by rw [if_pos (Or.inr (Or.inr h25))]⟩
        | exact kr _ _ _ _ dX2_border_33 ⟨rfl, by rw [if_neg (by rintro (z | z | z); exact h1 z; exact h9 z; exact h25 z)]⟩
    · skip
      refine s_iload_n 1 dX2_border_12 rfl rfl ?_
      refine s_aload_n 0 dX2_border_13 rfl rfl ?_
      refine mg_ty dX2_border_14 ?_
      refine s_iconst dX2_border_17 ?_
      refine s_isub dX2_border_18 ?_
      refine s_iload_n 2 dX2_border_19 rfl rfl ?_
      refine s_isub dX2_border_20 ?_
      refine s_ishr (cut / 2 ^ (ty - 1 - pl).toNat) (shr2_ok hcut ⟨by omega, by omega⟩) dX2_border_21 ?_
      refine s_iconst dX2_border_22 ?_
      refine s_iand (cut / 2 ^ (ty - 1 - pl).toNat % 2) (and2_ok e1) dX2_border_23 ?_
      refine s_iconst dX2_border_24 ?_
      refine s_icmp_ne 32 dX2_border_25 (by decide) ⟨by omega, by omega⟩ ⟨by omega, by omega⟩ (fun h25 => ?_) (fun h25 => ?_)
      · skip
        refine s_iconst dX2_border_32 ?_
        first
          | exact kr _ _ _ _ dX2_border_33 ⟨rfl, by rw [if_pos (Or.inl h1)]⟩
          | exact kr _ _ _ _ dX2_border_33 ⟨rfl, by rw [if_pos (Or.inr (Or.inl h9))]⟩
          | exact kr _ _ _ _ dX2_border_33 ⟨rfl, by rw [if_pos (Or.inr (Or.inr h25))]⟩
          | exact kr _ _ _ _ dX2_border_33 ⟨rfl, by rw [if_neg (by rintro (z | z | z); exact h1 z; exact h9 z; exact h25 z)]⟩
      · skip
        refine s_iconst dX2_border_28 ?_
        refine s_goto 33 dX2_border_29 (by decide) ?_
        first
          | exact kr _ _ _ _ dX2_border_33 ⟨rfl, by rw [if_pos (Or.inl h1)]⟩
          | exact kr _ _ _ _ dX2_border_33 ⟨rfl, by rw [if_pos (Or.inr (Or.inl h9))]⟩
          | exact kr _ _ _ _ dX2_border_33 ⟨rfl, by rw [if_pos (Or.inr (Or.inr h25))]⟩
          | exact kr _ _ _ _ dX2_border_33 ⟨rfl, by rw [if_neg (by rintro (z | z | z); exact h1 z; exact h9 z; exact h25 z)]⟩
theorem l_cst {cut V : Int} {DC DK CN : List Int → Int} (hM : MD wd lt ln pr kd DC DK CN) (hcut : 0 ≤ cut ∧ cut < 4096) (hty : 0 ≤ ty ∧ ty ≤ 12) (htx : ∀ i, 0 ≤ i → i < ty → 0 ≤ tx i ∧ tx i < 4) (hpen : 1 ≤ pen ∧ pen ≤ 99) (hlk : ∀ i, 0 ≤ i → i < 16 → 0 ≤ lk i ∧ lk i ≤ 99) (kr : ∀ (pc : Nat) (lv : List (Option Value)) (r : Int) (u' : SM), decode cX2_costOf pc = .ok (.ireturn, 1) → (u' = (pen, wd, lt, ln, pr, kd, sl, sp, tx, ty, lk, be, ma, cs) ∧ r = V) → SV l D dA (wM dA ad) RX2 cX2_costOf 8 (rmf 2) K u' pc lv [vI r]) : ∀ (m : Nat) (to fr bf s : Int) (o6 o7 : Option Value), to + m = ty + 1 → 0 ≤ fr → fr < to → -1 ≤ bf ∧ bf ≤ 3 → cO DC DK pen ty tx lk cut m to fr bf s = V → SV l D dA (wM dA ad) RX2 cX2_costOf 8 (rmf 2) K (pen, wd, lt, ln, pr, kd, sl, sp, tx, ty, lk, be, ma, cs) 10 [some (.ref (ad 0)), some (vI cut), some (vI s), some (vI fr), some (vI bf), some (vI to), o6, o7] [] := by
  have hd := hM.2.1
  intro m
  induction m with
  | zero =>
    intro to fr bf s o6 o7 h1 h2 h3 h4 hV
    refine s_iload dX2_costOf_10 rfl ?_
    refine s_aload_n 0 dX2_costOf_12 rfl rfl ?_
    refine mg_ty dX2_costOf_13 ?_
    refine s_icmp_gt 126 dX2_costOf_16 (by decide) ⟨by omega, by omega⟩ ⟨by omega, by omega⟩ (fun h16 => ?_) (fun h16 => ?_)
    · skip
      refine s_iload_n 2 dX2_costOf_126 rfl rfl ?_
      exact kr _ _ _ _ dX2_costOf_127 (⟨rfl, hV⟩)
    · skip
      exfalso; omega
  | succ m ih =>
    intro to fr bf s o6 o7 h1 h2 h3 h4 hV
    rw [cO_s] at hV
    have hin : fr + (to - fr) ≤ ty := by omega
    refine s_iload dX2_costOf_10 rfl ?_
    refine s_aload_n 0 dX2_costOf_12 rfl rfl ?_
    refine mg_ty dX2_costOf_13 ?_
    refine s_icmp_gt 126 dX2_costOf_16 (by decide) ⟨by omega, by omega⟩ ⟨by omega, by omega⟩ (fun h16 => ?_) (fun h16 => ?_)
    · skip
      exfalso; omega
    · skip
      refine s_aload_n 0 dX2_costOf_19 rfl rfl ?_
      refine s_iload_n 1 dX2_costOf_20 rfl rfl ?_
      refine s_iload dX2_costOf_21 rfl ?_
      refine mc_border (n_border hcut ⟨by omega, by omega⟩ hty) ⟨Nat.le_of_ble_eq_true rfl, Nat.le_of_ble_eq_true rfl⟩ (Nat.le_of_ble_eq_true rfl) dX2_costOf_23 (fun r u_ hp => ?_)
      obtain ⟨rfl, hr⟩ := hp
      have hr2 : r = 0 ∨ r = 1 := by rw [hr]; split <;> omega
      refine s_if_eq 120 dX2_costOf_26 (by decide) ⟨by omega, by omega⟩ (fun h26 => ?_) (fun h26 => ?_)
      · skip
        have nb : ¬ bd ty cut to := fun z => by rw [if_pos z] at hr; omega
        rw [if_neg nb] at hV
        refine s_iinc [some (.ref (ad 0)), some (vI cut), some (vI s), some (vI fr), some (vI bf), some (vI (to + 1)), o6, o7] dX2_costOf_120 rfl (by decide) rfl ?_
        refine s_goto 10 dX2_costOf_123 (by decide) ?_
        first
          | exact ih _ _ _ _ _ _ (by omega) (by omega) (by omega) (by omega) (by rw [if_pos h95] at hV; exact hV)
          | exact ih _ _ _ _ _ _ (by omega) (by omega) (by omega) (by omega) (by rw [if_neg (by omega), Int.add_zero] at hV; exact hV)
          | exact ih _ _ _ _ _ _ (by omega) (by omega) (by omega) h4 hV
      · skip
        have yb : bd ty cut to := by apply Classical.byContradiction; intro z; rw [if_neg z] at hr; exact h26 hr
        rw [if_pos yb] at hV
        refine s_aload_n 0 dX2_costOf_29 rfl rfl ?_
        refine s_iload_n 3 dX2_costOf_30 rfl rfl ?_
        refine s_iload dX2_costOf_31 rfl ?_
        refine mc_word (n_word hM ⟨h2, h3, by omega⟩ hty htx) ⟨Nat.le_of_ble_eq_true rfl, Nat.le_of_ble_eq_true rfl⟩ (Nat.le_of_ble_eq_true rfl) dX2_costOf_33 (fun w u_ hp => ?_)
        obtain ⟨rfl, hw⟩ := hp
        have hwr : -1 ≤ w ∧ w < 16 := by rcases hw with z | z <;> omega
        refine s_istore [some (.ref (ad 0)), some (vI cut), some (vI s), some (vI fr), some (vI bf), some (vI to), some (vI w), o7] dX2_costOf_36 (by decide) rfl ?_
        refine s_iload dX2_costOf_38 rfl ?_
        refine s_if_ge 53 dX2_costOf_40 (by decide) ⟨by omega, by omega⟩ (fun h40 => ?_) (fun h40 => ?_)
        · skip
          obtain ⟨w0, w1, w2⟩ := hw.resolve_right (fun z => by omega)
          have e1 := hM.2.2.1 w w0 w1
          have e2 := hM.2.2.2.2.1 w w0 w1
          rw [w2] at e2
          have fp := fp_word (DC := DC) (DK := DK) (tx := tx) (pen := pen) hin (by rw [e2.1]; exact e1.2.2.1)
          rw [e2.1, e2.2] at fp
          rw [fp.1, fp.2, if_neg (by omega)] at hV
          refine s_iload dX2_costOf_53 rfl ?_
          refine s_if_ge 62 dX2_costOf_55 (by decide) ⟨by omega, by omega⟩ (fun h55 => ?_) (fun h55 => ?_)
          · skip
            refine s_aload_n 0 dX2_costOf_62 rfl rfl ?_
            refine mg_kd dX2_costOf_63 ?_
            refine s_iload dX2_costOf_66 rfl ?_
            refine mr_kd dX2_costOf_68 ⟨by omega, by omega⟩ ?_
            refine s_istore [some (.ref (ad 0)), some (vI cut), some (vI s), some (vI fr), some (vI bf), some (vI to), some (vI w), some (vI (kd w))] dX2_costOf_69 (by decide) rfl ?_
            refine s_iload_n 2 dX2_costOf_71 rfl rfl ?_
            refine s_iload dX2_costOf_72 rfl ?_
            refine s_if_ge 84 dX2_costOf_74 (by decide) ⟨by omega, by omega⟩ (fun h74 => ?_) (fun h74 => ?_)
            · skip
              refine s_aload_n 0 dX2_costOf_84 rfl rfl ?_
              refine mg_pr dX2_costOf_85 ?_
              refine s_iload dX2_costOf_88 rfl ?_
              refine mr_pr dX2_costOf_90 ⟨by omega, by omega⟩ ?_
              refine s_iadd dX2_costOf_91 ?_
              refine s_istore_n 2 [some (.ref (ad 0)), some (vI cut), some (vI (s + (pr w))), some (vI fr), some (vI bf), some (vI to), some (vI w), some (vI (kd w))] dX2_costOf_92 rfl (by decide) rfl ?_
              refine s_iload dX2_costOf_93 rfl ?_
              refine s_if_lt 113 dX2_costOf_95 (by decide) ⟨by omega, by omega⟩ (fun h95 => ?_) (fun h95 => ?_)
              · skip
                refine s_iload dX2_costOf_113 rfl ?_
                refine s_istore [some (.ref (ad 0)), some (vI cut), some (vI (s + (pr w))), some (vI fr), some (vI (kd w)), some (vI to), some (vI w), some (vI (kd w))] dX2_costOf_115 (by decide) rfl ?_
                refine s_iload dX2_costOf_117 rfl ?_
                refine s_istore_n 3 [some (.ref (ad 0)), some (vI cut), some (vI (s + (pr w))), some (vI to), some (vI (kd w)), some (vI to), some (vI w), some (vI (kd w))] dX2_costOf_119 rfl (by decide) rfl ?_
                refine s_iinc [some (.ref (ad 0)), some (vI cut), some (vI (s + (pr w))), some (vI to), some (vI (kd w)), some (vI (to + 1)), some (vI w), some (vI (kd w))] dX2_costOf_120 rfl (by decide) rfl ?_
                refine s_goto 10 dX2_costOf_123 (by decide) ?_
                first
                  | exact ih _ _ _ _ _ _ (by omega) (by omega) (by omega) (by omega) (by rw [if_pos h95] at hV; exact hV)
                  | exact ih _ _ _ _ _ _ (by omega) (by omega) (by omega) (by omega) (by rw [if_neg (by omega), Int.add_zero] at hV; exact hV)
                  | exact ih _ _ _ _ _ _ (by omega) (by omega) (by omega) h4 hV
              · skip
                refine s_iload_n 2 dX2_costOf_98 rfl rfl ?_
                refine s_aload_n 0 dX2_costOf_99 rfl rfl ?_
                refine mg_lk dX2_costOf_100 ?_
                refine s_iconst dX2_costOf_103 ?_
                refine s_iload dX2_costOf_104 rfl ?_
                refine s_imul dX2_costOf_106 ?_
                refine s_iload dX2_costOf_107 rfl ?_
                refine s_iadd dX2_costOf_109 ?_
                refine mr_lk dX2_costOf_110 ⟨by omega, by omega⟩ ?_
                refine s_iadd dX2_costOf_111 ?_
                refine s_istore_n 2 [some (.ref (ad 0)), some (vI cut), some (vI ((s + (pr w)) + (lk ((4 * bf) + (kd w))))), some (vI fr), some (vI bf), some (vI to), some (vI w), some (vI (kd w))] dX2_costOf_112 rfl (by decide) rfl ?_
                refine s_iload dX2_costOf_113 rfl ?_
                refine s_istore [some (.ref (ad 0)), some (vI cut), some (vI ((s + (pr w)) + (lk ((4 * bf) + (kd w))))), some (vI fr), some (vI (kd w)), some (vI to), some (vI w), some (vI (kd w))] dX2_costOf_115 (by decide) rfl ?_
                refine s_iload dX2_costOf_117 rfl ?_
                refine s_istore_n 3 [some (.ref (ad 0)), some (vI cut), some (vI ((s + (pr w)) + (lk ((4 * bf) + (kd w))))), some (vI to), some (vI (kd w)), some (vI to), some (vI w), some (vI (kd w))] dX2_costOf_119 rfl (by decide) rfl ?_
                refine s_iinc [some (.ref (ad 0)), some (vI cut), some (vI ((s + (pr w)) + (lk ((4 * bf) + (kd w))))), some (vI to), some (vI (kd w)), some (vI (to + 1)), some (vI w), some (vI (kd w))] dX2_costOf_120 rfl (by decide) rfl ?_
                refine s_goto 10 dX2_costOf_123 (by decide) ?_
                first
                  | exact ih _ _ _ _ _ _ (by omega) (by omega) (by omega) (by omega) (by rw [if_pos h95] at hV; exact hV)
                  | exact ih _ _ _ _ _ _ (by omega) (by omega) (by omega) (by omega) (by rw [if_neg (by omega), Int.add_zero] at hV; exact hV)
                  | exact ih _ _ _ _ _ _ (by omega) (by omega) (by omega) h4 hV
            · skip
              exfalso; omega
          · skip
            exfalso; omega
        · skip
          obtain ⟨w0, w1⟩ := hw.resolve_left (fun z => by omega)
          have fp := fp_none (DC := DC) (DK := DK) (tx := tx) (pen := pen) hin (by rw [hM.2.2.2.2.2.1 _ w1]; omega)
          refine s_iload dX2_costOf_43 rfl ?_
          refine s_iload_n 3 dX2_costOf_45 rfl rfl ?_
          refine s_isub dX2_costOf_46 ?_
          refine s_iconst dX2_costOf_47 ?_
          refine s_icmp_le 53 dX2_costOf_48 (by decide) ⟨by omega, by omega⟩ ⟨by omega, by omega⟩ (fun h48 => ?_) (fun h48 => ?_)
          · skip
            rw [if_pos (by omega)] at fp
            rw [fp.1, fp.2, if_neg (by omega)] at hV
            refine s_iload dX2_costOf_53 rfl ?_
            refine s_if_ge 62 dX2_costOf_55 (by decide) ⟨by omega, by omega⟩ (fun h55 => ?_) (fun h55 => ?_)
            · skip
              exfalso; omega
            · skip
              refine s_iconst dX2_costOf_58 ?_
              refine s_goto 69 dX2_costOf_59 (by decide) ?_
              refine s_istore [some (.ref (ad 0)), some (vI cut), some (vI s), some (vI fr), some (vI bf), some (vI to), some (vI w), some (vI 3)] dX2_costOf_69 (by decide) rfl ?_
              refine s_iload_n 2 dX2_costOf_71 rfl rfl ?_
              refine s_iload dX2_costOf_72 rfl ?_
              refine s_if_ge 84 dX2_costOf_74 (by decide) ⟨by omega, by omega⟩ (fun h74 => ?_) (fun h74 => ?_)
              · skip
                exfalso; omega
              · skip
                refine s_aload_n 0 dX2_costOf_77 rfl rfl ?_
                refine mg_pen dX2_costOf_78 ?_
                refine s_goto 91 dX2_costOf_81 (by decide) ?_
                refine s_iadd dX2_costOf_91 ?_
                refine s_istore_n 2 [some (.ref (ad 0)), some (vI cut), some (vI (s + pen)), some (vI fr), some (vI bf), some (vI to), some (vI w), some (vI 3)] dX2_costOf_92 rfl (by decide) rfl ?_
                refine s_iload dX2_costOf_93 rfl ?_
                refine s_if_lt 113 dX2_costOf_95 (by decide) ⟨by omega, by omega⟩ (fun h95 => ?_) (fun h95 => ?_)
                · skip
                  refine s_iload dX2_costOf_113 rfl ?_
                  refine s_istore [some (.ref (ad 0)), some (vI cut), some (vI (s + pen)), some (vI fr), some (vI 3), some (vI to), some (vI w), some (vI 3)] dX2_costOf_115 (by decide) rfl ?_
                  refine s_iload dX2_costOf_117 rfl ?_
                  refine s_istore_n 3 [some (.ref (ad 0)), some (vI cut), some (vI (s + pen)), some (vI to), some (vI 3), some (vI to), some (vI w), some (vI 3)] dX2_costOf_119 rfl (by decide) rfl ?_
                  refine s_iinc [some (.ref (ad 0)), some (vI cut), some (vI (s + pen)), some (vI to), some (vI 3), some (vI (to + 1)), some (vI w), some (vI 3)] dX2_costOf_120 rfl (by decide) rfl ?_
                  refine s_goto 10 dX2_costOf_123 (by decide) ?_
                  first
                    | exact ih _ _ _ _ _ _ (by omega) (by omega) (by omega) (by omega) (by rw [if_pos h95] at hV; exact hV)
                    | exact ih _ _ _ _ _ _ (by omega) (by omega) (by omega) (by omega) (by rw [if_neg (by omega), Int.add_zero] at hV; exact hV)
                    | exact ih _ _ _ _ _ _ (by omega) (by omega) (by omega) h4 hV
                · skip
                  refine s_iload_n 2 dX2_costOf_98 rfl rfl ?_
                  refine s_aload_n 0 dX2_costOf_99 rfl rfl ?_
                  refine mg_lk dX2_costOf_100 ?_
                  refine s_iconst dX2_costOf_103 ?_
                  refine s_iload dX2_costOf_104 rfl ?_
                  refine s_imul dX2_costOf_106 ?_
                  refine s_iload dX2_costOf_107 rfl ?_
                  refine s_iadd dX2_costOf_109 ?_
                  refine mr_lk dX2_costOf_110 ⟨by omega, by omega⟩ ?_
                  refine s_iadd dX2_costOf_111 ?_
                  refine s_istore_n 2 [some (.ref (ad 0)), some (vI cut), some (vI ((s + pen) + (lk ((4 * bf) + 3)))), some (vI fr), some (vI bf), some (vI to), some (vI w), some (vI 3)] dX2_costOf_112 rfl (by decide) rfl ?_
                  refine s_iload dX2_costOf_113 rfl ?_
                  refine s_istore [some (.ref (ad 0)), some (vI cut), some (vI ((s + pen) + (lk ((4 * bf) + 3)))), some (vI fr), some (vI 3), some (vI to), some (vI w), some (vI 3)] dX2_costOf_115 (by decide) rfl ?_
                  refine s_iload dX2_costOf_117 rfl ?_
                  refine s_istore_n 3 [some (.ref (ad 0)), some (vI cut), some (vI ((s + pen) + (lk ((4 * bf) + 3)))), some (vI to), some (vI 3), some (vI to), some (vI w), some (vI 3)] dX2_costOf_119 rfl (by decide) rfl ?_
                  refine s_iinc [some (.ref (ad 0)), some (vI cut), some (vI ((s + pen) + (lk ((4 * bf) + 3)))), some (vI to), some (vI 3), some (vI (to + 1)), some (vI w), some (vI 3)] dX2_costOf_120 rfl (by decide) rfl ?_
                  refine s_goto 10 dX2_costOf_123 (by decide) ?_
                  first
                    | exact ih _ _ _ _ _ _ (by omega) (by omega) (by omega) (by omega) (by rw [if_pos h95] at hV; exact hV)
                    | exact ih _ _ _ _ _ _ (by omega) (by omega) (by omega) (by omega) (by rw [if_neg (by omega), Int.add_zero] at hV; exact hV)
                    | exact ih _ _ _ _ _ _ (by omega) (by omega) (by omega) h4 hV
          · skip
            rw [if_neg (by omega)] at fp
            rw [fp.1, if_pos (by omega)] at hV
            refine s_iconst dX2_costOf_51 ?_
            exact kr _ _ _ _ dX2_costOf_52 (⟨rfl, hV⟩)
theorem n_costOf {cut : Int} {DC DK CN : List Int → Int} (hM : MD wd lt ln pr kd DC DK CN) (hcut : 0 ≤ cut ∧ cut < 4096) (hty : 0 ≤ ty ∧ ty ≤ 12) (htx : ∀ i, 0 ≤ i → i < ty → 0 ≤ tx i ∧ tx i < 4) (hpen : 1 ≤ pen ∧ pen ≤ 99) (hlk : ∀ i, 0 ≤ i → i < 16 → 0 ≤ lk i ∧ lk i ≤ 99) : MetI l D dA (wM dA ad) (ad 0) yX2_costOf (ws_ yX2_costOf cX2_costOf 8 (some .int)) (rmf 2) [vI cut] (pen, wd, lt, ln, pr, kd, sl, sp, tx, ty, lk, be, ma, cs) (fun r u' => u' = (pen, wd, lt, ln, pr, kd, sl, sp, tx, ty, lk, be, ma, cs) ∧ r = cF DC DK pen ty tx lk cut) := by
  refine metI_intro [some (.ref (ad 0)), some (vI cut), none, none, none, none, none, none] (by decide) rfl rfl rfl (Nat.le_of_ble_eq_true rfl) (fun _ _ _ => vp_nar_int _) (fun K kr => ?_)
  refine s_iconst dX2_costOf_0 ?_
  refine s_istore_n 2 [some (.ref (ad 0)), some (vI cut), some (vI 0), none, none, none, none, none] dX2_costOf_1 rfl (by decide) rfl ?_
  refine s_iconst dX2_costOf_2 ?_
  refine s_istore_n 3 [some (.ref (ad 0)), some (vI cut), some (vI 0), some (vI 0), none, none, none, none] dX2_costOf_3 rfl (by decide) rfl ?_
  refine s_iconst dX2_costOf_4 ?_
  refine s_istore [some (.ref (ad 0)), some (vI cut), some (vI 0), some (vI 0), some (vI (-1)), none, none, none] dX2_costOf_5 (by decide) rfl ?_
  refine s_iconst dX2_costOf_7 ?_
  refine s_istore [some (.ref (ad 0)), some (vI cut), some (vI 0), some (vI 0), some (vI (-1)), some (vI 1), none, none] dX2_costOf_8 (by decide) rfl ?_
  exact l_cst hM hcut hty htx hpen hlk kr ty.toNat 1 0 (-1) 0 _ _ (by omega) (by omega) (by omega) (by omega) rfl
theorem l_look {DC DK CN : List Int → Int} (hM : MD wd lt ln pr kd DC DK CN) (hty : 0 ≤ ty ∧ ty ≤ 12) (htx : ∀ i, 0 ≤ i → i < ty → 0 ≤ tx i ∧ tx i < 4) (hpen : 1 ≤ pen ∧ pen ≤ 99) (hlk : ∀ i, 0 ≤ i → i < 16 → 0 ≤ lk i ∧ lk i ≤ 99) (kr : ∀ (pc : Nat) (lv : List (Option Value)) (u' : SM), decode cX2_look pc = .ok (.return_, 1) → (u' = (pen, wd, lt, ln, pr, kd, sl, sp, tx, ty, lk, (scan (cF DC DK pen ty tx lk) (cuts ty).toNat).1, (scan (cF DC DK pen ty tx lk) (cuts ty).toNat).2.1, (scan (cF DC DK pen ty tx lk) (cuts ty).toNat).2.2)) → SV l D dA (wM dA ad) RX2 cX2_look 4 (rmf 3) K u' pc lv []) : ∀ (m : Nat) (cut : Int) (o3 : Option Value) (be ma cs : Int), cut + m = cuts ty → 0 ≤ cut → (be, ma, cs) = scan (cF DC DK pen ty tx lk) cut.toNat → SV l D dA (wM dA ad) RX2 cX2_look 4 (rmf 3) K (pen, wd, lt, ln, pr, kd, sl, sp, tx, ty, lk, be, ma, cs) 38 [some (.ref (ad 0)), some (vI (cuts ty)), some (vI cut), o3] [] := by
  have hcu := cuts_rg hty
  intro m
  induction m with
  | zero =>
    intro cut o3 be ma cs h1 h2 hI
    obtain rfl : cut = cuts ty := by omega
    refine s_iload_n 2 dX2_look_38 rfl rfl ?_
    refine s_iload_n 1 dX2_look_39 rfl rfl ?_
    refine s_icmp_ge 111 dX2_look_40 (by decide) ⟨by omega, by omega⟩ ⟨by omega, by omega⟩ (fun h40 => ?_) (fun h40 => ?_)
    · skip
      exact kr _ _ _ dX2_look_111 (by rw [← hI])
    · skip
      exfalso; omega
  | succ m ih =>
    intro cut o3 be ma cs h1 h2 hI
    have hf : ∀ i, -1 ≤ (cF DC DK pen ty tx lk) i ∧ (cF DC DK pen ty tx lk) i ≤ 3000 := fun i => cF_rg hM.dic hpen hlk hty i
    have hs := scan_rg hf (by omega) cut.toNat
    rw [← hI] at hs
    have hs : -1 ≤ be ∧ be ≤ 3000 := ⟨hs.1, hs.2.1⟩
    have hfc := hf cut
    have es := scan_s (cF DC DK pen ty tx lk) cut.toNat
    rw [show ((cut.toNat : Nat) : Int) = cut by omega, ← hI, show cut.toNat + 1 = (cut + 1).toNat by omega] at es
    refine s_iload_n 2 dX2_look_38 rfl rfl ?_
    refine s_iload_n 1 dX2_look_39 rfl rfl ?_
    refine s_icmp_ge 111 dX2_look_40 (by decide) ⟨by omega, by omega⟩ ⟨by omega, by omega⟩ (fun h40 => ?_) (fun h40 => ?_)
    · skip
      exfalso; omega
    · skip
      refine s_aload_n 0 dX2_look_43 rfl rfl ?_
      refine s_iload_n 2 dX2_look_44 rfl rfl ?_
      refine mc_costOf (n_costOf hM ⟨by omega, by omega⟩ hty htx hpen hlk) ⟨Nat.le_of_ble_eq_true rfl, Nat.le_of_ble_eq_true rfl⟩ (Nat.le_of_ble_eq_true rfl) dX2_look_45 (fun c u_ hp => ?_)
      obtain ⟨rfl, hr⟩ := hp
      have hr : (cF DC DK pen ty tx lk) cut = c := hr.symm
      rw [hr] at hfc es
      refine s_istore_n 3 [some (.ref (ad 0)), some (vI (cuts ty)), some (vI cut), some (vI c)] dX2_look_48 rfl (by decide) rfl ?_
      refine s_iload_n 3 dX2_look_49 rfl rfl ?_
      refine s_if_lt 83 dX2_look_50 (by decide) ⟨by omega, by omega⟩ (fun h50 => ?_) (fun h50 => ?_)
      · skip
        refine s_iload_n 3 dX2_look_83 rfl rfl ?_
        refine s_if_lt 105 dX2_look_84 (by decide) ⟨by omega, by omega⟩ (fun h84 => ?_) (fun h84 => ?_)
        · skip
          refine s_iinc [some (.ref (ad 0)), some (vI (cuts ty)), some (vI (cut + 1)), some (vI c)] dX2_look_105 rfl (by decide) rfl ?_
          refine s_goto 38 dX2_look_108 (by decide) ?_
          first
            | exact ih _ _ _ _ _ (by omega) (by omega) (by rw [es, if_pos (by omega)]; rfl)
            | exact ih _ _ _ _ _ (by omega) (by omega) (by rw [es, if_neg (by omega), if_pos (by omega)])
            | exact ih _ _ _ _ _ (by omega) (by omega) (by rw [es, if_neg (by omega), if_neg (by omega)])
        · skip
          exfalso; omega
      · skip
        refine s_aload_n 0 dX2_look_53 rfl rfl ?_
        refine mg_be dX2_look_54 ?_
        refine s_if_lt 68 dX2_look_57 (by decide) ⟨by omega, by omega⟩ (fun h57 => ?_) (fun h57 => ?_)
        · skip
          refine s_aload_n 0 dX2_look_68 rfl rfl ?_
          refine s_iload_n 3 dX2_look_69 rfl rfl ?_
          refine mp_be dX2_look_70 ?_
          refine s_aload_n 0 dX2_look_73 rfl rfl ?_
          refine s_iconst dX2_look_74 ?_
          refine mp_ma dX2_look_75 ?_
          refine s_aload_n 0 dX2_look_78 rfl rfl ?_
          refine s_iload_n 2 dX2_look_79 rfl rfl ?_
          refine mp_cs dX2_look_80 ?_
          refine s_iload_n 3 dX2_look_83 rfl rfl ?_
          refine s_if_lt 105 dX2_look_84 (by decide) ⟨by omega, by omega⟩ (fun h84 => ?_) (fun h84 => ?_)
          · skip
            exfalso; omega
          · skip
            refine s_iload_n 3 dX2_look_87 rfl rfl ?_
            refine s_aload_n 0 dX2_look_88 rfl rfl ?_
            refine mg_be dX2_look_89 ?_
            refine s_icmp_ne 105 dX2_look_92 (by decide) ⟨by omega, by omega⟩ ⟨by omega, by omega⟩ (fun h92 => ?_) (fun h92 => ?_)
            · skip
              exact absurd rfl h92
            · skip
              refine s_aload_n 0 dX2_look_95 rfl rfl ?_
              refine s_dup dX2_look_96 rfl ?_
              refine mg_ma dX2_look_97 ?_
              refine s_iconst dX2_look_100 ?_
              refine s_iadd dX2_look_101 ?_
              refine mp_ma dX2_look_102 ?_
              refine s_iinc [some (.ref (ad 0)), some (vI (cuts ty)), some (vI (cut + 1)), some (vI c)] dX2_look_105 rfl (by decide) rfl ?_
              refine s_goto 38 dX2_look_108 (by decide) ?_
              first
                | exact ih _ _ _ _ _ (by omega) (by omega) (by rw [es, if_pos (by omega)]; rfl)
                | exact ih _ _ _ _ _ (by omega) (by omega) (by rw [es, if_neg (by omega), if_pos (by omega)])
                | exact ih _ _ _ _ _ (by omega) (by omega) (by rw [es, if_neg (by omega), if_neg (by omega)])
        · skip
          refine s_iload_n 3 dX2_look_60 rfl rfl ?_
          refine s_aload_n 0 dX2_look_61 rfl rfl ?_
          refine mg_be dX2_look_62 ?_
          refine s_icmp_ge 83 dX2_look_65 (by decide) ⟨by omega, by omega⟩ ⟨by omega, by omega⟩ (fun h65 => ?_) (fun h65 => ?_)
          · skip
            refine s_iload_n 3 dX2_look_83 rfl rfl ?_
            refine s_if_lt 105 dX2_look_84 (by decide) ⟨by omega, by omega⟩ (fun h84 => ?_) (fun h84 => ?_)
            · skip
              exfalso; omega
            · skip
              refine s_iload_n 3 dX2_look_87 rfl rfl ?_
              refine s_aload_n 0 dX2_look_88 rfl rfl ?_
              refine mg_be dX2_look_89 ?_
              refine s_icmp_ne 105 dX2_look_92 (by decide) ⟨by omega, by omega⟩ ⟨by omega, by omega⟩ (fun h92 => ?_) (fun h92 => ?_)
              · skip
                refine s_iinc [some (.ref (ad 0)), some (vI (cuts ty)), some (vI (cut + 1)), some (vI c)] dX2_look_105 rfl (by decide) rfl ?_
                refine s_goto 38 dX2_look_108 (by decide) ?_
                first
                  | exact ih _ _ _ _ _ (by omega) (by omega) (by rw [es, if_pos (by omega)]; rfl)
                  | exact ih _ _ _ _ _ (by omega) (by omega) (by rw [es, if_neg (by omega), if_pos (by omega)])
                  | exact ih _ _ _ _ _ (by omega) (by omega) (by rw [es, if_neg (by omega), if_neg (by omega)])
              · skip
                refine s_aload_n 0 dX2_look_95 rfl rfl ?_
                refine s_dup dX2_look_96 rfl ?_
                refine mg_ma dX2_look_97 ?_
                refine s_iconst dX2_look_100 ?_
                refine s_iadd dX2_look_101 ?_
                refine mp_ma dX2_look_102 ?_
                refine s_iinc [some (.ref (ad 0)), some (vI (cuts ty)), some (vI (cut + 1)), some (vI c)] dX2_look_105 rfl (by decide) rfl ?_
                refine s_goto 38 dX2_look_108 (by decide) ?_
                first
                  | exact ih _ _ _ _ _ (by omega) (by omega) (by rw [es, if_pos (by omega)]; rfl)
                  | exact ih _ _ _ _ _ (by omega) (by omega) (by rw [es, if_neg (by omega), if_pos (by omega)])
                  | exact ih _ _ _ _ _ (by omega) (by omega) (by rw [es, if_neg (by omega), if_neg (by omega)])
          · skip
            refine s_aload_n 0 dX2_look_68 rfl rfl ?_
            refine s_iload_n 3 dX2_look_69 rfl rfl ?_
            refine mp_be dX2_look_70 ?_
            refine s_aload_n 0 dX2_look_73 rfl rfl ?_
            refine s_iconst dX2_look_74 ?_
            refine mp_ma dX2_look_75 ?_
            refine s_aload_n 0 dX2_look_78 rfl rfl ?_
            refine s_iload_n 2 dX2_look_79 rfl rfl ?_
            refine mp_cs dX2_look_80 ?_
            refine s_iload_n 3 dX2_look_83 rfl rfl ?_
            refine s_if_lt 105 dX2_look_84 (by decide) ⟨by omega, by omega⟩ (fun h84 => ?_) (fun h84 => ?_)
            · skip
              exfalso; omega
            · skip
              refine s_iload_n 3 dX2_look_87 rfl rfl ?_
              refine s_aload_n 0 dX2_look_88 rfl rfl ?_
              refine mg_be dX2_look_89 ?_
              refine s_icmp_ne 105 dX2_look_92 (by decide) ⟨by omega, by omega⟩ ⟨by omega, by omega⟩ (fun h92 => ?_) (fun h92 => ?_)
              · skip
                exact absurd rfl h92
              · skip
                refine s_aload_n 0 dX2_look_95 rfl rfl ?_
                refine s_dup dX2_look_96 rfl ?_
                refine mg_ma dX2_look_97 ?_
                refine s_iconst dX2_look_100 ?_
                refine s_iadd dX2_look_101 ?_
                refine mp_ma dX2_look_102 ?_
                refine s_iinc [some (.ref (ad 0)), some (vI (cuts ty)), some (vI (cut + 1)), some (vI c)] dX2_look_105 rfl (by decide) rfl ?_
                refine s_goto 38 dX2_look_108 (by decide) ?_
                first
                  | exact ih _ _ _ _ _ (by omega) (by omega) (by rw [es, if_pos (by omega)]; rfl)
                  | exact ih _ _ _ _ _ (by omega) (by omega) (by rw [es, if_neg (by omega), if_pos (by omega)])
                  | exact ih _ _ _ _ _ (by omega) (by omega) (by rw [es, if_neg (by omega), if_neg (by omega)])
theorem n_look {DC DK CN : List Int → Int} (hM : MD wd lt ln pr kd DC DK CN) (hty : 0 ≤ ty ∧ ty ≤ 12) (htx : ∀ i, 0 ≤ i → i < ty → 0 ≤ tx i ∧ tx i < 4) (hpen : 1 ≤ pen ∧ pen ≤ 99) (hlk : ∀ i, 0 ≤ i → i < 16 → 0 ≤ lk i ∧ lk i ≤ 99) : MetV l D dA (wM dA ad) (ad 0) yX2_look (ws_ yX2_look cX2_look 4 none) (rmf 3) [] (pen, wd, lt, ln, pr, kd, sl, sp, tx, ty, lk, be, ma, cs) (fun u' => u' = (pen, wd, lt, ln, pr, kd, sl, sp, tx, ty, lk, (scan (cF DC DK pen ty tx lk) (cuts ty).toNat).1, (scan (cF DC DK pen ty tx lk) (cuts ty).toNat).2.1, (scan (cF DC DK pen ty tx lk) (cuts ty).toNat).2.2)) := by
  refine metV_intro [some (.ref (ad 0)), none, none, none] (by decide) rfl rfl rfl (Nat.le_of_ble_eq_true rfl) (fun K kr => ?_)
  refine s_aload_n 0 dX2_look_0 rfl rfl ?_
  refine s_iconst dX2_look_1 ?_
  refine mp_be dX2_look_2 ?_
  refine s_aload_n 0 dX2_look_5 rfl rfl ?_
  refine s_iconst dX2_look_6 ?_
  refine mp_ma dX2_look_7 ?_
  refine s_aload_n 0 dX2_look_10 rfl rfl ?_
  refine s_iconst dX2_look_11 ?_
  refine mp_cs dX2_look_12 ?_
  refine s_aload_n 0 dX2_look_15 rfl rfl ?_
  refine mg_ty dX2_look_16 ?_
  refine s_iconst dX2_look_19 ?_
  refine s_icmp_le 34 dX2_look_20 (by decide) ⟨by omega, by omega⟩ ⟨by omega, by omega⟩ (fun h20 => ?_) (fun h20 => ?_)
  · skip
    refine s_iconst dX2_look_34 ?_
    have ec : cuts ty = 1 := by unfold cuts; first | rw [if_pos h20] | rw [if_neg (by omega)]
    refine s_istore_n 1 [some (.ref (ad 0)), some (vI 1), none, none] dX2_look_35 rfl (by decide) rfl ?_
    refine s_iconst dX2_look_36 ?_
    refine s_istore_n 2 [some (.ref (ad 0)), some (vI 1), some (vI 0), none] dX2_look_37 rfl (by decide) rfl ?_
    have z := l_look hM hty htx hpen hlk kr (cuts ty).toNat 0 none (-1) 0 0 (by have := cuts_rg hty; omega) (by omega) rfl
    rw [ec] at z
    exact z
  · skip
    refine s_iconst dX2_look_23 ?_
    refine s_aload_n 0 dX2_look_24 rfl rfl ?_
    refine mg_ty dX2_look_25 ?_
    refine s_iconst dX2_look_28 ?_
    refine s_isub dX2_look_29 ?_
    refine s_ishl (2 ^ (ty - 1).toNat) (shl2_ok ⟨by omega, by omega⟩) dX2_look_30 ?_
    refine s_goto 35 dX2_look_31 (by decide) ?_
    have ec : cuts ty = (2 ^ (ty - 1).toNat) := by unfold cuts; first | rw [if_pos h20] | rw [if_neg (by omega)]
    refine s_istore_n 1 [some (.ref (ad 0)), some (vI (2 ^ (ty - 1).toNat)), none, none] dX2_look_35 rfl (by decide) rfl ?_
    refine s_iconst dX2_look_36 ?_
    refine s_istore_n 2 [some (.ref (ad 0)), some (vI (2 ^ (ty - 1).toNat)), some (vI 0), none] dX2_look_37 rfl (by decide) rfl ?_
    have z := l_look hM hty htx hpen hlk kr (cuts ty).toNat 0 none (-1) 0 0 (by have := cuts_rg hty; omega) (by omega) rfl
    rw [ec] at z
    exact z
theorem n_cost {DC DK CN : List Int → Int} (hM : MD wd lt ln pr kd DC DK CN) (hty : 0 ≤ ty ∧ ty ≤ 12) (htx : ∀ i, 0 ≤ i → i < ty → 0 ≤ tx i ∧ tx i < 4) (hpen : 1 ≤ pen ∧ pen ≤ 99) (hlk : ∀ i, 0 ≤ i → i < 16 → 0 ≤ lk i ∧ lk i ≤ 99) : MetI l D dA (wM dA ad) (ad 0) yX2_cost (ws_ yX2_cost cX2_cost 1 (some .int)) (rmf 4) [] (pen, wd, lt, ln, pr, kd, sl, sp, tx, ty, lk, be, ma, cs) (fun r u' => u' = (pen, wd, lt, ln, pr, kd, sl, sp, tx, ty, lk, (scan (cF DC DK pen ty tx lk) (cuts ty).toNat).1, (scan (cF DC DK pen ty tx lk) (cuts ty).toNat).2.1, (scan (cF DC DK pen ty tx lk) (cuts ty).toNat).2.2) ∧ r = (scan (cF DC DK pen ty tx lk) (cuts ty).toNat).1) := by
  refine metI_intro [some (.ref (ad 0))] (by decide) rfl rfl rfl (Nat.le_of_ble_eq_true rfl) (fun _ _ _ => vp_nar_int _) (fun K kr => ?_)
  refine s_aload_n 0 dX2_cost_0 rfl rfl ?_
  refine mc_look (n_look hM hty htx hpen hlk) ⟨Nat.le_of_ble_eq_true rfl, Nat.le_of_ble_eq_true rfl⟩ (Nat.le_of_ble_eq_true rfl) dX2_cost_1 (fun u_ hp => ?_)
  subst hp
  refine s_aload_n 0 dX2_cost_4 rfl rfl ?_
  refine mg_be dX2_cost_5 ?_
  exact kr _ _ _ _ dX2_cost_8 (⟨rfl, rfl⟩)
theorem n_ways {DC DK CN : List Int → Int} (hM : MD wd lt ln pr kd DC DK CN) (hty : 0 ≤ ty ∧ ty ≤ 12) (htx : ∀ i, 0 ≤ i → i < ty → 0 ≤ tx i ∧ tx i < 4) (hpen : 1 ≤ pen ∧ pen ≤ 99) (hlk : ∀ i, 0 ≤ i → i < 16 → 0 ≤ lk i ∧ lk i ≤ 99) : MetI l D dA (wM dA ad) (ad 0) yX2_ways (ws_ yX2_ways cX2_ways 1 (some .int)) (rmf 4) [] (pen, wd, lt, ln, pr, kd, sl, sp, tx, ty, lk, be, ma, cs) (fun r u' => u' = (pen, wd, lt, ln, pr, kd, sl, sp, tx, ty, lk, (scan (cF DC DK pen ty tx lk) (cuts ty).toNat).1, (scan (cF DC DK pen ty tx lk) (cuts ty).toNat).2.1, (scan (cF DC DK pen ty tx lk) (cuts ty).toNat).2.2) ∧ r = (scan (cF DC DK pen ty tx lk) (cuts ty).toNat).2.1) := by
  refine metI_intro [some (.ref (ad 0))] (by decide) rfl rfl rfl (Nat.le_of_ble_eq_true rfl) (fun _ _ _ => vp_nar_int _) (fun K kr => ?_)
  refine s_aload_n 0 dX2_ways_0 rfl rfl ?_
  refine mc_look (n_look hM hty htx hpen hlk) ⟨Nat.le_of_ble_eq_true rfl, Nat.le_of_ble_eq_true rfl⟩ (Nat.le_of_ble_eq_true rfl) dX2_ways_1 (fun u_ hp => ?_)
  subst hp
  refine s_aload_n 0 dX2_ways_4 rfl rfl ?_
  refine mg_ma dX2_ways_5 ?_
  exact kr _ _ _ _ dX2_ways_8 (⟨rfl, rfl⟩)
theorem l_ns {x V : Int} (hty : 0 ≤ ty ∧ ty ≤ 12) (hx : inR x) (hcs : 0 ≤ cs ∧ cs < 4096) (kr : ∀ (pc : Nat) (lv : List (Option Value)) (r : Int) (u' : SM), decode cX2_start pc = .ok (.ireturn, 1) → (u' = (pen, wd, lt, ln, pr, kd, sl, sp, tx, ty, lk, be, ma, cs) ∧ r = V) → SV l D dA (wM dA ad) RX2 cX2_start 4 (rmf 4) K u' pc lv [vI r]) : ∀ (m : Nat) (pl ct : Int), pl + m = ty + 1 → 0 ≤ pl → 0 ≤ ct ∧ ct ≤ pl → sB ty cs x m pl ct = V → SV l D dA (wM dA ad) RX2 cX2_start 4 (rmf 4) K (pen, wd, lt, ln, pr, kd, sl, sp, tx, ty, lk, be, ma, cs) 8 [some (.ref (ad 0)), some (vI x), some (vI ct), some (vI pl)] [] := by
  intro m
  induction m with
  | zero =>
    intro pl ct h1 h2 h3 hV
    have hV : -1 = V := hV
    refine s_iload_n 3 dX2_start_8 rfl rfl ?_
    refine s_aload_n 0 dX2_start_9 rfl rfl ?_
    refine mg_ty dX2_start_10 ?_
    refine s_icmp_gt 44 dX2_start_13 (by decide) ⟨by omega, by omega⟩ ⟨by omega, by omega⟩ (fun h13 => ?_) (fun h13 => ?_)
    · skip
      refine s_iconst dX2_start_44 ?_
      exact kr _ _ _ _ dX2_start_45 (⟨rfl, hV⟩)
    · skip
      exfalso; omega
  | succ m ih =>
    intro pl ct h1 h2 h3 hV
    rw [sB_s] at hV
    refine s_iload_n 3 dX2_start_8 rfl rfl ?_
    refine s_aload_n 0 dX2_start_9 rfl rfl ?_
    refine mg_ty dX2_start_10 ?_
    refine s_icmp_gt 44 dX2_start_13 (by decide) ⟨by omega, by omega⟩ ⟨by omega, by omega⟩ (fun h13 => ?_) (fun h13 => ?_)
    · skip
      exfalso; omega
    · skip
      refine s_aload_n 0 dX2_start_16 rfl rfl ?_
      refine s_aload_n 0 dX2_start_17 rfl rfl ?_
      refine mg_cs dX2_start_18 ?_
      refine s_iload_n 3 dX2_start_21 rfl rfl ?_
      refine mc_border (n_border hcs ⟨by omega, by omega⟩ hty) ⟨Nat.le_of_ble_eq_true rfl, Nat.le_of_ble_eq_true rfl⟩ (Nat.le_of_ble_eq_true rfl) dX2_start_22 (fun r u_ hp => ?_)
      obtain ⟨rfl, hr⟩ := hp
      have hr2 : r = 0 ∨ r = 1 := by rw [hr]; split <;> omega
      refine s_if_eq 38 dX2_start_25 (by decide) ⟨by omega, by omega⟩ (fun h25 => ?_) (fun h25 => ?_)
      · skip
        rw [if_neg (fun z => by rw [if_pos z] at hr; omega)] at hV
        refine s_iinc [some (.ref (ad 0)), some (vI x), some (vI ct), some (vI (pl + 1))] dX2_start_38 rfl (by decide) rfl ?_
        refine s_goto 8 dX2_start_41 (by decide) ?_
        first
          | exact ih _ _ (by omega) (by omega) (by omega) (by rw [if_neg h30] at hV; exact hV)
          | exact ih _ _ (by omega) (by omega) (by omega) hV
      · skip
        rw [if_pos (by apply Classical.byContradiction; intro z; rw [if_neg z] at hr; exact h25 hr)] at hV
        refine s_iload_n 2 dX2_start_28 rfl rfl ?_
        refine s_iload_n 1 dX2_start_29 rfl rfl ?_
        refine s_icmp_ne 35 dX2_start_30 (by decide) ⟨by omega, by omega⟩ ⟨by omega, by omega⟩ (fun h30 => ?_) (fun h30 => ?_)
        · skip
          refine s_iinc [some (.ref (ad 0)), some (vI x), some (vI (ct + 1)), some (vI pl)] dX2_start_35 rfl (by decide) rfl ?_
          refine s_iinc [some (.ref (ad 0)), some (vI x), some (vI (ct + 1)), some (vI (pl + 1))] dX2_start_38 rfl (by decide) rfl ?_
          refine s_goto 8 dX2_start_41 (by decide) ?_
          first
            | exact ih _ _ (by omega) (by omega) (by omega) (by rw [if_neg h30] at hV; exact hV)
            | exact ih _ _ (by omega) (by omega) (by omega) hV
        · skip
          refine s_iload_n 3 dX2_start_33 rfl rfl ?_
          exact kr _ _ _ _ dX2_start_34 (⟨rfl, by rw [if_pos h30] at hV; exact hV⟩)
theorem n_start {x : Int} (hx : inR x) {DC DK CN : List Int → Int} (hM : MD wd lt ln pr kd DC DK CN) (hty : 0 ≤ ty ∧ ty ≤ 12) (htx : ∀ i, 0 ≤ i → i < ty → 0 ≤ tx i ∧ tx i < 4) (hpen : 1 ≤ pen ∧ pen ≤ 99) (hlk : ∀ i, 0 ≤ i → i < 16 → 0 ≤ lk i ∧ lk i ≤ 99) : MetI l D dA (wM dA ad) (ad 0) yX2_start (ws_ yX2_start cX2_start 4 (some .int)) (rmf 4) [vI x] (pen, wd, lt, ln, pr, kd, sl, sp, tx, ty, lk, be, ma, cs) (fun r u' => u' = (pen, wd, lt, ln, pr, kd, sl, sp, tx, ty, lk, (scan (cF DC DK pen ty tx lk) (cuts ty).toNat).1, (scan (cF DC DK pen ty tx lk) (cuts ty).toNat).2.1, (scan (cF DC DK pen ty tx lk) (cuts ty).toNat).2.2) ∧ r = sB ty (scan (cF DC DK pen ty tx lk) (cuts ty).toNat).2.2 x (ty + 1).toNat 0 0) := by
  refine metI_intro [some (.ref (ad 0)), some (vI x), none, none] (by decide) rfl rfl rfl (Nat.le_of_ble_eq_true rfl) (fun _ _ _ => vp_nar_int _) (fun K kr => ?_)
  refine s_aload_n 0 dX2_start_0 rfl rfl ?_
  refine mc_look (n_look hM hty htx hpen hlk) ⟨Nat.le_of_ble_eq_true rfl, Nat.le_of_ble_eq_true rfl⟩ (Nat.le_of_ble_eq_true rfl) dX2_start_1 (fun u_ hp => ?_)
  subst hp
  refine s_iconst dX2_start_4 ?_
  refine s_istore_n 2 [some (.ref (ad 0)), some (vI x), some (vI 0), none] dX2_start_5 rfl (by decide) rfl ?_
  refine s_iconst dX2_start_6 ?_
  refine s_istore_n 3 [some (.ref (ad 0)), some (vI x), some (vI 0), some (vI 0)] dX2_start_7 rfl (by decide) rfl ?_
  have hcu := cuts_rg hty
  have hf : ∀ i, -1 ≤ (cF DC DK pen ty tx lk) i ∧ (cF DC DK pen ty tx lk) i ≤ 3000 := fun i => cF_rg hM.dic hpen hlk hty i
  have hs := scan_rg hf (by omega) (cuts ty).toNat
  exact l_ns hty hx ⟨hs.2.2.1, by omega⟩ kr (ty + 1).toNat 0 0 (by omega) (by omega) (by omega) rfl
end CUTM
end
section
/-! PURE: the look through all cuts and the table of cuts tell the same -/
abbrev SMt : Type := Int × Int × List Int
def mrg : Option SMt → Option SMt → Option SMt
  | none, r => r
  | some l, none => some l
  | some l, some r => if r.1 < l.1 then some r else if r.1 = l.1 then some (l.1, l.2.1 + r.2.1, l.2.2) else some l
theorem mrg_nr (l : Option SMt) : mrg l none = l := by cases l <;> rfl
theorem mrg_nl (r : Option SMt) : mrg none r = r := by cases r <;> rfl
theorem mrg_lt {l r : SMt} (h : r.1 < l.1) : mrg (some l) (some r) = some r := by simp only [mrg]; rw [if_pos h]
theorem mrg_eq {l r : SMt} (h : r.1 = l.1) : mrg (some l) (some r) = some (l.1, l.2.1 + r.2.1, l.2.2) := by simp only [mrg]; rw [if_neg (by omega), if_pos h]
theorem mrg_gt {l r : SMt} (h : l.1 < r.1) : mrg (some l) (some r) = some l := by simp only [mrg]; rw [if_neg (by omega), if_neg (by omega)]
theorem mrg_assoc (x y z : Option SMt) : mrg (mrg x y) z = mrg x (mrg y z) := by
  cases x with
  | none => rw [mrg_nl, mrg_nl]
  | some x =>
    cases y with
    | none => rw [mrg_nr, mrg_nl]
    | some y =>
      cases z with
      | none => rw [mrg_nr, mrg_nr]
      | some z =>
        rcases Int.lt_trichotomy y.1 x.1 with h | h | h
        · rw [mrg_lt h]
          rcases Int.lt_trichotomy z.1 y.1 with g | g | g
          · rw [mrg_lt g, mrg_lt (l := x) (r := z) (by omega)]
          · rw [mrg_eq g, mrg_lt (l := x) (r := (y.1, y.2.1 + z.2.1, y.2.2)) h]
          · rw [mrg_gt g, mrg_lt h]
        · rw [mrg_eq h]
          rcases Int.lt_trichotomy z.1 y.1 with g | g | g
          · rw [mrg_lt g, mrg_lt (l := x) (r := z) (by omega), mrg_lt (l := (x.1, x.2.1 + y.2.1, x.2.2)) (r := z) (show z.1 < x.1 by omega)]
          · rw [mrg_eq g, mrg_eq (l := (x.1, x.2.1 + y.2.1, x.2.2)) (r := z) (show z.1 = x.1 by omega), mrg_eq (l := x) (r := (y.1, y.2.1 + z.2.1, y.2.2)) h]
            simp only [Int.add_assoc]
          · rw [mrg_gt g, mrg_gt (l := (x.1, x.2.1 + y.2.1, x.2.2)) (r := z) (show x.1 < z.1 by omega), mrg_eq h]
        · rw [mrg_gt h]
          rcases Int.lt_trichotomy z.1 y.1 with g | g | g
          · rw [mrg_lt g]
          · rw [mrg_eq g, mrg_gt (l := x) (r := z) (by omega), mrg_gt (l := x) (r := (y.1, y.2.1 + z.2.1, y.2.2)) h]
          · rw [mrg_gt g, mrg_gt (l := x) (r := z) (by omega), mrg_gt h]
def phi (c : Int) (x : Int) (t : SMt) : SMt := (t.1 + c, t.2.1, x :: t.2.2)
theorem mrg_map (c x : Int) (l r : Option SMt) : mrg (l.map (phi c x)) (r.map (phi c x)) = (mrg l r).map (phi c x) := by
  cases l with
  | none => rw [mrg_nl]; simp [mrg_nl]
  | some l =>
    cases r with
    | none => rw [mrg_nr]; simp [mrg_nr]
    | some r =>
      simp only [Option.map_some]
      rcases Int.lt_trichotomy r.1 l.1 with h | h | h
      · rw [mrg_lt h, mrg_lt (show r.1 + c < l.1 + c by omega)]; rfl
      · rw [mrg_eq h, mrg_eq (show r.1 + c = l.1 + c by omega)]; rfl
      · rw [mrg_gt h, mrg_gt (show l.1 + c < r.1 + c by omega)]; rfl
/-- the least cost of the first n, how many have it, the first of them -/
def sp (f : Int → Int) (g : Int → List Int) : Nat → Option SMt
  | 0 => none
  | n + 1 => mrg (sp f g n) (if f n < 0 then none else some (f n, 1, g n))
theorem sp_s (f : Int → Int) (g : Int → List Int) (n : Nat) : sp f g (n + 1) = mrg (sp f g n) (if f n < 0 then none else some (f n, 1, g n)) := rfl
theorem sp_congr {f f' : Int → Int} {g g' : Int → List Int} : ∀ n : Nat, (∀ i : Int, 0 ≤ i → i < n → f i = f' i ∧ g i = g' i) → sp f g n = sp f' g' n := by
  intro n
  induction n with
  | zero => intro _; rfl
  | succ n ih =>
    intro h
    obtain ⟨h1, h2⟩ := h n (by omega) (by omega)
    rw [sp_s, sp_s, ih (fun i a b => h i a (by omega)), h1, h2]
theorem sp_app (f : Int → Int) (g : Int → List Int) (a : Nat) : ∀ b : Nat, sp f g (a + b) = mrg (sp f g a) (sp (fun j => f (a + j)) (fun j => g (a + j)) b) := by
  intro b
  induction b with
  | zero => rw [sp, mrg_nr]; rfl
  | succ b ih =>
    rw [show a + (b + 1) = (a + b) + 1 by omega, sp_s, sp_s, ih, mrg_assoc, show (((a + b : Nat)) : Int) = (a : Int) + (b : Int) by omega]
theorem sp_none {f : Int → Int} {g : Int → List Int} : ∀ n : Nat, (∀ i : Int, 0 ≤ i → i < n → f i < 0) → sp f g n = none := by
  intro n
  induction n with
  | zero => intro _; rfl
  | succ n ih => intro h; rw [sp_s, ih (fun i a b => h i a (by omega)), if_pos (h n (by omega) (by omega))]; rfl
theorem sp_map {f : Int → Int} {g : Int → List Int} {c x : Int} (hc : 0 ≤ c) : ∀ n : Nat, sp (fun j => if f j < 0 then -1 else f j + c) (fun j => x :: g j) n = (sp f g n).map (phi c x) := by
  intro n
  induction n with
  | zero => rfl
  | succ n ih =>
    rw [sp_s, sp_s, ih, ← mrg_map]
    congr 1
    show (if (if f n < 0 then -1 else f n + c) < 0 then none else some ((if f n < 0 then -1 else f n + c), 1, x :: g n)) = _
    by_cases h : f n < 0
    · rw [if_pos h, if_pos h, if_pos (by omega)]; rfl
    · rw [if_neg h, if_neg h, if_neg (by omega)]; rfl
theorem scan_sp {f : Int → Int} (g : Int → List Int) : ∀ n : Nat, ((scan f n).1 < 0 ∧ sp f g n = none) ∨ (0 ≤ (scan f n).1 ∧ sp f g n = some ((scan f n).1, (scan f n).2.1, g (scan f n).2.2)) := by
  intro n
  induction n with
  | zero => exact Or.inl ⟨by show (-1 : Int) < 0; omega, rfl⟩
  | succ n ih =>
    rw [scan_s, sp_s]
    by_cases h1 : f n < 0
    · rw [if_neg (by omega), if_neg (by omega), if_pos h1, mrg_nr]
      exact ih
    · rw [if_neg h1]
      rcases ih with ⟨h2, h3⟩ | ⟨h2, h3⟩
      · rw [if_pos ⟨by omega, Or.inl h2⟩, h3, mrg_nl]
        exact Or.inr ⟨by show 0 ≤ f n; omega, rfl⟩
      · rw [h3]
        rcases Int.lt_trichotomy (f n) (scan f n).1 with h | h | h
        · rw [if_pos ⟨by omega, Or.inr h⟩, mrg_lt h]
          exact Or.inr ⟨by show 0 ≤ f n; omega, rfl⟩
        · rw [if_neg (by omega), if_pos ⟨by omega, h⟩, mrg_eq h]
          exact Or.inr ⟨h2, rfl⟩
        · rw [if_neg (by omega), if_neg (by omega), mrg_gt h]
          exact Or.inr ⟨h2, rfl⟩
/-- the borders of a cut from a place on, m places before the end -/
def pb (cut : Int) : Nat → Int → List Int
  | 0, to => [to]
  | m + 1, to => if cut / 2 ^ m % 2 = 1 then to :: pb cut m (to + 1) else pb cut m (to + 1)
theorem pb_s (cut : Int) (m : Nat) (to : Int) : pb cut (m + 1) to = if cut / 2 ^ m % 2 = 1 then to :: pb cut m (to + 1) else pb cut m (to + 1) := rfl
theorem low_bit (j : Int) {m k : Nat} (h : k < m) : (2 ^ m + j) / 2 ^ k % 2 = j / 2 ^ k % 2 := by
  have e : (2 : Int) ^ m = 2 ^ k * (2 * 2 ^ (m - k - 1)) := by
    rw [← Int.mul_assoc, ← Int.pow_succ, ← Int.pow_add]
    congr 1
    omega
  have hp : (0 : Int) < 2 ^ k := Int.pow_pos (by omega)
  rw [e, Int.add_comm, Int.add_mul_ediv_left _ _ (by omega), Int.mul_comm 2, Int.add_mul_emod_self_right]
theorem top_bit0 {j : Int} {m : Nat} (h0 : 0 ≤ j) (h1 : j < 2 ^ m) : j / 2 ^ m % 2 = 0 := by
  rw [Int.ediv_eq_zero_of_lt h0 h1]; rfl
theorem top_bit1 {j : Int} {m : Nat} (h0 : 0 ≤ j) (h1 : j < 2 ^ m) : (2 ^ m + j) / 2 ^ m % 2 = 1 := by
  have hp : (0 : Int) < 2 ^ m := Int.pow_pos (by omega)
  have e : (2 : Int) ^ m + j = j + 2 ^ m * 1 := by omega
  rw [e, Int.add_mul_ediv_left _ _ (by omega), Int.ediv_eq_zero_of_lt h0 h1]
  rfl
theorem pb_low (j : Int) : ∀ (m n : Nat) (to : Int), m ≤ n → pb (2 ^ n + j) m to = pb j m to := by
  intro m
  induction m with
  | zero => intro n to _; rfl
  | succ m ih =>
    intro n to h
    rw [pb_s, pb_s, low_bit j (show m < n by omega), ih n (to + 1) (by omega)]
section LAT
variable {DC DK CN : List Int → Int} {pen ty : Int} {tx lk : Int → Int}
theorem cO_add (hd : Dic DC DK CN) (hlk : ∀ i, 0 ≤ i → i < 16 → 0 ≤ lk i ∧ lk i ≤ 99) {cut : Int} : ∀ (m : Nat) (to fr be s : Int), 0 ≤ s → be ≤ 3 → cO DC DK pen ty tx lk cut m to fr be s = if cO DC DK pen ty tx lk cut m to fr be 0 < 0 then -1 else cO DC DK pen ty tx lk cut m to fr be 0 + s := by
  intro m
  induction m with
  | zero =>
    intro to fr be s hs hb
    show s = if (0 : Int) < 0 then -1 else 0 + s
    rw [if_neg (by omega)]; omega
  | succ m ih =>
    intro to fr be s hs hb
    rw [cO_s, cO_s]
    by_cases h1 : bd ty cut to
    · rw [if_pos h1, if_pos h1]
      by_cases h2 : fpC DC pen ty tx fr (to - fr) < 0
      · rw [if_pos h2, if_pos h2, if_pos (by omega)]
      · rw [if_neg h2, if_neg h2]
        have h4 : 0 ≤ fpK DC DK ty tx fr (to - fr) ∧ fpK DC DK ty tx fr (to - fr) ≤ 3 := fpK_rg hd
        have h5 : 0 ≤ (if 0 ≤ be then lk (4 * be + fpK DC DK ty tx fr (to - fr)) else 0) := by
          split
          · exact (hlk _ (by omega) (by omega)).1
          · omega
        generalize (if 0 ≤ be then lk (4 * be + fpK DC DK ty tx fr (to - fr)) else 0) = L at h5 ⊢
        have e1 := ih (to + 1) to (fpK DC DK ty tx fr (to - fr)) (s + fpC DC pen ty tx fr (to - fr) + L) (by omega) h4.2
        have e2 := ih (to + 1) to (fpK DC DK ty tx fr (to - fr)) (0 + fpC DC pen ty tx fr (to - fr) + L) (by omega) h4.2
        rw [e1, e2]
        by_cases h6 : cO DC DK pen ty tx lk cut m (to + 1) to (fpK DC DK ty tx fr (to - fr)) 0 < 0
        · rw [if_pos h6, if_pos h6, if_pos (by omega)]
        · rw [if_neg h6, if_neg h6, if_neg (by omega)]; omega
    · rw [if_neg h1, if_neg h1]
      exact ih (to + 1) fr be s hs hb
theorem cO_low {c1 c2 : Int} : ∀ (m : Nat) (to fr be s : Int), (∀ pl, to ≤ pl → pl < to + m → (bd ty c1 pl ↔ bd ty c2 pl)) → cO DC DK pen ty tx lk c1 m to fr be s = cO DC DK pen ty tx lk c2 m to fr be s := by
  intro m
  induction m with
  | zero => intro to fr be s _; rfl
  | succ m ih =>
    intro to fr be s h
    rw [cO_s, cO_s, ih (to + 1) fr be s (fun pl a b => h pl (by omega) (by omega)), ih (to + 1) to _ _ (fun pl a b => h pl (by omega) (by omega))]
    by_cases h1 : bd ty c1 to
    · rw [if_pos h1, if_pos ((h to (by omega) (by omega)).mp h1)]
    · rw [if_neg h1, if_neg (fun z => h1 ((h to (by omega) (by omega)).mpr z))]
def lnk (lk : Int → Int) (be k : Int) : Int := if 0 ≤ be then lk (4 * be + k) else 0
/-- a first piece from fr to 'to', then what X tells -/
def pcs (DC DK : List Int → Int) (pen ty : Int) (tx lk : Int → Int) (fr to be : Int) (X : Option SMt) : Option SMt := if fpC DC pen ty tx fr (to - fr) < 0 then none else X.map (phi (fpC DC pen ty tx fr (to - fr) + lnk lk be (fpK DC DK ty tx fr (to - fr))) to)
/-- all cuts whose first border behind fr is not before 'to' -/
def Qs (DC DK : List Int → Int) (pen ty : Int) (tx lk : Int → Int) : Nat → Int → Int → Int → Option SMt
  | 0, to, fr, be => pcs DC DK pen ty tx lk fr to be (some (0, 1, []))
  | m + 1, to, fr, be => mrg (Qs DC DK pen ty tx lk m (to + 1) fr be) (pcs DC DK pen ty tx lk fr to be (Qs DC DK pen ty tx lk m (to + 1) to (fpK DC DK ty tx fr (to - fr))))
theorem Qs_s (m : Nat) (to fr be : Int) : Qs DC DK pen ty tx lk (m + 1) to fr be = mrg (Qs DC DK pen ty tx lk m (to + 1) fr be) (pcs DC DK pen ty tx lk fr to be (Qs DC DK pen ty tx lk m (to + 1) to (fpK DC DK ty tx fr (to - fr)))) := rfl
theorem lnk_rg (hlk : ∀ i, 0 ≤ i → i < 16 → 0 ≤ lk i ∧ lk i ≤ 99) {be k : Int} (hb : be ≤ 3) (hk : 0 ≤ k ∧ k ≤ 3) : 0 ≤ lnk lk be k ∧ lnk lk be k ≤ 99 := by
  unfold lnk
  split
  · exact hlk _ (by omega) (by omega)
  · omega
theorem pw_cast (m : Nat) : ((2 ^ m : Nat) : Int) = 2 ^ m := by simp
theorem Qs_sp (hd : Dic DC DK CN) (hlk : ∀ i, 0 ≤ i → i < 16 → 0 ≤ lk i ∧ lk i ≤ 99) : ∀ (m : Nat) (to fr be : Int), to + m = ty → 1 ≤ to → be ≤ 3 → Qs DC DK pen ty tx lk m to fr be = sp (fun cut => cO DC DK pen ty tx lk cut (m + 1) to fr be 0) (fun cut => pb cut m to) (2 ^ m) := by
  intro m
  induction m with
  | zero =>
    intro to fr be h1 h2 h3
    show pcs DC DK pen ty tx lk fr to be (some (0, 1, [])) = mrg none (if cO DC DK pen ty tx lk ((0 : Nat) : Int) (0 + 1) to fr be 0 < 0 then none else some (cO DC DK pen ty tx lk ((0 : Nat) : Int) (0 + 1) to fr be 0, 1, [to]))
    have hb : bd ty ((0 : Nat) : Int) to := Or.inr (Or.inl (by omega))
    have hk : 0 ≤ fpK DC DK ty tx fr (to - fr) ∧ fpK DC DK ty tx fr (to - fr) ≤ 3 := fpK_rg hd
    have hl := lnk_rg hlk h3 hk
    rw [mrg_nl, cO_s, if_pos hb]
    unfold pcs
    by_cases h4 : fpC DC pen ty tx fr (to - fr) < 0
    · rw [if_pos h4, if_pos h4, if_pos (by omega)]
    · rw [if_neg h4, if_neg h4]
      show some (phi (fpC DC pen ty tx fr (to - fr) + lnk lk be (fpK DC DK ty tx fr (to - fr))) to (0, 1, [])) = if 0 + fpC DC pen ty tx fr (to - fr) + lnk lk be (fpK DC DK ty tx fr (to - fr)) < 0 then none else some (0 + fpC DC pen ty tx fr (to - fr) + lnk lk be (fpK DC DK ty tx fr (to - fr)), 1, [to])
      rw [if_neg (by omega)]
      unfold phi
      simp only [Int.zero_add]
  | succ m ih =>
    intro to fr be h1 h2 h3
    have hk : 0 ≤ fpK DC DK ty tx fr (to - fr) ∧ fpK DC DK ty tx fr (to - fr) ≤ 3 := fpK_rg hd
    have hl := lnk_rg hlk h3 hk
    have em : (ty - 1 - to).toNat = m := by omega
    rw [show 2 ^ (m + 1) = 2 ^ m + 2 ^ m by rw [Nat.pow_succ]; omega, sp_app, Qs_s]
    congr 1
    · rw [ih (to + 1) fr be (by omega) (by omega) h3]
      refine sp_congr _ (fun i i0 i1 => ?_)
      rw [pw_cast] at i1
      have hb : ¬ bd ty i to := by
        rintro (z | z | z)
        · omega
        · omega
        · rw [em, top_bit0 i0 i1] at z; omega
      constructor
      · show _ = cO DC DK pen ty tx lk i (m + 1 + 1) to fr be 0
        rw [cO_s _ _ _ _ _ _ _ (m + 1), if_neg hb]
      · show pb i m (to + 1) = pb i (m + 1) to
        rw [pb_s, top_bit0 i0 i1, if_neg (by omega)]
    · rw [ih (to + 1) to _ (by omega) (by omega) hk.2]
      unfold pcs
      have hb : ∀ i : Int, 0 ≤ i → i < 2 ^ m → bd ty (2 ^ m + i) to := fun i i0 i1 => Or.inr (Or.inr (by rw [em, top_bit1 i0 i1]))
      have hlow : ∀ i : Int, ∀ pl, to + 1 ≤ pl → pl < to + 1 + ((m + 1 : Nat) : Int) → (bd ty (2 ^ m + i) pl ↔ bd ty i pl) := by
        intro i pl hp hp2
        by_cases hpl : pl < ty
        · unfold bd
          rw [low_bit i (show (ty - 1 - pl).toNat < m by omega)]
        · have hpt : pl = ty := by omega
          exact ⟨fun _ => Or.inr (Or.inl hpt), fun _ => Or.inr (Or.inl hpt)⟩
      by_cases h4 : fpC DC pen ty tx fr (to - fr) < 0
      · rw [if_pos h4]
        symm
        refine sp_none _ (fun i i0 i1 => ?_)
        rw [pw_cast] at i1
        show cO DC DK pen ty tx lk (((2 ^ m : Nat) : Int) + i) (m + 1 + 1) to fr be 0 < 0
        rw [pw_cast, cO_s _ _ _ _ _ _ _ (m + 1), if_pos (hb i i0 i1), if_pos h4]
        omega
      · rw [if_neg h4, ← sp_map (by omega)]
        refine sp_congr _ (fun i i0 i1 => ?_)
        rw [pw_cast] at i1
        constructor
        · show (if cO DC DK pen ty tx lk i (m + 1) (to + 1) to (fpK DC DK ty tx fr (to - fr)) 0 < 0 then -1 else cO DC DK pen ty tx lk i (m + 1) (to + 1) to (fpK DC DK ty tx fr (to - fr)) 0 + (fpC DC pen ty tx fr (to - fr) + lnk lk be (fpK DC DK ty tx fr (to - fr)))) = cO DC DK pen ty tx lk (((2 ^ m : Nat) : Int) + i) (m + 1 + 1) to fr be 0
          rw [pw_cast, cO_s _ _ _ _ _ _ _ (m + 1), if_pos (hb i i0 i1), if_neg h4, cO_low (c1 := 2 ^ m + i) (c2 := i) (m + 1) (to + 1) to _ _ (hlow i)]
          have e1 := cO_add hd hlk (pen := pen) (ty := ty) (tx := tx) (cut := i) (m + 1) (to + 1) to (fpK DC DK ty tx fr (to - fr)) (0 + fpC DC pen ty tx fr (to - fr) + lnk lk be (fpK DC DK ty tx fr (to - fr))) (by omega) hk.2
          unfold lnk at e1 ⊢
          rw [e1, Int.zero_add]
        · show to :: pb i m (to + 1) = pb (((2 ^ m : Nat) : Int) + i) (m + 1) to
          rw [pw_cast, pb_s, top_bit1 i0 i1, if_pos rfl, pb_low i m m (to + 1) (Nat.le_refl _)]
end LAT
end
section
/-! PURE: the table's rows against the cuts; the two sides tell the same -/
def bk (k : Int) : Int := if k < 4 then k else -1
def nthI (l : List Int) (x : Int) : Int := if x < 0 then -1 else l.getD x.toNat (-1)
theorem pb_len (cut : Int) : ∀ (m : Nat) (to : Int), (pb cut m to).length ≤ m + 1 := by
  intro m
  induction m with
  | zero => intro to; exact Nat.le_refl _
  | succ m ih =>
    intro to
    have := ih (to + 1)
    rw [pb_s]
    split
    · rw [List.length_cons]; omega
    · omega
theorem sB_pb {ty cs x : Int} : ∀ (m : Nat) (pl ct : Int), pl + m = ty → 1 ≤ pl → sB ty cs x (m + 1) pl ct = nthI (pb cs m pl) (x - ct) := by
  intro m
  induction m with
  | zero =>
    intro pl ct h1 h2
    rw [sB_s, if_pos (Or.inr (Or.inl (by omega)))]
    unfold nthI
    by_cases e : ct = x
    · rw [if_pos e, if_neg (by omega), show (x - ct).toNat = 0 by omega]; rfl
    · rw [if_neg e]
      by_cases z : x - ct < 0
      · rw [if_pos z]; rfl
      · rw [if_neg z]
        obtain ⟨j, hj⟩ : ∃ j, (x - ct).toNat = j + 1 := ⟨(x - ct).toNat - 1, by omega⟩
        rw [hj]; rfl
  | succ m ih =>
    intro pl ct h1 h2
    have em : (ty - 1 - pl).toNat = m := by omega
    have hb : bd ty cs pl ↔ cs / 2 ^ m % 2 = 1 := by
      constructor
      · rintro (z | z | z)
        · omega
        · omega
        · rw [em] at z; exact z
      · intro z
        exact Or.inr (Or.inr (by rw [em]; exact z))
    rw [sB_s, pb_s]
    by_cases h : cs / 2 ^ m % 2 = 1
    · rw [if_pos (hb.mpr h), if_pos h, ih (pl + 1) (ct + 1) (by omega) (by omega)]
      unfold nthI
      by_cases e : ct = x
      · rw [if_pos e, if_neg (by omega), show (x - ct).toNat = 0 by omega]; rfl
      · rw [if_neg e]
        by_cases z : x - ct < 0
        · rw [if_pos z, if_pos (by omega)]
        · rw [if_neg z, if_neg (by omega)]
          obtain ⟨j, hj⟩ : ∃ j, (x - ct).toNat = j + 1 := ⟨(x - ct).toNat - 1, by omega⟩
          rw [hj, show (x - (ct + 1)).toNat = j by omega]; rfl
    · rw [if_neg (fun z => h (hb.mp z)), if_neg h, ih (pl + 1) ct (by omega) (by omega)]
section ROWS
variable {DC DK CN : List Int → Int} {pen ty : Int} {tx lk cp nu fl : Int → Int}
def Es (DC DK : List Int → Int) (pen ty : Int) (tx lk : Int → Int) (a k : Int) : Option SMt := if a = ty then some (0, 1, []) else Qs DC DK pen ty tx lk (ty - a - 1).toNat (a + 1) a (bk k)
def prt (DC DK : List Int → Int) (pen ty : Int) (tx lk : Int → Int) (a k n : Int) : Option SMt := pcs DC DK pen ty tx lk a (a + n) (bk k) (Es DC DK pen ty tx lk (a + n) (fpK DC DK ty tx a n))
def Rs (DC DK : List Int → Int) (pen ty : Int) (tx lk : Int → Int) (a k : Int) : Nat → Option SMt
  | 0 => none
  | n + 1 => mrg (prt DC DK pen ty tx lk a k ((n + 1 : Nat) : Int)) (Rs DC DK pen ty tx lk a k n)
theorem Rs_s (a k : Int) (n : Nat) : Rs DC DK pen ty tx lk a k (n + 1) = mrg (prt DC DK pen ty tx lk a k ((n + 1 : Nat) : Int)) (Rs DC DK pen ty tx lk a k n) := rfl
theorem prt_none {a k n : Int} (h : fpC DC pen ty tx a n < 0) : prt DC DK pen ty tx lk a k n = none := by
  unfold prt pcs
  rw [show a + n - a = n by omega, if_pos h]
theorem R_total (hd : Dic DC DK CN) {a k : Int} (ha : a < ty) : ∀ m : Nat, m < (ty - a).toNat → mrg (Qs DC DK pen ty tx lk m (ty - m) a (bk k)) (Rs DC DK pen ty tx lk a k ((ty - a).toNat - 1 - m)) = Rs DC DK pen ty tx lk a k (ty - a).toNat := by
  intro m
  induction m with
  | zero =>
    intro h
    obtain ⟨N, hN⟩ : ∃ N, (ty - a).toNat = N + 1 := ⟨(ty - a).toNat - 1, by omega⟩
    rw [hN, Rs_s, show N + 1 - 1 - 0 = N by omega]
    congr 1
    unfold prt Es
    rw [show a + ((N + 1 : Nat) : Int) = ty by omega, if_pos rfl, show ty - ((0 : Nat) : Int) = ty by omega]
    rfl
  | succ m ih =>
    intro h
    have hk : 0 ≤ fpK DC DK ty tx a (ty - ((m + 1 : Nat) : Int) - a) ∧ fpK DC DK ty tx a (ty - ((m + 1 : Nat) : Int) - a) ≤ 3 := fpK_rg hd
    obtain ⟨n, hn⟩ : ∃ n, (ty - a).toNat - 1 - m = n + 1 := ⟨(ty - a).toNat - 1 - m - 1, by omega⟩
    have e0 := ih (by omega)
    rw [hn, Rs_s, ← mrg_assoc] at e0
    rw [← e0, show (ty - a).toNat - 1 - (m + 1) = n by omega, Qs_s]
    congr 1
    have et : a + ((n + 1 : Nat) : Int) = ty - ((m + 1 : Nat) : Int) := by omega
    rw [show ty - ((m + 1 : Nat) : Int) + 1 = ty - (m : Int) by omega]
    congr 1
    unfold prt Es
    rw [et, if_neg (by omega), show ((n + 1 : Nat) : Int) = ty - ((m + 1 : Nat) : Int) - a by omega, show (ty - (ty - ((m + 1 : Nat) : Int)) - 1).toNat = m by omega, show ty - ((m + 1 : Nat) : Int) + 1 = ty - (m : Int) by omega]
    congr 2
    unfold bk
    rw [if_pos (by omega)]
theorem Es_Rs (hd : Dic DC DK CN) {a k : Int} (ha : a < ty) : Es DC DK pen ty tx lk a k = Rs DC DK pen ty tx lk a k (ty - a).toNat := by
  have h := R_total hd (pen := pen) (tx := tx) (lk := lk) (k := k) ha (ty - a - 1).toNat (by omega)
  rw [show (ty - a).toNat - 1 - (ty - a - 1).toNat = 0 by omega, show ty - (((ty - a - 1).toNat : Nat) : Int) = a + 1 by omega] at h
  unfold Es
  rw [if_neg (by omega), ← h]
  exact (mrg_nr _).symm
theorem Rs_stop {a k : Int} {N : Nat} (h : ∀ n : Nat, N < n → fpC DC pen ty tx a n < 0) : ∀ n : Nat, N ≤ n → Rs DC DK pen ty tx lk a k n = Rs DC DK pen ty tx lk a k N := by
  intro n
  induction n with
  | zero => intro z; have : N = 0 := by omega
            rw [this]
  | succ n ih =>
    intro z
    by_cases e : N = n + 1
    · rw [e]
    · rw [Rs_s, prt_none (h (n + 1) (by omega)), mrg_nl]
      exact ih (by omega)
theorem Rs_five (hd : Dic DC DK CN) {a k : Int} (ha : a < ty) : Rs DC DK pen ty tx lk a k (ty - a).toNat = Rs DC DK pen ty tx lk a k 5 := by
  have h1 : ∀ n : Nat, 5 < n → fpC DC pen ty tx a n < 0 := by
    intro n hn
    unfold fpC
    by_cases z : ty < a + (n : Int)
    · rw [if_pos z]; omega
    · rw [if_neg z, if_neg ?_, if_neg (by omega)]
      · omega
      · intro y
        have := (hd.2.2.2.1 _ y).2.2.1
        rw [lst_length] at this
        omega
  have h2 : ∀ n : Nat, (ty - a).toNat < n → fpC DC pen ty tx a n < 0 := by
    intro n hn
    unfold fpC
    rw [if_pos (by omega)]
    omega
  rw [← Rs_stop (lk := lk) (DK := DK) (k := k) h1 ((ty - a).toNat + 5) (by omega), ← Rs_stop (lk := lk) (DK := DK) (k := k) h2 ((ty - a).toNat + 5) (by omega)]
theorem lnk_bk {k j : Int} (h : 0 ≤ k) : lnk lk (bk k) j = if k < 4 then lk (4 * k + j) else 0 := by
  unfold lnk bk
  by_cases z : k < 4
  · rw [if_pos z, if_pos z, if_pos h]
  · rw [if_neg z, if_neg z, if_neg (by omega)]
theorem tab_E (hT : Tab DC DK pen ty tx lk cp nu fl 0) (hd : Dic DC DK CN) (hp : 1 ≤ pen ∧ pen ≤ 99) (hlk : ∀ i, 0 ≤ i → i < 16 → 0 ≤ lk i ∧ lk i ≤ 99) (hty : ty ≤ 12) : ∀ (M : Nat) (a k : Int), a + M = ty → 0 ≤ a → 0 ≤ k → k < 5 → ∃ path, Es DC DK pen ty tx lk a k = some (cp (5 * a + k), nu (5 * a + k), path) ∧ (a < ty → ∃ path' b c, path = (a + fl (5 * a + k)) :: path' ∧ Es DC DK pen ty tx lk (a + fl (5 * a + k)) (fpK DC DK ty tx a (fl (5 * a + k))) = some (b, c, path')) ∧ (a = ty → path = []) := by
  intro M
  induction M using Nat.strongRecOn with
  | _ M ih =>
    intro a k h1 h2 k0 k5
    by_cases hM : M = 0
    · have e : a = ty := by omega
      refine ⟨[], ?_, fun z => by omega, fun _ => rfl⟩
      unfold Es
      have := hT.1 k k0 k5
      rw [if_pos e, e, this.1, this.2.1]
    · have ha : a < ty := by omega
      have hrow := hT.2 a h2 ha k k0 k5
      have hlen := hT.len hd hp hlk hty (by omega) h2 ha k0 k5
      have hrg := hT.rg hd hp hlk hty (by omega) M a h1 h2 k k0 k5
      rw [hrow.1] at hrg
      have inner : ∀ n : Nat, n ≤ 5 → (Rs DC DK pen ty tx lk a k n = none ∧ rl cp nu lk (fpC DC pen ty tx a) (fpK DC DK ty tx a) a k n = (1000000, 0, 0)) ∨ (∃ path', Rs DC DK pen ty tx lk a k n = some ((rl cp nu lk (fpC DC pen ty tx a) (fpK DC DK ty tx a) a k n).1, (rl cp nu lk (fpC DC pen ty tx a) (fpK DC DK ty tx a) a k n).2.1, (a + (rl cp nu lk (fpC DC pen ty tx a) (fpK DC DK ty tx a) a k n).2.2) :: path') ∧ (rl cp nu lk (fpC DC pen ty tx a) (fpK DC DK ty tx a) a k n).1 < 1000000 ∧ ∃ b c, Es DC DK pen ty tx lk (a + (rl cp nu lk (fpC DC pen ty tx a) (fpK DC DK ty tx a) a k n).2.2) (fpK DC DK ty tx a (rl cp nu lk (fpC DC pen ty tx a) (fpK DC DK ty tx a) a k n).2.2) = some (b, c, path')) := by
        intro n
        induction n with
        | zero => intro _; exact Or.inl ⟨rfl, rfl⟩
        | succ n ihn =>
          intro hn
          have h0 := ihn (by omega)
          rw [Rs_s, rl_s]
          by_cases hf : fpC DC pen ty tx a ((n + 1 : Nat) : Int) < 0
          · rw [prt_none hf, mrg_nl, if_neg (by omega)]
            exact h0
          · rw [if_pos (by omega)]
            have hin := fpC_in (show 0 ≤ fpC DC pen ty tx a ((n + 1 : Nat) : Int) by omega)
            have hk : 0 ≤ fpK DC DK ty tx a ((n + 1 : Nat) : Int) ∧ fpK DC DK ty tx a ((n + 1 : Nat) : Int) ≤ 3 := fpK_rg hd
            obtain ⟨pn, en, -, -⟩ := ih (M - (n + 1)) (by omega) (a + ((n + 1 : Nat) : Int)) (fpK DC DK ty tx a ((n + 1 : Nat) : Int)) (by omega) (by omega) hk.1 (by omega)
            have hr2 := hT.rg hd hp hlk hty (by omega) (M - (n + 1)) (a + ((n + 1 : Nat) : Int)) (by omega) (by omega) (fpK DC DK ty tx a ((n + 1 : Nat) : Int)) hk.1 (by omega)
            have hfc := fpC_rg hd (le := ty) (tx := tx) (a := a) (n := ((n + 1 : Nat) : Int)) hp
            have ew : wy cp lk (fpC DC pen ty tx a) (fpK DC DK ty tx a) a k ((n + 1 : Nat) : Int) = cp (5 * (a + ((n + 1 : Nat) : Int)) + fpK DC DK ty tx a ((n + 1 : Nat) : Int)) + (fpC DC pen ty tx a ((n + 1 : Nat) : Int) + lnk lk (bk k) (fpK DC DK ty tx a ((n + 1 : Nat) : Int))) := by
              unfold wy
              rw [lnk_bk k0]
              omega
            have hlb : lnk lk (bk k) (fpK DC DK ty tx a ((n + 1 : Nat) : Int)) ≤ 99 := (lnk_rg hlk (by unfold bk; split <;> omega) hk).2
            have ep : prt DC DK pen ty tx lk a k ((n + 1 : Nat) : Int) = some (wy cp lk (fpC DC pen ty tx a) (fpK DC DK ty tx a) a k ((n + 1 : Nat) : Int), nu (5 * (a + ((n + 1 : Nat) : Int)) + fpK DC DK ty tx a ((n + 1 : Nat) : Int)), (a + ((n + 1 : Nat) : Int)) :: pn) := by
              unfold prt pcs
              rw [show a + ((n + 1 : Nat) : Int) - a = ((n + 1 : Nat) : Int) by omega, if_neg hf, en, ew]
              rfl
            rw [ep]
            have hw : wy cp lk (fpC DC pen ty tx a) (fpK DC DK ty tx a) a k ((n + 1 : Nat) : Int) < 1000000 := by
              rw [ew]
              omega
            generalize wy cp lk (fpC DC pen ty tx a) (fpK DC DK ty tx a) a k ((n + 1 : Nat) : Int) = way at hw ⊢
            generalize nu (5 * (a + ((n + 1 : Nat) : Int)) + fpK DC DK ty tx a ((n + 1 : Nat) : Int)) = cnt
            right
            rcases h0 with ⟨g1, g2⟩ | ⟨p1, g1, g2, g3⟩
            · rw [g1, g2, mrg_nr]
              unfold relax
              rw [if_pos (show way < (1000000 : Int) from hw)]
              exact ⟨pn, rfl, hw, _, _, en⟩
            · generalize rl cp nu lk (fpC DC pen ty tx a) (fpK DC DK ty tx a) a k n = t at g1 g2 g3 ⊢
              rw [g1]
              unfold relax
              rcases Int.lt_trichotomy way t.1 with h | h | h
              · rw [if_pos h, mrg_gt (show way < t.1 from h)]
                exact ⟨pn, rfl, hw, _, _, en⟩
              · rw [if_neg (by omega), if_pos h, mrg_eq (show t.1 = way from h.symm)]
                refine ⟨pn, ?_, g2, _, _, en⟩
                show some (way, cnt + t.2.1, (a + ((n + 1 : Nat) : Int)) :: pn) = some (t.1, t.2.1 + cnt, (a + ((n + 1 : Nat) : Int)) :: pn)
                rw [h, Int.add_comm]
              · rw [if_neg (by omega), if_neg (by omega), mrg_lt (show t.1 < way from h)]
                exact ⟨p1, rfl, g2, g3⟩
      rcases inner 5 (by omega) with ⟨g1, g2⟩ | ⟨p1, g1, g2, g3⟩
      · exfalso
        rw [g2] at hrg
        have : (1000000 : Int) ≤ 198 * (M : Int) := hrg.2
        omega
      · refine ⟨(a + (rl cp nu lk (fpC DC pen ty tx a) (fpK DC DK ty tx a) a k 5).2.2) :: p1, ?_, fun _ => ?_, fun z => by omega⟩
        · rw [Es_Rs hd ha, Rs_five hd ha, g1, hrow.1, hrow.2.1]
        · obtain ⟨b, c, g3⟩ := g3
          rw [hlen.1]
          exact ⟨p1, b, c, rfl, g3⟩
theorem fol_E (hT : Tab DC DK pen ty tx lk cp nu fl 0) (hd : Dic DC DK CN) (hp : 1 ≤ pen ∧ pen ≤ 99) (hlk : ∀ i, 0 ≤ i → i < 16 → 0 ≤ lk i ∧ lk i ≤ 99) (hty : ty ≤ 12) : ∀ (n : Nat) (a k b c : Int) (path : List Int), 0 ≤ a → a ≤ ty → 0 ≤ k → k < 5 → Es DC DK pen ty tx lk a k = some (b, c, path) → fol DC DK ty tx fl n a k = (a :: path).getD n (-1) := by
  intro n
  induction n with
  | zero => intro a k b c path _ _ _ _ _; rfl
  | succ n ih =>
    intro a k b c path h1 h2 h3 h4 h5
    obtain ⟨p2, e1, e2, e3⟩ := tab_E hT hd hp hlk hty (ty - a).toNat a k (by omega) h1 h3 h4
    rw [e1] at h5
    have hpp : p2 = path := by
      have := Option.some.inj h5
      exact congrArg (fun t => t.2.2) this
    subst hpp
    rw [fol]
    by_cases z : ty ≤ a
    · rw [if_pos z, e3 (by omega)]; rfl
    · rw [if_neg z]
      obtain ⟨p3, b', c', e4, e5⟩ := e2 (by omega)
      have hlen := hT.len hd hp hlk hty (by omega) h1 (show a < ty by omega) h3 h4
      have hk : 0 ≤ fpK DC DK ty tx a (fl (5 * a + k)) ∧ fpK DC DK ty tx a (fl (5 * a + k)) ≤ 3 := fpK_rg hd
      rw [ih _ _ b' c' p3 (by omega) (by omega) hk.1 (by omega) e5, e4]
      rfl
/-- the two sides tell the same of the cuts -/
theorem same_cuts (hT : Tab DC DK pen ty tx lk cp nu fl 0) (hd : Dic DC DK CN) (hp : 1 ≤ pen ∧ pen ≤ 99) (hlk : ∀ i, 0 ≤ i → i < 16 → 0 ≤ lk i ∧ lk i ≤ 99) (hty : 0 ≤ ty ∧ ty ≤ 12) :
    cp 4 = (scan (cF DC DK pen ty tx lk) (cuts ty).toNat).1 ∧ nu 4 = (scan (cF DC DK pen ty tx lk) (cuts ty).toNat).2.1 ∧ ∀ x : Int, 0 ≤ x → (if 12 < x then -1 else fol DC DK ty tx fl x.toNat 0 4) = sB ty (scan (cF DC DK pen ty tx lk) (cuts ty).toNat).2.2 x (ty + 1).toNat 0 0 := by
  obtain ⟨path, e1, e2, e3⟩ := tab_E hT hd hp hlk hty.2 ty.toNat 0 4 (by omega) (by omega) (by omega) (by omega)
  have hfol := fun n => fol_E hT hd hp hlk hty.2 n 0 4 _ _ path (by omega) hty.1 (by omega) (by omega) e1
  rw [show (5 : Int) * 0 + 4 = 4 by omega] at e1 e2
  by_cases h0 : ty = 0
  · have hc : (cuts ty).toNat = 1 := by unfold cuts; rw [if_neg (by omega)]; rfl
    have hz : ∀ i, cF DC DK pen ty tx lk i = 0 := by
      intro i
      unfold cF
      rw [show ty.toNat = 0 by omega]
      rfl
    have hs : scan (cF DC DK pen ty tx lk) 1 = (0, 1, 0) := by
      rw [scan_s, hz]
      rfl
    rw [hc, hs]
    have e4 : Es DC DK pen ty tx lk 0 4 = some (0, 1, []) := by unfold Es; rw [if_pos h0.symm]
    rw [e4] at e1
    have e5 := Option.some.inj e1
    refine ⟨(congrArg (fun t => t.1) e5).symm, (congrArg (fun t => t.2.1) e5).symm, fun x hx => ?_⟩
    rw [hfol, e3 h0.symm, show (ty + 1).toNat = 0 + 1 by omega, sB_s, if_pos (Or.inl rfl)]
    by_cases hx0 : x = 0
    · subst hx0
      rw [if_neg (by omega), if_pos rfl]
      rfl
    · have hx1 : ¬ (0 : Int) = x := fun z => hx0 z.symm
      rw [if_neg hx1]
      obtain ⟨j, hj⟩ : ∃ j, x.toNat = j + 1 := ⟨x.toNat - 1, by omega⟩
      rw [hj]
      show (if 12 < x then -1 else ([] : List Int).getD j (-1)) = -1
      split <;> rfl
  · have e4 : Es DC DK pen ty tx lk 0 4 = Qs DC DK pen ty tx lk (ty - 1).toNat 1 0 (-1) := by
      unfold Es
      rw [if_neg (by omega), show ty - 0 - 1 = ty - 1 by omega]
      rfl
    have e5 := Qs_sp hd hlk (pen := pen) (ty := ty) (tx := tx) (ty - 1).toNat 1 0 (-1) (by omega) (by omega) (by omega)
    rw [← e4, e1, show (ty - 1).toNat + 1 = ty.toNat by omega] at e5
    have hcu : (cuts ty).toNat = 2 ^ (ty - 1).toNat := by
      unfold cuts
      by_cases z : 1 < ty
      · rw [if_pos z, ← pw_cast]
        exact Int.toNat_natCast _
      · rw [if_neg z, show (ty - 1).toNat = 0 by omega]; rfl
    have hsc := scan_sp (f := cF DC DK pen ty tx lk) (fun cut => pb cut (ty - 1).toNat 1) (2 ^ (ty - 1).toNat)
    have e6 : sp (cF DC DK pen ty tx lk) (fun cut => pb cut (ty - 1).toNat 1) (2 ^ (ty - 1).toNat) = some (cp 4, nu 4, path) := e5.symm
    rw [hcu]
    generalize scan (cF DC DK pen ty tx lk) (2 ^ (ty - 1).toNat) = t at hsc ⊢
    rcases hsc with ⟨g1, g2⟩ | ⟨g1, g2⟩
    · rw [g2] at e6; cases e6
    · rw [g2] at e6
      have e7 := Option.some.inj e6
      have e8 : path = pb t.2.2 (ty - 1).toNat 1 := (congrArg (fun t => t.2.2) e7).symm
      refine ⟨(congrArg (fun t => t.1) e7).symm, (congrArg (fun t => t.2.1) e7).symm, fun x hx => ?_⟩
      rw [hfol, show (ty + 1).toNat = ty.toNat + 1 by omega, sB_s, if_pos (Or.inl rfl)]
      by_cases hx0 : x = 0
      · subst hx0
        rw [if_neg (by omega), if_pos rfl]
        rfl
      · have hx1 : ¬ (0 : Int) = x := fun z => hx0 z.symm
        have hx2 : ¬ x - 1 < 0 := by omega
        rw [if_neg hx1, show ty.toNat = (ty - 1).toNat + 1 by omega, sB_pb (ty - 1).toNat (0 + 1) (0 + 1) (by omega) (by omega)]
        have hl := pb_len t.2.2 (ty - 1).toNat 1
        rw [← e8] at hl
        obtain ⟨j, hj⟩ : ∃ j, x.toNat = j + 1 := ⟨x.toNat - 1, by omega⟩
        unfold nthI
        rw [show (0 : Int) + 1 = 1 by omega, ← e8, if_neg hx2, hj, show (x - 1).toNat = j by omega]
        show (if 12 < x then -1 else path.getD j (-1)) = path.getD j (-1)
        by_cases z : 12 < x
        · rw [if_pos z, List.getD_eq_getElem?_getD, List.getElem?_eq_none (by omega)]
          rfl
        · rw [if_neg z]
end ROWS
end
section
/-! WALKS: the two constructors: printed by gen/init.py -/
set_option maxRecDepth 100000
theorem kn_arr {args : Array Value} {s : State} (h : (Cond.arrayClass .int).before args s = true) : ∃ dA : ClassId, ArrOfT s dA .int ∧ va_RA s dA .int := by
  obtain ⟨cA, kA, comp, h1, h2, h3⟩ := Cond.arrayClass_spec h
  exact ⟨cA, fun n z => ⟨fun k h => (by cases h), kA, h2, comp, h3⟩, h1⟩
theorem kn_eq {D : va_G} {dA cA : ClassId} {s : State} (h1 : va_K D vwCl [(dA, .int)] s) (h2 : va_K D vwCl ([(dA, .int)] ++ [(cA, .int)]) s) : dA = cA := by
  have e1 : s.vm.findClass ("[" ++ FieldType.int.toString) = some dA := (h1.2 0 _ rfl).2
  have e2 : s.vm.findClass ("[" ++ FieldType.int.toString) = some cA := (h2.2 1 _ rfl).2
  exact Option.some.inj (e1.symm.trans e2)
def clP (x : Int) : Int := if x < 1 then 1 else if 99 < x then 99 else x
theorem clP_rg (x : Int) : 1 ≤ clP x ∧ clP x ≤ 99 := by unfold clP; split; omega; split <;> omega
abbrev zF : Int → Int := fun _ => 0
abbrev adr (l : List Nat) : Nat → Nat := fun k => l.getD k 0
def XInit (x : Int) (u : SX) : Prop := ∃ ch co, u = (clP x, zF, ch, co, zF, zF, 0, zF, 0, zF, zF, 0, zF, zF, zF, 0, 0) ∧ (ch 0 = 0 ∧ ∀ i, 0 < i → i < 512 → ch i = -1) ∧ ∀ i, 0 ≤ i → i < 512 → co i = -1
section INX
variable {l : Launch} {D : va_G} {dA : ClassId} {ad : Nat → Nat} {K : KX} {R : Room} {pen sp le cf pC pK : Int} {ba ch co ki wo sl tx lk cp nu fl : Int → Int}
theorem l_xi {x : Int} (kr : ∀ (pc : Nat) (lv : List (Option Value)) (ch co : Int → Int), decode cX1_init pc = .ok (.return_, 1) → (ch 0 = 0 ∧ ∀ i, 0 < i → i < 512 → ch i = -1) → (∀ i, 0 ≤ i → i < 512 → co i = -1) → SV l D dA (wX dA ad) RX1 cX1_init 3 R K (pen, ba, ch, co, ki, wo, sp, sl, le, tx, lk, cf, cp, nu, fl, pC, pK) pc lv []) : ∀ (n : Nat) (i : Int) (ch co : Int → Int), i + n = 512 → 0 ≤ i → (∀ j, 0 ≤ j → j < i → ch j = -1 ∧ co j = -1) → SV l D dA (wX dA ad) RX1 cX1_init 3 R K (pen, ba, ch, co, ki, wo, sp, sl, le, tx, lk, cf, cp, nu, fl, pC, pK) 123 [some (.ref (ad 0)), some (vI x), some (vI i)] [] := by
  intro n
  induction n with
  | zero =>
    intro i ch co h1 h2 hI
    refine s_iload_n 2 dX1_init_123 rfl rfl ?_
    refine s_sipush dX1_init_124 rfl ?_
    refine s_icmp_ge 150 dX1_init_127 (by decide) ⟨by omega, by omega⟩ ⟨by omega, by omega⟩ (fun h127 => ?_) (fun h127 => ?_)
    · skip
      refine s_aload_n 0 dX1_init_150 rfl rfl ?_
      refine xg_ch dX1_init_151 ?_
      refine s_iconst dX1_init_154 ?_
      refine s_iconst dX1_init_155 ?_
      refine xw_ch dX1_init_156 ⟨by omega, by omega⟩ ?_
      exact kr _ _ _ _ dX1_init_157 ⟨upI_s _ _ _, fun j a b => by rw [upI_n (by omega)]; exact (hI j (by omega) (by omega)).1⟩ (fun j a b => (hI j a (by omega)).2)
    · skip
      exfalso; omega
  | succ n ih =>
    intro i ch co h1 h2 hI
    refine s_iload_n 2 dX1_init_123 rfl rfl ?_
    refine s_sipush dX1_init_124 rfl ?_
    refine s_icmp_ge 150 dX1_init_127 (by decide) ⟨by omega, by omega⟩ ⟨by omega, by omega⟩ (fun h127 => ?_) (fun h127 => ?_)
    · skip
      exfalso; omega
    · skip
      refine s_aload_n 0 dX1_init_130 rfl rfl ?_
      refine xg_ch dX1_init_131 ?_
      refine s_iload_n 2 dX1_init_134 rfl rfl ?_
      refine s_iconst dX1_init_135 ?_
      refine xw_ch dX1_init_136 ⟨by omega, by omega⟩ ?_
      refine s_aload_n 0 dX1_init_137 rfl rfl ?_
      refine xg_co dX1_init_138 ?_
      refine s_iload_n 2 dX1_init_141 rfl rfl ?_
      refine s_iconst dX1_init_142 ?_
      refine xw_co dX1_init_143 ⟨by omega, by omega⟩ ?_
      refine s_iinc [some (.ref (ad 0)), some (vI x), some (vI (i + 1))] dX1_init_144 rfl (by decide) rfl ?_
      refine s_goto 123 dX1_init_147 (by decide) ?_
      refine ih _ _ _ (by omega) (by omega) (fun j a b => ?_)
      by_cases e : j = i
      · rw [e, upI_s, upI_s]; exact ⟨rfl, rfl⟩
      · rw [upI_n e, upI_n e]; exact hI j a (by omega)
theorem l_xj {x : Int} (kr : ∀ (pc : Nat) (lv : List (Option Value)) (ch co : Int → Int), decode cX1_init pc = .ok (.return_, 1) → (ch 0 = 0 ∧ ∀ i, 0 < i → i < 512 → ch i = -1) → (∀ i, 0 ≤ i → i < 512 → co i = -1) → SV l D dA (wX dA ad) RX1 cX1_init 3 R K (pen, ba, ch, co, ki, wo, sp, sl, le, tx, lk, cf, cp, nu, fl, pC, pK) pc lv []) : SV l D dA (wX dA ad) RX1 cX1_init 3 R K (pen, ba, ch, co, ki, wo, sp, sl, le, tx, lk, cf, cp, nu, fl, pC, pK) 121 [some (.ref (ad 0)), some (vI x), none] [] := by
  refine s_iconst dX1_init_121 ?_
  refine s_istore_n 2 [some (.ref (ad 0)), some (vI x), some (vI 0)] dX1_init_122 rfl (by decide) rfl ?_
  exact l_xi kr 512 0 _ _ (by omega) (by omega) (fun j a b => by omega)
end INX
set_option maxHeartbeats 4000000 in
theorem c_xinit {l : Launch} {D : va_G} {dA : ClassId} (o sz : Nat) {x : Int} (hx0 : inR x) : Met l yX1_init (ws_ yX1_init cX1_init 3 none) ({ frames := 1, cells := 11, slots := 2788, locals := 12 } : Room) (va_Pc [.ref o, vI x] (fun U => U.heap.size = sz ∧ va_P D vwCl [(o, .inr (0, [(vI 0), .null, .null, .null, .null, .null, (vI 0), .null, (vI 0), .null, .null, (vI 0), .null, .null, .null, (vI 0), (vI 0)]))] U.heap ∧ va_K D vwCl [(dA, .int)] U ∧ va_D (fun _ => True) [(o, .inr (0, [(vI 0), .null, .null, .null, .null, .null, (vI 0), .null, (vI 0), .null, .null, (vI 0), .null, .null, .null, (vI 0), (vI 0)]))])) (va_Qv (fun (u : (Nat → Nat) × SX) => u.1 0 = o ∧ XInit x u.2) (fun u t => va_P D vwCl (wX dA u.1 u.2) t.heap ∧ va_K D vwCl [(dA, .int)] t ∧ va_D (va_A [(o, .inr (0, [(vI 0), .null, .null, .null, .null, .null, (vI 0), .null, (vI 0), .null, .null, (vI 0), .null, .null, .null, (vI 0), (vI 0)]))] sz) (wX dA u.1 u.2)) (va_A [(o, .inr (0, [(vI 0), .null, .null, .null, .null, .null, (vI 0), .null, (vI 0), .null, .null, (vI 0), .null, .null, .null, (vI 0), (vI 0)]))] sz)) 11 2788 (va_A [(o, .inr (0, [(vI 0), .null, .null, .null, .null, .null, (vI 0), .null, (vI 0), .null, .null, (vI 0), .null, .null, .null, (vI 0), (vI 0)]))] sz) := by
  refine Met.ofW (cc := cX1_init) (maxL := 3) (ret := none) (by decide) rfl ?_
  intro p e s m args below meth c s₁ B hml hv
  obtain ⟨rfl, hsz, hP, hK, hD0⟩ := hv
  have hx := B.exec
  have hb := B.bytes
  have hr := B.returns
  have hts := atoms_spec (ws := ws_ yX1_init cX1_init 3 none) B.pre
  have hts : ∀ w ∈ lw_all, w.before _ s = true := fun w h => hts w (List.mem_cons_of_mem _ h)
  have hown : s.vm.findClass RX1 = some m.cls := findClass_of_methodNamed B.named
  have hlocks := B.notSynchronized
  have hin : meth.name = "<init>" := (name_of_methodNamed B.named B.method).1
  subst hsz
  have hD := hD0.self (sz := s.heap.size)
  generalize hAe : va_A [(o, .inr (0, [(vI 0), .null, .null, .null, .null, .null, (vI 0), .null, (vI 0), .null, .null, (vI 0), .null, .null, .null, (vI 0), (vI 0)]))] s.heap.size = A at hD ⊢
  have hA : ∀ q : Nat, s.heap.size ≤ q → A q := fun q h => by rw [← hAe]; exact Or.inr h
  have hS : va_S A s.heap s.heap [] := va_S.rf
  have hl := lv_entry ([.ref o, vI x]) (n := 3) (Nat.le_of_ble_eq_true rfl)
  rw [lg_entry_eq]
  generalize (lg_sl ([.ref o, vI x]) ++ List.replicate (3 - (lg_sl ([.ref o, vI x])).length) Slot.unset).toArray = ls at hl ⊢
  have hl : lv_has ls 3 [(0, .ref o), (1, vI x)] := hl
  refine lv_aload_n hx hb dX1_init_0 rfl (lv_at hl 0 rfl) ?_
  refine W.objInit hx hb hown (hts _ q27) (hts _ q28) (hts _ q29) rfl (by rw [hml]; exact hl.1) rfl dX1_init_1 (Nat.le_of_ble_eq_true rfl) (Nat.le_of_ble_eq_true rfl) ?_
  refine W.eq (g2 := F0 m 4 ls []) rfl ?_
  refine lv_aload_n hx hb dX1_init_4 rfl (lv_at hl 0 rfl) ?_
  suffices rest : ∀ v : Int, v = clP x → W p l e (headSpec (ws_ yX1_init cX1_init 3 none) ({ frames := 1, cells := 11, slots := 2788, locals := 12 } : Room)).room s m ([.ref o, vI x] : List Value).toArray below meth c s.heap [] 0 0 _ (F0 m 26 ls [vI v, .ref o]) by
    refine lv_iload_n hx hb dX1_init_5 rfl (lv_at hl 1 rfl) ?_
    refine lv_iconst (v := iI 1) hx hb dX1_init_6 rfl ?_
    refine lv_icmp_ge (tgt := 14) hx hb dX1_init_7 (by decide) (fun c1 => ?_) (fun c1 => ?_)
    · refine lv_iload_n hx hb dX1_init_14 rfl (lv_at hl 1 rfl) ?_
      refine lv_bipush (v := iI 99) hx hb dX1_init_15 rfl ?_
      refine lv_icmp_le (tgt := 25) hx hb dX1_init_17 (by decide) (fun c2 => ?_) (fun c2 => ?_)
      · refine lv_iload_n hx hb dX1_init_25 rfl (lv_at hl 1 rfl) ?_
        exact rest x (by have z1 := (iI_le (x := 1) ⟨by omega, by omega⟩ hx0).mp c1; have z2 := (iI_le (y := 99) hx0 ⟨by omega, by omega⟩).mp c2; unfold clP; rw [if_neg (by omega), if_neg (by omega)])
      · refine lv_bipush (v := iI 99) hx hb dX1_init_20 rfl ?_
        refine lv_goto (tgt := 26) hx hb dX1_init_22 (by decide) ?_
        exact rest 99 (by have z1 := (iI_le (x := 1) ⟨by omega, by omega⟩ hx0).mp c1; have z2 : ¬ x ≤ 99 := fun z => c2 ((iI_le (y := 99) hx0 ⟨by omega, by omega⟩).mpr z); unfold clP; rw [if_neg (by omega), if_pos (by omega)])
    · refine lv_iconst (v := iI 1) hx hb dX1_init_10 rfl ?_
      refine lv_goto (tgt := 26) hx hb dX1_init_11 (by decide) ?_
      exact rest 1 (by have z1 : ¬ 1 ≤ x := fun z => c1 ((iI_le (x := 1) ⟨by omega, by omega⟩ hx0).mpr z); unfold clP; rw [if_pos (by omega)])
  intro v hv
  refine va_putF (D := D) (ci := 0) (v := vI v) (ty := .int) (C := RX1) (T := TX1) (N := 17) hx hb hts in_X1 tyX1 tyX1_ok nmX1 hown hK hP hD hS 0 rfl rfl 0 (by decide) (hts _ q30) (fun _ h9 => h9) rfl hin rfl (by decide +kernel) rfl rfl (Nat.le_of_ble_eq_true rfl) dX1_init_26 (fun H locs hP hD hS => ?_)
  have hP : va_P D vwCl [(o, .inr (0, [vI v, .null, .null, .null, .null, .null, (vI 0), .null, (vI 0), .null, .null, (vI 0), .null, .null, .null, (vI 0), (vI 0)]))] H := hP
  have hD : va_D A [(o, .inr (0, [vI v, .null, .null, .null, .null, .null, (vI 0), .null, (vI 0), .null, .null, (vI 0), .null, .null, .null, (vI 0), (vI 0)]))] := hD
  refine lv_aload_n hx hb dX1_init_29 rfl (lv_at hl 0 rfl) ?_
  refine lv_sipush (v := iI 512) hx hb dX1_init_30 rfl ?_
  refine va_newa (atype := .int) (a0 := (512, .inl (arI zF))) (N' := 512) (ty := .int) hx hb (hts _ q82) rfl hK hP hD hS hA (fun cA => rfl) (by decide) (by decide) (by decide) (by decide) (by decide) dX1_init_33 (fun q1 cA H hK2 hP hD hS => ?_)
  have hcA := kn_eq hK hK2
  subst hcA
  clear hK2
  have hP : va_P D vwCl [(o, .inr (0, [vI v, .null, .null, .null, .null, .null, (vI 0), .null, (vI 0), .null, .null, (vI 0), .null, .null, .null, (vI 0), (vI 0)])), (q1, .inl (dA, 512, .inl (arI zF)))] H := hP
  have hD : va_D A [(o, .inr (0, [vI v, .null, .null, .null, .null, .null, (vI 0), .null, (vI 0), .null, .null, (vI 0), .null, .null, .null, (vI 0), (vI 0)])), (q1, .inl (dA, 512, .inl (arI zF)))] := hD
  refine va_putF (D := D) (ci := 0) (v := .ref q1) (ty := .array .int) (C := RX1) (T := TX1) (N := 17) hx hb hts in_X1 tyX1 tyX1_ok nmX1 hown hK hP hD hS 0 rfl rfl 1 (by decide) (hts _ q31) (fun _ h9 => h9) rfl hin rfl (by decide +kernel) rfl rfl (Nat.le_of_ble_eq_true rfl) dX1_init_35 (fun H locs hP hD hS => ?_)
  have hP : va_P D vwCl [(o, .inr (0, [vI v, .ref q1, .null, .null, .null, .null, (vI 0), .null, (vI 0), .null, .null, (vI 0), .null, .null, .null, (vI 0), (vI 0)])), (q1, .inl (dA, 512, .inl (arI zF)))] H := hP
  have hD : va_D A [(o, .inr (0, [vI v, .ref q1, .null, .null, .null, .null, (vI 0), .null, (vI 0), .null, .null, (vI 0), .null, .null, .null, (vI 0), (vI 0)])), (q1, .inl (dA, 512, .inl (arI zF)))] := hD
  refine lv_aload_n hx hb dX1_init_38 rfl (lv_at hl 0 rfl) ?_
  refine lv_sipush (v := iI 512) hx hb dX1_init_39 rfl ?_
  refine va_newa (atype := .int) (a0 := (512, .inl (arI zF))) (N' := 512) (ty := .int) hx hb (hts _ q82) rfl hK hP hD hS hA (fun cA => rfl) (by decide) (by decide) (by decide) (by decide) (by decide) dX1_init_42 (fun q2 cA H hK2 hP hD hS => ?_)
  have hcA := kn_eq hK hK2
  subst hcA
  clear hK2
  have hP : va_P D vwCl [(o, .inr (0, [vI v, .ref q1, .null, .null, .null, .null, (vI 0), .null, (vI 0), .null, .null, (vI 0), .null, .null, .null, (vI 0), (vI 0)])), (q1, .inl (dA, 512, .inl (arI zF))), (q2, .inl (dA, 512, .inl (arI zF)))] H := hP
  have hD : va_D A [(o, .inr (0, [vI v, .ref q1, .null, .null, .null, .null, (vI 0), .null, (vI 0), .null, .null, (vI 0), .null, .null, .null, (vI 0), (vI 0)])), (q1, .inl (dA, 512, .inl (arI zF))), (q2, .inl (dA, 512, .inl (arI zF)))] := hD
  refine va_putF (D := D) (ci := 0) (v := .ref q2) (ty := .array .int) (C := RX1) (T := TX1) (N := 17) hx hb hts in_X1 tyX1 tyX1_ok nmX1 hown hK hP hD hS 0 rfl rfl 2 (by decide) (hts _ q32) (fun _ h9 => h9) rfl hin rfl (by decide +kernel) rfl rfl (Nat.le_of_ble_eq_true rfl) dX1_init_44 (fun H locs hP hD hS => ?_)
  have hP : va_P D vwCl [(o, .inr (0, [vI v, .ref q1, .ref q2, .null, .null, .null, (vI 0), .null, (vI 0), .null, .null, (vI 0), .null, .null, .null, (vI 0), (vI 0)])), (q1, .inl (dA, 512, .inl (arI zF))), (q2, .inl (dA, 512, .inl (arI zF)))] H := hP
  have hD : va_D A [(o, .inr (0, [vI v, .ref q1, .ref q2, .null, .null, .null, (vI 0), .null, (vI 0), .null, .null, (vI 0), .null, .null, .null, (vI 0), (vI 0)])), (q1, .inl (dA, 512, .inl (arI zF))), (q2, .inl (dA, 512, .inl (arI zF)))] := hD
  refine lv_aload_n hx hb dX1_init_47 rfl (lv_at hl 0 rfl) ?_
  refine lv_sipush (v := iI 512) hx hb dX1_init_48 rfl ?_
  refine va_newa (atype := .int) (a0 := (512, .inl (arI zF))) (N' := 512) (ty := .int) hx hb (hts _ q82) rfl hK hP hD hS hA (fun cA => rfl) (by decide) (by decide) (by decide) (by decide) (by decide) dX1_init_51 (fun q3 cA H hK2 hP hD hS => ?_)
  have hcA := kn_eq hK hK2
  subst hcA
  clear hK2
  have hP : va_P D vwCl [(o, .inr (0, [vI v, .ref q1, .ref q2, .null, .null, .null, (vI 0), .null, (vI 0), .null, .null, (vI 0), .null, .null, .null, (vI 0), (vI 0)])), (q1, .inl (dA, 512, .inl (arI zF))), (q2, .inl (dA, 512, .inl (arI zF))), (q3, .inl (dA, 512, .inl (arI zF)))] H := hP
  have hD : va_D A [(o, .inr (0, [vI v, .ref q1, .ref q2, .null, .null, .null, (vI 0), .null, (vI 0), .null, .null, (vI 0), .null, .null, .null, (vI 0), (vI 0)])), (q1, .inl (dA, 512, .inl (arI zF))), (q2, .inl (dA, 512, .inl (arI zF))), (q3, .inl (dA, 512, .inl (arI zF)))] := hD
  refine va_putF (D := D) (ci := 0) (v := .ref q3) (ty := .array .int) (C := RX1) (T := TX1) (N := 17) hx hb hts in_X1 tyX1 tyX1_ok nmX1 hown hK hP hD hS 0 rfl rfl 3 (by decide) (hts _ q33) (fun _ h9 => h9) rfl hin rfl (by decide +kernel) rfl rfl (Nat.le_of_ble_eq_true rfl) dX1_init_53 (fun H locs hP hD hS => ?_)
  have hP : va_P D vwCl [(o, .inr (0, [vI v, .ref q1, .ref q2, .ref q3, .null, .null, (vI 0), .null, (vI 0), .null, .null, (vI 0), .null, .null, .null, (vI 0), (vI 0)])), (q1, .inl (dA, 512, .inl (arI zF))), (q2, .inl (dA, 512, .inl (arI zF))), (q3, .inl (dA, 512, .inl (arI zF)))] H := hP
  have hD : va_D A [(o, .inr (0, [vI v, .ref q1, .ref q2, .ref q3, .null, .null, (vI 0), .null, (vI 0), .null, .null, (vI 0), .null, .null, .null, (vI 0), (vI 0)])), (q1, .inl (dA, 512, .inl (arI zF))), (q2, .inl (dA, 512, .inl (arI zF))), (q3, .inl (dA, 512, .inl (arI zF)))] := hD
  refine lv_aload_n hx hb dX1_init_56 rfl (lv_at hl 0 rfl) ?_
  refine lv_sipush (v := iI 512) hx hb dX1_init_57 rfl ?_
  refine va_newa (atype := .int) (a0 := (512, .inl (arI zF))) (N' := 512) (ty := .int) hx hb (hts _ q82) rfl hK hP hD hS hA (fun cA => rfl) (by decide) (by decide) (by decide) (by decide) (by decide) dX1_init_60 (fun q4 cA H hK2 hP hD hS => ?_)
  have hcA := kn_eq hK hK2
  subst hcA
  clear hK2
  have hP : va_P D vwCl [(o, .inr (0, [vI v, .ref q1, .ref q2, .ref q3, .null, .null, (vI 0), .null, (vI 0), .null, .null, (vI 0), .null, .null, .null, (vI 0), (vI 0)])), (q1, .inl (dA, 512, .inl (arI zF))), (q2, .inl (dA, 512, .inl (arI zF))), (q3, .inl (dA, 512, .inl (arI zF))), (q4, .inl (dA, 512, .inl (arI zF)))] H := hP
  have hD : va_D A [(o, .inr (0, [vI v, .ref q1, .ref q2, .ref q3, .null, .null, (vI 0), .null, (vI 0), .null, .null, (vI 0), .null, .null, .null, (vI 0), (vI 0)])), (q1, .inl (dA, 512, .inl (arI zF))), (q2, .inl (dA, 512, .inl (arI zF))), (q3, .inl (dA, 512, .inl (arI zF))), (q4, .inl (dA, 512, .inl (arI zF)))] := hD
  refine va_putF (D := D) (ci := 0) (v := .ref q4) (ty := .array .int) (C := RX1) (T := TX1) (N := 17) hx hb hts in_X1 tyX1 tyX1_ok nmX1 hown hK hP hD hS 0 rfl rfl 4 (by decide) (hts _ q34) (fun _ h9 => h9) rfl hin rfl (by decide +kernel) rfl rfl (Nat.le_of_ble_eq_true rfl) dX1_init_62 (fun H locs hP hD hS => ?_)
  have hP : va_P D vwCl [(o, .inr (0, [vI v, .ref q1, .ref q2, .ref q3, .ref q4, .null, (vI 0), .null, (vI 0), .null, .null, (vI 0), .null, .null, .null, (vI 0), (vI 0)])), (q1, .inl (dA, 512, .inl (arI zF))), (q2, .inl (dA, 512, .inl (arI zF))), (q3, .inl (dA, 512, .inl (arI zF))), (q4, .inl (dA, 512, .inl (arI zF)))] H := hP
  have hD : va_D A [(o, .inr (0, [vI v, .ref q1, .ref q2, .ref q3, .ref q4, .null, (vI 0), .null, (vI 0), .null, .null, (vI 0), .null, .null, .null, (vI 0), (vI 0)])), (q1, .inl (dA, 512, .inl (arI zF))), (q2, .inl (dA, 512, .inl (arI zF))), (q3, .inl (dA, 512, .inl (arI zF))), (q4, .inl (dA, 512, .inl (arI zF)))] := hD
  refine lv_aload_n hx hb dX1_init_65 rfl (lv_at hl 0 rfl) ?_
  refine lv_sipush (v := iI 512) hx hb dX1_init_66 rfl ?_
  refine va_newa (atype := .int) (a0 := (512, .inl (arI zF))) (N' := 512) (ty := .int) hx hb (hts _ q82) rfl hK hP hD hS hA (fun cA => rfl) (by decide) (by decide) (by decide) (by decide) (by decide) dX1_init_69 (fun q5 cA H hK2 hP hD hS => ?_)
  have hcA := kn_eq hK hK2
  subst hcA
  clear hK2
  have hP : va_P D vwCl [(o, .inr (0, [vI v, .ref q1, .ref q2, .ref q3, .ref q4, .null, (vI 0), .null, (vI 0), .null, .null, (vI 0), .null, .null, .null, (vI 0), (vI 0)])), (q1, .inl (dA, 512, .inl (arI zF))), (q2, .inl (dA, 512, .inl (arI zF))), (q3, .inl (dA, 512, .inl (arI zF))), (q4, .inl (dA, 512, .inl (arI zF))), (q5, .inl (dA, 512, .inl (arI zF)))] H := hP
  have hD : va_D A [(o, .inr (0, [vI v, .ref q1, .ref q2, .ref q3, .ref q4, .null, (vI 0), .null, (vI 0), .null, .null, (vI 0), .null, .null, .null, (vI 0), (vI 0)])), (q1, .inl (dA, 512, .inl (arI zF))), (q2, .inl (dA, 512, .inl (arI zF))), (q3, .inl (dA, 512, .inl (arI zF))), (q4, .inl (dA, 512, .inl (arI zF))), (q5, .inl (dA, 512, .inl (arI zF)))] := hD
  refine va_putF (D := D) (ci := 0) (v := .ref q5) (ty := .array .int) (C := RX1) (T := TX1) (N := 17) hx hb hts in_X1 tyX1 tyX1_ok nmX1 hown hK hP hD hS 0 rfl rfl 5 (by decide) (hts _ q35) (fun _ h9 => h9) rfl hin rfl (by decide +kernel) rfl rfl (Nat.le_of_ble_eq_true rfl) dX1_init_71 (fun H locs hP hD hS => ?_)
  have hP : va_P D vwCl [(o, .inr (0, [vI v, .ref q1, .ref q2, .ref q3, .ref q4, .ref q5, (vI 0), .null, (vI 0), .null, .null, (vI 0), .null, .null, .null, (vI 0), (vI 0)])), (q1, .inl (dA, 512, .inl (arI zF))), (q2, .inl (dA, 512, .inl (arI zF))), (q3, .inl (dA, 512, .inl (arI zF))), (q4, .inl (dA, 512, .inl (arI zF))), (q5, .inl (dA, 512, .inl (arI zF)))] H := hP
  have hD : va_D A [(o, .inr (0, [vI v, .ref q1, .ref q2, .ref q3, .ref q4, .ref q5, (vI 0), .null, (vI 0), .null, .null, (vI 0), .null, .null, .null, (vI 0), (vI 0)])), (q1, .inl (dA, 512, .inl (arI zF))), (q2, .inl (dA, 512, .inl (arI zF))), (q3, .inl (dA, 512, .inl (arI zF))), (q4, .inl (dA, 512, .inl (arI zF))), (q5, .inl (dA, 512, .inl (arI zF)))] := hD
  refine lv_aload_n hx hb dX1_init_74 rfl (lv_at hl 0 rfl) ?_
  refine lv_iconst (v := iI 5) hx hb dX1_init_75 rfl ?_
  refine va_newa (atype := .int) (a0 := (5, .inl (arI zF))) (N' := 5) (ty := .int) hx hb (hts _ q82) rfl hK hP hD hS hA (fun cA => rfl) (by decide) (by decide) (by decide) (by decide) (by decide) dX1_init_76 (fun q6 cA H hK2 hP hD hS => ?_)
  have hcA := kn_eq hK hK2
  subst hcA
  clear hK2
  have hP : va_P D vwCl [(o, .inr (0, [vI v, .ref q1, .ref q2, .ref q3, .ref q4, .ref q5, (vI 0), .null, (vI 0), .null, .null, (vI 0), .null, .null, .null, (vI 0), (vI 0)])), (q1, .inl (dA, 512, .inl (arI zF))), (q2, .inl (dA, 512, .inl (arI zF))), (q3, .inl (dA, 512, .inl (arI zF))), (q4, .inl (dA, 512, .inl (arI zF))), (q5, .inl (dA, 512, .inl (arI zF))), (q6, .inl (dA, 5, .inl (arI zF)))] H := hP
  have hD : va_D A [(o, .inr (0, [vI v, .ref q1, .ref q2, .ref q3, .ref q4, .ref q5, (vI 0), .null, (vI 0), .null, .null, (vI 0), .null, .null, .null, (vI 0), (vI 0)])), (q1, .inl (dA, 512, .inl (arI zF))), (q2, .inl (dA, 512, .inl (arI zF))), (q3, .inl (dA, 512, .inl (arI zF))), (q4, .inl (dA, 512, .inl (arI zF))), (q5, .inl (dA, 512, .inl (arI zF))), (q6, .inl (dA, 5, .inl (arI zF)))] := hD
  refine va_putF (D := D) (ci := 0) (v := .ref q6) (ty := .array .int) (C := RX1) (T := TX1) (N := 17) hx hb hts in_X1 tyX1 tyX1_ok nmX1 hown hK hP hD hS 0 rfl rfl 7 (by decide) (hts _ q37) (fun _ h9 => h9) rfl hin rfl (by decide +kernel) rfl rfl (Nat.le_of_ble_eq_true rfl) dX1_init_78 (fun H locs hP hD hS => ?_)
  have hP : va_P D vwCl [(o, .inr (0, [vI v, .ref q1, .ref q2, .ref q3, .ref q4, .ref q5, (vI 0), .ref q6, (vI 0), .null, .null, (vI 0), .null, .null, .null, (vI 0), (vI 0)])), (q1, .inl (dA, 512, .inl (arI zF))), (q2, .inl (dA, 512, .inl (arI zF))), (q3, .inl (dA, 512, .inl (arI zF))), (q4, .inl (dA, 512, .inl (arI zF))), (q5, .inl (dA, 512, .inl (arI zF))), (q6, .inl (dA, 5, .inl (arI zF)))] H := hP
  have hD : va_D A [(o, .inr (0, [vI v, .ref q1, .ref q2, .ref q3, .ref q4, .ref q5, (vI 0), .ref q6, (vI 0), .null, .null, (vI 0), .null, .null, .null, (vI 0), (vI 0)])), (q1, .inl (dA, 512, .inl (arI zF))), (q2, .inl (dA, 512, .inl (arI zF))), (q3, .inl (dA, 512, .inl (arI zF))), (q4, .inl (dA, 512, .inl (arI zF))), (q5, .inl (dA, 512, .inl (arI zF))), (q6, .inl (dA, 5, .inl (arI zF)))] := hD
  refine lv_aload_n hx hb dX1_init_81 rfl (lv_at hl 0 rfl) ?_
  refine lv_bipush (v := iI 12) hx hb dX1_init_82 rfl ?_
  refine va_newa (atype := .int) (a0 := (12, .inl (arI zF))) (N' := 12) (ty := .int) hx hb (hts _ q82) rfl hK hP hD hS hA (fun cA => rfl) (by decide) (by decide) (by decide) (by decide) (by decide) dX1_init_84 (fun q7 cA H hK2 hP hD hS => ?_)
  have hcA := kn_eq hK hK2
  subst hcA
  clear hK2
  have hP : va_P D vwCl [(o, .inr (0, [vI v, .ref q1, .ref q2, .ref q3, .ref q4, .ref q5, (vI 0), .ref q6, (vI 0), .null, .null, (vI 0), .null, .null, .null, (vI 0), (vI 0)])), (q1, .inl (dA, 512, .inl (arI zF))), (q2, .inl (dA, 512, .inl (arI zF))), (q3, .inl (dA, 512, .inl (arI zF))), (q4, .inl (dA, 512, .inl (arI zF))), (q5, .inl (dA, 512, .inl (arI zF))), (q6, .inl (dA, 5, .inl (arI zF))), (q7, .inl (dA, 12, .inl (arI zF)))] H := hP
  have hD : va_D A [(o, .inr (0, [vI v, .ref q1, .ref q2, .ref q3, .ref q4, .ref q5, (vI 0), .ref q6, (vI 0), .null, .null, (vI 0), .null, .null, .null, (vI 0), (vI 0)])), (q1, .inl (dA, 512, .inl (arI zF))), (q2, .inl (dA, 512, .inl (arI zF))), (q3, .inl (dA, 512, .inl (arI zF))), (q4, .inl (dA, 512, .inl (arI zF))), (q5, .inl (dA, 512, .inl (arI zF))), (q6, .inl (dA, 5, .inl (arI zF))), (q7, .inl (dA, 12, .inl (arI zF)))] := hD
  refine va_putF (D := D) (ci := 0) (v := .ref q7) (ty := .array .int) (C := RX1) (T := TX1) (N := 17) hx hb hts in_X1 tyX1 tyX1_ok nmX1 hown hK hP hD hS 0 rfl rfl 9 (by decide) (hts _ q39) (fun _ h9 => h9) rfl hin rfl (by decide +kernel) rfl rfl (Nat.le_of_ble_eq_true rfl) dX1_init_86 (fun H locs hP hD hS => ?_)
  have hP : va_P D vwCl [(o, .inr (0, [vI v, .ref q1, .ref q2, .ref q3, .ref q4, .ref q5, (vI 0), .ref q6, (vI 0), .ref q7, .null, (vI 0), .null, .null, .null, (vI 0), (vI 0)])), (q1, .inl (dA, 512, .inl (arI zF))), (q2, .inl (dA, 512, .inl (arI zF))), (q3, .inl (dA, 512, .inl (arI zF))), (q4, .inl (dA, 512, .inl (arI zF))), (q5, .inl (dA, 512, .inl (arI zF))), (q6, .inl (dA, 5, .inl (arI zF))), (q7, .inl (dA, 12, .inl (arI zF)))] H := hP
  have hD : va_D A [(o, .inr (0, [vI v, .ref q1, .ref q2, .ref q3, .ref q4, .ref q5, (vI 0), .ref q6, (vI 0), .ref q7, .null, (vI 0), .null, .null, .null, (vI 0), (vI 0)])), (q1, .inl (dA, 512, .inl (arI zF))), (q2, .inl (dA, 512, .inl (arI zF))), (q3, .inl (dA, 512, .inl (arI zF))), (q4, .inl (dA, 512, .inl (arI zF))), (q5, .inl (dA, 512, .inl (arI zF))), (q6, .inl (dA, 5, .inl (arI zF))), (q7, .inl (dA, 12, .inl (arI zF)))] := hD
  refine lv_aload_n hx hb dX1_init_89 rfl (lv_at hl 0 rfl) ?_
  refine lv_bipush (v := iI 16) hx hb dX1_init_90 rfl ?_
  refine va_newa (atype := .int) (a0 := (16, .inl (arI zF))) (N' := 16) (ty := .int) hx hb (hts _ q82) rfl hK hP hD hS hA (fun cA => rfl) (by decide) (by decide) (by decide) (by decide) (by decide) dX1_init_92 (fun q8 cA H hK2 hP hD hS => ?_)
  have hcA := kn_eq hK hK2
  subst hcA
  clear hK2
  have hP : va_P D vwCl [(o, .inr (0, [vI v, .ref q1, .ref q2, .ref q3, .ref q4, .ref q5, (vI 0), .ref q6, (vI 0), .ref q7, .null, (vI 0), .null, .null, .null, (vI 0), (vI 0)])), (q1, .inl (dA, 512, .inl (arI zF))), (q2, .inl (dA, 512, .inl (arI zF))), (q3, .inl (dA, 512, .inl (arI zF))), (q4, .inl (dA, 512, .inl (arI zF))), (q5, .inl (dA, 512, .inl (arI zF))), (q6, .inl (dA, 5, .inl (arI zF))), (q7, .inl (dA, 12, .inl (arI zF))), (q8, .inl (dA, 16, .inl (arI zF)))] H := hP
  have hD : va_D A [(o, .inr (0, [vI v, .ref q1, .ref q2, .ref q3, .ref q4, .ref q5, (vI 0), .ref q6, (vI 0), .ref q7, .null, (vI 0), .null, .null, .null, (vI 0), (vI 0)])), (q1, .inl (dA, 512, .inl (arI zF))), (q2, .inl (dA, 512, .inl (arI zF))), (q3, .inl (dA, 512, .inl (arI zF))), (q4, .inl (dA, 512, .inl (arI zF))), (q5, .inl (dA, 512, .inl (arI zF))), (q6, .inl (dA, 5, .inl (arI zF))), (q7, .inl (dA, 12, .inl (arI zF))), (q8, .inl (dA, 16, .inl (arI zF)))] := hD
  refine va_putF (D := D) (ci := 0) (v := .ref q8) (ty := .array .int) (C := RX1) (T := TX1) (N := 17) hx hb hts in_X1 tyX1 tyX1_ok nmX1 hown hK hP hD hS 0 rfl rfl 10 (by decide) (hts _ q40) (fun _ h9 => h9) rfl hin rfl (by decide +kernel) rfl rfl (Nat.le_of_ble_eq_true rfl) dX1_init_94 (fun H locs hP hD hS => ?_)
  have hP : va_P D vwCl [(o, .inr (0, [vI v, .ref q1, .ref q2, .ref q3, .ref q4, .ref q5, (vI 0), .ref q6, (vI 0), .ref q7, .ref q8, (vI 0), .null, .null, .null, (vI 0), (vI 0)])), (q1, .inl (dA, 512, .inl (arI zF))), (q2, .inl (dA, 512, .inl (arI zF))), (q3, .inl (dA, 512, .inl (arI zF))), (q4, .inl (dA, 512, .inl (arI zF))), (q5, .inl (dA, 512, .inl (arI zF))), (q6, .inl (dA, 5, .inl (arI zF))), (q7, .inl (dA, 12, .inl (arI zF))), (q8, .inl (dA, 16, .inl (arI zF)))] H := hP
  have hD : va_D A [(o, .inr (0, [vI v, .ref q1, .ref q2, .ref q3, .ref q4, .ref q5, (vI 0), .ref q6, (vI 0), .ref q7, .ref q8, (vI 0), .null, .null, .null, (vI 0), (vI 0)])), (q1, .inl (dA, 512, .inl (arI zF))), (q2, .inl (dA, 512, .inl (arI zF))), (q3, .inl (dA, 512, .inl (arI zF))), (q4, .inl (dA, 512, .inl (arI zF))), (q5, .inl (dA, 512, .inl (arI zF))), (q6, .inl (dA, 5, .inl (arI zF))), (q7, .inl (dA, 12, .inl (arI zF))), (q8, .inl (dA, 16, .inl (arI zF)))] := hD
  refine lv_aload_n hx hb dX1_init_97 rfl (lv_at hl 0 rfl) ?_
  refine lv_bipush (v := iI 65) hx hb dX1_init_98 rfl ?_
  refine va_newa (atype := .int) (a0 := (65, .inl (arI zF))) (N' := 65) (ty := .int) hx hb (hts _ q82) rfl hK hP hD hS hA (fun cA => rfl) (by decide) (by decide) (by decide) (by decide) (by decide) dX1_init_100 (fun q9 cA H hK2 hP hD hS => ?_)
  have hcA := kn_eq hK hK2
  subst hcA
  clear hK2
  have hP : va_P D vwCl [(o, .inr (0, [vI v, .ref q1, .ref q2, .ref q3, .ref q4, .ref q5, (vI 0), .ref q6, (vI 0), .ref q7, .ref q8, (vI 0), .null, .null, .null, (vI 0), (vI 0)])), (q1, .inl (dA, 512, .inl (arI zF))), (q2, .inl (dA, 512, .inl (arI zF))), (q3, .inl (dA, 512, .inl (arI zF))), (q4, .inl (dA, 512, .inl (arI zF))), (q5, .inl (dA, 512, .inl (arI zF))), (q6, .inl (dA, 5, .inl (arI zF))), (q7, .inl (dA, 12, .inl (arI zF))), (q8, .inl (dA, 16, .inl (arI zF))), (q9, .inl (dA, 65, .inl (arI zF)))] H := hP
  have hD : va_D A [(o, .inr (0, [vI v, .ref q1, .ref q2, .ref q3, .ref q4, .ref q5, (vI 0), .ref q6, (vI 0), .ref q7, .ref q8, (vI 0), .null, .null, .null, (vI 0), (vI 0)])), (q1, .inl (dA, 512, .inl (arI zF))), (q2, .inl (dA, 512, .inl (arI zF))), (q3, .inl (dA, 512, .inl (arI zF))), (q4, .inl (dA, 512, .inl (arI zF))), (q5, .inl (dA, 512, .inl (arI zF))), (q6, .inl (dA, 5, .inl (arI zF))), (q7, .inl (dA, 12, .inl (arI zF))), (q8, .inl (dA, 16, .inl (arI zF))), (q9, .inl (dA, 65, .inl (arI zF)))] := hD
  refine va_putF (D := D) (ci := 0) (v := .ref q9) (ty := .array .int) (C := RX1) (T := TX1) (N := 17) hx hb hts in_X1 tyX1 tyX1_ok nmX1 hown hK hP hD hS 0 rfl rfl 12 (by decide) (hts _ q42) (fun _ h9 => h9) rfl hin rfl (by decide +kernel) rfl rfl (Nat.le_of_ble_eq_true rfl) dX1_init_102 (fun H locs hP hD hS => ?_)
  have hP : va_P D vwCl [(o, .inr (0, [vI v, .ref q1, .ref q2, .ref q3, .ref q4, .ref q5, (vI 0), .ref q6, (vI 0), .ref q7, .ref q8, (vI 0), .ref q9, .null, .null, (vI 0), (vI 0)])), (q1, .inl (dA, 512, .inl (arI zF))), (q2, .inl (dA, 512, .inl (arI zF))), (q3, .inl (dA, 512, .inl (arI zF))), (q4, .inl (dA, 512, .inl (arI zF))), (q5, .inl (dA, 512, .inl (arI zF))), (q6, .inl (dA, 5, .inl (arI zF))), (q7, .inl (dA, 12, .inl (arI zF))), (q8, .inl (dA, 16, .inl (arI zF))), (q9, .inl (dA, 65, .inl (arI zF)))] H := hP
  have hD : va_D A [(o, .inr (0, [vI v, .ref q1, .ref q2, .ref q3, .ref q4, .ref q5, (vI 0), .ref q6, (vI 0), .ref q7, .ref q8, (vI 0), .ref q9, .null, .null, (vI 0), (vI 0)])), (q1, .inl (dA, 512, .inl (arI zF))), (q2, .inl (dA, 512, .inl (arI zF))), (q3, .inl (dA, 512, .inl (arI zF))), (q4, .inl (dA, 512, .inl (arI zF))), (q5, .inl (dA, 512, .inl (arI zF))), (q6, .inl (dA, 5, .inl (arI zF))), (q7, .inl (dA, 12, .inl (arI zF))), (q8, .inl (dA, 16, .inl (arI zF))), (q9, .inl (dA, 65, .inl (arI zF)))] := hD
  refine lv_aload_n hx hb dX1_init_105 rfl (lv_at hl 0 rfl) ?_
  refine lv_bipush (v := iI 65) hx hb dX1_init_106 rfl ?_
  refine va_newa (atype := .int) (a0 := (65, .inl (arI zF))) (N' := 65) (ty := .int) hx hb (hts _ q82) rfl hK hP hD hS hA (fun cA => rfl) (by decide) (by decide) (by decide) (by decide) (by decide) dX1_init_108 (fun q10 cA H hK2 hP hD hS => ?_)
  have hcA := kn_eq hK hK2
  subst hcA
  clear hK2
  have hP : va_P D vwCl [(o, .inr (0, [vI v, .ref q1, .ref q2, .ref q3, .ref q4, .ref q5, (vI 0), .ref q6, (vI 0), .ref q7, .ref q8, (vI 0), .ref q9, .null, .null, (vI 0), (vI 0)])), (q1, .inl (dA, 512, .inl (arI zF))), (q2, .inl (dA, 512, .inl (arI zF))), (q3, .inl (dA, 512, .inl (arI zF))), (q4, .inl (dA, 512, .inl (arI zF))), (q5, .inl (dA, 512, .inl (arI zF))), (q6, .inl (dA, 5, .inl (arI zF))), (q7, .inl (dA, 12, .inl (arI zF))), (q8, .inl (dA, 16, .inl (arI zF))), (q9, .inl (dA, 65, .inl (arI zF))), (q10, .inl (dA, 65, .inl (arI zF)))] H := hP
  have hD : va_D A [(o, .inr (0, [vI v, .ref q1, .ref q2, .ref q3, .ref q4, .ref q5, (vI 0), .ref q6, (vI 0), .ref q7, .ref q8, (vI 0), .ref q9, .null, .null, (vI 0), (vI 0)])), (q1, .inl (dA, 512, .inl (arI zF))), (q2, .inl (dA, 512, .inl (arI zF))), (q3, .inl (dA, 512, .inl (arI zF))), (q4, .inl (dA, 512, .inl (arI zF))), (q5, .inl (dA, 512, .inl (arI zF))), (q6, .inl (dA, 5, .inl (arI zF))), (q7, .inl (dA, 12, .inl (arI zF))), (q8, .inl (dA, 16, .inl (arI zF))), (q9, .inl (dA, 65, .inl (arI zF))), (q10, .inl (dA, 65, .inl (arI zF)))] := hD
  refine va_putF (D := D) (ci := 0) (v := .ref q10) (ty := .array .int) (C := RX1) (T := TX1) (N := 17) hx hb hts in_X1 tyX1 tyX1_ok nmX1 hown hK hP hD hS 0 rfl rfl 13 (by decide) (hts _ q43) (fun _ h9 => h9) rfl hin rfl (by decide +kernel) rfl rfl (Nat.le_of_ble_eq_true rfl) dX1_init_110 (fun H locs hP hD hS => ?_)
  have hP : va_P D vwCl [(o, .inr (0, [vI v, .ref q1, .ref q2, .ref q3, .ref q4, .ref q5, (vI 0), .ref q6, (vI 0), .ref q7, .ref q8, (vI 0), .ref q9, .ref q10, .null, (vI 0), (vI 0)])), (q1, .inl (dA, 512, .inl (arI zF))), (q2, .inl (dA, 512, .inl (arI zF))), (q3, .inl (dA, 512, .inl (arI zF))), (q4, .inl (dA, 512, .inl (arI zF))), (q5, .inl (dA, 512, .inl (arI zF))), (q6, .inl (dA, 5, .inl (arI zF))), (q7, .inl (dA, 12, .inl (arI zF))), (q8, .inl (dA, 16, .inl (arI zF))), (q9, .inl (dA, 65, .inl (arI zF))), (q10, .inl (dA, 65, .inl (arI zF)))] H := hP
  have hD : va_D A [(o, .inr (0, [vI v, .ref q1, .ref q2, .ref q3, .ref q4, .ref q5, (vI 0), .ref q6, (vI 0), .ref q7, .ref q8, (vI 0), .ref q9, .ref q10, .null, (vI 0), (vI 0)])), (q1, .inl (dA, 512, .inl (arI zF))), (q2, .inl (dA, 512, .inl (arI zF))), (q3, .inl (dA, 512, .inl (arI zF))), (q4, .inl (dA, 512, .inl (arI zF))), (q5, .inl (dA, 512, .inl (arI zF))), (q6, .inl (dA, 5, .inl (arI zF))), (q7, .inl (dA, 12, .inl (arI zF))), (q8, .inl (dA, 16, .inl (arI zF))), (q9, .inl (dA, 65, .inl (arI zF))), (q10, .inl (dA, 65, .inl (arI zF)))] := hD
  refine lv_aload_n hx hb dX1_init_113 rfl (lv_at hl 0 rfl) ?_
  refine lv_bipush (v := iI 65) hx hb dX1_init_114 rfl ?_
  refine va_newa (atype := .int) (a0 := (65, .inl (arI zF))) (N' := 65) (ty := .int) hx hb (hts _ q82) rfl hK hP hD hS hA (fun cA => rfl) (by decide) (by decide) (by decide) (by decide) (by decide) dX1_init_116 (fun q11 cA H hK2 hP hD hS => ?_)
  have hcA := kn_eq hK hK2
  subst hcA
  clear hK2
  have hP : va_P D vwCl [(o, .inr (0, [vI v, .ref q1, .ref q2, .ref q3, .ref q4, .ref q5, (vI 0), .ref q6, (vI 0), .ref q7, .ref q8, (vI 0), .ref q9, .ref q10, .null, (vI 0), (vI 0)])), (q1, .inl (dA, 512, .inl (arI zF))), (q2, .inl (dA, 512, .inl (arI zF))), (q3, .inl (dA, 512, .inl (arI zF))), (q4, .inl (dA, 512, .inl (arI zF))), (q5, .inl (dA, 512, .inl (arI zF))), (q6, .inl (dA, 5, .inl (arI zF))), (q7, .inl (dA, 12, .inl (arI zF))), (q8, .inl (dA, 16, .inl (arI zF))), (q9, .inl (dA, 65, .inl (arI zF))), (q10, .inl (dA, 65, .inl (arI zF))), (q11, .inl (dA, 65, .inl (arI zF)))] H := hP
  have hD : va_D A [(o, .inr (0, [vI v, .ref q1, .ref q2, .ref q3, .ref q4, .ref q5, (vI 0), .ref q6, (vI 0), .ref q7, .ref q8, (vI 0), .ref q9, .ref q10, .null, (vI 0), (vI 0)])), (q1, .inl (dA, 512, .inl (arI zF))), (q2, .inl (dA, 512, .inl (arI zF))), (q3, .inl (dA, 512, .inl (arI zF))), (q4, .inl (dA, 512, .inl (arI zF))), (q5, .inl (dA, 512, .inl (arI zF))), (q6, .inl (dA, 5, .inl (arI zF))), (q7, .inl (dA, 12, .inl (arI zF))), (q8, .inl (dA, 16, .inl (arI zF))), (q9, .inl (dA, 65, .inl (arI zF))), (q10, .inl (dA, 65, .inl (arI zF))), (q11, .inl (dA, 65, .inl (arI zF)))] := hD
  refine va_putF (D := D) (ci := 0) (v := .ref q11) (ty := .array .int) (C := RX1) (T := TX1) (N := 17) hx hb hts in_X1 tyX1 tyX1_ok nmX1 hown hK hP hD hS 0 rfl rfl 14 (by decide) (hts _ q44) (fun _ h9 => h9) rfl hin rfl (by decide +kernel) rfl rfl (Nat.le_of_ble_eq_true rfl) dX1_init_118 (fun H locs hP hD hS => ?_)
  have hP : va_P D vwCl [(o, .inr (0, [vI v, .ref q1, .ref q2, .ref q3, .ref q4, .ref q5, (vI 0), .ref q6, (vI 0), .ref q7, .ref q8, (vI 0), .ref q9, .ref q10, .ref q11, (vI 0), (vI 0)])), (q1, .inl (dA, 512, .inl (arI zF))), (q2, .inl (dA, 512, .inl (arI zF))), (q3, .inl (dA, 512, .inl (arI zF))), (q4, .inl (dA, 512, .inl (arI zF))), (q5, .inl (dA, 512, .inl (arI zF))), (q6, .inl (dA, 5, .inl (arI zF))), (q7, .inl (dA, 12, .inl (arI zF))), (q8, .inl (dA, 16, .inl (arI zF))), (q9, .inl (dA, 65, .inl (arI zF))), (q10, .inl (dA, 65, .inl (arI zF))), (q11, .inl (dA, 65, .inl (arI zF)))] H := hP
  have hD : va_D A [(o, .inr (0, [vI v, .ref q1, .ref q2, .ref q3, .ref q4, .ref q5, (vI 0), .ref q6, (vI 0), .ref q7, .ref q8, (vI 0), .ref q9, .ref q10, .ref q11, (vI 0), (vI 0)])), (q1, .inl (dA, 512, .inl (arI zF))), (q2, .inl (dA, 512, .inl (arI zF))), (q3, .inl (dA, 512, .inl (arI zF))), (q4, .inl (dA, 512, .inl (arI zF))), (q5, .inl (dA, 512, .inl (arI zF))), (q6, .inl (dA, 5, .inl (arI zF))), (q7, .inl (dA, 12, .inl (arI zF))), (q8, .inl (dA, 16, .inl (arI zF))), (q9, .inl (dA, 65, .inl (arI zF))), (q10, .inl (dA, 65, .inl (arI zF))), (q11, .inl (dA, 65, .inl (arI zF)))] := hD
  refine W.widen (k := 11) (n := 2788) (by decide) (by decide) ?_
  refine l_xj (l := l) (D := D) (dA := dA) (ad := adr [o, q1, q2, q3, q4, q5, q6, q7, q8, q9, q10, q11]) (K := (p, e, s, m, ([.ref o, vI x] : List Value).toArray, below, meth, c, A, _, 11, 2788)) (R := (headSpec (ws_ yX1_init cX1_init 3 none) ({ frames := 1, cells := 11, slots := 2788, locals := 12 } : Room)).room) (pen := v) (ba := zF) (ch := zF) (co := zF) (ki := zF) (wo := zF) (sp := 0) (sl := zF) (le := 0) (tx := zF) (lk := zF) (cf := 0) (cp := zF) (nu := zF) (fl := zF) (pC := 0) (pK := 0) ?_ hx hb hml hown hts hK hA ⟨Nat.le_refl _, Nat.le_refl _⟩ H locs ls ⟨hP, hD, hS⟩ ⟨hl, okL_cat rfl⟩
  intro pc lv ch co hdg h1 h2 hx hb hml hown hts hK hA hc H locs ls hw hl
  exact W.vret hx hb hr (fun t ht hW => ⟨⟨(adr [o, q1, q2, q3, q4, q5, q6, q7, q8, q9, q10, q11], (v, zF, ch, co, zF, zF, 0, zF, 0, zF, zF, 0, zF, zF, zF, 0, 0)), rfl, ⟨rfl, ch, co, by rw [hv], h1, h2⟩, by rw [ht]; exact hw.1, va_K.moved hW.alike hK, hw.2.1⟩, hw.2.2.F ht⟩) hw.2.2.2.2 hdg
def MInit (x : Int) (u : SM) : Prop := u = (clP x, 0, zF, zF, zF, zF, zF, 0, zF, 0, zF, 0, 0, 0)
set_option maxHeartbeats 4000000 in
theorem c_minit {l : Launch} {D : va_G} {dA : ClassId} (o sz : Nat) {x : Int} (hx0 : inR x) : Met l yX2_init (ws_ yX2_init cX2_init 2 none) ({ frames := 1, cells := 7, slots := 161, locals := 12 } : Room) (va_Pc [.ref o, vI x] (fun U => U.heap.size = sz ∧ va_P D vwCl [(o, .inr (1, [(vI 0), (vI 0), .null, .null, .null, .null, .null, (vI 0), .null, (vI 0), .null, (vI 0), (vI 0), (vI 0)]))] U.heap ∧ va_K D vwCl [(dA, .int)] U ∧ va_D (fun _ => True) [(o, .inr (1, [(vI 0), (vI 0), .null, .null, .null, .null, .null, (vI 0), .null, (vI 0), .null, (vI 0), (vI 0), (vI 0)]))])) (va_Qv (fun (u : (Nat → Nat) × SM) => u.1 0 = o ∧ MInit x u.2) (fun u t => va_P D vwCl (wM dA u.1 u.2) t.heap ∧ va_K D vwCl [(dA, .int)] t ∧ va_D (va_A [(o, .inr (1, [(vI 0), (vI 0), .null, .null, .null, .null, .null, (vI 0), .null, (vI 0), .null, (vI 0), (vI 0), (vI 0)]))] sz) (wM dA u.1 u.2)) (va_A [(o, .inr (1, [(vI 0), (vI 0), .null, .null, .null, .null, .null, (vI 0), .null, (vI 0), .null, (vI 0), (vI 0), (vI 0)]))] sz)) 7 161 (va_A [(o, .inr (1, [(vI 0), (vI 0), .null, .null, .null, .null, .null, (vI 0), .null, (vI 0), .null, (vI 0), (vI 0), (vI 0)]))] sz) := by
  refine Met.ofW (cc := cX2_init) (maxL := 2) (ret := none) (by decide) rfl ?_
  intro p e s m args below meth c s₁ B hml hv
  obtain ⟨rfl, hsz, hP, hK, hD0⟩ := hv
  have hx := B.exec
  have hb := B.bytes
  have hr := B.returns
  have hts := atoms_spec (ws := ws_ yX2_init cX2_init 2 none) B.pre
  have hts : ∀ w ∈ lw_all, w.before _ s = true := fun w h => hts w (List.mem_cons_of_mem _ h)
  have hown : s.vm.findClass RX2 = some m.cls := findClass_of_methodNamed B.named
  have hlocks := B.notSynchronized
  have hin : meth.name = "<init>" := (name_of_methodNamed B.named B.method).1
  subst hsz
  have hD := hD0.self (sz := s.heap.size)
  generalize hAe : va_A [(o, .inr (1, [(vI 0), (vI 0), .null, .null, .null, .null, .null, (vI 0), .null, (vI 0), .null, (vI 0), (vI 0), (vI 0)]))] s.heap.size = A at hD ⊢
  have hA : ∀ q : Nat, s.heap.size ≤ q → A q := fun q h => by rw [← hAe]; exact Or.inr h
  have hS : va_S A s.heap s.heap [] := va_S.rf
  have hl := lv_entry ([.ref o, vI x]) (n := 2) (Nat.le_of_ble_eq_true rfl)
  rw [lg_entry_eq]
  generalize (lg_sl ([.ref o, vI x]) ++ List.replicate (2 - (lg_sl ([.ref o, vI x])).length) Slot.unset).toArray = ls at hl ⊢
  have hl : lv_has ls 2 [(0, .ref o), (1, vI x)] := hl
  refine lv_aload_n hx hb dX2_init_0 rfl (lv_at hl 0 rfl) ?_
  refine W.objInit hx hb hown (hts _ q188) (hts _ q28) (hts _ q29) rfl (by rw [hml]; exact hl.1) rfl dX2_init_1 (Nat.le_of_ble_eq_true rfl) (Nat.le_of_ble_eq_true rfl) ?_
  refine W.eq (g2 := F0 m 4 ls []) rfl ?_
  refine lv_aload_n hx hb dX2_init_4 rfl (lv_at hl 0 rfl) ?_
  refine lv_bipush (v := iI 80) hx hb dX2_init_5 rfl ?_
  refine va_newa (atype := .int) (a0 := (80, .inl (arI zF))) (N' := 80) (ty := .int) hx hb (hts _ q82) rfl hK hP hD hS hA (fun cA => rfl) (by decide) (by decide) (by decide) (by decide) (by decide) dX2_init_7 (fun q1 cA H hK2 hP hD hS => ?_)
  have hcA := kn_eq hK hK2
  subst hcA
  clear hK2
  have hP : va_P D vwCl [(o, .inr (1, [(vI 0), (vI 0), .null, .null, .null, .null, .null, (vI 0), .null, (vI 0), .null, (vI 0), (vI 0), (vI 0)])), (q1, .inl (dA, 80, .inl (arI zF)))] H := hP
  have hD : va_D A [(o, .inr (1, [(vI 0), (vI 0), .null, .null, .null, .null, .null, (vI 0), .null, (vI 0), .null, (vI 0), (vI 0), (vI 0)])), (q1, .inl (dA, 80, .inl (arI zF)))] := hD
  refine va_putF (D := D) (ci := 1) (v := .ref q1) (ty := .array .int) (C := RX2) (T := TX2) (N := 14) hx hb hts in_X2 tyX2 tyX2_ok nmX2 hown hK hP hD hS 0 rfl rfl 2 (by decide) (hts _ q191) (fun _ h9 => h9) rfl hin rfl (by decide +kernel) rfl rfl (Nat.le_of_ble_eq_true rfl) dX2_init_9 (fun H locs hP hD hS => ?_)
  have hP : va_P D vwCl [(o, .inr (1, [(vI 0), (vI 0), .ref q1, .null, .null, .null, .null, (vI 0), .null, (vI 0), .null, (vI 0), (vI 0), (vI 0)])), (q1, .inl (dA, 80, .inl (arI zF)))] H := hP
  have hD : va_D A [(o, .inr (1, [(vI 0), (vI 0), .ref q1, .null, .null, .null, .null, (vI 0), .null, (vI 0), .null, (vI 0), (vI 0), (vI 0)])), (q1, .inl (dA, 80, .inl (arI zF)))] := hD
  refine lv_aload_n hx hb dX2_init_12 rfl (lv_at hl 0 rfl) ?_
  refine lv_bipush (v := iI 16) hx hb dX2_init_13 rfl ?_
  refine va_newa (atype := .int) (a0 := (16, .inl (arI zF))) (N' := 16) (ty := .int) hx hb (hts _ q82) rfl hK hP hD hS hA (fun cA => rfl) (by decide) (by decide) (by decide) (by decide) (by decide) dX2_init_15 (fun q2 cA H hK2 hP hD hS => ?_)
  have hcA := kn_eq hK hK2
  subst hcA
  clear hK2
  have hP : va_P D vwCl [(o, .inr (1, [(vI 0), (vI 0), .ref q1, .null, .null, .null, .null, (vI 0), .null, (vI 0), .null, (vI 0), (vI 0), (vI 0)])), (q1, .inl (dA, 80, .inl (arI zF))), (q2, .inl (dA, 16, .inl (arI zF)))] H := hP
  have hD : va_D A [(o, .inr (1, [(vI 0), (vI 0), .ref q1, .null, .null, .null, .null, (vI 0), .null, (vI 0), .null, (vI 0), (vI 0), (vI 0)])), (q1, .inl (dA, 80, .inl (arI zF))), (q2, .inl (dA, 16, .inl (arI zF)))] := hD
  refine va_putF (D := D) (ci := 1) (v := .ref q2) (ty := .array .int) (C := RX2) (T := TX2) (N := 14) hx hb hts in_X2 tyX2 tyX2_ok nmX2 hown hK hP hD hS 0 rfl rfl 3 (by decide) (hts _ q192) (fun _ h9 => h9) rfl hin rfl (by decide +kernel) rfl rfl (Nat.le_of_ble_eq_true rfl) dX2_init_17 (fun H locs hP hD hS => ?_)
  have hP : va_P D vwCl [(o, .inr (1, [(vI 0), (vI 0), .ref q1, .ref q2, .null, .null, .null, (vI 0), .null, (vI 0), .null, (vI 0), (vI 0), (vI 0)])), (q1, .inl (dA, 80, .inl (arI zF))), (q2, .inl (dA, 16, .inl (arI zF)))] H := hP
  have hD : va_D A [(o, .inr (1, [(vI 0), (vI 0), .ref q1, .ref q2, .null, .null, .null, (vI 0), .null, (vI 0), .null, (vI 0), (vI 0), (vI 0)])), (q1, .inl (dA, 80, .inl (arI zF))), (q2, .inl (dA, 16, .inl (arI zF)))] := hD
  refine lv_aload_n hx hb dX2_init_20 rfl (lv_at hl 0 rfl) ?_
  refine lv_bipush (v := iI 16) hx hb dX2_init_21 rfl ?_
  refine va_newa (atype := .int) (a0 := (16, .inl (arI zF))) (N' := 16) (ty := .int) hx hb (hts _ q82) rfl hK hP hD hS hA (fun cA => rfl) (by decide) (by decide) (by decide) (by decide) (by decide) dX2_init_23 (fun q3 cA H hK2 hP hD hS => ?_)
  have hcA := kn_eq hK hK2
  subst hcA
  clear hK2
  have hP : va_P D vwCl [(o, .inr (1, [(vI 0), (vI 0), .ref q1, .ref q2, .null, .null, .null, (vI 0), .null, (vI 0), .null, (vI 0), (vI 0), (vI 0)])), (q1, .inl (dA, 80, .inl (arI zF))), (q2, .inl (dA, 16, .inl (arI zF))), (q3, .inl (dA, 16, .inl (arI zF)))] H := hP
  have hD : va_D A [(o, .inr (1, [(vI 0), (vI 0), .ref q1, .ref q2, .null, .null, .null, (vI 0), .null, (vI 0), .null, (vI 0), (vI 0), (vI 0)])), (q1, .inl (dA, 80, .inl (arI zF))), (q2, .inl (dA, 16, .inl (arI zF))), (q3, .inl (dA, 16, .inl (arI zF)))] := hD
  refine va_putF (D := D) (ci := 1) (v := .ref q3) (ty := .array .int) (C := RX2) (T := TX2) (N := 14) hx hb hts in_X2 tyX2 tyX2_ok nmX2 hown hK hP hD hS 0 rfl rfl 4 (by decide) (hts _ q193) (fun _ h9 => h9) rfl hin rfl (by decide +kernel) rfl rfl (Nat.le_of_ble_eq_true rfl) dX2_init_25 (fun H locs hP hD hS => ?_)
  have hP : va_P D vwCl [(o, .inr (1, [(vI 0), (vI 0), .ref q1, .ref q2, .ref q3, .null, .null, (vI 0), .null, (vI 0), .null, (vI 0), (vI 0), (vI 0)])), (q1, .inl (dA, 80, .inl (arI zF))), (q2, .inl (dA, 16, .inl (arI zF))), (q3, .inl (dA, 16, .inl (arI zF)))] H := hP
  have hD : va_D A [(o, .inr (1, [(vI 0), (vI 0), .ref q1, .ref q2, .ref q3, .null, .null, (vI 0), .null, (vI 0), .null, (vI 0), (vI 0), (vI 0)])), (q1, .inl (dA, 80, .inl (arI zF))), (q2, .inl (dA, 16, .inl (arI zF))), (q3, .inl (dA, 16, .inl (arI zF)))] := hD
  refine lv_aload_n hx hb dX2_init_28 rfl (lv_at hl 0 rfl) ?_
  refine lv_bipush (v := iI 16) hx hb dX2_init_29 rfl ?_
  refine va_newa (atype := .int) (a0 := (16, .inl (arI zF))) (N' := 16) (ty := .int) hx hb (hts _ q82) rfl hK hP hD hS hA (fun cA => rfl) (by decide) (by decide) (by decide) (by decide) (by decide) dX2_init_31 (fun q4 cA H hK2 hP hD hS => ?_)
  have hcA := kn_eq hK hK2
  subst hcA
  clear hK2
  have hP : va_P D vwCl [(o, .inr (1, [(vI 0), (vI 0), .ref q1, .ref q2, .ref q3, .null, .null, (vI 0), .null, (vI 0), .null, (vI 0), (vI 0), (vI 0)])), (q1, .inl (dA, 80, .inl (arI zF))), (q2, .inl (dA, 16, .inl (arI zF))), (q3, .inl (dA, 16, .inl (arI zF))), (q4, .inl (dA, 16, .inl (arI zF)))] H := hP
  have hD : va_D A [(o, .inr (1, [(vI 0), (vI 0), .ref q1, .ref q2, .ref q3, .null, .null, (vI 0), .null, (vI 0), .null, (vI 0), (vI 0), (vI 0)])), (q1, .inl (dA, 80, .inl (arI zF))), (q2, .inl (dA, 16, .inl (arI zF))), (q3, .inl (dA, 16, .inl (arI zF))), (q4, .inl (dA, 16, .inl (arI zF)))] := hD
  refine va_putF (D := D) (ci := 1) (v := .ref q4) (ty := .array .int) (C := RX2) (T := TX2) (N := 14) hx hb hts in_X2 tyX2 tyX2_ok nmX2 hown hK hP hD hS 0 rfl rfl 5 (by decide) (hts _ q194) (fun _ h9 => h9) rfl hin rfl (by decide +kernel) rfl rfl (Nat.le_of_ble_eq_true rfl) dX2_init_33 (fun H locs hP hD hS => ?_)
  have hP : va_P D vwCl [(o, .inr (1, [(vI 0), (vI 0), .ref q1, .ref q2, .ref q3, .ref q4, .null, (vI 0), .null, (vI 0), .null, (vI 0), (vI 0), (vI 0)])), (q1, .inl (dA, 80, .inl (arI zF))), (q2, .inl (dA, 16, .inl (arI zF))), (q3, .inl (dA, 16, .inl (arI zF))), (q4, .inl (dA, 16, .inl (arI zF)))] H := hP
  have hD : va_D A [(o, .inr (1, [(vI 0), (vI 0), .ref q1, .ref q2, .ref q3, .ref q4, .null, (vI 0), .null, (vI 0), .null, (vI 0), (vI 0), (vI 0)])), (q1, .inl (dA, 80, .inl (arI zF))), (q2, .inl (dA, 16, .inl (arI zF))), (q3, .inl (dA, 16, .inl (arI zF))), (q4, .inl (dA, 16, .inl (arI zF)))] := hD
  refine lv_aload_n hx hb dX2_init_36 rfl (lv_at hl 0 rfl) ?_
  refine lv_iconst (v := iI 5) hx hb dX2_init_37 rfl ?_
  refine va_newa (atype := .int) (a0 := (5, .inl (arI zF))) (N' := 5) (ty := .int) hx hb (hts _ q82) rfl hK hP hD hS hA (fun cA => rfl) (by decide) (by decide) (by decide) (by decide) (by decide) dX2_init_38 (fun q5 cA H hK2 hP hD hS => ?_)
  have hcA := kn_eq hK hK2
  subst hcA
  clear hK2
  have hP : va_P D vwCl [(o, .inr (1, [(vI 0), (vI 0), .ref q1, .ref q2, .ref q3, .ref q4, .null, (vI 0), .null, (vI 0), .null, (vI 0), (vI 0), (vI 0)])), (q1, .inl (dA, 80, .inl (arI zF))), (q2, .inl (dA, 16, .inl (arI zF))), (q3, .inl (dA, 16, .inl (arI zF))), (q4, .inl (dA, 16, .inl (arI zF))), (q5, .inl (dA, 5, .inl (arI zF)))] H := hP
  have hD : va_D A [(o, .inr (1, [(vI 0), (vI 0), .ref q1, .ref q2, .ref q3, .ref q4, .null, (vI 0), .null, (vI 0), .null, (vI 0), (vI 0), (vI 0)])), (q1, .inl (dA, 80, .inl (arI zF))), (q2, .inl (dA, 16, .inl (arI zF))), (q3, .inl (dA, 16, .inl (arI zF))), (q4, .inl (dA, 16, .inl (arI zF))), (q5, .inl (dA, 5, .inl (arI zF)))] := hD
  refine va_putF (D := D) (ci := 1) (v := .ref q5) (ty := .array .int) (C := RX2) (T := TX2) (N := 14) hx hb hts in_X2 tyX2 tyX2_ok nmX2 hown hK hP hD hS 0 rfl rfl 6 (by decide) (hts _ q195) (fun _ h9 => h9) rfl hin rfl (by decide +kernel) rfl rfl (Nat.le_of_ble_eq_true rfl) dX2_init_40 (fun H locs hP hD hS => ?_)
  have hP : va_P D vwCl [(o, .inr (1, [(vI 0), (vI 0), .ref q1, .ref q2, .ref q3, .ref q4, .ref q5, (vI 0), .null, (vI 0), .null, (vI 0), (vI 0), (vI 0)])), (q1, .inl (dA, 80, .inl (arI zF))), (q2, .inl (dA, 16, .inl (arI zF))), (q3, .inl (dA, 16, .inl (arI zF))), (q4, .inl (dA, 16, .inl (arI zF))), (q5, .inl (dA, 5, .inl (arI zF)))] H := hP
  have hD : va_D A [(o, .inr (1, [(vI 0), (vI 0), .ref q1, .ref q2, .ref q3, .ref q4, .ref q5, (vI 0), .null, (vI 0), .null, (vI 0), (vI 0), (vI 0)])), (q1, .inl (dA, 80, .inl (arI zF))), (q2, .inl (dA, 16, .inl (arI zF))), (q3, .inl (dA, 16, .inl (arI zF))), (q4, .inl (dA, 16, .inl (arI zF))), (q5, .inl (dA, 5, .inl (arI zF)))] := hD
  refine lv_aload_n hx hb dX2_init_43 rfl (lv_at hl 0 rfl) ?_
  refine lv_bipush (v := iI 12) hx hb dX2_init_44 rfl ?_
  refine va_newa (atype := .int) (a0 := (12, .inl (arI zF))) (N' := 12) (ty := .int) hx hb (hts _ q82) rfl hK hP hD hS hA (fun cA => rfl) (by decide) (by decide) (by decide) (by decide) (by decide) dX2_init_46 (fun q6 cA H hK2 hP hD hS => ?_)
  have hcA := kn_eq hK hK2
  subst hcA
  clear hK2
  have hP : va_P D vwCl [(o, .inr (1, [(vI 0), (vI 0), .ref q1, .ref q2, .ref q3, .ref q4, .ref q5, (vI 0), .null, (vI 0), .null, (vI 0), (vI 0), (vI 0)])), (q1, .inl (dA, 80, .inl (arI zF))), (q2, .inl (dA, 16, .inl (arI zF))), (q3, .inl (dA, 16, .inl (arI zF))), (q4, .inl (dA, 16, .inl (arI zF))), (q5, .inl (dA, 5, .inl (arI zF))), (q6, .inl (dA, 12, .inl (arI zF)))] H := hP
  have hD : va_D A [(o, .inr (1, [(vI 0), (vI 0), .ref q1, .ref q2, .ref q3, .ref q4, .ref q5, (vI 0), .null, (vI 0), .null, (vI 0), (vI 0), (vI 0)])), (q1, .inl (dA, 80, .inl (arI zF))), (q2, .inl (dA, 16, .inl (arI zF))), (q3, .inl (dA, 16, .inl (arI zF))), (q4, .inl (dA, 16, .inl (arI zF))), (q5, .inl (dA, 5, .inl (arI zF))), (q6, .inl (dA, 12, .inl (arI zF)))] := hD
  refine va_putF (D := D) (ci := 1) (v := .ref q6) (ty := .array .int) (C := RX2) (T := TX2) (N := 14) hx hb hts in_X2 tyX2 tyX2_ok nmX2 hown hK hP hD hS 0 rfl rfl 8 (by decide) (hts _ q197) (fun _ h9 => h9) rfl hin rfl (by decide +kernel) rfl rfl (Nat.le_of_ble_eq_true rfl) dX2_init_48 (fun H locs hP hD hS => ?_)
  have hP : va_P D vwCl [(o, .inr (1, [(vI 0), (vI 0), .ref q1, .ref q2, .ref q3, .ref q4, .ref q5, (vI 0), .ref q6, (vI 0), .null, (vI 0), (vI 0), (vI 0)])), (q1, .inl (dA, 80, .inl (arI zF))), (q2, .inl (dA, 16, .inl (arI zF))), (q3, .inl (dA, 16, .inl (arI zF))), (q4, .inl (dA, 16, .inl (arI zF))), (q5, .inl (dA, 5, .inl (arI zF))), (q6, .inl (dA, 12, .inl (arI zF)))] H := hP
  have hD : va_D A [(o, .inr (1, [(vI 0), (vI 0), .ref q1, .ref q2, .ref q3, .ref q4, .ref q5, (vI 0), .ref q6, (vI 0), .null, (vI 0), (vI 0), (vI 0)])), (q1, .inl (dA, 80, .inl (arI zF))), (q2, .inl (dA, 16, .inl (arI zF))), (q3, .inl (dA, 16, .inl (arI zF))), (q4, .inl (dA, 16, .inl (arI zF))), (q5, .inl (dA, 5, .inl (arI zF))), (q6, .inl (dA, 12, .inl (arI zF)))] := hD
  refine lv_aload_n hx hb dX2_init_51 rfl (lv_at hl 0 rfl) ?_
  refine lv_bipush (v := iI 16) hx hb dX2_init_52 rfl ?_
  refine va_newa (atype := .int) (a0 := (16, .inl (arI zF))) (N' := 16) (ty := .int) hx hb (hts _ q82) rfl hK hP hD hS hA (fun cA => rfl) (by decide) (by decide) (by decide) (by decide) (by decide) dX2_init_54 (fun q7 cA H hK2 hP hD hS => ?_)
  have hcA := kn_eq hK hK2
  subst hcA
  clear hK2
  have hP : va_P D vwCl [(o, .inr (1, [(vI 0), (vI 0), .ref q1, .ref q2, .ref q3, .ref q4, .ref q5, (vI 0), .ref q6, (vI 0), .null, (vI 0), (vI 0), (vI 0)])), (q1, .inl (dA, 80, .inl (arI zF))), (q2, .inl (dA, 16, .inl (arI zF))), (q3, .inl (dA, 16, .inl (arI zF))), (q4, .inl (dA, 16, .inl (arI zF))), (q5, .inl (dA, 5, .inl (arI zF))), (q6, .inl (dA, 12, .inl (arI zF))), (q7, .inl (dA, 16, .inl (arI zF)))] H := hP
  have hD : va_D A [(o, .inr (1, [(vI 0), (vI 0), .ref q1, .ref q2, .ref q3, .ref q4, .ref q5, (vI 0), .ref q6, (vI 0), .null, (vI 0), (vI 0), (vI 0)])), (q1, .inl (dA, 80, .inl (arI zF))), (q2, .inl (dA, 16, .inl (arI zF))), (q3, .inl (dA, 16, .inl (arI zF))), (q4, .inl (dA, 16, .inl (arI zF))), (q5, .inl (dA, 5, .inl (arI zF))), (q6, .inl (dA, 12, .inl (arI zF))), (q7, .inl (dA, 16, .inl (arI zF)))] := hD
  refine va_putF (D := D) (ci := 1) (v := .ref q7) (ty := .array .int) (C := RX2) (T := TX2) (N := 14) hx hb hts in_X2 tyX2 tyX2_ok nmX2 hown hK hP hD hS 0 rfl rfl 10 (by decide) (hts _ q199) (fun _ h9 => h9) rfl hin rfl (by decide +kernel) rfl rfl (Nat.le_of_ble_eq_true rfl) dX2_init_56 (fun H locs hP hD hS => ?_)
  have hP : va_P D vwCl [(o, .inr (1, [(vI 0), (vI 0), .ref q1, .ref q2, .ref q3, .ref q4, .ref q5, (vI 0), .ref q6, (vI 0), .ref q7, (vI 0), (vI 0), (vI 0)])), (q1, .inl (dA, 80, .inl (arI zF))), (q2, .inl (dA, 16, .inl (arI zF))), (q3, .inl (dA, 16, .inl (arI zF))), (q4, .inl (dA, 16, .inl (arI zF))), (q5, .inl (dA, 5, .inl (arI zF))), (q6, .inl (dA, 12, .inl (arI zF))), (q7, .inl (dA, 16, .inl (arI zF)))] H := hP
  have hD : va_D A [(o, .inr (1, [(vI 0), (vI 0), .ref q1, .ref q2, .ref q3, .ref q4, .ref q5, (vI 0), .ref q6, (vI 0), .ref q7, (vI 0), (vI 0), (vI 0)])), (q1, .inl (dA, 80, .inl (arI zF))), (q2, .inl (dA, 16, .inl (arI zF))), (q3, .inl (dA, 16, .inl (arI zF))), (q4, .inl (dA, 16, .inl (arI zF))), (q5, .inl (dA, 5, .inl (arI zF))), (q6, .inl (dA, 12, .inl (arI zF))), (q7, .inl (dA, 16, .inl (arI zF)))] := hD
  refine W.widen (k := 7) (n := 161) (by decide) (by decide) ?_
  refine lv_aload_n hx hb dX2_init_59 rfl (lv_at hl 0 rfl) ?_
  suffices rest : ∀ v : Int, v = clP x → W p l e (headSpec (ws_ yX2_init cX2_init 2 none) ({ frames := 1, cells := 7, slots := 161, locals := 12 } : Room)).room s m ([.ref o, vI x] : List Value).toArray below meth c H locs 7 161 _ (F0 m 81 ls [vI v, .ref o]) by
    refine lv_iload_n hx hb dX2_init_60 rfl (lv_at hl 1 rfl) ?_
    refine lv_iconst (v := iI 1) hx hb dX2_init_61 rfl ?_
    refine lv_icmp_ge (tgt := 69) hx hb dX2_init_62 (by decide) (fun c1 => ?_) (fun c1 => ?_)
    · refine lv_iload_n hx hb dX2_init_69 rfl (lv_at hl 1 rfl) ?_
      refine lv_bipush (v := iI 99) hx hb dX2_init_70 rfl ?_
      refine lv_icmp_le (tgt := 80) hx hb dX2_init_72 (by decide) (fun c2 => ?_) (fun c2 => ?_)
      · refine lv_iload_n hx hb dX2_init_80 rfl (lv_at hl 1 rfl) ?_
        exact rest x (by have z1 := (iI_le (x := 1) ⟨by omega, by omega⟩ hx0).mp c1; have z2 := (iI_le (y := 99) hx0 ⟨by omega, by omega⟩).mp c2; unfold clP; rw [if_neg (by omega), if_neg (by omega)])
      · refine lv_bipush (v := iI 99) hx hb dX2_init_75 rfl ?_
        refine lv_goto (tgt := 81) hx hb dX2_init_77 (by decide) ?_
        exact rest 99 (by have z1 := (iI_le (x := 1) ⟨by omega, by omega⟩ hx0).mp c1; have z2 : ¬ x ≤ 99 := fun z => c2 ((iI_le (y := 99) hx0 ⟨by omega, by omega⟩).mpr z); unfold clP; rw [if_neg (by omega), if_pos (by omega)])
    · refine lv_iconst (v := iI 1) hx hb dX2_init_65 rfl ?_
      refine lv_goto (tgt := 81) hx hb dX2_init_66 (by decide) ?_
      exact rest 1 (by have z1 : ¬ 1 ≤ x := fun z => c1 ((iI_le (x := 1) ⟨by omega, by omega⟩ hx0).mpr z); unfold clP; rw [if_pos (by omega)])
  intro v hv
  refine va_put (D := D) (ci := 1) (v := vI v) (ty := .int) (C := RX2) (T := TX2) (N := 14) hx hb hts in_X2 tyX2 tyX2_ok nmX2 hown hK hP hD hS 0 rfl rfl 0 (by decide) (hts _ q189) (fun _ h9 => h9) rfl (by decide +kernel) rfl rfl (Nat.le_of_ble_eq_true rfl) dX2_init_81 (fun H locs hP hD hS => ?_)
  have hP : va_P D vwCl [(o, .inr (1, [vI v, (vI 0), .ref q1, .ref q2, .ref q3, .ref q4, .ref q5, (vI 0), .ref q6, (vI 0), .ref q7, (vI 0), (vI 0), (vI 0)])), (q1, .inl (dA, 80, .inl (arI zF))), (q2, .inl (dA, 16, .inl (arI zF))), (q3, .inl (dA, 16, .inl (arI zF))), (q4, .inl (dA, 16, .inl (arI zF))), (q5, .inl (dA, 5, .inl (arI zF))), (q6, .inl (dA, 12, .inl (arI zF))), (q7, .inl (dA, 16, .inl (arI zF)))] H := hP
  have hD : va_D A [(o, .inr (1, [vI v, (vI 0), .ref q1, .ref q2, .ref q3, .ref q4, .ref q5, (vI 0), .ref q6, (vI 0), .ref q7, (vI 0), (vI 0), (vI 0)])), (q1, .inl (dA, 80, .inl (arI zF))), (q2, .inl (dA, 16, .inl (arI zF))), (q3, .inl (dA, 16, .inl (arI zF))), (q4, .inl (dA, 16, .inl (arI zF))), (q5, .inl (dA, 5, .inl (arI zF))), (q6, .inl (dA, 12, .inl (arI zF))), (q7, .inl (dA, 16, .inl (arI zF)))] := hD
  exact W.vret hx hb hr (fun t ht hW => ⟨⟨(adr [o, q1, q2, q3, q4, q5, q6, q7], (v, 0, zF, zF, zF, zF, zF, 0, zF, 0, zF, 0, 0, 0)), rfl, ⟨rfl, by unfold MInit; rw [hv]⟩, by rw [ht]; exact hP, va_K.moved hW.alike hK, hD⟩, hS.F ht⟩) hS.2.2 dX2_init_84
end
section
set_option maxRecDepth 100000
/-! THE CLAIM OUT OF ONE WALK OF THE LAW'S BODY. Your part is whole_start (and what it stands on); all else here is the same for every law, but numbers. -/
def R_law : String := "WordLatticeLaw"
def lw_P (b : Addr) (xs : List Int32) (args : Array Value) (s : State) : Prop := args = #[.ref b] ∧ s.IntsAt b xs ∧ xs.length ≤ 257 ∧ (Jvm.Cond.and given_1 narrow_1).before args s = true
def lw_Q (_ : Array Value) (s : State) (o : Outcome) (t : State) : Prop := o = .returned (some (.int 1)) ∧ Framed s o t [] 600000 7290000
def lw_Z (below : List Frame) (a : Array Value) (s : State) : State → Prop := fun t => ∃ o, t.status = .running ∧ Ended t below o ∧ lw_Q a s o t
/-- the law's own end, with 1 on the stack, nothing written that was there before, its room as the claim has it -/
theorem lw_ret {p : Program} {l : Launch} {e : Env} {s : State} {m : MethodId} {below : List Frame} {meth : Method} {c : Code} {b : Nat} (hx : p.tables.exec = Jvm.exec) (hb : c.code = code) (hr : meth.sig.returnType = ret) (hlocks : meth.locks = false) {pc : Nat} {H : Heap} {ls : Array Slot} (hdg : decode code pc = .ok (.ireturn, 1)) : W p l e room_1 s m #[Value.ref b] below meth c H [] 600000 7290000 (lw_Z below #[Value.ref b] s) (F0 m pc ls [.int 1]) := by
  intro T hT X
  obtain ⟨fs, hret, hrun, hended, hW, hframe⟩ := X.leave (v := some (.int 1)) (hlocks := hlocks) (fun h => by rw [hr] at h; cases h)
  have hmeth' : T.vm.method? m = some meth := X.method'
  refine ⟨T.setFrames fs, ?_, .returned (some (.int 1)), hrun, hended, rfl, ⟨_, rfl⟩, hW, hframe⟩
  jvm_step X.here [X.here.top, hx, hb, hdg, hmeth', hr, ret, narrow_b1]
  (try refine ⟨rfl, ?_⟩); (try refine ⟨rfl, ?_⟩)
  first | (intro acts; rw [hret _ acts rfl rfl rfl]) | rw [hret _ _ rfl rfl rfl]
  exact Steps.refl _
/-- what holds at the law's entry: the machine, the code, the tables' words (any of lw_tbl by 'hts w (by decide +kernel)'), the script of L ints xs at the cell b, what the Statement gives of the start (any of its parts by flat_of_before) -/
def lw_At (p : Program) (s : State) (m : MethodId) (meth : Method) (c : Code) (b L : Nat) (xs : Nat → Int32) : Prop :=
  p.tables.exec = Jvm.exec ∧ c.code = code ∧ meth.sig.returnType = ret ∧ c.maxLocals = 4 ∧ s.vm.findClass R_law = some m.cls ∧ (∀ w ∈ lw_tbl, w.before #[Value.ref b] s = true) ∧ va_X b L xs s s.heap ∧ b < s.heap.size ∧ meth.locks = false ∧ (Jvm.Cond.and given_1 narrow_1).before #[Value.ref b] s = true
section TWO
def TW (D : va_G) (A : Nat → Prop) (H0 : Heap) (c r : va_W) (H : Heap) (locs : List Loc) : Prop := va_P D vwCl c H ∧ va_P D vwCl r H ∧ va_D A c ∧ va_D A r ∧ (∀ (i j : Nat) (p q : Nat × va_E), c[i]? = some p → r[j]? = some q → p.1 ≠ q.1) ∧ va_S A H0 H locs
theorem TW.symm {D : va_G} {A : Nat → Prop} {H0 : Heap} {c r : va_W} {H : Heap} {locs : List Loc} (h : TW D A H0 c r H locs) : TW D A H0 r c H locs := ⟨h.2.1, h.1, h.2.2.2.1, h.2.2.1, fun i j p q hp hq e => h.2.2.2.2.1 j i q p hq hp e.symm, h.2.2.2.2.2⟩
theorem TW.app {D : va_G} {A : Nat → Prop} {H0 : Heap} {c r : va_W} {H : Heap} {locs : List Loc} (h : TW D A H0 c r H locs) : va_P D vwCl (c ++ r) H ∧ va_D A (c ++ r) ∧ va_S A H0 H locs := ⟨va_P.app h.1 h.2.1, va_D.app h.2.2.1 h.2.2.2.1 h.2.2.2.2.1, h.2.2.2.2.2⟩
theorem TW.of {D : va_G} {A : Nat → Prop} {H0 : Heap} {c r : va_W} {H : Heap} {locs : List Loc} (hP : va_P D vwCl (c ++ r) H) (hD : va_D A (c ++ r)) (hS : va_S A H0 H locs) : TW D A H0 c r H locs := by
  have hl : ∀ (k : Nat) (q : Nat × va_E), c[k]? = some q → (c ++ r)[k]? = some q := fun k q h => by rw [List.getElem?_append_left (List.getElem?_eq_some_iff.mp h).1]; exact h
  have hr : ∀ (k : Nat) (q : Nat × va_E), r[k]? = some q → (c ++ r)[c.length + k]? = some q := fun k q h => by rw [List.getElem?_append_right (by omega), Nat.add_sub_cancel_left]; exact h
  refine ⟨fun k q h => hP k q (hl k q h), fun k q h => hP _ q (hr k q h), ⟨fun i j p q hp hq e => hD.1 i j p q (hl i p hp) (hl j q hq) e, fun k q h => hD.2 k q (hl k q h)⟩, ⟨fun i j p q hp hq e => ?_, fun k q h => hD.2 _ q (hr k q h)⟩, fun i j p q hp hq e => ?_, hS⟩
  · have := hD.1 _ _ p q (hr i p hp) (hr j q hq) e
    omega
  · have h1 := hD.1 _ _ p q (hl i p hp) (hr j q hq) e
    have h2 := (List.getElem?_eq_some_iff.mp hp).1
    omega
theorem TW.back {S : Type} {D : va_G} {A : Nat → Prop} {H0 : Heap} {c r w1 : va_W} {H H1 : Heap} {locs locs1 : List Loc} (h : TW D A H0 c r H locs) (hF : ∀ q, va_A c H.size q → A q) (hP1 : va_P D vwCl w1 H1) (hD1 : va_D (va_A c H.size) w1) (hk1 : ∀ q : Nat, q < H.size → ¬ va_A c H.size q → H1[q]? = H[q]?) (hS1 : va_S A H0 H1 locs1) : TW D A H0 w1 r H1 locs1 := by
  have apart : ∀ (k : Nat) (q : Nat × va_E), r[k]? = some q → q.1 < H.size ∧ ¬ va_A c H.size q.1 := by
    intro k q hq
    have hl := (h.2.1 k q hq).lt
    refine ⟨hl, fun z => ?_⟩
    rcases z with ⟨k2, e, z⟩ | z
    · exact h.2.2.2.2.1 k2 k (q.1, e) q z hq rfl
    · omega
  refine ⟨hP1, h.2.1.kept (fun k q hq => hk1 q.1 (apart k q hq).1 (apart k q hq).2), hD1.weaken (fun k q _ z => hF q.1 z), h.2.2.2.1, fun i j p q hp hq e => ?_, hS1⟩
  exact (apart j q hq).2 (by rw [← e]; exact hD1.2 i p hp)
end TWO
def wL (dA : ClassId) (ax am : Nat → Nat) (u : SX × SM) : va_W := wX dA ax u.1 ++ wM dA am u.2
theorem wX_0 (dA : ClassId) (ax : Nat → Nat) (u : SX) : ∃ fs, (wX dA ax u)[0]? = some (ax 0, .inr (0, fs)) := by
  obtain ⟨pen, ba, ch, co, ki, wo, sp, sl, le, tx, lk, cf, cp, nu, fl, pC, pK⟩ := u
  exact ⟨_, rfl⟩
theorem wM_0 (dA : ClassId) (am : Nat → Nat) (u : SM) : ∃ fs, (wM dA am u)[0]? = some (am 0, .inr (1, fs)) := by
  obtain ⟨pen, wd, lt, ln, pr, kd, sl, sp, tx, ty, lk, be, ma, cs⟩ := u
  exact ⟨_, rfl⟩
section LCALL
variable {l : Launch} {D : va_G} {dA : ClassId} {ax am : Nat → Nat} {own : String} {cc : ByteArray} {nL : Nat} {R : Room} {K : KX} {uX : SX} {uM : SM} {pc : Nat} {lv : List (Option Value)} {y : MethodName} {bytes : ByteArray} {maxL n idx f : Nat} {As rest st0 : List Value} {ret : Option FieldType}
theorem sL_icmp {x : Int} {off : Int} (tgt : Nat) {u : SX × SM} {st : List Value} (d : decode cc pc = .ok (.if_icmp .eq off, 3)) (ht : (pc : Int) + off = (tgt : Int)) (k : SV l D dA (wL dA ax am) own cc nL R K u tgt lv st) : SV l D dA (wL dA ax am) own cc nL R K u pc lv (vI x :: vI x :: st) := sv_br (P1 := True) (P2 := False) (fun hx hb a b => lv_icmp_eq hx hb d ht (fun _ => a trivial) (fun q => absurd rfl q)) (fun _ => k) (fun z => z.elim) (pc1 := tgt) (pc2 := 0) (st1 := st) (st2 := st)
theorem sL_Xi {post : Int → SX → Prop} (hM : MetI l D dA (wX dA ax) (ax 0) y (ws_ y bytes maxL ret) (rmf f) As uX post) (hG : GoodIn lw_all (wsV own idx RX1 y (ws_ y bytes maxL ret))) (hd : y.cls = RX1 ∧ y.cls ≠ "java/lang/invoke/MethodHandle" ∧ y.cls ≠ "java/lang/invoke/VarHandle" ∧ (parseMethodDescriptor y.desc).map (fun d => d.parameters.length) = some n) (hn : As.length = n) (hR : f + 1 ≤ R.frames ∧ 8 + (maxL + 11) + 32 * f ≤ R.locals) (hst : st0 = As.reverse ++ .ref (ax 0) :: rest) (hrest : (rest.map fun v => v.category).sum ≤ 8) (d : decode cc pc = .ok (.invokevirtual idx, 3))
    (kk : ∀ (r : Int) (u' : SX), post r u' → SV l D dA (wL dA ax am) own cc nL R K (u', uM) (pc + 3) lv (vI r :: rest)) : SV l D dA (wL dA ax am) own cc nL R K (uX, uM) pc lv st0 := by
  obtain ⟨p, e, s, m, args, below, meth, c, A, Q, cells, slots⟩ := K
  intro hx hb hml hown hts hK hA hc H locs ls hw hl
  have hw0 : TW D A s.heap (wX dA ax uX) (wM dA am uM) H locs := TW.of hw.1 hw.2.1 hw.2.2
  have hw := hw0
  obtain ⟨fs, he⟩ := wX_0 dA ax uX
  have hF : ∀ q, va_A (wX dA ax uX) H.size q → A q := by
    intro q h
    rcases h with ⟨k, e, h⟩ | h
    · exact hw.2.2.1.2 k _ h
    · exact hA q (Nat.le_trans hw.2.2.2.2.2.1 h)
  refine va_calli (va_runV (As := As) (rest := rest) ⟨hx, hb, hml, hown, hts⟩ (hM H.size) (cwV n hts hG rfl rfl rfl hd hR) ⟨fun a U g mk q => by obtain ⟨q0, q1, qP, qK, qD⟩ := q; exact ⟨q0, q1, qP, va_K.moved (u := U) (U := U.calling g mk a) (Vm.Alike.refl U.vm) qK, qD⟩, va_recv (q := (RX1, TX1, 17)) hK hw.1 (ci := 0) rfl he, fun U hU hW => ⟨rfl, by rw [hU], by rw [hU]; exact hw.1, va_K.moved hW.alike hK, hw.2.2.1.weaken (fun _ _ _ _ => trivial)⟩⟩ rfl hn hl.1.1 hst (lv_room hrest) d hc) hw.2.2.2.2.2 (fun q _ h => hF q h) hF (fun r u' t H1 locs1 ht hvm hpost hB hz1 hk1 hS1 => ?_)
  obtain ⟨x, rfl, hpost⟩ := hpost
  obtain ⟨hP1, hK1, hD1⟩ := hB
  rw [ht] at hP1
  have hb2 := TW.back (S := Unit) hw hF hP1 hD1 hk1 hS1
  exact kk x u' hpost hx hb hml hown hts hK hA hc H1 locs1 ls hb2.app hl
theorem sL_Xv {post : SX → Prop} (hM : MetV l D dA (wX dA ax) (ax 0) y (ws_ y bytes maxL ret) (rmf f) As uX post) (hG : GoodIn lw_all (wsV own idx RX1 y (ws_ y bytes maxL ret))) (hd : y.cls = RX1 ∧ y.cls ≠ "java/lang/invoke/MethodHandle" ∧ y.cls ≠ "java/lang/invoke/VarHandle" ∧ (parseMethodDescriptor y.desc).map (fun d => d.parameters.length) = some n) (hn : As.length = n) (hR : f + 1 ≤ R.frames ∧ 8 + (maxL + 11) + 32 * f ≤ R.locals) (hst : st0 = As.reverse ++ .ref (ax 0) :: rest) (hrest : (rest.map fun v => v.category).sum ≤ 8) (d : decode cc pc = .ok (.invokevirtual idx, 3))
    (kk : ∀ (u' : SX), post u' → SV l D dA (wL dA ax am) own cc nL R K (u', uM) (pc + 3) lv rest) : SV l D dA (wL dA ax am) own cc nL R K (uX, uM) pc lv st0 := by
  obtain ⟨p, e, s, m, args, below, meth, c, A, Q, cells, slots⟩ := K
  intro hx hb hml hown hts hK hA hc H locs ls hw hl
  have hw0 : TW D A s.heap (wX dA ax uX) (wM dA am uM) H locs := TW.of hw.1 hw.2.1 hw.2.2
  have hw := hw0
  obtain ⟨fs, he⟩ := wX_0 dA ax uX
  have hF : ∀ q, va_A (wX dA ax uX) H.size q → A q := by
    intro q h
    rcases h with ⟨k, e, h⟩ | h
    · exact hw.2.2.1.2 k _ h
    · exact hA q (Nat.le_trans hw.2.2.2.2.2.1 h)
  refine va_callv (va_runV (As := As) (rest := rest) ⟨hx, hb, hml, hown, hts⟩ (hM H.size) (cwV n hts hG rfl rfl rfl hd hR) ⟨fun a U g mk q => by obtain ⟨q0, q1, qP, qK, qD⟩ := q; exact ⟨q0, q1, qP, va_K.moved (u := U) (U := U.calling g mk a) (Vm.Alike.refl U.vm) qK, qD⟩, va_recv (q := (RX1, TX1, 17)) hK hw.1 (ci := 0) rfl he, fun U hU hW => ⟨rfl, by rw [hU], by rw [hU]; exact hw.1, va_K.moved hW.alike hK, hw.2.2.1.weaken (fun _ _ _ _ => trivial)⟩⟩ rfl hn hl.1.1 hst (lv_room hrest) d hc) hw.2.2.2.2.2 (fun q _ h => hF q h) hF (fun u' t H1 locs1 ht hvm hpost hB hz1 hk1 hS1 => ?_)
  obtain ⟨hP1, hK1, hD1⟩ := hB
  rw [ht] at hP1
  have hb2 := TW.back (S := Unit) hw hF hP1 hD1 hk1 hS1
  exact kk u' hpost hx hb hml hown hts hK hA hc H1 locs1 ls hb2.app hl
theorem sL_Mi {post : Int → SM → Prop} (hM : MetI l D dA (wM dA am) (am 0) y (ws_ y bytes maxL ret) (rmf f) As uM post) (hG : GoodIn lw_all (wsV own idx RX2 y (ws_ y bytes maxL ret))) (hd : y.cls = RX2 ∧ y.cls ≠ "java/lang/invoke/MethodHandle" ∧ y.cls ≠ "java/lang/invoke/VarHandle" ∧ (parseMethodDescriptor y.desc).map (fun d => d.parameters.length) = some n) (hn : As.length = n) (hR : f + 1 ≤ R.frames ∧ 8 + (maxL + 11) + 32 * f ≤ R.locals) (hst : st0 = As.reverse ++ .ref (am 0) :: rest) (hrest : (rest.map fun v => v.category).sum ≤ 8) (d : decode cc pc = .ok (.invokevirtual idx, 3))
    (kk : ∀ (r : Int) (u' : SM), post r u' → SV l D dA (wL dA ax am) own cc nL R K (uX, u') (pc + 3) lv (vI r :: rest)) : SV l D dA (wL dA ax am) own cc nL R K (uX, uM) pc lv st0 := by
  obtain ⟨p, e, s, m, args, below, meth, c, A, Q, cells, slots⟩ := K
  intro hx hb hml hown hts hK hA hc H locs ls hw hl
  have hw0 : TW D A s.heap (wX dA ax uX) (wM dA am uM) H locs := TW.of hw.1 hw.2.1 hw.2.2
  have hw := hw0.symm
  obtain ⟨fs, he⟩ := wM_0 dA am uM
  have hF : ∀ q, va_A (wM dA am uM) H.size q → A q := by
    intro q h
    rcases h with ⟨k, e, h⟩ | h
    · exact hw.2.2.1.2 k _ h
    · exact hA q (Nat.le_trans hw.2.2.2.2.2.1 h)
  refine va_calli (va_runV (As := As) (rest := rest) ⟨hx, hb, hml, hown, hts⟩ (hM H.size) (cwV n hts hG rfl rfl rfl hd hR) ⟨fun a U g mk q => by obtain ⟨q0, q1, qP, qK, qD⟩ := q; exact ⟨q0, q1, qP, va_K.moved (u := U) (U := U.calling g mk a) (Vm.Alike.refl U.vm) qK, qD⟩, va_recv (q := (RX2, TX2, 14)) hK hw.1 (ci := 1) rfl he, fun U hU hW => ⟨rfl, by rw [hU], by rw [hU]; exact hw.1, va_K.moved hW.alike hK, hw.2.2.1.weaken (fun _ _ _ _ => trivial)⟩⟩ rfl hn hl.1.1 hst (lv_room hrest) d hc) hw.2.2.2.2.2 (fun q _ h => hF q h) hF (fun r u' t H1 locs1 ht hvm hpost hB hz1 hk1 hS1 => ?_)
  obtain ⟨x, rfl, hpost⟩ := hpost
  obtain ⟨hP1, hK1, hD1⟩ := hB
  rw [ht] at hP1
  have hb2 := TW.back (S := Unit) hw hF hP1 hD1 hk1 hS1
  exact kk x u' hpost hx hb hml hown hts hK hA hc H1 locs1 ls hb2.symm.app hl
theorem sL_Mv {post : SM → Prop} (hM : MetV l D dA (wM dA am) (am 0) y (ws_ y bytes maxL ret) (rmf f) As uM post) (hG : GoodIn lw_all (wsV own idx RX2 y (ws_ y bytes maxL ret))) (hd : y.cls = RX2 ∧ y.cls ≠ "java/lang/invoke/MethodHandle" ∧ y.cls ≠ "java/lang/invoke/VarHandle" ∧ (parseMethodDescriptor y.desc).map (fun d => d.parameters.length) = some n) (hn : As.length = n) (hR : f + 1 ≤ R.frames ∧ 8 + (maxL + 11) + 32 * f ≤ R.locals) (hst : st0 = As.reverse ++ .ref (am 0) :: rest) (hrest : (rest.map fun v => v.category).sum ≤ 8) (d : decode cc pc = .ok (.invokevirtual idx, 3))
    (kk : ∀ (u' : SM), post u' → SV l D dA (wL dA ax am) own cc nL R K (uX, u') (pc + 3) lv rest) : SV l D dA (wL dA ax am) own cc nL R K (uX, uM) pc lv st0 := by
  obtain ⟨p, e, s, m, args, below, meth, c, A, Q, cells, slots⟩ := K
  intro hx hb hml hown hts hK hA hc H locs ls hw hl
  have hw0 : TW D A s.heap (wX dA ax uX) (wM dA am uM) H locs := TW.of hw.1 hw.2.1 hw.2.2
  have hw := hw0.symm
  obtain ⟨fs, he⟩ := wM_0 dA am uM
  have hF : ∀ q, va_A (wM dA am uM) H.size q → A q := by
    intro q h
    rcases h with ⟨k, e, h⟩ | h
    · exact hw.2.2.1.2 k _ h
    · exact hA q (Nat.le_trans hw.2.2.2.2.2.1 h)
  refine va_callv (va_runV (As := As) (rest := rest) ⟨hx, hb, hml, hown, hts⟩ (hM H.size) (cwV n hts hG rfl rfl rfl hd hR) ⟨fun a U g mk q => by obtain ⟨q0, q1, qP, qK, qD⟩ := q; exact ⟨q0, q1, qP, va_K.moved (u := U) (U := U.calling g mk a) (Vm.Alike.refl U.vm) qK, qD⟩, va_recv (q := (RX2, TX2, 14)) hK hw.1 (ci := 1) rfl he, fun U hU hW => ⟨rfl, by rw [hU], by rw [hU]; exact hw.1, va_K.moved hW.alike hK, hw.2.2.1.weaken (fun _ _ _ _ => trivial)⟩⟩ rfl hn hl.1.1 hst (lv_room hrest) d hc) hw.2.2.2.2.2 (fun q _ h => hF q h) hF (fun u' t H1 locs1 ht hvm hpost hB hz1 hk1 hS1 => ?_)
  obtain ⟨hP1, hK1, hD1⟩ := hB
  rw [ht] at hP1
  have hb2 := TW.back (S := Unit) hw hF hP1 hD1 hk1 hS1
  exact kk u' hpost hx hb hml hown hts hK hA hc H1 locs1 ls hb2.symm.app hl
end LCALL
section LROWS
variable {l : Launch} {D : va_G} {dA : ClassId} {ax am : Nat → Nat} {cc : ByteArray} {nL : Nat} {K : KX} {uX : SX} {uM : SM} {pc : Nat} {lv : List (Option Value)} {st : List Value}
theorem lX_spell {a0 : Int} {f : Nat} {post : Int → SX → Prop} (hM : MetI l D dA (wX dA ax) (ax 0) yX1_spell (ws_ yX1_spell cX1_spell 2 (some .int)) (rmf f) [vI a0] uX post) (hf : f ≤ 6) (hrest : (st.map fun v => v.category).sum ≤ 8) (d : decode cc pc = .ok (.invokevirtual 21, 3)) (kk : ∀ (r : Int) (u' : SX), post r u' → SV l D dA (wL dA ax am) R_law cc nL room_1 K (u', uM) (pc + 3) lv (vI r :: st)) : SV l D dA (wL dA ax am) R_law cc nL room_1 K (uX, uM) pc lv (vI a0 :: .ref (ax 0) :: st) := sL_Xi (n := 1) hM (lw_V q83 q84 q85 q20 q86) (by decide +kernel) rfl ⟨by show f + 1 ≤ 8; omega, by show 8 + (2 + 11) + 32 * f ≤ 280; omega⟩ rfl hrest d kk
theorem lX_learn {a0 a1 : Int} {f : Nat} {post : Int → SX → Prop} (hM : MetI l D dA (wX dA ax) (ax 0) yX1_learn (ws_ yX1_learn cX1_learn 5 (some .int)) (rmf f) [vI a0, vI a1] uX post) (hf : f ≤ 6) (hrest : (st.map fun v => v.category).sum ≤ 8) (d : decode cc pc = .ok (.invokevirtual 26, 3)) (kk : ∀ (r : Int) (u' : SX), post r u' → SV l D dA (wL dA ax am) R_law cc nL room_1 K (u', uM) (pc + 3) lv (vI r :: st)) : SV l D dA (wL dA ax am) R_law cc nL room_1 K (uX, uM) pc lv (vI a1 :: vI a0 :: .ref (ax 0) :: st) := sL_Xi (n := 2) hM (lw_V q87 q88 q89 q20 q90) (by decide +kernel) rfl ⟨by show f + 1 ≤ 8; omega, by show 8 + (5 + 11) + 32 * f ≤ 280; omega⟩ rfl hrest d kk
theorem lX_forget {f : Nat} {post : Int → SX → Prop} (hM : MetI l D dA (wX dA ax) (ax 0) yX1_forget (ws_ yX1_forget cX1_forget 2 (some .int)) (rmf f) [] uX post) (hf : f ≤ 6) (hrest : (st.map fun v => v.category).sum ≤ 8) (d : decode cc pc = .ok (.invokevirtual 31, 3)) (kk : ∀ (r : Int) (u' : SX), post r u' → SV l D dA (wL dA ax am) R_law cc nL room_1 K (u', uM) (pc + 3) lv (vI r :: st)) : SV l D dA (wL dA ax am) R_law cc nL room_1 K (uX, uM) pc lv (.ref (ax 0) :: st) := sL_Xi (n := 0) hM (lw_V q123 q124 q125 q20 q126) (by decide +kernel) rfl ⟨by show f + 1 ≤ 8; omega, by show 8 + (2 + 11) + 32 * f ≤ 280; omega⟩ rfl hrest d kk
theorem lX_lookUp {f : Nat} {post : Int → SX → Prop} (hM : MetI l D dA (wX dA ax) (ax 0) yX1_lookUp (ws_ yX1_lookUp cX1_lookUp 2 (some .int)) (rmf f) [] uX post) (hf : f ≤ 6) (hrest : (st.map fun v => v.category).sum ≤ 8) (d : decode cc pc = .ok (.invokevirtual 36, 3)) (kk : ∀ (r : Int) (u' : SX), post r u' → SV l D dA (wL dA ax am) R_law cc nL room_1 K (u', uM) (pc + 3) lv (vI r :: st)) : SV l D dA (wL dA ax am) R_law cc nL room_1 K (uX, uM) pc lv (.ref (ax 0) :: st) := sL_Xi (n := 0) hM (lw_V q131 q132 q133 q20 q134) (by decide +kernel) rfl ⟨by show f + 1 ≤ 8; omega, by show 8 + (2 + 11) + 32 * f ≤ 280; omega⟩ rfl hrest d kk
theorem lX_clearSpelling {f : Nat} {post : SX → Prop} (hM : MetV l D dA (wX dA ax) (ax 0) yX1_clearSpelling (ws_ yX1_clearSpelling cX1_clearSpelling 1 none) (rmf f) [] uX post) (hf : f ≤ 6) (hrest : (st.map fun v => v.category).sum ≤ 8) (d : decode cc pc = .ok (.invokevirtual 40, 3)) (kk : ∀ (u' : SX), post u' → SV l D dA (wL dA ax am) R_law cc nL room_1 K (u', uM) (pc + 3) lv st) : SV l D dA (wL dA ax am) R_law cc nL room_1 K (uX, uM) pc lv (.ref (ax 0) :: st) := sL_Xv (n := 0) hM (lw_V q135 q136 q137 q20 q138) (by decide +kernel) rfl ⟨by show f + 1 ≤ 8; omega, by show 8 + (1 + 11) + 32 * f ≤ 280; omega⟩ rfl hrest d kk
theorem lX_link {a0 a1 a2 : Int} {f : Nat} {post : Int → SX → Prop} (hM : MetI l D dA (wX dA ax) (ax 0) yX1_link (ws_ yX1_link cX1_link 5 (some .int)) (rmf f) [vI a0, vI a1, vI a2] uX post) (hf : f ≤ 6) (hrest : (st.map fun v => v.category).sum ≤ 8) (d : decode cc pc = .ok (.invokevirtual 44, 3)) (kk : ∀ (r : Int) (u' : SX), post r u' → SV l D dA (wL dA ax am) R_law cc nL room_1 K (u', uM) (pc + 3) lv (vI r :: st)) : SV l D dA (wL dA ax am) R_law cc nL room_1 K (uX, uM) pc lv (vI a2 :: vI a1 :: vI a0 :: .ref (ax 0) :: st) := sL_Xi (n := 3) hM (lw_V q139 q140 q141 q20 q142) (by decide +kernel) rfl ⟨by show f + 1 ≤ 8; omega, by show 8 + (5 + 11) + 32 * f ≤ 280; omega⟩ rfl hrest d kk
theorem lX_type {a0 : Int} {f : Nat} {post : Int → SX → Prop} (hM : MetI l D dA (wX dA ax) (ax 0) yX1_type (ws_ yX1_type cX1_type 2 (some .int)) (rmf f) [vI a0] uX post) (hf : f ≤ 6) (hrest : (st.map fun v => v.category).sum ≤ 8) (d : decode cc pc = .ok (.invokevirtual 49, 3)) (kk : ∀ (r : Int) (u' : SX), post r u' → SV l D dA (wL dA ax am) R_law cc nL room_1 K (u', uM) (pc + 3) lv (vI r :: st)) : SV l D dA (wL dA ax am) R_law cc nL room_1 K (uX, uM) pc lv (vI a0 :: .ref (ax 0) :: st) := sL_Xi (n := 1) hM (lw_V q143 q144 q145 q20 q146) (by decide +kernel) rfl ⟨by show f + 1 ≤ 8; omega, by show 8 + (2 + 11) + 32 * f ≤ 280; omega⟩ rfl hrest d kk
theorem lX_clearText {f : Nat} {post : SX → Prop} (hM : MetV l D dA (wX dA ax) (ax 0) yX1_clearText (ws_ yX1_clearText cX1_clearText 1 none) (rmf f) [] uX post) (hf : f ≤ 6) (hrest : (st.map fun v => v.category).sum ≤ 8) (d : decode cc pc = .ok (.invokevirtual 53, 3)) (kk : ∀ (u' : SX), post u' → SV l D dA (wL dA ax am) R_law cc nL room_1 K (u', uM) (pc + 3) lv st) : SV l D dA (wL dA ax am) R_law cc nL room_1 K (uX, uM) pc lv (.ref (ax 0) :: st) := sL_Xv (n := 0) hM (lw_V q147 q148 q149 q20 q150) (by decide +kernel) rfl ⟨by show f + 1 ≤ 8; omega, by show 8 + (1 + 11) + 32 * f ≤ 280; omega⟩ rfl hrest d kk
theorem lX_cost {f : Nat} {post : Int → SX → Prop} (hM : MetI l D dA (wX dA ax) (ax 0) yX1_cost (ws_ yX1_cost cX1_cost 1 (some .int)) (rmf f) [] uX post) (hf : f ≤ 6) (hrest : (st.map fun v => v.category).sum ≤ 8) (d : decode cc pc = .ok (.invokevirtual 57, 3)) (kk : ∀ (r : Int) (u' : SX), post r u' → SV l D dA (wL dA ax am) R_law cc nL room_1 K (u', uM) (pc + 3) lv (vI r :: st)) : SV l D dA (wL dA ax am) R_law cc nL room_1 K (uX, uM) pc lv (.ref (ax 0) :: st) := sL_Xi (n := 0) hM (lw_V q151 q152 q153 q20 q154) (by decide +kernel) rfl ⟨by show f + 1 ≤ 8; omega, by show 8 + (1 + 11) + 32 * f ≤ 280; omega⟩ rfl hrest d kk
theorem lX_ways {f : Nat} {post : Int → SX → Prop} (hM : MetI l D dA (wX dA ax) (ax 0) yX1_ways (ws_ yX1_ways cX1_ways 1 (some .int)) (rmf f) [] uX post) (hf : f ≤ 6) (hrest : (st.map fun v => v.category).sum ≤ 8) (d : decode cc pc = .ok (.invokevirtual 61, 3)) (kk : ∀ (r : Int) (u' : SX), post r u' → SV l D dA (wL dA ax am) R_law cc nL room_1 K (u', uM) (pc + 3) lv (vI r :: st)) : SV l D dA (wL dA ax am) R_law cc nL room_1 K (uX, uM) pc lv (.ref (ax 0) :: st) := sL_Xi (n := 0) hM (lw_V q168 q169 q170 q20 q171) (by decide +kernel) rfl ⟨by show f + 1 ≤ 8; omega, by show 8 + (1 + 11) + 32 * f ≤ 280; omega⟩ rfl hrest d kk
theorem lX_start {a0 : Int} {f : Nat} {post : Int → SX → Prop} (hM : MetI l D dA (wX dA ax) (ax 0) yX1_start (ws_ yX1_start cX1_start 6 (some .int)) (rmf f) [vI a0] uX post) (hf : f ≤ 6) (hrest : (st.map fun v => v.category).sum ≤ 8) (d : decode cc pc = .ok (.invokevirtual 65, 3)) (kk : ∀ (r : Int) (u' : SX), post r u' → SV l D dA (wL dA ax am) R_law cc nL room_1 K (u', uM) (pc + 3) lv (vI r :: st)) : SV l D dA (wL dA ax am) R_law cc nL room_1 K (uX, uM) pc lv (vI a0 :: .ref (ax 0) :: st) := sL_Xi (n := 1) hM (lw_V q172 q173 q174 q20 q175) (by decide +kernel) rfl ⟨by show f + 1 ≤ 8; omega, by show 8 + (6 + 11) + 32 * f ≤ 280; omega⟩ rfl hrest d kk
theorem lX_beginning {f : Nat} {post : Int → SX → Prop} (hM : MetI l D dA (wX dA ax) (ax 0) yX1_beginning (ws_ yX1_beginning cX1_beginning 2 (some .int)) (rmf f) [] uX post) (hf : f ≤ 6) (hrest : (st.map fun v => v.category).sum ≤ 8) (d : decode cc pc = .ok (.invokevirtual 69, 3)) (kk : ∀ (r : Int) (u' : SX), post r u' → SV l D dA (wL dA ax am) R_law cc nL room_1 K (u', uM) (pc + 3) lv (vI r :: st)) : SV l D dA (wL dA ax am) R_law cc nL room_1 K (uX, uM) pc lv (.ref (ax 0) :: st) := sL_Xi (n := 0) hM (lw_V q176 q177 q178 q20 q179) (by decide +kernel) rfl ⟨by show f + 1 ≤ 8; omega, by show 8 + (2 + 11) + 32 * f ≤ 280; omega⟩ rfl hrest d kk
theorem lM_spell {a0 : Int} {f : Nat} {post : Int → SM → Prop} (hM : MetI l D dA (wM dA am) (am 0) yX2_spell (ws_ yX2_spell cX2_spell 2 (some .int)) (rmf f) [vI a0] uM post) (hf : f ≤ 6) (hrest : (st.map fun v => v.category).sum ≤ 8) (d : decode cc pc = .ok (.invokevirtual 25, 3)) (kk : ∀ (r : Int) (u' : SM), post r u' → SV l D dA (wL dA ax am) R_law cc nL room_1 K (uX, u') (pc + 3) lv (vI r :: st)) : SV l D dA (wL dA ax am) R_law cc nL room_1 K (uX, uM) pc lv (vI a0 :: .ref (am 0) :: st) := sL_Mi (n := 1) hM (lw_V q232 q233 q234 q21 q235) (by decide +kernel) rfl ⟨by show f + 1 ≤ 8; omega, by show 8 + (2 + 11) + 32 * f ≤ 280; omega⟩ rfl hrest d kk
theorem lM_learn {a0 a1 : Int} {f : Nat} {post : Int → SM → Prop} (hM : MetI l D dA (wM dA am) (am 0) yX2_learn (ws_ yX2_learn cX2_learn 5 (some .int)) (rmf f) [vI a0, vI a1] uM post) (hf : f ≤ 6) (hrest : (st.map fun v => v.category).sum ≤ 8) (d : decode cc pc = .ok (.invokevirtual 30, 3)) (kk : ∀ (r : Int) (u' : SM), post r u' → SV l D dA (wL dA ax am) R_law cc nL room_1 K (uX, u') (pc + 3) lv (vI r :: st)) : SV l D dA (wL dA ax am) R_law cc nL room_1 K (uX, uM) pc lv (vI a1 :: vI a0 :: .ref (am 0) :: st) := sL_Mi (n := 2) hM (lw_V q236 q237 q238 q21 q239) (by decide +kernel) rfl ⟨by show f + 1 ≤ 8; omega, by show 8 + (5 + 11) + 32 * f ≤ 280; omega⟩ rfl hrest d kk
theorem lM_forget {f : Nat} {post : Int → SM → Prop} (hM : MetI l D dA (wM dA am) (am 0) yX2_forget (ws_ yX2_forget cX2_forget 3 (some .int)) (rmf f) [] uM post) (hf : f ≤ 6) (hrest : (st.map fun v => v.category).sum ≤ 8) (d : decode cc pc = .ok (.invokevirtual 35, 3)) (kk : ∀ (r : Int) (u' : SM), post r u' → SV l D dA (wL dA ax am) R_law cc nL room_1 K (uX, u') (pc + 3) lv (vI r :: st)) : SV l D dA (wL dA ax am) R_law cc nL room_1 K (uX, uM) pc lv (.ref (am 0) :: st) := sL_Mi (n := 0) hM (lw_V q248 q249 q250 q21 q251) (by decide +kernel) rfl ⟨by show f + 1 ≤ 8; omega, by show 8 + (3 + 11) + 32 * f ≤ 280; omega⟩ rfl hrest d kk
theorem lM_lookUp {f : Nat} {post : Int → SM → Prop} (hM : MetI l D dA (wM dA am) (am 0) yX2_lookUp (ws_ yX2_lookUp cX2_lookUp 2 (some .int)) (rmf f) [] uM post) (hf : f ≤ 6) (hrest : (st.map fun v => v.category).sum ≤ 8) (d : decode cc pc = .ok (.invokevirtual 39, 3)) (kk : ∀ (r : Int) (u' : SM), post r u' → SV l D dA (wL dA ax am) R_law cc nL room_1 K (uX, u') (pc + 3) lv (vI r :: st)) : SV l D dA (wL dA ax am) R_law cc nL room_1 K (uX, uM) pc lv (.ref (am 0) :: st) := sL_Mi (n := 0) hM (lw_V q252 q253 q254 q21 q255) (by decide +kernel) rfl ⟨by show f + 1 ≤ 8; omega, by show 8 + (2 + 11) + 32 * f ≤ 280; omega⟩ rfl hrest d kk
theorem lM_clearSpelling {f : Nat} {post : SM → Prop} (hM : MetV l D dA (wM dA am) (am 0) yX2_clearSpelling (ws_ yX2_clearSpelling cX2_clearSpelling 1 none) (rmf f) [] uM post) (hf : f ≤ 6) (hrest : (st.map fun v => v.category).sum ≤ 8) (d : decode cc pc = .ok (.invokevirtual 43, 3)) (kk : ∀ (u' : SM), post u' → SV l D dA (wL dA ax am) R_law cc nL room_1 K (uX, u') (pc + 3) lv st) : SV l D dA (wL dA ax am) R_law cc nL room_1 K (uX, uM) pc lv (.ref (am 0) :: st) := sL_Mv (n := 0) hM (lw_V q256 q257 q258 q21 q259) (by decide +kernel) rfl ⟨by show f + 1 ≤ 8; omega, by show 8 + (1 + 11) + 32 * f ≤ 280; omega⟩ rfl hrest d kk
theorem lM_link {a0 a1 a2 : Int} {f : Nat} {post : Int → SM → Prop} (hM : MetI l D dA (wM dA am) (am 0) yX2_link (ws_ yX2_link cX2_link 5 (some .int)) (rmf f) [vI a0, vI a1, vI a2] uM post) (hf : f ≤ 6) (hrest : (st.map fun v => v.category).sum ≤ 8) (d : decode cc pc = .ok (.invokevirtual 48, 3)) (kk : ∀ (r : Int) (u' : SM), post r u' → SV l D dA (wL dA ax am) R_law cc nL room_1 K (uX, u') (pc + 3) lv (vI r :: st)) : SV l D dA (wL dA ax am) R_law cc nL room_1 K (uX, uM) pc lv (vI a2 :: vI a1 :: vI a0 :: .ref (am 0) :: st) := sL_Mi (n := 3) hM (lw_V q260 q261 q262 q21 q263) (by decide +kernel) rfl ⟨by show f + 1 ≤ 8; omega, by show 8 + (5 + 11) + 32 * f ≤ 280; omega⟩ rfl hrest d kk
theorem lM_type {a0 : Int} {f : Nat} {post : Int → SM → Prop} (hM : MetI l D dA (wM dA am) (am 0) yX2_type (ws_ yX2_type cX2_type 2 (some .int)) (rmf f) [vI a0] uM post) (hf : f ≤ 6) (hrest : (st.map fun v => v.category).sum ≤ 8) (d : decode cc pc = .ok (.invokevirtual 52, 3)) (kk : ∀ (r : Int) (u' : SM), post r u' → SV l D dA (wL dA ax am) R_law cc nL room_1 K (uX, u') (pc + 3) lv (vI r :: st)) : SV l D dA (wL dA ax am) R_law cc nL room_1 K (uX, uM) pc lv (vI a0 :: .ref (am 0) :: st) := sL_Mi (n := 1) hM (lw_V q264 q265 q266 q21 q267) (by decide +kernel) rfl ⟨by show f + 1 ≤ 8; omega, by show 8 + (2 + 11) + 32 * f ≤ 280; omega⟩ rfl hrest d kk
theorem lM_clearText {f : Nat} {post : SM → Prop} (hM : MetV l D dA (wM dA am) (am 0) yX2_clearText (ws_ yX2_clearText cX2_clearText 1 none) (rmf f) [] uM post) (hf : f ≤ 6) (hrest : (st.map fun v => v.category).sum ≤ 8) (d : decode cc pc = .ok (.invokevirtual 56, 3)) (kk : ∀ (u' : SM), post u' → SV l D dA (wL dA ax am) R_law cc nL room_1 K (uX, u') (pc + 3) lv st) : SV l D dA (wL dA ax am) R_law cc nL room_1 K (uX, uM) pc lv (.ref (am 0) :: st) := sL_Mv (n := 0) hM (lw_V q268 q269 q270 q21 q271) (by decide +kernel) rfl ⟨by show f + 1 ≤ 8; omega, by show 8 + (1 + 11) + 32 * f ≤ 280; omega⟩ rfl hrest d kk
theorem lM_cost {f : Nat} {post : Int → SM → Prop} (hM : MetI l D dA (wM dA am) (am 0) yX2_cost (ws_ yX2_cost cX2_cost 1 (some .int)) (rmf f) [] uM post) (hf : f ≤ 6) (hrest : (st.map fun v => v.category).sum ≤ 8) (d : decode cc pc = .ok (.invokevirtual 60, 3)) (kk : ∀ (r : Int) (u' : SM), post r u' → SV l D dA (wL dA ax am) R_law cc nL room_1 K (uX, u') (pc + 3) lv (vI r :: st)) : SV l D dA (wL dA ax am) R_law cc nL room_1 K (uX, uM) pc lv (.ref (am 0) :: st) := sL_Mi (n := 0) hM (lw_V q272 q273 q274 q21 q275) (by decide +kernel) rfl ⟨by show f + 1 ≤ 8; omega, by show 8 + (1 + 11) + 32 * f ≤ 280; omega⟩ rfl hrest d kk
theorem lM_ways {f : Nat} {post : Int → SM → Prop} (hM : MetI l D dA (wM dA am) (am 0) yX2_ways (ws_ yX2_ways cX2_ways 1 (some .int)) (rmf f) [] uM post) (hf : f ≤ 6) (hrest : (st.map fun v => v.category).sum ≤ 8) (d : decode cc pc = .ok (.invokevirtual 64, 3)) (kk : ∀ (r : Int) (u' : SM), post r u' → SV l D dA (wL dA ax am) R_law cc nL room_1 K (uX, u') (pc + 3) lv (vI r :: st)) : SV l D dA (wL dA ax am) R_law cc nL room_1 K (uX, uM) pc lv (.ref (am 0) :: st) := sL_Mi (n := 0) hM (lw_V q296 q297 q298 q21 q299) (by decide +kernel) rfl ⟨by show f + 1 ≤ 8; omega, by show 8 + (1 + 11) + 32 * f ≤ 280; omega⟩ rfl hrest d kk
theorem lM_start {a0 : Int} {f : Nat} {post : Int → SM → Prop} (hM : MetI l D dA (wM dA am) (am 0) yX2_start (ws_ yX2_start cX2_start 4 (some .int)) (rmf f) [vI a0] uM post) (hf : f ≤ 6) (hrest : (st.map fun v => v.category).sum ≤ 8) (d : decode cc pc = .ok (.invokevirtual 68, 3)) (kk : ∀ (r : Int) (u' : SM), post r u' → SV l D dA (wL dA ax am) R_law cc nL room_1 K (uX, u') (pc + 3) lv (vI r :: st)) : SV l D dA (wL dA ax am) R_law cc nL room_1 K (uX, uM) pc lv (vI a0 :: .ref (am 0) :: st) := sL_Mi (n := 1) hM (lw_V q300 q301 q302 q21 q303) (by decide +kernel) rfl ⟨by show f + 1 ≤ 8; omega, by show 8 + (4 + 11) + 32 * f ≤ 280; omega⟩ rfl hrest d kk
theorem lM_beginning {f : Nat} {post : Int → SM → Prop} (hM : MetI l D dA (wM dA am) (am 0) yX2_beginning (ws_ yX2_beginning cX2_beginning 3 (some .int)) (rmf f) [] uM post) (hf : f ≤ 6) (hrest : (st.map fun v => v.category).sum ≤ 8) (d : decode cc pc = .ok (.invokevirtual 72, 3)) (kk : ∀ (r : Int) (u' : SM), post r u' → SV l D dA (wL dA ax am) R_law cc nL room_1 K (uX, u') (pc + 3) lv (vI r :: st)) : SV l D dA (wL dA ax am) R_law cc nL room_1 K (uX, uM) pc lv (.ref (am 0) :: st) := sL_Mi (n := 0) hM (lw_V q304 q305 q306 q21 q307) (by decide +kernel) rfl ⟨by show f + 1 ≤ 8; omega, by show 8 + (3 + 11) + 32 * f ≤ 280; omega⟩ rfl hrest d kk
/-- the law's script, as the run has it -/
def KS (K : KX) (b L : Nat) (xs : Nat → Int32) : Prop := match K with
  | (p, e, s, m, args, below, meth, c, A, Q, cells, slots) => va_X b L xs s s.heap ∧ b < s.heap.size ∧ ¬ A b
def xI (xs : Nat → Int32) (i : Int) : Int := (xs i.toNat).toInt
theorem xI_rg (xs : Nat → Int32) (i : Int) : inR (xI xs i) := inR_of _
variable {S : Type} {w : S → va_W} {own : String} {R : Room} {u : S}
theorem s_sld {b L : Nat} {xs : Nat → Int32} (hk : KS K b L xs) {i : Int} (h0 : 0 ≤ i) (h1 : i < L) (hL : L ≤ 257) (d : decode cc pc = .ok (.iaload, 1)) (k : SV l D dA w own cc nL R K u (pc + 1) lv (vI (xI xs i) :: st)) : SV l D dA w own cc nL R K u pc lv (vI i :: .ref b :: st) := by
  obtain ⟨p, e, s, m, args, below, meth, c, A, Q, cells, slots⟩ := K
  intro hx hb hml hown hts hK hA hc H locs ls hw hl
  refine va_sld hx hb hk.1 hk.2.1 hk.2.2 hw.2.2 (iI_in h0 h1 (by omega)) d ?_
  rw [iI_clamp h0 (by omega), show xs i.toNat = iI (xI xs i) from (iI_of _).symm]
  exact k hx hb hml hown hts hK hA hc H locs ls hw hl
theorem s_slen {b L : Nat} {xs : Nat → Int32} (hk : KS K b L xs) (d : decode cc pc = .ok (.arraylength, 1)) (k : SV l D dA w own cc nL R K u (pc + 1) lv (vI (L : Int) :: st)) : SV l D dA w own cc nL R K u pc lv (.ref b :: st) := by
  obtain ⟨p, e, s, m, args, below, meth, c, A, Q, cells, slots⟩ := K
  intro hx hb hml hown hts hK hA hc H locs ls hw hl
  refine va_slen hx hb hk.1 hk.2.1 hk.2.2 hw.2.2 d ?_
  rw [show Int32.ofNat L = iI (L : Int) from (iI_nat L).symm]
  exact k hx hb hml hown hts hK hA hc H locs ls hw hl
theorem s_tabIn {dflt lo hi : Int} {offs : Array Int} {len : Nat} {x : Int} {off : Int} (tgt : Nat) (d : decode cc pc = .ok (.tableswitch dflt lo hi offs, len)) (hx0 : inR x) (h1 : ¬ x < lo) (h2 : ¬ hi < x) (ho : offs[(x - lo).toNat]? = some off) (ht : (pc : Int) + off = (tgt : Int)) (k : SV l D dA w own cc nL R K u tgt lv st) : SV l D dA w own cc nL R K u pc lv (vI x :: st) :=
  sv_row (fun hx hb _ kk => lv_tableIn hx hb d (by rw [iI_toInt hx0.1 hx0.2]; exact h1) (by rw [iI_toInt hx0.1 hx0.2]; exact h2) (by rw [iI_toInt hx0.1 hx0.2]; exact ho) ht kk) k
theorem s_tabOut {dflt lo hi : Int} {offs : Array Int} {len : Nat} {x : Int} (tgt : Nat) (d : decode cc pc = .ok (.tableswitch dflt lo hi offs, len)) (hx0 : inR x) (h : x < lo ∨ hi < x) (ht : (pc : Int) + dflt = (tgt : Int)) (k : SV l D dA w own cc nL R K u tgt lv st) : SV l D dA w own cc nL R K u pc lv (vI x :: st) :=
  sv_row (fun hx hb _ kk => lv_tableOut hx hb d (by rw [iI_toInt hx0.1 hx0.2]; exact h) ht kk) k
end LROWS
def lt15 (x : Int) : Int := (((iI x).toBitVec.toNat % 16 : Nat) : Int)
theorem lt15_rg (x : Int) : 0 ≤ lt15 x ∧ lt15 x < 16 := by
  unfold lt15
  have := Nat.mod_lt (iI x).toBitVec.toNat (show 16 > 0 by decide)
  omega
theorem lt15_ok (x : Int) : iI x &&& iI 15 = iI (lt15 x) := by
  have h := pk_and (iI x) (m := iI 15) 4 (by decide +kernel)
  rw [h]
  unfold lt15 iI nI
  rw [Int32.ofInt_eq_ofNat]
def c0P (L : Nat) (xs : Nat → Int32) : Int := if 0 < L then (xs 0).toInt else 0
theorem c0P_rg (L : Nat) (xs : Nat → Int32) : inR (c0P L xs) := by
  unfold c0P
  split
  · exact inR_of _
  · exact inR_0
/-- cell(script, 0) -/
theorem c_cell {l : Launch} {b L : Nat} {xs : Nat → Int32} (hL : L ≤ 257) : Met l yX0_cell (ws_ yX0_cell cX0_cell 2 (some .int)) (rmf 0) (va_Pc [.ref b, vI 0] (fun U => va_X b L xs U U.heap ∧ b < U.heap.size)) (va_Qi (fun (r : Int32) (_ : Unit) => r = iI (c0P L xs)) (fun _ _ => True) (fun _ => False)) 0 0 (fun _ => False) := by
  refine Met.ofW (cc := cX0_cell) (maxL := 2) (ret := (some .int)) (by decide) rfl ?_
  intro p e s m args below meth c s₁ B hml hv
  obtain ⟨rfl, hX, hbl⟩ := hv
  have hx := B.exec
  have hb := B.bytes
  have hr := B.returns
  have hlocks := B.notSynchronized
  have hS : va_S (fun _ => False) s.heap s.heap [] := va_S.rf
  have hl := lv_entry ([.ref b, vI 0]) (n := 2) (Nat.le_of_ble_eq_true rfl)
  rw [lg_entry_eq]
  generalize (lg_sl ([.ref b, vI 0]) ++ List.replicate (2 - (lg_sl ([.ref b, vI 0])).length) Slot.unset).toArray = ls at hl ⊢
  have hl : lv_has ls 2 [(0, .ref b), (1, vI 0)] := hl
  suffices hret : ∀ r : Int, r = c0P L xs → W p l e (headSpec (ws_ yX0_cell cX0_cell 2 (some .int)) (rmf 0)).room s m ([.ref b, vI 0] : List Value).toArray below meth c s.heap [] 0 0 _ (F0 m 13 ls [vI r]) by
    refine lv_iload_n hx hb dX0_cell_0 rfl (lv_at hl 1 rfl) ?_
    refine lv_aload_n hx hb dX0_cell_1 rfl (lv_at hl 0 rfl) ?_
    refine va_slen hx hb hX hbl (fun z => z) hS dX0_cell_2 ?_
    rw [show Int32.ofNat L = iI (L : Int) from (iI_nat L).symm]
    refine lv_icmp_ge (tgt := 12) hx hb dX0_cell_3 (by decide) (fun h3 => ?_) (fun h3 => ?_)
    · refine lv_iconst (v := iI 0) hx hb dX0_cell_12 rfl ?_
      have h4 := (iI_le (x := (L : Int)) (y := 0) ⟨by omega, by omega⟩ inR_0).mp h3
      exact hret 0 (by unfold c0P; rw [if_neg (by omega)])
    · have h4 : 0 < L := by
        apply Classical.byContradiction
        intro z
        exact h3 ((iI_le (x := (L : Int)) (y := 0) ⟨by omega, by omega⟩ inR_0).mpr (by omega))
      refine lv_aload_n hx hb dX0_cell_6 rfl (lv_at hl 0 rfl) ?_
      refine lv_iload_n hx hb dX0_cell_7 rfl (lv_at hl 1 rfl) ?_
      refine va_sld hx hb hX hbl (fun z => z) hS (iI_in (x := 0) (by omega) (by omega) (by omega)) dX0_cell_8 ?_
      rw [show xs (iI 0).toNatClampNeg = iI (xs 0).toInt from (iI_of _).symm]
      refine lv_goto (tgt := 13) hx hb dX0_cell_9 (by decide) ?_
      exact hret _ (by unfold c0P; rw [if_pos h4])
  intro r hr0
  exact W.iret hx hb hr (fun t ht hW => ⟨⟨iI r, (), rfl, by rw [hr0], trivial⟩, hS.F ht⟩) hS.2.2 dX0_cell_13
/-- what holds between the two between the calls, after k of them -/
def LI (k : Int) (uX : SX) (uM : SM) : Prop := ∃ (pen : Int) (ba ch co ki wo : Int → Int) (sp : Int) (sl : Int → Int) (le : Int) (tx lk : Int → Int) (cf : Int) (cp nu fl : Int → Int) (pC pK : Int) (wd : Int) (lt ln pr kd : Int → Int) (be ma cs : Int) (DC DK CN : List Int → Int),
  uX = (pen, ba, ch, co, ki, wo, sp, sl, le, tx, lk, cf, cp, nu, fl, pC, pK) ∧ uM = (pen, wd, lt, ln, pr, kd, sl, sp, tx, le, lk, be, ma, cs) ∧ XT ba ch co ki wo DC DK CN (1 + k - sp) ∧ MD wd lt ln pr kd DC DK CN ∧ (1 ≤ pen ∧ pen ≤ 99) ∧ (0 ≤ sp ∧ sp ≤ 5) ∧ (∀ i, 0 ≤ i → i < sp → 0 ≤ sl i ∧ sl i < 4) ∧ (0 ≤ le ∧ le ≤ 12) ∧ (∀ i, 0 ≤ i → i < le → 0 ≤ tx i ∧ tx i < 4) ∧ (∀ i, 0 ≤ i → i < 16 → 0 ≤ lk i ∧ lk i ≤ 99) ∧ (cf = 0 ∨ cf = 1) ∧ (cf = 1 → Tab DC DK pen le tx lk cp nu fl 0)
theorem XT.mono {ba ch co ki wo : Int → Int} {DC DK CN : List Int → Int} {N N' : Int} (h : XT ba ch co ki wo DC DK CN N) (hN : N ≤ N') : XT ba ch co ki wo DC DK CN N' := by
  obtain ⟨pth, h1, h2⟩ := h
  exact ⟨pth, h1, by omega⟩
theorem cntN_dead {ch : Int → Int} : ∀ n : Nat, (∀ x : Nat, x < n → ch x < 0) → cntN ch n = 0 := by
  intro n
  induction n with
  | zero => intro _; rfl
  | succ n ih => intro h; rw [cntN_s, ih (fun x hx => h x (by omega)), if_neg (by have := h n (by omega); omega)]
theorem LI_start {x : Int} {uX : SX} {uM : SM} (hX : XInit x uX) (hM : MInit x uM) : LI 0 uX uM := by
  obtain ⟨ch, co, rfl, ⟨c1, c2⟩, c3⟩ := hX
  have hM : uM = (clP x, 0, zF, zF, zF, zF, zF, 0, zF, 0, zF, 0, 0, 0) := hM
  refine ⟨clP x, zF, ch, co, zF, zF, 0, zF, 0, zF, zF, 0, zF, zF, zF, 0, 0, 0, zF, zF, zF, zF, 0, 0, 0, fun _ => -1, fun _ => 0, fun _ => 0, rfl, hM, ?_, ?_, clP_rg x, by omega, fun i a b => by omega, by omega, fun i a b => by omega, fun i a b => by show 0 ≤ (0 : Int) ∧ (0 : Int) ≤ 99; omega, Or.inl rfl, fun z => by omega⟩
  · have hl : ∀ s, live ch s → s = 0 := by
      rintro s ⟨a, b, e⟩
      apply Classical.byContradiction
      intro z
      have := c2 s (by omega) b
      omega
    have l0 : live ch 0 := ⟨by omega, by omega, by omega⟩
    refine ⟨fun _ => [], ⟨fun y y0 y1 => ?_, ⟨c1, rfl, fun s s0 s1 s2 => ?_, fun s t hs ht _ => by rw [hl s hs, hl t ht]⟩, fun s hs => ?_, fun q => ?_⟩, ?_⟩
    · show (0 : Int) ≤ 0 ∧ (0 : Int) ≤ 500 ∧ _
      by_cases e : y = 0
      · rw [e, c1]; omega
      · rw [c2 y (by omega) y1]; omega
    · have := hl s ⟨by omega, s1, s2⟩
      omega
    · rw [hl s hs]
      exact ⟨c3 0 (by omega) (by omega), fun z => by
        have z : (0 : Int) ≤ -1 := z
        omega, rfl⟩
    · constructor
      · rintro ⟨s, hs, e⟩
        exact Or.inl e.symm
      · rintro (e | e)
        · exact ⟨0, l0, e.symm⟩
        · have e : (1 : Int) ≤ 0 := e
          omega
    · have e1 := cntN_add (ch := fun _ => -1) (ch' := ch) 0 (by show (-1 : Int) < 0; omega) (by show 0 ≤ ch ((0 : Nat) : Int); rw [show ((0 : Nat) : Int) = 0 from rfl, c1]; omega) 512 (fun y hy hn => by
        rw [c2 y (by omega) (by omega)])
      rw [cntN_dead (ch := fun _ => -1) 512 (fun y hy => by show (-1 : Int) < 0; omega), if_pos (by omega)] at e1
      rw [e1]
      omega
  · refine ⟨by omega, by omega, fun w a b => by omega, fun w v a b => by omega, fun w a b => by omega, fun q _ => rfl, fun q => rfl⟩
end
section
/-! THE LAW: its twelve calls, each on both sides, each keeps LI: printed by gen/laws.py -/
set_option maxRecDepth 100000
section LSTEP
theorem LI_of {k pen : Int} {ba ch co ki wo : Int → Int} {sp : Int} {sl : Int → Int} {le : Int} {tx lk : Int → Int} {cf : Int} {cp nu fl : Int → Int} {pC pK wd : Int} {lt ln pr kd : Int → Int} {be ma cs : Int} {DC DK CN : List Int → Int} {N : Int} (h1 : XT ba ch co ki wo DC DK CN N) (hN : N ≤ 1 + k - sp) (h2 : MD wd lt ln pr kd DC DK CN) (h3 : 1 ≤ pen ∧ pen ≤ 99) (h4 : 0 ≤ sp ∧ sp ≤ 5) (h5 : ∀ i, 0 ≤ i → i < sp → 0 ≤ sl i ∧ sl i < 4) (h6 : 0 ≤ le ∧ le ≤ 12) (h7 : ∀ i, 0 ≤ i → i < le → 0 ≤ tx i ∧ tx i < 4) (h8 : ∀ i, 0 ≤ i → i < 16 → 0 ≤ lk i ∧ lk i ≤ 99) (h9 : cf = 0 ∨ cf = 1) (h10 : cf = 1 → Tab DC DK pen le tx lk cp nu fl 0) : LI k (pen, ba, ch, co, ki, wo, sp, sl, le, tx, lk, cf, cp, nu, fl, pC, pK) (pen, wd, lt, ln, pr, kd, sl, sp, tx, le, lk, be, ma, cs) :=
  ⟨_, _, _, _, _, _, _, _, _, _, _, _, _, _, _, _, _, _, _, _, _, _, _, _, _, _, _, _, rfl, rfl, h1.mono hN, h2, h3, h4, h5, h6, h7, h8, h9, h10⟩
theorem sB_low {ty cs x : Int} : ∀ (m : Nat) (pl ct : Int), x < ct → sB ty cs x m pl ct = -1 := by
  intro m
  induction m with
  | zero => intro pl ct _; rfl
  | succ m ih =>
    intro pl ct h
    rw [sB_s]
    split
    · rw [if_neg (by omega)]
      exact ih _ _ (by omega)
    · exact ih _ _ h
theorem upI_rg {g : Int → Int} {k v n m : Int} (h : ∀ i, 0 ≤ i → i < k → 0 ≤ g i ∧ g i < m) (hn : n = k + 1) (hv : 0 ≤ v ∧ v < m) : ∀ i, 0 ≤ i → i < n → 0 ≤ upI g k v i ∧ upI g k v i < m := by
  intro i a b
  by_cases e : i = k
  · rw [e, upI_s]; exact hv
  · rw [upI_n e]; exact h i a (by omega)
theorem upI_rg99 {g : Int → Int} {k v : Int} (h : ∀ i, 0 ≤ i → i < 16 → 0 ≤ g i ∧ g i ≤ 99) (hv : 0 ≤ v ∧ v ≤ 99) : ∀ i, 0 ≤ i → i < 16 → 0 ≤ upI g k v i ∧ upI g k v i ≤ 99 := by
  intro i a b
  by_cases e : i = k
  · rw [e, upI_s]; exact hv
  · rw [upI_n e]; exact h i a b
variable {l : Launch} {D : va_G} {dA : ClassId} {ax am : Nat → Nat} {K : KX} {b L : Nat} {xs : Nat → Int32} {i k : Int} {uX : SX} {uM : SM}
theorem st_spell (hI : LI k uX uM) (hk : 0 ≤ k ∧ k ≤ 63) (hi : 1 ≤ i ∧ i + 4 ≤ L) (hL : L ≤ 257) (hS : KS K b L xs) (kk : ∀ (uX' : SX) (uM' : SM), LI (k + 1) uX' uM' → SV l D dA (wL dA ax am) R_law cL_law 4 room_1 K (uX', uM') 336 [some (.ref b), some (.ref (ax 0)), some (.ref (am 0)), some (vI i)] []) : SV l D dA (wL dA ax am) R_law cL_law 4 room_1 K (uX, uM) 104 [some (.ref b), some (.ref (ax 0)), some (.ref (am 0)), some (vI i)] [] := by
  obtain ⟨pen, ba, ch, co, ki, wo, sp, sl, le, tx, lk, cf, cp, nu, fl, pC, pK, wd, lt, ln, pr, kd, be, ma, cs, DC, DK, CN, rfl, rfl, hX, hMD, hpen, hsp, hsl, hle, htx, hlk, hcf, hF⟩ := hI
  have hdic := hMD.dic
  refine s_aload_n 1 dL_law_104 rfl rfl ?_
  refine s_aload_n 0 dL_law_105 rfl rfl ?_
  refine s_iload_n 3 dL_law_106 rfl rfl ?_
  refine s_iconst dL_law_107 ?_
  refine s_iadd dL_law_108 ?_
  refine s_sld hS (by omega) (by omega) hL dL_law_109 ?_
  refine lX_spell (m_spell hsp) (by decide) (Nat.le_of_ble_eq_true rfl) dL_law_110 (fun r1 u1 hp => ?_)
  refine s_aload_n 2 dL_law_113 rfl rfl ?_
  refine s_aload_n 0 dL_law_114 rfl rfl ?_
  refine s_iload_n 3 dL_law_115 rfl rfl ?_
  refine s_iconst dL_law_116 ?_
  refine s_iadd dL_law_117 ?_
  refine s_sld hS (by omega) (by omega) hL dL_law_118 ?_
  refine lM_spell (n_spell hsp) (by decide) (Nat.le_of_ble_eq_true rfl) dL_law_119 (fun r2 u2 hq => ?_)
  rcases hp with ⟨a1, rfl, rfl⟩ | ⟨a1, rfl, rfl⟩
  · rcases hq with ⟨a2, rfl, rfl⟩ | ⟨a2, -, -⟩
    · refine sL_icmp 336 dL_law_122 (by decide) ?_
      exact kk _ _ (LI_of hX (by omega) hMD hpen hsp hsl hle htx hlk hcf hF)
    · omega
  · rcases hq with ⟨a2, -, -⟩ | ⟨a2, rfl, rfl⟩
    · omega
    · refine sL_icmp 336 dL_law_122 (by decide) ?_
      exact kk _ _ (LI_of hX (by omega) hMD hpen (by omega) (upI_rg hsl rfl (lt3_rg _)) hle htx hlk hcf hF)
theorem st_learn (hI : LI k uX uM) (hk : 0 ≤ k ∧ k ≤ 63) (hi : 1 ≤ i ∧ i + 4 ≤ L) (hL : L ≤ 257) (hS : KS K b L xs) (kk : ∀ (uX' : SX) (uM' : SM), LI (k + 1) uX' uM' → SV l D dA (wL dA ax am) R_law cL_law 4 room_1 K (uX', uM') 336 [some (.ref b), some (.ref (ax 0)), some (.ref (am 0)), some (vI i)] []) : SV l D dA (wL dA ax am) R_law cL_law 4 room_1 K (uX, uM) 127 [some (.ref b), some (.ref (ax 0)), some (.ref (am 0)), some (vI i)] [] := by
  obtain ⟨pen, ba, ch, co, ki, wo, sp, sl, le, tx, lk, cf, cp, nu, fl, pC, pK, wd, lt, ln, pr, kd, be, ma, cs, DC, DK, CN, rfl, rfl, hX, hMD, hpen, hsp, hsl, hle, htx, hlk, hcf, hF⟩ := hI
  have hdic := hMD.dic
  refine s_aload_n 1 dL_law_127 rfl rfl ?_
  refine s_aload_n 0 dL_law_128 rfl rfl ?_
  refine s_iload_n 3 dL_law_129 rfl rfl ?_
  refine s_iconst dL_law_130 ?_
  refine s_iadd dL_law_131 ?_
  refine s_sld hS (by omega) (by omega) hL dL_law_132 ?_
  refine s_aload_n 0 dL_law_133 rfl rfl ?_
  refine s_iload_n 3 dL_law_134 rfl rfl ?_
  refine s_iconst dL_law_135 ?_
  refine s_iadd dL_law_136 ?_
  refine s_sld hS (by omega) (by omega) hL dL_law_137 ?_
  refine lX_learn (m_learn (xI_rg _ _) (xI_rg _ _) (by omega) hX hdic hsp hsl) (by decide) (Nat.le_of_ble_eq_true rfl) dL_law_138 (fun r1 u1 hp => ?_)
  refine s_aload_n 2 dL_law_141 rfl rfl ?_
  refine s_aload_n 0 dL_law_142 rfl rfl ?_
  refine s_iload_n 3 dL_law_143 rfl rfl ?_
  refine s_iconst dL_law_144 ?_
  refine s_iadd dL_law_145 ?_
  refine s_sld hS (by omega) (by omega) hL dL_law_146 ?_
  refine s_aload_n 0 dL_law_147 rfl rfl ?_
  refine s_iload_n 3 dL_law_148 rfl rfl ?_
  refine s_iconst dL_law_149 ?_
  refine s_iadd dL_law_150 ?_
  refine s_sld hS (by omega) (by omega) hL dL_law_151 ?_
  refine lM_learn (n_learn (xI_rg _ _) (xI_rg _ _) hMD hsp hsl) (by decide) (Nat.le_of_ble_eq_true rfl) dL_law_152 (fun r2 u2 hq => ?_)
  rcases hp with ⟨a1, rfl, rfl⟩ | ⟨a1, rfl, ba', ch', co', ki', wo', rfl, hX'⟩
  · rcases hq with ⟨a2, rfl, rfl⟩ | ⟨a2, -⟩
    · refine sL_icmp 336 dL_law_155 (by decide) ?_
      exact kk _ _ (LI_of hX (by omega) hMD hpen hsp hsl hle htx hlk hcf hF)
    · exact absurd a1 a2
  · rcases hq with ⟨a2, -⟩ | ⟨a2, rfl, wd', lt', ln', pr', kd', rfl, hM'⟩
    · exact absurd a2 a1
    · refine sL_icmp 336 dL_law_155 (by decide) ?_
      exact kk _ _ (LI_of hX' (by omega) hM' hpen (by omega) (fun j p q => by omega) hle htx hlk (Or.inl rfl) (fun z => by omega))
theorem st_forget (hI : LI k uX uM) (hk : 0 ≤ k ∧ k ≤ 63) (hi : 1 ≤ i ∧ i + 4 ≤ L) (hL : L ≤ 257) (hS : KS K b L xs) (kk : ∀ (uX' : SX) (uM' : SM), LI (k + 1) uX' uM' → SV l D dA (wL dA ax am) R_law cL_law 4 room_1 K (uX', uM') 336 [some (.ref b), some (.ref (ax 0)), some (.ref (am 0)), some (vI i)] []) : SV l D dA (wL dA ax am) R_law cL_law 4 room_1 K (uX, uM) 160 [some (.ref b), some (.ref (ax 0)), some (.ref (am 0)), some (vI i)] [] := by
  obtain ⟨pen, ba, ch, co, ki, wo, sp, sl, le, tx, lk, cf, cp, nu, fl, pC, pK, wd, lt, ln, pr, kd, be, ma, cs, DC, DK, CN, rfl, rfl, hX, hMD, hpen, hsp, hsl, hle, htx, hlk, hcf, hF⟩ := hI
  have hdic := hMD.dic
  refine s_aload_n 1 dL_law_160 rfl rfl ?_
  refine lX_forget (m_forget hX hdic hsp hsl) (by decide) (Nat.le_of_ble_eq_true rfl) dL_law_161 (fun r1 u1 hp => ?_)
  refine s_aload_n 2 dL_law_164 rfl rfl ?_
  refine lM_forget (n_forget hMD hsp hsl) (by decide) (Nat.le_of_ble_eq_true rfl) dL_law_165 (fun r2 u2 hq => ?_)
  rcases hp with ⟨a1, rfl, rfl⟩ | ⟨a1, rfl, ba', ch', co', wo', rfl, hX'⟩
  · rcases hq with ⟨a2, rfl, rfl⟩ | ⟨a2, -⟩
    · refine sL_icmp 336 dL_law_168 (by decide) ?_
      exact kk _ _ (LI_of hX (by omega) hMD hpen hsp hsl hle htx hlk hcf hF)
    · omega
  · rcases hq with ⟨a2, -⟩ | ⟨a2, rfl, wd', lt', ln', pr', kd', rfl, hM'⟩
    · omega
    · refine sL_icmp 336 dL_law_168 (by decide) ?_
      exact kk _ _ (LI_of hX' (by omega) hM' hpen (by omega) (fun j p q => by omega) hle htx hlk (Or.inl rfl) (fun z => by omega))
theorem st_lookUp (hI : LI k uX uM) (hk : 0 ≤ k ∧ k ≤ 63) (hi : 1 ≤ i ∧ i + 4 ≤ L) (hL : L ≤ 257) (hS : KS K b L xs) (kk : ∀ (uX' : SX) (uM' : SM), LI (k + 1) uX' uM' → SV l D dA (wL dA ax am) R_law cL_law 4 room_1 K (uX', uM') 336 [some (.ref b), some (.ref (ax 0)), some (.ref (am 0)), some (vI i)] []) : SV l D dA (wL dA ax am) R_law cL_law 4 room_1 K (uX, uM) 173 [some (.ref b), some (.ref (ax 0)), some (.ref (am 0)), some (vI i)] [] := by
  obtain ⟨pen, ba, ch, co, ki, wo, sp, sl, le, tx, lk, cf, cp, nu, fl, pC, pK, wd, lt, ln, pr, kd, be, ma, cs, DC, DK, CN, rfl, rfl, hX, hMD, hpen, hsp, hsl, hle, htx, hlk, hcf, hF⟩ := hI
  have hdic := hMD.dic
  refine s_aload_n 1 dL_law_173 rfl rfl ?_
  refine lX_lookUp (m_lookUp hX hdic hsp hsl) (by decide) (Nat.le_of_ble_eq_true rfl) dL_law_174 (fun r1 u1 hp => ?_)
  refine s_aload_n 2 dL_law_177 rfl rfl ?_
  refine lM_lookUp (n_lookUp hMD hsp hsl) (by decide) (Nat.le_of_ble_eq_true rfl) dL_law_178 (fun r2 u2 hq => ?_)
  obtain ⟨rfl, rfl⟩ := hp
  obtain ⟨rfl, rfl⟩ := hq
  refine sL_icmp 336 dL_law_181 (by decide) ?_
  exact kk _ _ (LI_of hX (by omega) hMD hpen hsp hsl hle htx hlk hcf hF)
theorem st_clearSpelling (hI : LI k uX uM) (hk : 0 ≤ k ∧ k ≤ 63) (hi : 1 ≤ i ∧ i + 4 ≤ L) (hL : L ≤ 257) (hS : KS K b L xs) (kk : ∀ (uX' : SX) (uM' : SM), LI (k + 1) uX' uM' → SV l D dA (wL dA ax am) R_law cL_law 4 room_1 K (uX', uM') 336 [some (.ref b), some (.ref (ax 0)), some (.ref (am 0)), some (vI i)] []) : SV l D dA (wL dA ax am) R_law cL_law 4 room_1 K (uX, uM) 186 [some (.ref b), some (.ref (ax 0)), some (.ref (am 0)), some (vI i)] [] := by
  obtain ⟨pen, ba, ch, co, ki, wo, sp, sl, le, tx, lk, cf, cp, nu, fl, pC, pK, wd, lt, ln, pr, kd, be, ma, cs, DC, DK, CN, rfl, rfl, hX, hMD, hpen, hsp, hsl, hle, htx, hlk, hcf, hF⟩ := hI
  have hdic := hMD.dic
  refine s_aload_n 1 dL_law_186 rfl rfl ?_
  refine lX_clearSpelling (m_clearSpelling) (by decide) (Nat.le_of_ble_eq_true rfl) dL_law_187 (fun u1 hp => ?_)
  refine s_aload_n 2 dL_law_190 rfl rfl ?_
  refine lM_clearSpelling (n_clearSpelling) (by decide) (Nat.le_of_ble_eq_true rfl) dL_law_191 (fun u2 hq => ?_)
  obtain rfl := hp
  obtain rfl := hq
  refine s_goto 336 dL_law_194 (by decide) ?_
  exact kk _ _ (LI_of hX (by omega) hMD hpen (by omega) (fun j p q => by omega) hle htx hlk hcf hF)
theorem st_link (hI : LI k uX uM) (hk : 0 ≤ k ∧ k ≤ 63) (hi : 1 ≤ i ∧ i + 4 ≤ L) (hL : L ≤ 257) (hS : KS K b L xs) (kk : ∀ (uX' : SX) (uM' : SM), LI (k + 1) uX' uM' → SV l D dA (wL dA ax am) R_law cL_law 4 room_1 K (uX', uM') 336 [some (.ref b), some (.ref (ax 0)), some (.ref (am 0)), some (vI i)] []) : SV l D dA (wL dA ax am) R_law cL_law 4 room_1 K (uX, uM) 197 [some (.ref b), some (.ref (ax 0)), some (.ref (am 0)), some (vI i)] [] := by
  obtain ⟨pen, ba, ch, co, ki, wo, sp, sl, le, tx, lk, cf, cp, nu, fl, pC, pK, wd, lt, ln, pr, kd, be, ma, cs, DC, DK, CN, rfl, rfl, hX, hMD, hpen, hsp, hsl, hle, htx, hlk, hcf, hF⟩ := hI
  have hdic := hMD.dic
  refine s_aload_n 1 dL_law_197 rfl rfl ?_
  refine s_aload_n 0 dL_law_198 rfl rfl ?_
  refine s_iload_n 3 dL_law_199 rfl rfl ?_
  refine s_iconst dL_law_200 ?_
  refine s_iadd dL_law_201 ?_
  refine s_sld hS (by omega) (by omega) hL dL_law_202 ?_
  refine s_aload_n 0 dL_law_203 rfl rfl ?_
  refine s_iload_n 3 dL_law_204 rfl rfl ?_
  refine s_iconst dL_law_205 ?_
  refine s_iadd dL_law_206 ?_
  refine s_sld hS (by omega) (by omega) hL dL_law_207 ?_
  refine s_aload_n 0 dL_law_208 rfl rfl ?_
  refine s_iload_n 3 dL_law_209 rfl rfl ?_
  refine s_iconst dL_law_210 ?_
  refine s_iadd dL_law_211 ?_
  refine s_sld hS (by omega) (by omega) hL dL_law_212 ?_
  refine lX_link (m_link (xI_rg _ _) (xI_rg _ _) (xI_rg _ _)) (by decide) (Nat.le_of_ble_eq_true rfl) dL_law_213 (fun r1 u1 hp => ?_)
  refine s_aload_n 2 dL_law_216 rfl rfl ?_
  refine s_aload_n 0 dL_law_217 rfl rfl ?_
  refine s_iload_n 3 dL_law_218 rfl rfl ?_
  refine s_iconst dL_law_219 ?_
  refine s_iadd dL_law_220 ?_
  refine s_sld hS (by omega) (by omega) hL dL_law_221 ?_
  refine s_aload_n 0 dL_law_222 rfl rfl ?_
  refine s_iload_n 3 dL_law_223 rfl rfl ?_
  refine s_iconst dL_law_224 ?_
  refine s_iadd dL_law_225 ?_
  refine s_sld hS (by omega) (by omega) hL dL_law_226 ?_
  refine s_aload_n 0 dL_law_227 rfl rfl ?_
  refine s_iload_n 3 dL_law_228 rfl rfl ?_
  refine s_iconst dL_law_229 ?_
  refine s_iadd dL_law_230 ?_
  refine s_sld hS (by omega) (by omega) hL dL_law_231 ?_
  refine lM_link (n_link (xI_rg _ _) (xI_rg _ _) (xI_rg _ _)) (by decide) (Nat.le_of_ble_eq_true rfl) dL_law_232 (fun r2 u2 hq => ?_)
  rcases hp with ⟨a1, rfl, rfl⟩ | ⟨a1, rfl, rfl⟩
  · rcases hq with ⟨a2, rfl, rfl⟩ | ⟨a2, -⟩
    · refine sL_icmp 336 dL_law_235 (by decide) ?_
      exact kk _ _ (LI_of hX (by omega) hMD hpen hsp hsl hle htx hlk hcf hF)
    · exact absurd a1 a2
  · rcases hq with ⟨a2, -⟩ | ⟨a2, rfl, rfl⟩
    · exact absurd a2 a1
    · refine sL_icmp 336 dL_law_235 (by decide) ?_
      exact kk _ _ (LI_of hX (by omega) hMD hpen hsp hsl hle htx (upI_rg99 hlk (by omega)) (Or.inl rfl) (fun z => by omega))
theorem st_type (hI : LI k uX uM) (hk : 0 ≤ k ∧ k ≤ 63) (hi : 1 ≤ i ∧ i + 4 ≤ L) (hL : L ≤ 257) (hS : KS K b L xs) (kk : ∀ (uX' : SX) (uM' : SM), LI (k + 1) uX' uM' → SV l D dA (wL dA ax am) R_law cL_law 4 room_1 K (uX', uM') 336 [some (.ref b), some (.ref (ax 0)), some (.ref (am 0)), some (vI i)] []) : SV l D dA (wL dA ax am) R_law cL_law 4 room_1 K (uX, uM) 240 [some (.ref b), some (.ref (ax 0)), some (.ref (am 0)), some (vI i)] [] := by
  obtain ⟨pen, ba, ch, co, ki, wo, sp, sl, le, tx, lk, cf, cp, nu, fl, pC, pK, wd, lt, ln, pr, kd, be, ma, cs, DC, DK, CN, rfl, rfl, hX, hMD, hpen, hsp, hsl, hle, htx, hlk, hcf, hF⟩ := hI
  have hdic := hMD.dic
  refine s_aload_n 1 dL_law_240 rfl rfl ?_
  refine s_aload_n 0 dL_law_241 rfl rfl ?_
  refine s_iload_n 3 dL_law_242 rfl rfl ?_
  refine s_iconst dL_law_243 ?_
  refine s_iadd dL_law_244 ?_
  refine s_sld hS (by omega) (by omega) hL dL_law_245 ?_
  refine lX_type (m_type hle) (by decide) (Nat.le_of_ble_eq_true rfl) dL_law_246 (fun r1 u1 hp => ?_)
  refine s_aload_n 2 dL_law_249 rfl rfl ?_
  refine s_aload_n 0 dL_law_250 rfl rfl ?_
  refine s_iload_n 3 dL_law_251 rfl rfl ?_
  refine s_iconst dL_law_252 ?_
  refine s_iadd dL_law_253 ?_
  refine s_sld hS (by omega) (by omega) hL dL_law_254 ?_
  refine lM_type (n_type hle) (by decide) (Nat.le_of_ble_eq_true rfl) dL_law_255 (fun r2 u2 hq => ?_)
  rcases hp with ⟨a1, rfl, rfl⟩ | ⟨a1, rfl, rfl⟩
  · rcases hq with ⟨a2, rfl, rfl⟩ | ⟨a2, -, -⟩
    · refine sL_icmp 336 dL_law_258 (by decide) ?_
      exact kk _ _ (LI_of hX (by omega) hMD hpen hsp hsl hle htx hlk hcf hF)
    · omega
  · rcases hq with ⟨a2, -, -⟩ | ⟨a2, rfl, rfl⟩
    · omega
    · refine sL_icmp 336 dL_law_258 (by decide) ?_
      exact kk _ _ (LI_of hX (by omega) hMD hpen hsp hsl (by omega) (upI_rg htx rfl (lt3_rg _)) hlk (Or.inl rfl) (fun z => by omega))
theorem st_clearText (hI : LI k uX uM) (hk : 0 ≤ k ∧ k ≤ 63) (hi : 1 ≤ i ∧ i + 4 ≤ L) (hL : L ≤ 257) (hS : KS K b L xs) (kk : ∀ (uX' : SX) (uM' : SM), LI (k + 1) uX' uM' → SV l D dA (wL dA ax am) R_law cL_law 4 room_1 K (uX', uM') 336 [some (.ref b), some (.ref (ax 0)), some (.ref (am 0)), some (vI i)] []) : SV l D dA (wL dA ax am) R_law cL_law 4 room_1 K (uX, uM) 263 [some (.ref b), some (.ref (ax 0)), some (.ref (am 0)), some (vI i)] [] := by
  obtain ⟨pen, ba, ch, co, ki, wo, sp, sl, le, tx, lk, cf, cp, nu, fl, pC, pK, wd, lt, ln, pr, kd, be, ma, cs, DC, DK, CN, rfl, rfl, hX, hMD, hpen, hsp, hsl, hle, htx, hlk, hcf, hF⟩ := hI
  have hdic := hMD.dic
  refine s_aload_n 1 dL_law_263 rfl rfl ?_
  refine lX_clearText (m_clearText) (by decide) (Nat.le_of_ble_eq_true rfl) dL_law_264 (fun u1 hp => ?_)
  refine s_aload_n 2 dL_law_267 rfl rfl ?_
  refine lM_clearText (n_clearText) (by decide) (Nat.le_of_ble_eq_true rfl) dL_law_268 (fun u2 hq => ?_)
  obtain rfl := hp
  obtain rfl := hq
  refine s_goto 336 dL_law_271 (by decide) ?_
  exact kk _ _ (LI_of hX (by omega) hMD hpen hsp hsl (by omega) (fun j p q => by omega) hlk (Or.inl rfl) (fun z => by omega))
theorem st_cost (hI : LI k uX uM) (hk : 0 ≤ k ∧ k ≤ 63) (hi : 1 ≤ i ∧ i + 4 ≤ L) (hL : L ≤ 257) (hS : KS K b L xs) (kk : ∀ (uX' : SX) (uM' : SM), LI (k + 1) uX' uM' → SV l D dA (wL dA ax am) R_law cL_law 4 room_1 K (uX', uM') 336 [some (.ref b), some (.ref (ax 0)), some (.ref (am 0)), some (vI i)] []) : SV l D dA (wL dA ax am) R_law cL_law 4 room_1 K (uX, uM) 274 [some (.ref b), some (.ref (ax 0)), some (.ref (am 0)), some (vI i)] [] := by
  obtain ⟨pen, ba, ch, co, ki, wo, sp, sl, le, tx, lk, cf, cp, nu, fl, pC, pK, wd, lt, ln, pr, kd, be, ma, cs, DC, DK, CN, rfl, rfl, hX, hMD, hpen, hsp, hsl, hle, htx, hlk, hcf, hF⟩ := hI
  have hdic := hMD.dic
  refine s_aload_n 1 dL_law_274 rfl rfl ?_
  refine lX_cost (m_cost hX hdic hle htx hpen hlk hcf hF) (by decide) (Nat.le_of_ble_eq_true rfl) dL_law_275 (fun r1 u1 hp => ?_)
  refine s_aload_n 2 dL_law_278 rfl rfl ?_
  refine lM_cost (n_cost hMD hle htx hpen hlk) (by decide) (Nat.le_of_ble_eq_true rfl) dL_law_279 (fun r2 u2 hq => ?_)
  obtain ⟨cp', nu', fl', pC', pK', rfl, hT, rfl⟩ := hp
  obtain ⟨rfl, rfl⟩ := hq
  rw [(same_cuts hT hdic hpen hlk hle).1]
  refine sL_icmp 336 dL_law_282 (by decide) ?_
  exact kk _ _ (LI_of hX (by omega) hMD hpen hsp hsl hle htx hlk (Or.inr rfl) (fun _ => hT))
theorem st_ways (hI : LI k uX uM) (hk : 0 ≤ k ∧ k ≤ 63) (hi : 1 ≤ i ∧ i + 4 ≤ L) (hL : L ≤ 257) (hS : KS K b L xs) (kk : ∀ (uX' : SX) (uM' : SM), LI (k + 1) uX' uM' → SV l D dA (wL dA ax am) R_law cL_law 4 room_1 K (uX', uM') 336 [some (.ref b), some (.ref (ax 0)), some (.ref (am 0)), some (vI i)] []) : SV l D dA (wL dA ax am) R_law cL_law 4 room_1 K (uX, uM) 287 [some (.ref b), some (.ref (ax 0)), some (.ref (am 0)), some (vI i)] [] := by
  obtain ⟨pen, ba, ch, co, ki, wo, sp, sl, le, tx, lk, cf, cp, nu, fl, pC, pK, wd, lt, ln, pr, kd, be, ma, cs, DC, DK, CN, rfl, rfl, hX, hMD, hpen, hsp, hsl, hle, htx, hlk, hcf, hF⟩ := hI
  have hdic := hMD.dic
  refine s_aload_n 1 dL_law_287 rfl rfl ?_
  refine lX_ways (m_ways hX hdic hle htx hpen hlk hcf hF) (by decide) (Nat.le_of_ble_eq_true rfl) dL_law_288 (fun r1 u1 hp => ?_)
  refine s_aload_n 2 dL_law_291 rfl rfl ?_
  refine lM_ways (n_ways hMD hle htx hpen hlk) (by decide) (Nat.le_of_ble_eq_true rfl) dL_law_292 (fun r2 u2 hq => ?_)
  obtain ⟨cp', nu', fl', pC', pK', rfl, hT, rfl⟩ := hp
  obtain ⟨rfl, rfl⟩ := hq
  rw [(same_cuts hT hdic hpen hlk hle).2.1]
  refine sL_icmp 336 dL_law_295 (by decide) ?_
  exact kk _ _ (LI_of hX (by omega) hMD hpen hsp hsl hle htx hlk (Or.inr rfl) (fun _ => hT))
theorem st_start (hI : LI k uX uM) (hk : 0 ≤ k ∧ k ≤ 63) (hi : 1 ≤ i ∧ i + 4 ≤ L) (hL : L ≤ 257) (hS : KS K b L xs) (kk : ∀ (uX' : SX) (uM' : SM), LI (k + 1) uX' uM' → SV l D dA (wL dA ax am) R_law cL_law 4 room_1 K (uX', uM') 336 [some (.ref b), some (.ref (ax 0)), some (.ref (am 0)), some (vI i)] []) : SV l D dA (wL dA ax am) R_law cL_law 4 room_1 K (uX, uM) 300 [some (.ref b), some (.ref (ax 0)), some (.ref (am 0)), some (vI i)] [] := by
  obtain ⟨pen, ba, ch, co, ki, wo, sp, sl, le, tx, lk, cf, cp, nu, fl, pC, pK, wd, lt, ln, pr, kd, be, ma, cs, DC, DK, CN, rfl, rfl, hX, hMD, hpen, hsp, hsl, hle, htx, hlk, hcf, hF⟩ := hI
  have hdic := hMD.dic
  refine s_aload_n 1 dL_law_300 rfl rfl ?_
  refine s_aload_n 0 dL_law_301 rfl rfl ?_
  refine s_iload_n 3 dL_law_302 rfl rfl ?_
  refine s_iconst dL_law_303 ?_
  refine s_iadd dL_law_304 ?_
  refine s_sld hS (by omega) (by omega) hL dL_law_305 ?_
  refine lX_start (m_start (xI_rg _ _) hX hdic hle htx hpen hlk hcf hF) (by decide) (Nat.le_of_ble_eq_true rfl) dL_law_306 (fun r1 u1 hp => ?_)
  refine s_aload_n 2 dL_law_309 rfl rfl ?_
  refine s_aload_n 0 dL_law_310 rfl rfl ?_
  refine s_iload_n 3 dL_law_311 rfl rfl ?_
  refine s_iconst dL_law_312 ?_
  refine s_iadd dL_law_313 ?_
  refine s_sld hS (by omega) (by omega) hL dL_law_314 ?_
  refine lM_start (n_start (xI_rg _ _) hMD hle htx hpen hlk) (by decide) (Nat.le_of_ble_eq_true rfl) dL_law_315 (fun r2 u2 hq => ?_)
  obtain ⟨rfl, rfl⟩ := hq
  rcases hp with ⟨a1, rfl, rfl⟩ | ⟨a1, cp', nu', fl', pC', pK', rfl, hT, rfl⟩
  · rw [sB_low _ _ _ a1]
    refine sL_icmp 336 dL_law_318 (by decide) ?_
    exact kk _ _ (LI_of hX (by omega) hMD hpen hsp hsl hle htx hlk hcf hF)
  · rw [(same_cuts hT hdic hpen hlk hle).2.2 _ a1]
    refine sL_icmp 336 dL_law_318 (by decide) ?_
    exact kk _ _ (LI_of hX (by omega) hMD hpen hsp hsl hle htx hlk (Or.inr rfl) (fun _ => hT))
theorem st_beginning (hI : LI k uX uM) (hk : 0 ≤ k ∧ k ≤ 63) (hi : 1 ≤ i ∧ i + 4 ≤ L) (hL : L ≤ 257) (hS : KS K b L xs) (kk : ∀ (uX' : SX) (uM' : SM), LI (k + 1) uX' uM' → SV l D dA (wL dA ax am) R_law cL_law 4 room_1 K (uX', uM') 336 [some (.ref b), some (.ref (ax 0)), some (.ref (am 0)), some (vI i)] []) : SV l D dA (wL dA ax am) R_law cL_law 4 room_1 K (uX, uM) 323 [some (.ref b), some (.ref (ax 0)), some (.ref (am 0)), some (vI i)] [] := by
  obtain ⟨pen, ba, ch, co, ki, wo, sp, sl, le, tx, lk, cf, cp, nu, fl, pC, pK, wd, lt, ln, pr, kd, be, ma, cs, DC, DK, CN, rfl, rfl, hX, hMD, hpen, hsp, hsl, hle, htx, hlk, hcf, hF⟩ := hI
  have hdic := hMD.dic
  refine s_aload_n 1 dL_law_323 rfl rfl ?_
  refine lX_beginning (m_beginning hX hdic hsp hsl) (by decide) (Nat.le_of_ble_eq_true rfl) dL_law_324 (fun r1 u1 hp => ?_)
  refine s_aload_n 2 dL_law_327 rfl rfl ?_
  refine lM_beginning (n_beginning hMD hsp hsl) (by decide) (Nat.le_of_ble_eq_true rfl) dL_law_328 (fun r2 u2 hq => ?_)
  obtain ⟨rfl, rfl⟩ := hp
  obtain ⟨rfl, rfl⟩ := hq
  refine sL_icmp 336 dL_law_331 (by decide) ?_
  exact kk _ _ (LI_of hX (by omega) hMD hpen hsp hsl hle htx hlk hcf hF)
end LSTEP
end
section
/-! THE LAW: its loop: printed by gen/lawm.py -/
set_option maxRecDepth 100000
section LLOOP
variable {l : Launch} {D : va_G} {dA : ClassId} {ax am : Nat → Nat} {K : KX} {b L : Nat} {xs : Nat → Int32}
theorem LI.more {k k' : Int} {uX : SX} {uM : SM} (hI : LI k uX uM) (h : k ≤ k') : LI k' uX uM := by
  obtain ⟨pen, ba, ch, co, ki, wo, sp, sl, le, tx, lk, cf, cp, nu, fl, pC, pK, wd, lt, ln, pr, kd, be, ma, cs, DC, DK, CN, rfl, rfl, hX, hMD, hpen, hsp, hsl, hle, htx, hlk, hcf, hF⟩ := hI
  exact LI_of hX (by omega) hMD hpen hsp hsl hle htx hlk hcf hF
/-- one turn: the switch -/
theorem st_turn {i k t : Int} {uX : SX} {uM : SM} (hI : LI k uX uM) (hk : 0 ≤ k ∧ k ≤ 63) (hi : 1 ≤ i ∧ i + 4 ≤ L) (hL : L ≤ 257) (hS : KS K b L xs) (ht : 0 ≤ t ∧ t < 16) (kk : ∀ (uX' : SX) (uM' : SM), LI (k + 1) uX' uM' → SV l D dA (wL dA ax am) R_law cL_law 4 room_1 K (uX', uM') 336 [some (.ref b), some (.ref (ax 0)), some (.ref (am 0)), some (vI i)] []) : SV l D dA (wL dA ax am) R_law cL_law 4 room_1 K (uX, uM) 42 [some (.ref b), some (.ref (ax 0)), some (.ref (am 0)), some (vI i)] [vI t] := by
  by_cases h12 : 11 < t
  · exact s_tabOut 336 dL_law_42 ⟨by omega, by omega⟩ (Or.inr h12) (by decide) (kk _ _ (hI.more (by omega)))
  by_cases h0 : t = 0
  · subst h0
    exact s_tabIn (off := 62) 104 dL_law_42 ⟨by decide, by decide⟩ (by decide) (by decide) rfl (by decide) (st_spell hI hk hi hL hS kk)
  by_cases h1 : t = 1
  · subst h1
    exact s_tabIn (off := 85) 127 dL_law_42 ⟨by decide, by decide⟩ (by decide) (by decide) rfl (by decide) (st_learn hI hk hi hL hS kk)
  by_cases h2 : t = 2
  · subst h2
    exact s_tabIn (off := 118) 160 dL_law_42 ⟨by decide, by decide⟩ (by decide) (by decide) rfl (by decide) (st_forget hI hk hi hL hS kk)
  by_cases h3 : t = 3
  · subst h3
    exact s_tabIn (off := 131) 173 dL_law_42 ⟨by decide, by decide⟩ (by decide) (by decide) rfl (by decide) (st_lookUp hI hk hi hL hS kk)
  by_cases h4 : t = 4
  · subst h4
    exact s_tabIn (off := 144) 186 dL_law_42 ⟨by decide, by decide⟩ (by decide) (by decide) rfl (by decide) (st_clearSpelling hI hk hi hL hS kk)
  by_cases h5 : t = 5
  · subst h5
    exact s_tabIn (off := 155) 197 dL_law_42 ⟨by decide, by decide⟩ (by decide) (by decide) rfl (by decide) (st_link hI hk hi hL hS kk)
  by_cases h6 : t = 6
  · subst h6
    exact s_tabIn (off := 198) 240 dL_law_42 ⟨by decide, by decide⟩ (by decide) (by decide) rfl (by decide) (st_type hI hk hi hL hS kk)
  by_cases h7 : t = 7
  · subst h7
    exact s_tabIn (off := 221) 263 dL_law_42 ⟨by decide, by decide⟩ (by decide) (by decide) rfl (by decide) (st_clearText hI hk hi hL hS kk)
  by_cases h8 : t = 8
  · subst h8
    exact s_tabIn (off := 232) 274 dL_law_42 ⟨by decide, by decide⟩ (by decide) (by decide) rfl (by decide) (st_cost hI hk hi hL hS kk)
  by_cases h9 : t = 9
  · subst h9
    exact s_tabIn (off := 245) 287 dL_law_42 ⟨by decide, by decide⟩ (by decide) (by decide) rfl (by decide) (st_ways hI hk hi hL hS kk)
  by_cases h10 : t = 10
  · subst h10
    exact s_tabIn (off := 258) 300 dL_law_42 ⟨by decide, by decide⟩ (by decide) (by decide) rfl (by decide) (st_start hI hk hi hL hS kk)
  by_cases h11 : t = 11
  · subst h11
    exact s_tabIn (off := 281) 323 dL_law_42 ⟨by decide, by decide⟩ (by decide) (by decide) rfl (by decide) (st_beginning hI hk hi hL hS kk)
  omega
/-- the loop, at its head after k calls -/
theorem law_loop (hL : L ≤ 257) (hS : KS K b L xs) (kx : ∀ (u : SX × SM) (lv : List (Option Value)), SV l D dA (wL dA ax am) R_law cL_law 4 room_1 K u 342 lv []) : ∀ (n : Nat) (k i : Int) (uX : SX) (uM : SM), 0 ≤ k ∧ k ≤ 64 → i = 4 * k + 1 → (L : Int) ≤ 4 * k + 4 + 4 * n → LI k uX uM → SV l D dA (wL dA ax am) R_law cL_law 4 room_1 K (uX, uM) 28 [some (.ref b), some (.ref (ax 0)), some (.ref (am 0)), some (vI i)] [] := by
  intro n
  induction n with
  | zero =>
    intro k i uX uM hk hi hn hI
    refine s_iload_n 3 dL_law_28 rfl rfl ?_
    refine s_aload_n 0 dL_law_29 rfl rfl ?_
    refine s_slen hS dL_law_30 ?_
    refine s_iconst dL_law_31 ?_
    refine s_isub dL_law_32 ?_
    refine s_icmp_gt 342 dL_law_33 (by decide) ⟨by omega, by omega⟩ ⟨by omega, by omega⟩ (fun h33 => ?_) (fun h33 => ?_)
    · exact kx _ _
    · exfalso; omega
  | succ n ih =>
    intro k i uX uM hk hi hn hI
    refine s_iload_n 3 dL_law_28 rfl rfl ?_
    refine s_aload_n 0 dL_law_29 rfl rfl ?_
    refine s_slen hS dL_law_30 ?_
    refine s_iconst dL_law_31 ?_
    refine s_isub dL_law_32 ?_
    refine s_icmp_gt 342 dL_law_33 (by decide) ⟨by omega, by omega⟩ ⟨by omega, by omega⟩ (fun h33 => ?_) (fun h33 => ?_)
    · exact kx _ _
    · refine s_aload_n 0 dL_law_36 rfl rfl ?_
      refine s_iload_n 3 dL_law_37 rfl rfl ?_
      refine s_sld hS (by omega) (by omega) hL dL_law_38 ?_
      refine s_bipush dL_law_39 rfl ?_
      refine s_iand (lt15 (xI xs i)) (lt15_ok _) dL_law_41 ?_
      refine st_turn hI ⟨hk.1, by omega⟩ ⟨by omega, by omega⟩ hL hS (lt15_rg _) (fun uX' uM' hI' => ?_)
      refine s_iinc [some (.ref b), some (.ref (ax 0)), some (.ref (am 0)), some (vI (i + 4))] dL_law_336 rfl (by decide) rfl ?_
      refine s_goto 28 dL_law_339 (by decide) ?_
      exact ih (k + 1) (i + 4) uX' uM' (by omega) (by omega) (by omega) hI'
end LLOOP
end
section
/-! THE LAW from its entry, and the claim: printed by gen/lawn.py (the tail is the skeleton's) -/
set_option maxRecDepth 100000
theorem dvX1 : ∀ j, j < 17 → defaultValue (tyX1 j) = vp_V [(vI 0), .null, .null, .null, .null, .null, (vI 0), .null, (vI 0), .null, .null, (vI 0), .null, .null, .null, (vI 0), (vI 0)] j := by
  intro j hj
  match j, hj with
  | 0, _ => rfl
  | 1, _ => rfl
  | 2, _ => rfl
  | 3, _ => rfl
  | 4, _ => rfl
  | 5, _ => rfl
  | 6, _ => rfl
  | 7, _ => rfl
  | 8, _ => rfl
  | 9, _ => rfl
  | 10, _ => rfl
  | 11, _ => rfl
  | 12, _ => rfl
  | 13, _ => rfl
  | 14, _ => rfl
  | 15, _ => rfl
  | 16, _ => rfl
  | j + 17, h => exact absurd h (by omega)
theorem dvX2 : ∀ j, j < 14 → defaultValue (tyX2 j) = vp_V [(vI 0), (vI 0), .null, .null, .null, .null, .null, (vI 0), .null, (vI 0), .null, (vI 0), (vI 0), (vI 0)] j := by
  intro j hj
  match j, hj with
  | 0, _ => rfl
  | 1, _ => rfl
  | 2, _ => rfl
  | 3, _ => rfl
  | 4, _ => rfl
  | 5, _ => rfl
  | 6, _ => rfl
  | 7, _ => rfl
  | 8, _ => rfl
  | 9, _ => rfl
  | 10, _ => rfl
  | 11, _ => rfl
  | 12, _ => rfl
  | 13, _ => rfl
  | j + 14, h => exact absurd h (by omega)
set_option maxHeartbeats 4000000 in
theorem whole_start {p : Program} {e : Env} {s : State} {m : MethodId} {below : List Frame} {meth : Method} {c : Code} (l : Launch) {b L : Nat} {xs : Nat → Int32} (hL : L ≤ 257) (C0 : lw_At p s m meth c b L xs) : W p l e room_1 s m #[Value.ref b] below meth c s.heap [] 0 0 (lw_Z below #[Value.ref b] s) (entryFrame m ([Value.ref b] : List Value).toArray 4) := by
  obtain ⟨hx, hb, hr, hml, hown, hts0, hX, hbl, hlocks, hgv⟩ := C0
  have hts : ∀ w ∈ lw_all, w.before #[Value.ref b] s = true := fun w h => hts0 w (lw_all_tbl h)
  have hb : c.code = cL_law := hb
  have hA : ∀ q : Nat, s.heap.size ≤ q → (fun q : Nat => s.heap.size ≤ q) q := fun _ h => h
  have hbA : ¬ (fun q : Nat => s.heap.size ≤ q) b := Nat.not_le.mpr hbl
  obtain ⟨c0, iS0, hKn0⟩ := u_known (C := RX1) (T := TX1) (N := 17) (n := 17) hts in_X1 (hts _ q23)
  obtain ⟨c1, iS1, hKn1⟩ := u_known (C := RX2) (T := TX2) (N := 14) (n := 14) hts in_X2 (hts _ q184)
  obtain ⟨D, hKc⟩ : ∃ D : va_G, ∀ (k : Nat) (q : vw_C), vwCl[k]? = some q → u_Kn s q.1 q.2.1 q.2.2 (D.1 k) (D.2 k) := by
    refine ⟨(fun k => if k = 0 then c0 else c1, fun k => if k = 0 then iS0 else iS1), ?_⟩
    intro k q hq
    match k, hq with
    | 0, hq => cases hq; exact hKn0
    | 1, hq => cases hq; exact hKn1
    | k + 2, hq => simp [vwCl] at hq
  obtain ⟨dA, hA1, hA2⟩ := kn_arr (hts _ q82)
  have hK : va_K D vwCl [(dA, .int)] s := ⟨hKc, fun k q h => by
    match k, h with
    | 0, h => cases h; exact ⟨hA1, hA2⟩
    | k + 1, h => simp at h⟩
  have hS : va_S (fun q : Nat => s.heap.size ≤ q) s.heap s.heap [] := va_S.rf
  have hP : va_P D vwCl [] s.heap := fun k q h => by simp at h
  have hD : va_D (fun q : Nat => s.heap.size ≤ q) [] := ⟨fun i j p q h => by simp at h, fun k q h => by simp at h⟩
  have hl := lv_entry ([.ref b]) (n := 4) (Nat.le_of_ble_eq_true rfl)
  rw [lg_entry_eq]
  generalize (lg_sl ([.ref b]) ++ List.replicate (4 - (lg_sl ([.ref b])).length) Slot.unset).toArray = ls at hl ⊢
  have hl : lv_has ls 4 [(0, .ref b)] := hl
  refine va_new (ci := 0) (fs := [(vI 0), .null, .null, .null, .null, .null, (vI 0), .null, (vI 0), .null, .null, (vI 0), .null, .null, .null, (vI 0), (vI 0)]) (C := RX1) (T := TX1) (N := 17) hx hb hts in_X1 tyX1 tyX1_ok hown (hts _ q22) (hts _ q23) (hts _ q20) hK hP hD hS hA rfl dvX1 (Nat.le_of_ble_eq_true rfl) (Nat.le_of_ble_eq_true rfl) dL_law_0 (fun o1 H hP hD hS => ?_)
  have hP : va_P D vwCl [(o1, .inr (0, [(vI 0), .null, .null, .null, .null, .null, (vI 0), .null, (vI 0), .null, .null, (vI 0), .null, .null, .null, (vI 0), (vI 0)]))] H := hP
  have hD : va_D (fun q : Nat => s.heap.size ≤ q) [(o1, .inr (0, [(vI 0), .null, .null, .null, .null, .null, (vI 0), .null, (vI 0), .null, .null, (vI 0), .null, .null, .null, (vI 0), (vI 0)]))] := hD
  refine W.widen (k := 1) (n := 17) (by omega) (by omega) ?_
  refine lv_dup hx hb dL_law_3 rfl ?_
  refine lv_aload_n hx hb dL_law_4 rfl (lv_at hl 0 rfl) ?_
  refine lv_iconst (v := iI 0) hx hb dL_law_5 rfl ?_
  refine va_calli (va_runS (As := [.ref b, vI 0]) (rest := [.ref o1, .ref o1]) ⟨hx, hb, hml, hown, hts⟩ (c_cell (l := l) (b := b) (L := L) (xs := xs) hL) (va_cwS 2 hts (lw_S q180 q181 q19 q182) rfl rfl rfl (by decide +kernel) ⟨Nat.le_of_ble_eq_true rfl, Nat.le_of_ble_eq_true rfl⟩) ⟨fun a U g mk q => by obtain ⟨q0, q1, q2⟩ := q; exact ⟨q0, va_X.moved (u := U) (U := U.calling g mk a) (Vm.Alike.refl U.vm) q1, q2⟩, fun U hU hW => ⟨rfl, by rw [hU]; exact va_X.moved hW.alike (hX.kept (hS.2.1 b hbl hbA)), by rw [hU]; exact Nat.lt_of_lt_of_le hbl hS.1⟩⟩ rfl rfl hl.1 rfl (lv_room (Nat.le_of_ble_eq_true rfl)) dL_law_6 ⟨Nat.le_of_ble_eq_true rfl, Nat.le_of_ble_eq_true rfl⟩) hS (fun q _ h => h.elim) (fun q h => h.elim) (fun r u0 t H1 locs1 ht hvm hr1 hB hz1 hk1 hS => ?_)
  have hP := hP.kept (fun k q hq => hk1 q.1 ((hP k q hq).lt) (fun z => z))
  subst hr1
  refine W.widen (k := 1) (n := 17) (by omega) (by omega) ?_
  have hF : ∀ q, va_A [(o1, .inr (0, [(vI 0), .null, .null, .null, .null, .null, (vI 0), .null, (vI 0), .null, .null, (vI 0), .null, .null, .null, (vI 0), (vI 0)]))] H1.size q → (fun q : Nat => s.heap.size ≤ q) q := va_free (wc := [(o1, .inr (0, [(vI 0), .null, .null, .null, .null, .null, (vI 0), .null, (vI 0), .null, .null, (vI 0), .null, .null, .null, (vI 0), (vI 0)]))]) hD hS hA [0] rfl
  refine va_callv (va_runI (As := [vI (c0P L xs)]) (rest := [.ref o1]) ⟨hx, hb, hml, hown, hts⟩ (c_xinit (l := l) (D := D) (dA := dA) o1 H1.size (c0P_rg L xs)) (cwI 1 hts (lw_meth q26) rfl rfl rfl (hts _ q20) (hts _ q24) (hts _ q25) rfl (by decide +kernel) ⟨Nat.le_of_ble_eq_true rfl, Nat.le_of_ble_eq_true rfl⟩) ⟨fun a U g mk q => by obtain ⟨q0, q1, qP, qK, qD⟩ := q; exact ⟨q0, q1, qP, va_K.moved (u := U) (U := U.calling g mk a) (Vm.Alike.refl U.vm) qK, qD⟩, fun U hU hW => ⟨rfl, by rw [hU], by rw [hU]; exact hP, va_K.moved hW.alike hK, va_D.weaken hD (fun _ _ _ _ => trivial)⟩⟩ rfl rfl hl.1 rfl (lv_room (Nat.le_of_ble_eq_true rfl)) dL_law_9 ⟨Nat.le_of_ble_eq_true rfl, Nat.le_of_ble_eq_true rfl⟩) hS (fun q _ h => hF q h) hF (fun u1 t1 H2 locs2 ht1 hvm1 hw1 hB1 hz2 hk2 hS => ?_)
  obtain ⟨ax, uX⟩ := u1
  obtain ⟨hax, hXi⟩ := hw1
  have hax : ax 0 = o1 := hax
  have hXi : XInit (c0P L xs) uX := hXi
  obtain ⟨hP1, -, hD1⟩ := hB1
  rw [ht1] at hP1
  have hPx : va_P D vwCl (wX dA ax uX) H2 := hP1
  have hDx : va_D (fun q : Nat => s.heap.size ≤ q) (wX dA ax uX) := va_D.weaken hD1 (fun k q _ z => hF q.1 z)
  clear hP hD hF hk1 hk2 hz1 hz2 hP1 hD1
  subst hax
  refine W.widen (k := 12) (n := 2805) (by omega) (by omega) ?_
  refine lv_astore_n (lv' := [(1, .ref (ax 0)), (0, .ref b)]) hx hb dL_law_12 rfl hl (by decide) rfl (fun ls hl => ?_)
  refine va_new (ci := 1) (fs := [(vI 0), (vI 0), .null, .null, .null, .null, .null, (vI 0), .null, (vI 0), .null, (vI 0), (vI 0), (vI 0)]) (C := RX2) (T := TX2) (N := 14) hx hb hts in_X2 tyX2 tyX2_ok hown (hts _ q183) (hts _ q184) (hts _ q21) hK hPx hDx hS hA rfl dvX2 (Nat.le_of_ble_eq_true rfl) (Nat.le_of_ble_eq_true rfl) dL_law_13 (fun o2 H3 hP hD hS => ?_)
  refine W.widen (k := 13) (n := 2819) (by omega) (by omega) ?_
  refine lv_dup hx hb dL_law_16 rfl ?_
  refine lv_aload_n hx hb dL_law_17 rfl (lv_at hl 1 rfl) ?_
  refine lv_iconst (v := iI 0) hx hb dL_law_18 rfl ?_
  refine va_calli (va_runS (As := [.ref b, vI 0]) (rest := [.ref o2, .ref o2]) ⟨hx, hb, hml, hown, hts⟩ (c_cell (l := l) (b := b) (L := L) (xs := xs) hL) (va_cwS 2 hts (lw_S q180 q181 q19 q182) rfl rfl rfl (by decide +kernel) ⟨Nat.le_of_ble_eq_true rfl, Nat.le_of_ble_eq_true rfl⟩) ⟨fun a U g mk q => by obtain ⟨q0, q1, q2⟩ := q; exact ⟨q0, va_X.moved (u := U) (U := U.calling g mk a) (Vm.Alike.refl U.vm) q1, q2⟩, fun U hU hW => ⟨rfl, by rw [hU]; exact va_X.moved hW.alike (hX.kept (hS.2.1 b hbl hbA)), by rw [hU]; exact Nat.lt_of_lt_of_le hbl hS.1⟩⟩ rfl rfl hl.1 rfl (lv_room (Nat.le_of_ble_eq_true rfl)) dL_law_19 ⟨Nat.le_of_ble_eq_true rfl, Nat.le_of_ble_eq_true rfl⟩) hS (fun q _ h => h.elim) (fun q h => h.elim) (fun r u0 t H1 locs1 ht hvm hr1 hB hz1 hk1 hS => ?_)
  have hP := hP.kept (fun k q hq => hk1 q.1 ((hP k q hq).lt) (fun z => z))
  subst hr1
  refine W.widen (k := 13) (n := 2819) (by omega) (by omega) ?_
  have hT : TW D (fun q : Nat => s.heap.size ≤ q) s.heap (wX dA ax uX) [(o2, .inr (1, [(vI 0), (vI 0), .null, .null, .null, .null, .null, (vI 0), .null, (vI 0), .null, (vI 0), (vI 0), (vI 0)]))] H1 locs1 := TW.of hP hD hS
  have hF : ∀ q, va_A [(o2, .inr (1, [(vI 0), (vI 0), .null, .null, .null, .null, .null, (vI 0), .null, (vI 0), .null, (vI 0), (vI 0), (vI 0)]))] H1.size q → (fun q : Nat => s.heap.size ≤ q) q := by
    intro q h
    rcases h with ⟨k, e, h⟩ | h
    · exact hT.2.2.2.1.2 k _ h
    · exact hA q (Nat.le_trans hS.1 h)
  refine va_callv (va_runI (As := [vI (c0P L xs)]) (rest := [.ref o2]) ⟨hx, hb, hml, hown, hts⟩ (c_minit (l := l) (D := D) (dA := dA) o2 H1.size (c0P_rg L xs)) (cwI 1 hts (lw_meth q187) rfl rfl rfl (hts _ q21) (hts _ q185) (hts _ q186) rfl (by decide +kernel) ⟨Nat.le_of_ble_eq_true rfl, Nat.le_of_ble_eq_true rfl⟩) ⟨fun a U g mk q => by obtain ⟨q0, q1, qP, qK, qD⟩ := q; exact ⟨q0, q1, qP, va_K.moved (u := U) (U := U.calling g mk a) (Vm.Alike.refl U.vm) qK, qD⟩, fun U hU hW => ⟨rfl, by rw [hU], by rw [hU]; exact hT.2.1, va_K.moved hW.alike hK, va_D.weaken hT.2.2.2.1 (fun _ _ _ _ => trivial)⟩⟩ rfl rfl hl.1 rfl (lv_room (Nat.le_of_ble_eq_true rfl)) dL_law_22 ⟨Nat.le_of_ble_eq_true rfl, Nat.le_of_ble_eq_true rfl⟩) hS (fun q _ h => hF q h) hF (fun u1 t1 H2 locs2 ht1 hvm1 hw1 hB1 hz2 hk2 hS => ?_)
  obtain ⟨am, uM⟩ := u1
  obtain ⟨ham, hMi⟩ := hw1
  have ham : am 0 = o2 := ham
  have hMi : MInit (c0P L xs) uM := hMi
  obtain ⟨hP2, -, hD2⟩ := hB1
  rw [ht1] at hP2
  have hb2 := TW.back (S := Unit) hT.symm hF hP2 hD2 hk2 hS
  have hG : GW D (wL dA ax am) (fun q : Nat => s.heap.size ≤ q) s.heap (uX, uM) H2 locs2 := hb2.symm.app
  clear hP hD hF hT hP2 hD2 hk1 hk2 hz1 hz2 hb2
  subst ham
  refine W.widen (k := 20) (n := 2980) (by omega) (by omega) ?_
  refine lv_astore_n (lv' := [(2, .ref (am 0)), (1, .ref (ax 0)), (0, .ref b)]) hx hb dL_law_25 rfl hl (by decide) rfl (fun ls hl => ?_)
  refine lv_iconst (v := iI 1) hx hb dL_law_26 rfl ?_
  refine lv_istore_n (lv' := [(3, vI 1), (2, .ref (am 0)), (1, .ref (ax 0)), (0, .ref b)]) hx hb dL_law_27 rfl hl (by decide) rfl (fun ls hl => ?_)
  have hl : lv_has ls 4 [(0, .ref b), (1, .ref (ax 0)), (2, .ref (am 0)), (3, vI 1)] := lv_sub hl [3, 2, 1, 0] rfl
  refine law_loop (l := l) (D := D) (dA := dA) (ax := ax) (am := am) (K := (p, e, s, m, #[Value.ref b], below, meth, c, (fun q : Nat => s.heap.size ≤ q), lw_Z below #[Value.ref b] s, 20, 2980)) hL ⟨hX, hbl, hbA⟩ ?_ 64 0 1 uX uM (by omega) (by omega) (by omega) (LI_start hXi hMi) hx hb hml hown hts hK hA ⟨Nat.le_of_ble_eq_true rfl, Nat.le_of_ble_eq_true rfl⟩ H2 locs2 ls hG ⟨hl, okL_cat rfl⟩
  intro u lv hx hb hml hown hts hK hA hc H locs ls hw hl
  refine lv_iconst (v := 1) hx hb dL_law_342 rfl ?_
  refine va_forget (fun q hq => hw.2.2.2.2 q hq) ?_
  refine W.widen (k := 600000) (n := 7290000) (by omega) (by omega) ?_
  exact lw_ret hx hb hr hlocks dL_law_343
set_option maxHeartbeats 4000000 in
theorem lw_walk (l : Launch) (b : Addr) (xs : List Int32) : MetFree l x (headSpec (Jvm.Cond.code x code maxLocals ret :: tables_1) room_1) (lw_P b xs) (fun _ _ _ _ _ => True) lw_Q := by
  refine MetFree.of_bodyS (code := code) (maxLocals := maxLocals) (ret := ret) (by decide) ?_ ?_
  · intro args s m h hn
    obtain ⟨meth, c, h1, h2, h3, h4, h5, h6, -, -⟩ := Cond.code_spec hn (atoms_spec (ws := Jvm.Cond.code x code maxLocals ret :: tables_1) h _ List.mem_cons_self)
    exact ⟨meth, c, h1, h2, h3, h4, h5, h6⟩
  · intro p e s m args below meth c s₁ B hml0 hP _
    obtain ⟨rfl, hx, hbd, hgv⟩ := hP
    obtain ⟨scr, harrAt, hlist, hof, hsmall⟩ := hx
    obtain ⟨hcb, hkn, -, -⟩ := State.arrayAt?_spec harrAt
    have hown : s.vm.findClass R_law = some m.cls := findClass_of_methodNamed B.named
    have hts0 : ∀ c ∈ (Jvm.Cond.code x code maxLocals ret :: tables_1), c.before #[Value.ref b] s = true := atoms_spec (ws := Jvm.Cond.code x code maxLocals ret :: tables_1) B.pre
    have hts : ∀ w ∈ lw_tbl, w.before #[Value.ref b] s = true := k2_hts_sels lw_privs (fun w hw => hts0 w (List.mem_cons_of_mem _ hw)) lw_privs_ok
    have hml : c.maxLocals = 4 := B.maxLocals_eq (hts0 _ List.mem_cons_self)
    have X₀ : Stand p l e room_1 s m #[Value.ref b] below meth c s₁ [] 0 0 := Stand.of_body B
    have hh0 : s₁.heap = s.heap := by rw [B.state]; rfl
    have hsz : scr.slots.size = xs.length := by rw [← Array.length_toList, hlist, List.length_map]
    have hval : ∀ j : Nat, j < xs.length → scr.slots[j]? = some (.int (xs.getD j 0)) := fun j hj => by
      rw [← Array.getElem?_toList, hlist]
      simp [hj]
    have hbl : b < s.heap.size := (Array.getElem?_eq_some_iff.mp hcb).1
    have hX : va_X b xs.length (fun j => xs.getD j 0) s s.heap := ⟨scr, hcb, hof, hkn, hsz, hval⟩
    have K : W p l e room_1 s m #[Value.ref b] below meth c s₁.heap [] 0 0 (lw_Z below #[Value.ref b] s) (entryFrame m ([Value.ref b] : List Value).toArray 4) := by
      rw [hh0]
      exact whole_start l hbd ⟨B.exec, B.bytes, B.returns, hml, hown, hts, hX, hbl, B.notSynchronized, hgv⟩
    obtain ⟨t, a1, o, b1, b2, b3⟩ := K s₁ rfl X₀
    exact ⟨t, o, a1, b1, b2, b3⟩
theorem lw_pre_spec {args : Array Value} {s : State} (h : (Jvm.Cond.and given_1 narrow_1).before args s = true) (hr : rest_1_c.before args s = true) : ∃ (b : Addr) (xs : List Int32), lw_P b xs args s := by
  have hs := flat_of_before _ h
  have hq := flat_of_before _ hr
  have hc : (Cond.count 1).before args s = true := hs _ (by decide +kernel)
  have harr : (Cond.arrayOf (.arg 0) .int).before args s = true := hs _ (by decide +kernel)
  have hle : (Cond.le (.length (.arg 0)) (.int 257)).before args s = true := hs _ (by decide +kernel)
  have hlen : (Cond.isInt (.length (.arg 0))).before args s = true := hq _ (by decide +kernel)
  have hall : (Cond.all (.arg 0) (.isInt (.elem (.arg 0) (.index 0)))).before args s = true := hq _ (by decide +kernel)
  obtain ⟨b, xs, hb, hx⟩ := State.ints_of_pre rfl harr hlen hall
  have hsm : xs.length < 2 ^ 31 := hx.choose_spec.2.2.2
  have hev : (Term.length (.arg 0)).eval args s none [] s = some (.int xs.length.toInt32) := hx.length_eval hb
  have hv := Cond.le_ints hev (show (Term.int 257).eval args s none [] s = some (.int 257) from rfl)
  have hd : xs.length.toInt32 ≤ 257 := by
    simpa [Cond.before, Cond.holds, hv] using hle
  have hN : xs.length ≤ 257 := (Int32.ofNat_le_ofNat hsm (by decide)).mp (show Int32.ofNat xs.length ≤ Int32.ofNat 257 from hd)
  exact ⟨b, xs, Cond.one_arg hc (show args[0]? = some (.ref b) from hb), hx, hN, h⟩
theorem lw_comes (l : Launch) : Comes l x (Jvm.Cond.code x code maxLocals ret :: tables_1) room_1 (fun tb e args s => Calls_1 tb e args s ∧ rest_1 tb e args s ∧ Pre_1 tb e args s)
    (fun _ _ args s o t => lw_Q args s o t) := by
  intro p e ha hc hk s m args below hf hfit hheap happ hpre
  obtain ⟨b, xs, hP⟩ := lw_pre_spec hpre.2.2 hpre.2.1
  obtain ⟨k, o, h1, h2, h3, hQ⟩ := lw_walk l b xs p e ha hc hk s m args below hf ((Spec.applies_iff_loose hf).mp happ).1 hP trivial
  exact ⟨k, o, h1, h2, h3, hQ⟩
theorem lw_frame {s t : State} {o : Outcome} {args : Array Value} (h : Framed s o t [] 600000 7290000) :
    Framed s o t (fieldLocs frame_1_writes args s ++ arrayLocs frame_1_arrays args s ++ staticLocs frame_1_statics s) 600000 7290000 := h
theorem lw_limb (L : Cond) (hL : ∀ (args : Array Value) (s t : State), L.after args s (.returned (some (.int 1))) t = true) :
    ArmFor flags0 classFile x code maxLocals ret World_1 tables_1 room_1 Calls_1 rest_1 Pre_1
      (fun tb e a s o t => postC L tb e a s o t ∧ Framed s o t (fieldLocs frame_1_writes a s ++ arrayLocs frame_1_arrays a s ++ staticLocs frame_1_statics s) 600000 7290000) := by
  intro l _ _ _ p e ha hc hk s m args below hf hfit hheap happ hpre
  obtain ⟨k, o, h1, h2, h3, rfl, hF⟩ := lw_comes l p e ha hc hk s m args below hf hfit hheap happ hpre
  exact ⟨k, _, h1, h2, h3, hL args s _, lw_frame hF⟩
theorem i_vc : Claimed_1_1 ∧ Claimed_1_2 := ⟨lw_limb limb_1_1 (fun args s t => by simp [limb_1_1, Cond.after, Cond.holds, Cond.value]), lw_limb limb_1_2 (fun args s t => Cond.after_iff.mpr (by
  first | (rw [show limb_1_2 = Cond.eq .result (.int 1) from rfl, Cond.eq_ints (x := 1) (y := 1) rfl rfl]; simp; done) | (simp [limb_1_2, Cond.value, Term.eval]; done)))⟩
end
