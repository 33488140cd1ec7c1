section
-- ===== PART A: goes FIRST, ahead of the names: the tables' words, and 'selects' of the private methods out of them =====
/-- a private method of a class that the tables say can be made, by its rows of tables_1 -/
def lw_okq (q : MethodName × Nat) : Prop := (q.1.cls ≠ "java/lang/invoke/MethodHandle" ∧ q.1.cls ≠ "java/lang/invoke/VarHandle") ∧ Cond.instantiable q.1.cls q.2 ∈ tables_1 ∧ Cond.privateMethod q.1 ∈ tables_1 ∧ Cond.instanceMethod q.1 ∈ tables_1
set_option maxRecDepth 100000
theorem lw_t1 {w : Cond} (h : w ∈ tables_1_1) : w ∈ tables_1 := List.mem_append_left _ h
theorem lw_t2 {w : Cond} (h : w ∈ tables_1_2) : w ∈ tables_1 := List.mem_append_right _ h
theorem lw_p0 : lw_okq (⟨"BlockSealer", "buildSubstitution", "()V"⟩, 12) := ⟨⟨by decide +kernel, by decide +kernel⟩, lw_t1 (List.mem_of_getElem? (i := 4) rfl), lw_t1 (List.mem_of_getElem? (i := 12) rfl), lw_t1 (List.mem_of_getElem? (i := 13) rfl)⟩
theorem lw_p1 : lw_okq (⟨"BlockSealer", "setSubstitution", "(II)V"⟩, 12) := ⟨⟨by decide +kernel, by decide +kernel⟩, lw_t1 (List.mem_of_getElem? (i := 4) rfl), lw_t1 (List.mem_of_getElem? (i := 16) rfl), lw_t1 (List.mem_of_getElem? (i := 17) rfl)⟩
theorem lw_p2 : lw_okq (⟨"BlockSealer", "buildMixing", "()V"⟩, 12) := ⟨⟨by decide +kernel, by decide +kernel⟩, lw_t1 (List.mem_of_getElem? (i := 4) rfl), lw_t1 (List.mem_of_getElem? (i := 26) rfl), lw_t1 (List.mem_of_getElem? (i := 27) rfl)⟩
theorem lw_p3 : lw_okq (⟨"BlockSealer", "buildFallen", "()V"⟩, 12) := ⟨⟨by decide +kernel, by decide +kernel⟩, lw_t1 (List.mem_of_getElem? (i := 4) rfl), lw_t1 (List.mem_of_getElem? (i := 30) rfl), lw_t1 (List.mem_of_getElem? (i := 31) rfl)⟩
theorem lw_p4 : lw_okq (⟨"BlockSealer", "substituteWord", "(I)I"⟩, 12) := ⟨⟨by decide +kernel, by decide +kernel⟩, lw_t1 (List.mem_of_getElem? (i := 4) rfl), lw_t1 (List.mem_of_getElem? (i := 39) rfl), lw_t1 (List.mem_of_getElem? (i := 40) rfl)⟩
theorem lw_p5 : lw_okq (⟨"BlockSealer", "turnMixing", "(I)I"⟩, 12) := ⟨⟨by decide +kernel, by decide +kernel⟩, lw_t1 (List.mem_of_getElem? (i := 4) rfl), lw_t1 (List.mem_of_getElem? (i := 43) rfl), lw_t1 (List.mem_of_getElem? (i := 44) rfl)⟩
theorem lw_p6 : lw_okq (⟨"BlockSealer", "buildMultiples", "()V"⟩, 12) := ⟨⟨by decide +kernel, by decide +kernel⟩, lw_t1 (List.mem_of_getElem? (i := 4) rfl), lw_t1 (List.mem_of_getElem? (i := 50) rfl), lw_t1 (List.mem_of_getElem? (i := 51) rfl)⟩
theorem lw_p7 : lw_okq (⟨"BlockSealer", "runForward", "()V"⟩, 12) := ⟨⟨by decide +kernel, by decide +kernel⟩, lw_t1 (List.mem_of_getElem? (i := 4) rfl), lw_t1 (List.mem_of_getElem? (i := 54) rfl), lw_t1 (List.mem_of_getElem? (i := 55) rfl)⟩
theorem lw_p8 : lw_okq (⟨"BlockSealer", "forwardColumn", "(I)I"⟩, 12) := ⟨⟨by decide +kernel, by decide +kernel⟩, lw_t1 (List.mem_of_getElem? (i := 4) rfl), lw_t1 (List.mem_of_getElem? (i := 58) rfl), lw_t1 (List.mem_of_getElem? (i := 59) rfl)⟩
theorem lw_p9 : lw_okq (⟨"BlockSealer", "keepFresh", "()V"⟩, 12) := ⟨⟨by decide +kernel, by decide +kernel⟩, lw_t1 (List.mem_of_getElem? (i := 4) rfl), lw_t1 (List.mem_of_getElem? (i := 62) rfl), lw_t1 (List.mem_of_getElem? (i := 63) rfl)⟩
theorem lw_p10 : lw_okq (⟨"BlockSealer", "moveOne", "()V"⟩, 12) := ⟨⟨by decide +kernel, by decide +kernel⟩, lw_t1 (List.mem_of_getElem? (i := 4) rfl), lw_t1 (List.mem_of_getElem? (i := 66) rfl), lw_t1 (List.mem_of_getElem? (i := 67) rfl)⟩
theorem lw_p11 : lw_okq (⟨"BlockSealer", "takePresent", "()V"⟩, 12) := ⟨⟨by decide +kernel, by decide +kernel⟩, lw_t1 (List.mem_of_getElem? (i := 4) rfl), lw_t1 (List.mem_of_getElem? (i := 121) rfl), lw_t1 (List.mem_of_getElem? (i := 122) rfl)⟩
theorem lw_p12 : lw_okq (⟨"BlockSealer", "givePresent", "()V"⟩, 12) := ⟨⟨by decide +kernel, by decide +kernel⟩, lw_t1 (List.mem_of_getElem? (i := 4) rfl), lw_t1 (List.mem_of_getElem? (i := 125) rfl), lw_t1 (List.mem_of_getElem? (i := 126) rfl)⟩
theorem lw_p13 : lw_okq (⟨"BlockSealer", "runBackward", "()V"⟩, 12) := ⟨⟨by decide +kernel, by decide +kernel⟩, lw_t1 (List.mem_of_getElem? (i := 4) rfl), lw_t1 (List.mem_of_getElem? (i := 133) rfl), lw_t1 (List.mem_of_getElem? (i := 134) rfl)⟩
theorem lw_p14 : lw_okq (⟨"BlockSealer", "backwardColumn", "(I)I"⟩, 12) := ⟨⟨by decide +kernel, by decide +kernel⟩, lw_t1 (List.mem_of_getElem? (i := 4) rfl), lw_t1 (List.mem_of_getElem? (i := 137) rfl), lw_t1 (List.mem_of_getElem? (i := 138) rfl)⟩
theorem lw_p15 : lw_okq (⟨"BlockSealer", "moveSum", "()V"⟩, 12) := ⟨⟨by decide +kernel, by decide +kernel⟩, lw_t1 (List.mem_of_getElem? (i := 4) rfl), lw_t1 (List.mem_of_getElem? (i := 153) rfl), lw_t1 (List.mem_of_getElem? (i := 154) rfl)⟩
def lw_privs_1 : List (MethodName × Nat) := [(⟨"BlockSealer", "buildSubstitution", "()V"⟩, 12), (⟨"BlockSealer", "setSubstitution", "(II)V"⟩, 12), (⟨"BlockSealer", "buildMixing", "()V"⟩, 12), (⟨"BlockSealer", "buildFallen", "()V"⟩, 12), (⟨"BlockSealer", "substituteWord", "(I)I"⟩, 12), (⟨"BlockSealer", "turnMixing", "(I)I"⟩, 12), (⟨"BlockSealer", "buildMultiples", "()V"⟩, 12), (⟨"BlockSealer", "runForward", "()V"⟩, 12), (⟨"BlockSealer", "forwardColumn", "(I)I"⟩, 12), (⟨"BlockSealer", "keepFresh", "()V"⟩, 12), (⟨"BlockSealer", "moveOne", "()V"⟩, 12), (⟨"BlockSealer", "takePresent", "()V"⟩, 12), (⟨"BlockSealer", "givePresent", "()V"⟩, 12), (⟨"BlockSealer", "runBackward", "()V"⟩, 12), (⟨"BlockSealer", "backwardColumn", "(I)I"⟩, 12), (⟨"BlockSealer", "moveSum", "()V"⟩, 12)]
theorem lw_r1 : ∀ q ∈ lw_privs_1, lw_okq q := List.forall_mem_cons.mpr ⟨lw_p0, List.forall_mem_cons.mpr ⟨lw_p1, List.forall_mem_cons.mpr ⟨lw_p2, List.forall_mem_cons.mpr ⟨lw_p3, List.forall_mem_cons.mpr ⟨lw_p4, List.forall_mem_cons.mpr ⟨lw_p5, List.forall_mem_cons.mpr ⟨lw_p6, List.forall_mem_cons.mpr ⟨lw_p7, List.forall_mem_cons.mpr ⟨lw_p8, List.forall_mem_cons.mpr ⟨lw_p9, List.forall_mem_cons.mpr ⟨lw_p10, List.forall_mem_cons.mpr ⟨lw_p11, List.forall_mem_cons.mpr ⟨lw_p12, List.forall_mem_cons.mpr ⟨lw_p13, List.forall_mem_cons.mpr ⟨lw_p14, List.forall_mem_cons.mpr ⟨lw_p15, fun _ h => absurd h List.not_mem_nil⟩⟩⟩⟩⟩⟩⟩⟩⟩⟩⟩⟩⟩⟩⟩⟩
theorem lw_p16 : lw_okq (⟨"BlockSealerModel", "substituted", "(I)I"⟩, 9) := ⟨⟨by decide +kernel, by decide +kernel⟩, lw_t1 (List.mem_of_getElem? (i := 169) rfl), lw_t1 (List.mem_of_getElem? (i := 191) rfl), lw_t1 (List.mem_of_getElem? (i := 192) rfl)⟩
theorem lw_p17 : lw_okq (⟨"BlockSealerModel", "lay", "(IIII)V"⟩, 9) := ⟨⟨by decide +kernel, by decide +kernel⟩, lw_t1 (List.mem_of_getElem? (i := 169) rfl), lw_t2 (List.mem_of_getElem? (i := 0) rfl), lw_t2 (List.mem_of_getElem? (i := 1) rfl)⟩
theorem lw_p18 : lw_okq (⟨"BlockSealerModel", "rounds", "()V"⟩, 9) := ⟨⟨by decide +kernel, by decide +kernel⟩, lw_t1 (List.mem_of_getElem? (i := 169) rfl), lw_t2 (List.mem_of_getElem? (i := 4) rfl), lw_t2 (List.mem_of_getElem? (i := 5) rfl)⟩
theorem lw_p19 : lw_okq (⟨"BlockSealerModel", "addKey", "(I)V"⟩, 9) := ⟨⟨by decide +kernel, by decide +kernel⟩, lw_t1 (List.mem_of_getElem? (i := 169) rfl), lw_t2 (List.mem_of_getElem? (i := 8) rfl), lw_t2 (List.mem_of_getElem? (i := 9) rfl)⟩
theorem lw_p20 : lw_okq (⟨"BlockSealerModel", "replaceAll", "()V"⟩, 9) := ⟨⟨by decide +kernel, by decide +kernel⟩, lw_t1 (List.mem_of_getElem? (i := 169) rfl), lw_t2 (List.mem_of_getElem? (i := 12) rfl), lw_t2 (List.mem_of_getElem? (i := 13) rfl)⟩
theorem lw_p21 : lw_okq (⟨"BlockSealerModel", "shift", "()V"⟩, 9) := ⟨⟨by decide +kernel, by decide +kernel⟩, lw_t1 (List.mem_of_getElem? (i := 169) rfl), lw_t2 (List.mem_of_getElem? (i := 16) rfl), lw_t2 (List.mem_of_getElem? (i := 17) rfl)⟩
theorem lw_p22 : lw_okq (⟨"BlockSealerModel", "mixColumns", "()V"⟩, 9) := ⟨⟨by decide +kernel, by decide +kernel⟩, lw_t1 (List.mem_of_getElem? (i := 169) rfl), lw_t2 (List.mem_of_getElem? (i := 20) rfl), lw_t2 (List.mem_of_getElem? (i := 21) rfl)⟩
theorem lw_p23 : lw_okq (⟨"BlockSealerModel", "mixed", "(I)I"⟩, 9) := ⟨⟨by decide +kernel, by decide +kernel⟩, lw_t1 (List.mem_of_getElem? (i := 169) rfl), lw_t2 (List.mem_of_getElem? (i := 24) rfl), lw_t2 (List.mem_of_getElem? (i := 25) rfl)⟩
theorem lw_p24 : lw_okq (⟨"BlockSealerModel", "joined", "(I)I"⟩, 9) := ⟨⟨by decide +kernel, by decide +kernel⟩, lw_t1 (List.mem_of_getElem? (i := 169) rfl), lw_t2 (List.mem_of_getElem? (i := 28) rfl), lw_t2 (List.mem_of_getElem? (i := 29) rfl)⟩
theorem lw_p25 : lw_okq (⟨"BlockSealerModel", "roundsBack", "()V"⟩, 9) := ⟨⟨by decide +kernel, by decide +kernel⟩, lw_t1 (List.mem_of_getElem? (i := 169) rfl), lw_t2 (List.mem_of_getElem? (i := 36) rfl), lw_t2 (List.mem_of_getElem? (i := 37) rfl)⟩
theorem lw_p26 : lw_okq (⟨"BlockSealerModel", "restoreAll", "()V"⟩, 9) := ⟨⟨by decide +kernel, by decide +kernel⟩, lw_t1 (List.mem_of_getElem? (i := 169) rfl), lw_t2 (List.mem_of_getElem? (i := 40) rfl), lw_t2 (List.mem_of_getElem? (i := 41) rfl)⟩
theorem lw_p27 : lw_okq (⟨"BlockSealerModel", "origin", "(I)I"⟩, 9) := ⟨⟨by decide +kernel, by decide +kernel⟩, lw_t1 (List.mem_of_getElem? (i := 169) rfl), lw_t2 (List.mem_of_getElem? (i := 44) rfl), lw_t2 (List.mem_of_getElem? (i := 45) rfl)⟩
theorem lw_p28 : lw_okq (⟨"BlockSealerModel", "moveBit", "()V"⟩, 9) := ⟨⟨by decide +kernel, by decide +kernel⟩, lw_t1 (List.mem_of_getElem? (i := 169) rfl), lw_t2 (List.mem_of_getElem? (i := 60) rfl), lw_t2 (List.mem_of_getElem? (i := 61) rfl)⟩
def lw_privs_2 : List (MethodName × Nat) := [(⟨"BlockSealerModel", "substituted", "(I)I"⟩, 9), (⟨"BlockSealerModel", "lay", "(IIII)V"⟩, 9), (⟨"BlockSealerModel", "rounds", "()V"⟩, 9), (⟨"BlockSealerModel", "addKey", "(I)V"⟩, 9), (⟨"BlockSealerModel", "replaceAll", "()V"⟩, 9), (⟨"BlockSealerModel", "shift", "()V"⟩, 9), (⟨"BlockSealerModel", "mixColumns", "()V"⟩, 9), (⟨"BlockSealerModel", "mixed", "(I)I"⟩, 9), (⟨"BlockSealerModel", "joined", "(I)I"⟩, 9), (⟨"BlockSealerModel", "roundsBack", "()V"⟩, 9), (⟨"BlockSealerModel", "restoreAll", "()V"⟩, 9), (⟨"BlockSealerModel", "origin", "(I)I"⟩, 9), (⟨"BlockSealerModel", "moveBit", "()V"⟩, 9)]
theorem lw_r2 : ∀ q ∈ lw_privs_2, lw_okq q := List.forall_mem_cons.mpr ⟨lw_p16, List.forall_mem_cons.mpr ⟨lw_p17, List.forall_mem_cons.mpr ⟨lw_p18, List.forall_mem_cons.mpr ⟨lw_p19, List.forall_mem_cons.mpr ⟨lw_p20, List.forall_mem_cons.mpr ⟨lw_p21, List.forall_mem_cons.mpr ⟨lw_p22, List.forall_mem_cons.mpr ⟨lw_p23, List.forall_mem_cons.mpr ⟨lw_p24, List.forall_mem_cons.mpr ⟨lw_p25, List.forall_mem_cons.mpr ⟨lw_p26, List.forall_mem_cons.mpr ⟨lw_p27, List.forall_mem_cons.mpr ⟨lw_p28, fun _ h => absurd h List.not_mem_nil⟩⟩⟩⟩⟩⟩⟩⟩⟩⟩⟩⟩⟩
def lw_privs : List (MethodName × Nat) := lw_privs_1 ++ (lw_privs_2)
def lw_tbl : List Cond := k2_sels lw_privs ++ tables_1
theorem lw_privs_ok : ∀ q ∈ lw_privs, lw_okq q := by
  show ∀ q ∈ lw_privs_1 ++ (lw_privs_2), lw_okq q
  exact List.forall_mem_append.mpr ⟨lw_r1, lw_r2⟩
-- ===== ONE list of words for every method: the tables' words that hold all through a run =====
def lw_all : List Cond := lw_tbl.filter goodWord
/-- a word of the tables by its place: claim/WORDS.tsv -/
theorem lw_w {w : Cond} (i : Nat) (h : lw_tbl[i]? = some w) (g : goodWord w = true) : w ∈ lw_all := List.mem_filter.mpr ⟨List.mem_of_getElem? h, g⟩
theorem lw_all_tbl {w : Cond} (h : w ∈ lw_all) : w ∈ lw_tbl := (List.mem_filter.mp h).1
theorem lw_self : GoodIn lw_all lw_all := fun w h => ⟨h, good_of_word (List.mem_filter.mp h).2⟩
/-- a class's field words, by their places -/
theorem lw_in (ws : List Cond) (ps : List Nat) (hp : ws = ps.filterMap (fun i => lw_tbl[i]?)) (hg : ws.all goodWord = true) : ∀ w ∈ ws, w ∈ lw_all := by
  intro w h
  have h1 := List.all_eq_true.mp hg w h
  rw [hp] at h
  obtain ⟨i, -, hi⟩ := List.mem_filterMap.mp h
  exact lw_w i hi h1
/-- the words of a contract for the method y with code b, L locals, answer r -/
abbrev ws_ (y : MethodName) (b : ByteArray) (L : Nat) (r : Option FieldType) : List Cond := Cond.code y b L r :: lw_all
theorem lw_meth {y : MethodName} {b : ByteArray} {L : Nat} {r : Option FieldType} (h : Cond.code y b L r ∈ lw_all) : GoodIn lw_all (ws_ y b L r) := by
  intro w hw
  rcases List.mem_cons.mp hw with e | e
  · rw [e]
    exact lw_self _ h
  · exact lw_self _ e
theorem lw_app {a c : List Cond} (ha : ∀ w ∈ a, w ∈ lw_all) (hc : GoodIn lw_all c) : GoodIn lw_all (a ++ c) := by
  intro w hw
  rcases List.mem_append.mp hw with e | e
  · exact lw_self w (ha w e)
  · exact hc w e
/-- what a call through an object asks: cwV n hts (lw_V ..) -/
theorem lw_V {own : String} {idx : Nat} {C : String} {y : MethodName} {b : ByteArray} {L : Nat} {r : Option FieldType} (h1 : Cond.methodLink own idx y ∈ lw_all) (h2 : Cond.instanceMethod y ∈ lw_all) (h3 : Cond.selects C y y ∈ lw_all) (h4 : Cond.initialized C ∈ lw_all) (h5 : Cond.code y b L r ∈ lw_all) : GoodIn lw_all (wsV own idx C y (ws_ y b L r)) := by
  refine lw_app ?_ (lw_meth h5)
  intro w hw
  simp only [List.mem_cons, List.not_mem_nil, or_false] at hw
  rcases hw with e | e | e | e
  · rw [e]; exact h1
  · rw [e]; exact h2
  · rw [e]; exact h3
  · rw [e]; exact h4
/-- what a static call asks: va_cwS n hts (lw_S ..) -/
theorem lw_S {own : String} {idx : Nat} {y : MethodName} {b : ByteArray} {L : Nat} {r : Option FieldType} (h1 : Cond.methodLink own idx y ∈ lw_all) (h2 : Cond.static y ∈ lw_all) (h3 : Cond.initialized y.cls ∈ lw_all) (h4 : Cond.code y b L r ∈ lw_all) : GoodIn lw_all (va_wsS own idx y (ws_ y b L r)) := by
  refine lw_app ?_ (lw_meth h4)
  intro w hw
  simp only [List.mem_cons, List.not_mem_nil, or_false] at hw
  rcases hw with e | e | e
  · rw [e]; exact h1
  · rw [e]; exact h2
  · rw [e]; exact h3
/-- the words of a contract for a method WITH HANDLERS (hh: its table) -/
abbrev wsW_ (y : MethodName) (b : ByteArray) (L : Nat) (r : Option FieldType) (hh : List (Nat × Nat × Nat × Nat)) : List Cond := Cond.codeWith y b L r hh :: lw_all
theorem lw_methW {y : MethodName} {b : ByteArray} {L : Nat} {r : Option FieldType} {hh : List (Nat × Nat × Nat × Nat)} (h : Cond.codeWith y b L r hh ∈ lw_all) : GoodIn lw_all (wsW_ y b L r hh) := by
  intro w hw
  rcases List.mem_cons.mp hw with e | e
  · rw [e]
    exact lw_self _ h
  · exact lw_self _ e
/-- any list of words by their places (lw_in), good -/
theorem lw_good {ws : List Cond} (h : ∀ w ∈ ws, w ∈ lw_all) : GoodIn lw_all ws := fun w hw => lw_self w (h w hw)
/-- what a call of a method with handlers asks: vx_cwVW n hts (lw_VW ..), vx_cwSW n hts (lw_SW ..) -/
theorem lw_VW {own : String} {idx : Nat} {C : String} {y : MethodName} {b : ByteArray} {L : Nat} {r : Option FieldType} {hh : List (Nat × Nat × Nat × Nat)} (h1 : Cond.methodLink own idx y ∈ lw_all) (h2 : Cond.instanceMethod y ∈ lw_all) (h3 : Cond.selects C y y ∈ lw_all) (h4 : Cond.initialized C ∈ lw_all) (h5 : Cond.codeWith y b L r hh ∈ lw_all) : GoodIn lw_all (wsV own idx C y (wsW_ y b L r hh)) := by
  refine lw_app ?_ (lw_methW h5)
  intro w hw
  simp only [List.mem_cons, List.not_mem_nil, or_false] at hw
  rcases hw with e | e | e | e
  · rw [e]; exact h1
  · rw [e]; exact h2
  · rw [e]; exact h3
  · rw [e]; exact h4
theorem lw_SW {own : String} {idx : Nat} {y : MethodName} {b : ByteArray} {L : Nat} {r : Option FieldType} {hh : List (Nat × Nat × Nat × Nat)} (h1 : Cond.methodLink own idx y ∈ lw_all) (h2 : Cond.static y ∈ lw_all) (h3 : Cond.initialized y.cls ∈ lw_all) (h4 : Cond.codeWith y b L r hh ∈ lw_all) : GoodIn lw_all (va_wsS own idx y (wsW_ y b L r hh)) := by
  refine lw_app ?_ (lw_methW h4)
  intro w hw
  simp only [List.mem_cons, List.not_mem_nil, or_false] at hw
  rcases hw with e | e | e
  · rw [e]; exact h1
  · rw [e]; exact h2
  · rw [e]; exact h3
/-- a word by its place in its run of the tables -/
theorem lw_at {r : List Cond} (hr : ∀ w ∈ r, w ∈ lw_tbl) {w : Cond} (i : Nat) (h : r[i]? = some w) : w ∈ lw_tbl := hr w (List.mem_of_getElem? h)
theorem lw_g {w : Cond} (h : w ∈ lw_tbl) (g : goodWord w = true) : w ∈ lw_all := List.mem_filter.mpr ⟨h, g⟩
theorem lw_ms : ∀ w ∈ k2_sels lw_privs, w ∈ lw_tbl := fun w h => show w ∈ k2_sels lw_privs ++ tables_1 from List.mem_append_left _ h
theorem lw_m1 : ∀ w ∈ tables_1_1, w ∈ lw_tbl := fun w h => show w ∈ k2_sels lw_privs ++ tables_1 from List.mem_append_right (k2_sels lw_privs) (show w ∈ tables_1 from List.mem_append_left _ h)
theorem lw_m2 : ∀ w ∈ tables_1_2, w ∈ lw_tbl := fun w h => show w ∈ k2_sels lw_privs ++ tables_1 from List.mem_append_right (k2_sels lw_privs) (show w ∈ tables_1 from List.mem_append_right _ h)
theorem qs0 : (Cond.selects "BlockSealer" ⟨"BlockSealer", "buildSubstitution", "()V"⟩ ⟨"BlockSealer", "buildSubstitution", "()V"⟩) ∈ lw_all := lw_g (lw_at lw_ms 0 rfl) rfl
theorem qs1 : (Cond.selects "BlockSealer" ⟨"BlockSealer", "setSubstitution", "(II)V"⟩ ⟨"BlockSealer", "setSubstitution", "(II)V"⟩) ∈ lw_all := lw_g (lw_at lw_ms 1 rfl) rfl
theorem qs2 : (Cond.selects "BlockSealer" ⟨"BlockSealer", "buildMixing", "()V"⟩ ⟨"BlockSealer", "buildMixing", "()V"⟩) ∈ lw_all := lw_g (lw_at lw_ms 2 rfl) rfl
theorem qs3 : (Cond.selects "BlockSealer" ⟨"BlockSealer", "buildFallen", "()V"⟩ ⟨"BlockSealer", "buildFallen", "()V"⟩) ∈ lw_all := lw_g (lw_at lw_ms 3 rfl) rfl
theorem qs4 : (Cond.selects "BlockSealer" ⟨"BlockSealer", "substituteWord", "(I)I"⟩ ⟨"BlockSealer", "substituteWord", "(I)I"⟩) ∈ lw_all := lw_g (lw_at lw_ms 4 rfl) rfl
theorem qs5 : (Cond.selects "BlockSealer" ⟨"BlockSealer", "turnMixing", "(I)I"⟩ ⟨"BlockSealer", "turnMixing", "(I)I"⟩) ∈ lw_all := lw_g (lw_at lw_ms 5 rfl) rfl
theorem qs6 : (Cond.selects "BlockSealer" ⟨"BlockSealer", "buildMultiples", "()V"⟩ ⟨"BlockSealer", "buildMultiples", "()V"⟩) ∈ lw_all := lw_g (lw_at lw_ms 6 rfl) rfl
theorem qs7 : (Cond.selects "BlockSealer" ⟨"BlockSealer", "runForward", "()V"⟩ ⟨"BlockSealer", "runForward", "()V"⟩) ∈ lw_all := lw_g (lw_at lw_ms 7 rfl) rfl
theorem qs8 : (Cond.selects "BlockSealer" ⟨"BlockSealer", "forwardColumn", "(I)I"⟩ ⟨"BlockSealer", "forwardColumn", "(I)I"⟩) ∈ lw_all := lw_g (lw_at lw_ms 8 rfl) rfl
theorem qs9 : (Cond.selects "BlockSealer" ⟨"BlockSealer", "keepFresh", "()V"⟩ ⟨"BlockSealer", "keepFresh", "()V"⟩) ∈ lw_all := lw_g (lw_at lw_ms 9 rfl) rfl
theorem qs10 : (Cond.selects "BlockSealer" ⟨"BlockSealer", "moveOne", "()V"⟩ ⟨"BlockSealer", "moveOne", "()V"⟩) ∈ lw_all := lw_g (lw_at lw_ms 10 rfl) rfl
theorem qs11 : (Cond.selects "BlockSealer" ⟨"BlockSealer", "takePresent", "()V"⟩ ⟨"BlockSealer", "takePresent", "()V"⟩) ∈ lw_all := lw_g (lw_at lw_ms 11 rfl) rfl
theorem qs12 : (Cond.selects "BlockSealer" ⟨"BlockSealer", "givePresent", "()V"⟩ ⟨"BlockSealer", "givePresent", "()V"⟩) ∈ lw_all := lw_g (lw_at lw_ms 12 rfl) rfl
theorem qs13 : (Cond.selects "BlockSealer" ⟨"BlockSealer", "runBackward", "()V"⟩ ⟨"BlockSealer", "runBackward", "()V"⟩) ∈ lw_all := lw_g (lw_at lw_ms 13 rfl) rfl
theorem qs14 : (Cond.selects "BlockSealer" ⟨"BlockSealer", "backwardColumn", "(I)I"⟩ ⟨"BlockSealer", "backwardColumn", "(I)I"⟩) ∈ lw_all := lw_g (lw_at lw_ms 14 rfl) rfl
theorem qs15 : (Cond.selects "BlockSealer" ⟨"BlockSealer", "moveSum", "()V"⟩ ⟨"BlockSealer", "moveSum", "()V"⟩) ∈ lw_all := lw_g (lw_at lw_ms 15 rfl) rfl
theorem qs16 : (Cond.selects "BlockSealerModel" ⟨"BlockSealerModel", "substituted", "(I)I"⟩ ⟨"BlockSealerModel", "substituted", "(I)I"⟩) ∈ lw_all := lw_g (lw_at lw_ms 16 rfl) rfl
theorem qs17 : (Cond.selects "BlockSealerModel" ⟨"BlockSealerModel", "lay", "(IIII)V"⟩ ⟨"BlockSealerModel", "lay", "(IIII)V"⟩) ∈ lw_all := lw_g (lw_at lw_ms 17 rfl) rfl
theorem qs18 : (Cond.selects "BlockSealerModel" ⟨"BlockSealerModel", "rounds", "()V"⟩ ⟨"BlockSealerModel", "rounds", "()V"⟩) ∈ lw_all := lw_g (lw_at lw_ms 18 rfl) rfl
theorem qs19 : (Cond.selects "BlockSealerModel" ⟨"BlockSealerModel", "addKey", "(I)V"⟩ ⟨"BlockSealerModel", "addKey", "(I)V"⟩) ∈ lw_all := lw_g (lw_at lw_ms 19 rfl) rfl
theorem qs20 : (Cond.selects "BlockSealerModel" ⟨"BlockSealerModel", "replaceAll", "()V"⟩ ⟨"BlockSealerModel", "replaceAll", "()V"⟩) ∈ lw_all := lw_g (lw_at lw_ms 20 rfl) rfl
theorem qs21 : (Cond.selects "BlockSealerModel" ⟨"BlockSealerModel", "shift", "()V"⟩ ⟨"BlockSealerModel", "shift", "()V"⟩) ∈ lw_all := lw_g (lw_at lw_ms 21 rfl) rfl
theorem qs22 : (Cond.selects "BlockSealerModel" ⟨"BlockSealerModel", "mixColumns", "()V"⟩ ⟨"BlockSealerModel", "mixColumns", "()V"⟩) ∈ lw_all := lw_g (lw_at lw_ms 22 rfl) rfl
theorem qs23 : (Cond.selects "BlockSealerModel" ⟨"BlockSealerModel", "mixed", "(I)I"⟩ ⟨"BlockSealerModel", "mixed", "(I)I"⟩) ∈ lw_all := lw_g (lw_at lw_ms 23 rfl) rfl
theorem qs24 : (Cond.selects "BlockSealerModel" ⟨"BlockSealerModel", "joined", "(I)I"⟩ ⟨"BlockSealerModel", "joined", "(I)I"⟩) ∈ lw_all := lw_g (lw_at lw_ms 24 rfl) rfl
theorem qs25 : (Cond.selects "BlockSealerModel" ⟨"BlockSealerModel", "roundsBack", "()V"⟩ ⟨"BlockSealerModel", "roundsBack", "()V"⟩) ∈ lw_all := lw_g (lw_at lw_ms 25 rfl) rfl
theorem qs26 : (Cond.selects "BlockSealerModel" ⟨"BlockSealerModel", "restoreAll", "()V"⟩ ⟨"BlockSealerModel", "restoreAll", "()V"⟩) ∈ lw_all := lw_g (lw_at lw_ms 26 rfl) rfl
theorem qs27 : (Cond.selects "BlockSealerModel" ⟨"BlockSealerModel", "origin", "(I)I"⟩ ⟨"BlockSealerModel", "origin", "(I)I"⟩) ∈ lw_all := lw_g (lw_at lw_ms 27 rfl) rfl
theorem qs28 : (Cond.selects "BlockSealerModel" ⟨"BlockSealerModel", "moveBit", "()V"⟩ ⟨"BlockSealerModel", "moveBit", "()V"⟩) ∈ lw_all := lw_g (lw_at lw_ms 28 rfl) rfl
end
section
set_option maxRecDepth 100000
/-! BlockSealer -/
def RX0 : String := "BlockSealer"
def TX0 : u_T := fun k => match k with
  | 0 => ("BlockSealer", "substitute", "[I", true)
  | 1 => ("BlockSealer", "restore", "[I", true)
  | 2 => ("BlockSealer", "forward", "[I", true)
  | 3 => ("BlockSealer", "backward", "[I", true)
  | 4 => ("BlockSealer", "roundKeys", "[I", true)
  | 5 => ("BlockSealer", "turnedKeys", "[I", true)
  | 6 => ("BlockSealer", "present", "[I", true)
  | 7 => ("BlockSealer", "sum", "[I", true)
  | 8 => ("BlockSealer", "state", "[I", true)
  | 9 => ("BlockSealer", "fresh", "[I", true)
  | 10 => ("BlockSealer", "multiples", "[I", true)
  | _ => ("BlockSealer", "fallen", "[I", true)
def tyX0 : Nat → FieldType := fun k => match k with
  | 0 => .array .int
  | 1 => .array .int
  | 2 => .array .int
  | 3 => .array .int
  | 4 => .array .int
  | 5 => .array .int
  | 6 => .array .int
  | 7 => .array .int
  | 8 => .array .int
  | 9 => .array .int
  | 10 => .array .int
  | _ => .array .int
abbrev wsX00 : List Cond := u_ws RX0 TX0 12
theorem nmX0 : ∀ a, a < 12 → ∀ b, b < 12 → a ≠ b → (TX0 a).2.1 ≠ (TX0 b).2.1 := by decide +kernel
theorem tyX0_ok : ∀ k, k < 12 → parseFieldDescriptor (TX0 k).2.2.1 = some (tyX0 k) := by decide +kernel
abbrev cX0_init : ByteArray := prog_1_method_1_code
def yX0_init : MethodName := ⟨RX0, "<init>", "()V"⟩
abbrev cX0_buildSubstitution : ByteArray := prog_1_method_3_code
def yX0_buildSubstitution : MethodName := ⟨RX0, "buildSubstitution", "()V"⟩
abbrev cX0_setSubstitution : ByteArray := prog_1_method_5_code
def yX0_setSubstitution : MethodName := ⟨RX0, "setSubstitution", "(II)V"⟩
abbrev cX0_twice : ByteArray := prog_1_method_2_code
def yX0_twice : MethodName := ⟨RX0, "twice", "(I)I"⟩
abbrev cX0_timesInverseOfThree : ByteArray := prog_1_method_4_code
def yX0_timesInverseOfThree : MethodName := ⟨RX0, "timesInverseOfThree", "(I)I"⟩
abbrev cX0_buildMixing : ByteArray := prog_1_method_6_code
def yX0_buildMixing : MethodName := ⟨RX0, "buildMixing", "()V"⟩
abbrev cX0_buildFallen : ByteArray := prog_1_method_7_code
def yX0_buildFallen : MethodName := ⟨RX0, "buildFallen", "()V"⟩
abbrev cX0_key : ByteArray := prog_1_method_8_code
def yX0_key : MethodName := ⟨RX0, "key", "(IIII)V"⟩
abbrev cX0_substituteWord : ByteArray := prog_1_method_21_code
def yX0_substituteWord : MethodName := ⟨RX0, "substituteWord", "(I)I"⟩
abbrev cX0_turnMixing : ByteArray := prog_1_method_28_code
def yX0_turnMixing : MethodName := ⟨RX0, "turnMixing", "(I)I"⟩
abbrev cX0_turnRight : ByteArray := prog_1_method_22_code
def yX0_turnRight : MethodName := ⟨RX0, "turnRight", "(II)I"⟩
abbrev cX0_buildMultiples : ByteArray := prog_1_method_29_code
def yX0_buildMultiples : MethodName := ⟨RX0, "buildMultiples", "()V"⟩
abbrev cX0_runForward : ByteArray := prog_1_method_23_code
def yX0_runForward : MethodName := ⟨RX0, "runForward", "()V"⟩
abbrev cX0_forwardColumn : ByteArray := prog_1_method_24_code
def yX0_forwardColumn : MethodName := ⟨RX0, "forwardColumn", "(I)I"⟩
abbrev cX0_keepFresh : ByteArray := prog_1_method_27_code
def yX0_keepFresh : MethodName := ⟨RX0, "keepFresh", "()V"⟩
abbrev cX0_moveOne : ByteArray := prog_1_method_30_code
def yX0_moveOne : MethodName := ⟨RX0, "moveOne", "()V"⟩
abbrev cX0_block : ByteArray := prog_1_method_9_code
def yX0_block : MethodName := ⟨RX0, "block", "(IIII)V"⟩
abbrev cX0_mix : ByteArray := prog_1_method_10_code
def yX0_mix : MethodName := ⟨RX0, "mix", "(IIII)V"⟩
abbrev cX0_encrypt : ByteArray := prog_1_method_11_code
def yX0_encrypt : MethodName := ⟨RX0, "encrypt", "()V"⟩
abbrev cX0_takePresent : ByteArray := prog_1_method_19_code
def yX0_takePresent : MethodName := ⟨RX0, "takePresent", "()V"⟩
abbrev cX0_givePresent : ByteArray := prog_1_method_20_code
def yX0_givePresent : MethodName := ⟨RX0, "givePresent", "()V"⟩
abbrev cX0_decrypt : ByteArray := prog_1_method_12_code
def yX0_decrypt : MethodName := ⟨RX0, "decrypt", "()V"⟩
abbrev cX0_runBackward : ByteArray := prog_1_method_25_code
def yX0_runBackward : MethodName := ⟨RX0, "runBackward", "()V"⟩
abbrev cX0_backwardColumn : ByteArray := prog_1_method_26_code
def yX0_backwardColumn : MethodName := ⟨RX0, "backwardColumn", "(I)I"⟩
abbrev cX0_next : ByteArray := prog_1_method_13_code
def yX0_next : MethodName := ⟨RX0, "next", "()V"⟩
abbrev cX0_word : ByteArray := prog_1_method_14_code
def yX0_word : MethodName := ⟨RX0, "word", "(I)I"⟩
abbrev cX0_absorb : ByteArray := prog_1_method_15_code
def yX0_absorb : MethodName := ⟨RX0, "absorb", "()V"⟩
abbrev cX0_moveSum : ByteArray := prog_1_method_31_code
def yX0_moveSum : MethodName := ⟨RX0, "moveSum", "()V"⟩
abbrev cX0_restart : ByteArray := prog_1_method_16_code
def yX0_restart : MethodName := ⟨RX0, "restart", "()V"⟩
abbrev cX0_hash : ByteArray := prog_1_method_17_code
def yX0_hash : MethodName := ⟨RX0, "hash", "(I)I"⟩
abbrev cX0_roundKey : ByteArray := prog_1_method_18_code
def yX0_roundKey : MethodName := ⟨RX0, "roundKey", "(II)I"⟩
/-! BlockSealerModel -/
def RX1 : String := "BlockSealerModel"
def TX1 : u_T := fun k => match k with
  | 0 => ("BlockSealerModel", "substitute", "[I", true)
  | 1 => ("BlockSealerModel", "keys", "[I", true)
  | 2 => ("BlockSealerModel", "present", "[I", true)
  | 3 => ("BlockSealerModel", "hashed", "[I", true)
  | 4 => ("BlockSealerModel", "square", "[I", true)
  | 5 => ("BlockSealerModel", "shifted", "[I", true)
  | 6 => ("BlockSealerModel", "sealed", "[I", true)
  | 7 => ("BlockSealerModel", "moved", "[I", true)
  | _ => ("BlockSealerModel", "product", "[I", true)
def tyX1 : Nat → FieldType := fun k => match k with
  | 0 => .array .int
  | 1 => .array .int
  | 2 => .array .int
  | 3 => .array .int
  | 4 => .array .int
  | 5 => .array .int
  | 6 => .array .int
  | 7 => .array .int
  | _ => .array .int
abbrev wsX10 : List Cond := u_ws RX1 TX1 9
theorem nmX1 : ∀ a, a < 9 → ∀ b, b < 9 → a ≠ b → (TX1 a).2.1 ≠ (TX1 b).2.1 := by decide +kernel
theorem tyX1_ok : ∀ k, k < 9 → parseFieldDescriptor (TX1 k).2.2.1 = some (tyX1 k) := by decide +kernel
abbrev cX1_init : ByteArray := prog_3_method_1_code
def yX1_init : MethodName := ⟨RX1, "<init>", "()V"⟩
abbrev cX1_inverse : ByteArray := prog_3_method_4_code
def yX1_inverse : MethodName := ⟨RX1, "inverse", "(I)I"⟩
abbrev cX1_times : ByteArray := prog_3_method_3_code
def yX1_times : MethodName := ⟨RX1, "times", "(II)I"⟩
abbrev cX1_twice : ByteArray := prog_3_method_2_code
def yX1_twice : MethodName := ⟨RX1, "twice", "(I)I"⟩
abbrev cX1_spread : ByteArray := prog_3_method_5_code
def yX1_spread : MethodName := ⟨RX1, "spread", "(I)I"⟩
abbrev cX1_key : ByteArray := prog_3_method_8_code
def yX1_key : MethodName := ⟨RX1, "key", "(IIII)V"⟩
abbrev cX1_substituted : ByteArray := prog_3_method_7_code
def yX1_substituted : MethodName := ⟨RX1, "substituted", "(I)I"⟩
abbrev cX1_byteOf : ByteArray := prog_3_method_6_code
def yX1_byteOf : MethodName := ⟨RX1, "byteOf", "(II)I"⟩
abbrev cX1_block : ByteArray := prog_3_method_9_code
def yX1_block : MethodName := ⟨RX1, "block", "(IIII)V"⟩
abbrev cX1_mix : ByteArray := prog_3_method_10_code
def yX1_mix : MethodName := ⟨RX1, "mix", "(IIII)V"⟩
abbrev cX1_encrypt : ByteArray := prog_3_method_22_code
def yX1_encrypt : MethodName := ⟨RX1, "encrypt", "()V"⟩
abbrev cX1_lay : ByteArray := prog_3_method_18_code
def yX1_lay : MethodName := ⟨RX1, "lay", "(IIII)V"⟩
abbrev cX1_rounds : ByteArray := prog_3_method_20_code
def yX1_rounds : MethodName := ⟨RX1, "rounds", "()V"⟩
abbrev cX1_addKey : ByteArray := prog_3_method_11_code
def yX1_addKey : MethodName := ⟨RX1, "addKey", "(I)V"⟩
abbrev cX1_replaceAll : ByteArray := prog_3_method_12_code
def yX1_replaceAll : MethodName := ⟨RX1, "replaceAll", "()V"⟩
abbrev cX1_shift : ByteArray := prog_3_method_15_code
def yX1_shift : MethodName := ⟨RX1, "shift", "()V"⟩
abbrev cX1_mixColumns : ByteArray := prog_3_method_17_code
def yX1_mixColumns : MethodName := ⟨RX1, "mixColumns", "()V"⟩
abbrev cX1_mixed : ByteArray := prog_3_method_16_code
def yX1_mixed : MethodName := ⟨RX1, "mixed", "(I)I"⟩
abbrev cX1_joined : ByteArray := prog_3_method_19_code
def yX1_joined : MethodName := ⟨RX1, "joined", "(I)I"⟩
abbrev cX1_decrypt : ByteArray := prog_3_method_23_code
def yX1_decrypt : MethodName := ⟨RX1, "decrypt", "()V"⟩
abbrev cX1_roundsBack : ByteArray := prog_3_method_21_code
def yX1_roundsBack : MethodName := ⟨RX1, "roundsBack", "()V"⟩
abbrev cX1_restoreAll : ByteArray := prog_3_method_14_code
def yX1_restoreAll : MethodName := ⟨RX1, "restoreAll", "()V"⟩
abbrev cX1_origin : ByteArray := prog_3_method_13_code
def yX1_origin : MethodName := ⟨RX1, "origin", "(I)I"⟩
abbrev cX1_next : ByteArray := prog_3_method_24_code
def yX1_next : MethodName := ⟨RX1, "next", "()V"⟩
abbrev cX1_word : ByteArray := prog_3_method_25_code
def yX1_word : MethodName := ⟨RX1, "word", "(I)I"⟩
abbrev cX1_absorb : ByteArray := prog_3_method_27_code
def yX1_absorb : MethodName := ⟨RX1, "absorb", "()V"⟩
abbrev cX1_moveBit : ByteArray := prog_3_method_26_code
def yX1_moveBit : MethodName := ⟨RX1, "moveBit", "()V"⟩
abbrev cX1_restart : ByteArray := prog_3_method_28_code
def yX1_restart : MethodName := ⟨RX1, "restart", "()V"⟩
abbrev cX1_hash : ByteArray := prog_3_method_29_code
def yX1_hash : MethodName := ⟨RX1, "hash", "(I)I"⟩
abbrev cX1_roundKey : ByteArray := prog_3_method_30_code
def yX1_roundKey : MethodName := ⟨RX1, "roundKey", "(II)I"⟩
/-! java/lang/Object -/
def RJ0 : String := "java/lang/Object"
abbrev cJ0_init : ByteArray := object_method_1_code
def yJ0_init : MethodName := ⟨RJ0, "<init>", "()V"⟩
theorem dJ0_init_0 : decode cJ0_init 0 = .ok (.return_, 1) := by decide +kernel
theorem q38 : (Jvm.Cond.instanceMethod ({ cls := "java/lang/Object", name := "<init>", desc := "()V" } : Jvm.MethodName)) ∈ lw_all := lw_g (lw_at lw_m1 9 rfl) rfl
theorem q39 : (Jvm.Cond.code ({ cls := "java/lang/Object", name := "<init>", desc := "()V" } : Jvm.MethodName) object_method_1_code (1 : Nat) (Option.none : Option Jvm.ClassFile.FieldType)) ∈ lw_all := lw_g (lw_at lw_m1 10 rfl) rfl
theorem q29 : (Jvm.Cond.initialized "BlockSealerLaw") ∈ lw_all := lw_g (lw_at lw_m1 0 rfl) rfl
theorem q32 : (Jvm.Cond.classLink "BlockSealerLaw" (7 : Nat) "BlockSealer") ∈ lw_all := lw_g (lw_at lw_m1 3 rfl) rfl
theorem q34 : (Jvm.Cond.methodLink "BlockSealerLaw" (9 : Nat) ({ cls := "BlockSealer", name := "<init>", desc := "()V" } : Jvm.MethodName)) ∈ lw_all := lw_g (lw_at lw_m1 5 rfl) rfl
theorem q136 : (Jvm.Cond.methodLink "BlockSealerLaw" (13 : Nat) ({ cls := "BlockSealer", name := "key", desc := "(IIII)V" } : Jvm.MethodName)) ∈ lw_all := lw_g (lw_at lw_m1 107 rfl) rfl
theorem q137 : (Jvm.Cond.methodLink "BlockSealerLaw" (18 : Nat) ({ cls := "BlockSealer", name := "block", desc := "(IIII)V" } : Jvm.MethodName)) ∈ lw_all := lw_g (lw_at lw_m1 108 rfl) rfl
theorem q141 : (Jvm.Cond.methodLink "BlockSealerLaw" (22 : Nat) ({ cls := "BlockSealer", name := "mix", desc := "(IIII)V" } : Jvm.MethodName)) ∈ lw_all := lw_g (lw_at lw_m1 112 rfl) rfl
theorem q145 : (Jvm.Cond.methodLink "BlockSealerLaw" (26 : Nat) ({ cls := "BlockSealer", name := "encrypt", desc := "()V" } : Jvm.MethodName)) ∈ lw_all := lw_g (lw_at lw_m1 116 rfl) rfl
theorem q157 : (Jvm.Cond.methodLink "BlockSealerLaw" (30 : Nat) ({ cls := "BlockSealer", name := "decrypt", desc := "()V" } : Jvm.MethodName)) ∈ lw_all := lw_g (lw_at lw_m1 128 rfl) rfl
theorem q169 : (Jvm.Cond.methodLink "BlockSealerLaw" (34 : Nat) ({ cls := "BlockSealer", name := "next", desc := "()V" } : Jvm.MethodName)) ∈ lw_all := lw_g (lw_at lw_m1 140 rfl) rfl
theorem q173 : (Jvm.Cond.methodLink "BlockSealerLaw" (38 : Nat) ({ cls := "BlockSealer", name := "word", desc := "(I)I" } : Jvm.MethodName)) ∈ lw_all := lw_g (lw_at lw_m1 144 rfl) rfl
theorem q177 : (Jvm.Cond.methodLink "BlockSealerLaw" (43 : Nat) ({ cls := "BlockSealer", name := "absorb", desc := "()V" } : Jvm.MethodName)) ∈ lw_all := lw_g (lw_at lw_m1 148 rfl) rfl
theorem q185 : (Jvm.Cond.methodLink "BlockSealerLaw" (47 : Nat) ({ cls := "BlockSealer", name := "restart", desc := "()V" } : Jvm.MethodName)) ∈ lw_all := lw_g (lw_at lw_m1 156 rfl) rfl
theorem q189 : (Jvm.Cond.methodLink "BlockSealerLaw" (51 : Nat) ({ cls := "BlockSealer", name := "hash", desc := "(I)I" } : Jvm.MethodName)) ∈ lw_all := lw_g (lw_at lw_m1 160 rfl) rfl
theorem q193 : (Jvm.Cond.methodLink "BlockSealerLaw" (55 : Nat) ({ cls := "BlockSealer", name := "roundKey", desc := "(II)I" } : Jvm.MethodName)) ∈ lw_all := lw_g (lw_at lw_m1 164 rfl) rfl
theorem q197 : (Jvm.Cond.classLink "BlockSealerLaw" (10 : Nat) "BlockSealerModel") ∈ lw_all := lw_g (lw_at lw_m1 168 rfl) rfl
theorem q199 : (Jvm.Cond.methodLink "BlockSealerLaw" (12 : Nat) ({ cls := "BlockSealerModel", name := "<init>", desc := "()V" } : Jvm.MethodName)) ∈ lw_all := lw_g (lw_at lw_m1 170 rfl) rfl
theorem q254 : (Jvm.Cond.methodLink "BlockSealerLaw" (17 : Nat) ({ cls := "BlockSealerModel", name := "key", desc := "(IIII)V" } : Jvm.MethodName)) ∈ lw_all := lw_g (lw_at lw_m1 225 rfl) rfl
theorem q255 : (Jvm.Cond.methodLink "BlockSealerLaw" (21 : Nat) ({ cls := "BlockSealerModel", name := "block", desc := "(IIII)V" } : Jvm.MethodName)) ∈ lw_all := lw_g (lw_at lw_m1 226 rfl) rfl
theorem q259 : (Jvm.Cond.methodLink "BlockSealerLaw" (25 : Nat) ({ cls := "BlockSealerModel", name := "mix", desc := "(IIII)V" } : Jvm.MethodName)) ∈ lw_all := lw_g (lw_at lw_m1 230 rfl) rfl
theorem q264 : (Jvm.Cond.methodLink "BlockSealerLaw" (29 : Nat) ({ cls := "BlockSealerModel", name := "encrypt", desc := "()V" } : Jvm.MethodName)) ∈ lw_all := lw_g (lw_at lw_m1 235 rfl) rfl
theorem q300 : (Jvm.Cond.methodLink "BlockSealerLaw" (33 : Nat) ({ cls := "BlockSealerModel", name := "decrypt", desc := "()V" } : Jvm.MethodName)) ∈ lw_all := lw_g (lw_at lw_m2 31 rfl) rfl
theorem q316 : (Jvm.Cond.methodLink "BlockSealerLaw" (37 : Nat) ({ cls := "BlockSealerModel", name := "next", desc := "()V" } : Jvm.MethodName)) ∈ lw_all := lw_g (lw_at lw_m2 47 rfl) rfl
theorem q320 : (Jvm.Cond.methodLink "BlockSealerLaw" (42 : Nat) ({ cls := "BlockSealerModel", name := "word", desc := "(I)I" } : Jvm.MethodName)) ∈ lw_all := lw_g (lw_at lw_m2 51 rfl) rfl
theorem q324 : (Jvm.Cond.methodLink "BlockSealerLaw" (46 : Nat) ({ cls := "BlockSealerModel", name := "absorb", desc := "()V" } : Jvm.MethodName)) ∈ lw_all := lw_g (lw_at lw_m2 55 rfl) rfl
theorem q333 : (Jvm.Cond.methodLink "BlockSealerLaw" (50 : Nat) ({ cls := "BlockSealerModel", name := "restart", desc := "()V" } : Jvm.MethodName)) ∈ lw_all := lw_g (lw_at lw_m2 64 rfl) rfl
theorem q337 : (Jvm.Cond.methodLink "BlockSealerLaw" (54 : Nat) ({ cls := "BlockSealerModel", name := "hash", desc := "(I)I" } : Jvm.MethodName)) ∈ lw_all := lw_g (lw_at lw_m2 68 rfl) rfl
theorem q341 : (Jvm.Cond.methodLink "BlockSealerLaw" (59 : Nat) ({ cls := "BlockSealerModel", name := "roundKey", desc := "(II)I" } : Jvm.MethodName)) ∈ lw_all := lw_g (lw_at lw_m2 72 rfl) rfl
theorem q135 : (Jvm.Cond.arrayClass Jvm.ClassFile.FieldType.int) ∈ lw_all := lw_g (lw_at lw_m1 106 rfl) rfl
end
section
set_option maxRecDepth 100000
theorem q30 : (Jvm.Cond.initialized "BlockSealer") ∈ lw_all := lw_g (lw_at lw_m1 1 rfl) rfl
theorem q33 : (Jvm.Cond.instantiable "BlockSealer" (12 : Nat)) ∈ lw_all := lw_g (lw_at lw_m1 4 rfl) rfl
theorem q35 : (Jvm.Cond.instanceMethod ({ cls := "BlockSealer", name := "<init>", desc := "()V" } : Jvm.MethodName)) ∈ lw_all := lw_g (lw_at lw_m1 6 rfl) rfl
theorem q36 : (Jvm.Cond.code ({ cls := "BlockSealer", name := "<init>", desc := "()V" } : Jvm.MethodName) prog_1_method_1_code (1 : Nat) (Option.none : Option Jvm.ClassFile.FieldType)) ∈ lw_all := lw_g (lw_at lw_m1 7 rfl) rfl
theorem q37 : (Jvm.Cond.methodLink "BlockSealer" (1 : Nat) ({ cls := "java/lang/Object", name := "<init>", desc := "()V" } : Jvm.MethodName)) ∈ lw_all := lw_g (lw_at lw_m1 8 rfl) rfl
theorem q40 : (Jvm.Cond.methodLink "BlockSealer" (46 : Nat) ({ cls := "BlockSealer", name := "buildSubstitution", desc := "()V" } : Jvm.MethodName)) ∈ lw_all := lw_g (lw_at lw_m1 11 rfl) rfl
theorem q41 : (Jvm.Cond.privateMethod ({ cls := "BlockSealer", name := "buildSubstitution", desc := "()V" } : Jvm.MethodName)) ∈ lw_tbl := lw_at lw_m1 12 rfl
theorem q42 : (Jvm.Cond.instanceMethod ({ cls := "BlockSealer", name := "buildSubstitution", desc := "()V" } : Jvm.MethodName)) ∈ lw_all := lw_g (lw_at lw_m1 13 rfl) rfl
theorem q43 : (Jvm.Cond.code ({ cls := "BlockSealer", name := "buildSubstitution", desc := "()V" } : Jvm.MethodName) prog_1_method_3_code (4 : Nat) (Option.none : Option Jvm.ClassFile.FieldType)) ∈ lw_all := lw_g (lw_at lw_m1 14 rfl) rfl
theorem q44 : (Jvm.Cond.methodLink "BlockSealer" (59 : Nat) ({ cls := "BlockSealer", name := "setSubstitution", desc := "(II)V" } : Jvm.MethodName)) ∈ lw_all := lw_g (lw_at lw_m1 15 rfl) rfl
theorem q45 : (Jvm.Cond.privateMethod ({ cls := "BlockSealer", name := "setSubstitution", desc := "(II)V" } : Jvm.MethodName)) ∈ lw_tbl := lw_at lw_m1 16 rfl
theorem q46 : (Jvm.Cond.instanceMethod ({ cls := "BlockSealer", name := "setSubstitution", desc := "(II)V" } : Jvm.MethodName)) ∈ lw_all := lw_g (lw_at lw_m1 17 rfl) rfl
theorem q47 : (Jvm.Cond.code ({ cls := "BlockSealer", name := "setSubstitution", desc := "(II)V" } : Jvm.MethodName) prog_1_method_5_code (5 : Nat) (Option.none : Option Jvm.ClassFile.FieldType)) ∈ lw_all := lw_g (lw_at lw_m1 18 rfl) rfl
theorem q48 : (Jvm.Cond.methodLink "BlockSealer" (63 : Nat) ({ cls := "BlockSealer", name := "twice", desc := "(I)I" } : Jvm.MethodName)) ∈ lw_all := lw_g (lw_at lw_m1 19 rfl) rfl
theorem q49 : (Jvm.Cond.static ({ cls := "BlockSealer", name := "twice", desc := "(I)I" } : Jvm.MethodName)) ∈ lw_all := lw_g (lw_at lw_m1 20 rfl) rfl
theorem q50 : (Jvm.Cond.code ({ cls := "BlockSealer", name := "twice", desc := "(I)I" } : Jvm.MethodName) prog_1_method_2_code (1 : Nat) (Option.some Jvm.ClassFile.FieldType.int)) ∈ lw_all := lw_g (lw_at lw_m1 21 rfl) rfl
theorem q51 : (Jvm.Cond.methodLink "BlockSealer" (67 : Nat) ({ cls := "BlockSealer", name := "timesInverseOfThree", desc := "(I)I" } : Jvm.MethodName)) ∈ lw_all := lw_g (lw_at lw_m1 22 rfl) rfl
theorem q52 : (Jvm.Cond.static ({ cls := "BlockSealer", name := "timesInverseOfThree", desc := "(I)I" } : Jvm.MethodName)) ∈ lw_all := lw_g (lw_at lw_m1 23 rfl) rfl
theorem q53 : (Jvm.Cond.code ({ cls := "BlockSealer", name := "timesInverseOfThree", desc := "(I)I" } : Jvm.MethodName) prog_1_method_4_code (8 : Nat) (Option.some Jvm.ClassFile.FieldType.int)) ∈ lw_all := lw_g (lw_at lw_m1 24 rfl) rfl
theorem q54 : (Jvm.Cond.methodLink "BlockSealer" (49 : Nat) ({ cls := "BlockSealer", name := "buildMixing", desc := "()V" } : Jvm.MethodName)) ∈ lw_all := lw_g (lw_at lw_m1 25 rfl) rfl
theorem q55 : (Jvm.Cond.privateMethod ({ cls := "BlockSealer", name := "buildMixing", desc := "()V" } : Jvm.MethodName)) ∈ lw_tbl := lw_at lw_m1 26 rfl
theorem q56 : (Jvm.Cond.instanceMethod ({ cls := "BlockSealer", name := "buildMixing", desc := "()V" } : Jvm.MethodName)) ∈ lw_all := lw_g (lw_at lw_m1 27 rfl) rfl
theorem q57 : (Jvm.Cond.code ({ cls := "BlockSealer", name := "buildMixing", desc := "()V" } : Jvm.MethodName) prog_1_method_6_code (8 : Nat) (Option.none : Option Jvm.ClassFile.FieldType)) ∈ lw_all := lw_g (lw_at lw_m1 28 rfl) rfl
theorem q58 : (Jvm.Cond.methodLink "BlockSealer" (52 : Nat) ({ cls := "BlockSealer", name := "buildFallen", desc := "()V" } : Jvm.MethodName)) ∈ lw_all := lw_g (lw_at lw_m1 29 rfl) rfl
theorem q59 : (Jvm.Cond.privateMethod ({ cls := "BlockSealer", name := "buildFallen", desc := "()V" } : Jvm.MethodName)) ∈ lw_tbl := lw_at lw_m1 30 rfl
theorem q60 : (Jvm.Cond.instanceMethod ({ cls := "BlockSealer", name := "buildFallen", desc := "()V" } : Jvm.MethodName)) ∈ lw_all := lw_g (lw_at lw_m1 31 rfl) rfl
theorem q61 : (Jvm.Cond.code ({ cls := "BlockSealer", name := "buildFallen", desc := "()V" } : Jvm.MethodName) prog_1_method_7_code (4 : Nat) (Option.none : Option Jvm.ClassFile.FieldType)) ∈ lw_all := lw_g (lw_at lw_m1 32 rfl) rfl
theorem q62 : (Jvm.Cond.constant "BlockSealer" (70 : Nat) (-520093696 : Int32)) ∈ lw_all := lw_g (lw_at lw_m1 33 rfl) rfl
theorem q63 : (Jvm.Cond.methodLink "BlockSealer" (55 : Nat) ({ cls := "BlockSealer", name := "key", desc := "(IIII)V" } : Jvm.MethodName)) ∈ lw_all := lw_g (lw_at lw_m1 34 rfl) rfl
theorem q64 : (Jvm.Cond.instanceMethod ({ cls := "BlockSealer", name := "key", desc := "(IIII)V" } : Jvm.MethodName)) ∈ lw_all := lw_g (lw_at lw_m1 35 rfl) rfl
theorem q65 : (Jvm.Cond.selects "BlockSealer" ({ cls := "BlockSealer", name := "key", desc := "(IIII)V" } : Jvm.MethodName) ({ cls := "BlockSealer", name := "key", desc := "(IIII)V" } : Jvm.MethodName)) ∈ lw_all := lw_g (lw_at lw_m1 36 rfl) rfl
theorem q66 : (Jvm.Cond.code ({ cls := "BlockSealer", name := "key", desc := "(IIII)V" } : Jvm.MethodName) prog_1_method_8_code (9 : Nat) (Option.none : Option Jvm.ClassFile.FieldType)) ∈ lw_all := lw_g (lw_at lw_m1 37 rfl) rfl
theorem q67 : (Jvm.Cond.methodLink "BlockSealer" (71 : Nat) ({ cls := "BlockSealer", name := "substituteWord", desc := "(I)I" } : Jvm.MethodName)) ∈ lw_all := lw_g (lw_at lw_m1 38 rfl) rfl
theorem q68 : (Jvm.Cond.privateMethod ({ cls := "BlockSealer", name := "substituteWord", desc := "(I)I" } : Jvm.MethodName)) ∈ lw_tbl := lw_at lw_m1 39 rfl
theorem q69 : (Jvm.Cond.instanceMethod ({ cls := "BlockSealer", name := "substituteWord", desc := "(I)I" } : Jvm.MethodName)) ∈ lw_all := lw_g (lw_at lw_m1 40 rfl) rfl
theorem q70 : (Jvm.Cond.code ({ cls := "BlockSealer", name := "substituteWord", desc := "(I)I" } : Jvm.MethodName) prog_1_method_21_code (3 : Nat) (Option.some Jvm.ClassFile.FieldType.int)) ∈ lw_all := lw_g (lw_at lw_m1 41 rfl) rfl
theorem q71 : (Jvm.Cond.methodLink "BlockSealer" (74 : Nat) ({ cls := "BlockSealer", name := "turnMixing", desc := "(I)I" } : Jvm.MethodName)) ∈ lw_all := lw_g (lw_at lw_m1 42 rfl) rfl
theorem q72 : (Jvm.Cond.privateMethod ({ cls := "BlockSealer", name := "turnMixing", desc := "(I)I" } : Jvm.MethodName)) ∈ lw_tbl := lw_at lw_m1 43 rfl
theorem q73 : (Jvm.Cond.instanceMethod ({ cls := "BlockSealer", name := "turnMixing", desc := "(I)I" } : Jvm.MethodName)) ∈ lw_all := lw_g (lw_at lw_m1 44 rfl) rfl
theorem q74 : (Jvm.Cond.code ({ cls := "BlockSealer", name := "turnMixing", desc := "(I)I" } : Jvm.MethodName) prog_1_method_28_code (6 : Nat) (Option.some Jvm.ClassFile.FieldType.int)) ∈ lw_all := lw_g (lw_at lw_m1 45 rfl) rfl
theorem q75 : (Jvm.Cond.methodLink "BlockSealer" (101 : Nat) ({ cls := "BlockSealer", name := "turnRight", desc := "(II)I" } : Jvm.MethodName)) ∈ lw_all := lw_g (lw_at lw_m1 46 rfl) rfl
theorem q76 : (Jvm.Cond.static ({ cls := "BlockSealer", name := "turnRight", desc := "(II)I" } : Jvm.MethodName)) ∈ lw_all := lw_g (lw_at lw_m1 47 rfl) rfl
theorem q77 : (Jvm.Cond.code ({ cls := "BlockSealer", name := "turnRight", desc := "(II)I" } : Jvm.MethodName) prog_1_method_22_code (2 : Nat) (Option.some Jvm.ClassFile.FieldType.int)) ∈ lw_all := lw_g (lw_at lw_m1 48 rfl) rfl
theorem q78 : (Jvm.Cond.methodLink "BlockSealer" (77 : Nat) ({ cls := "BlockSealer", name := "buildMultiples", desc := "()V" } : Jvm.MethodName)) ∈ lw_all := lw_g (lw_at lw_m1 49 rfl) rfl
theorem q79 : (Jvm.Cond.privateMethod ({ cls := "BlockSealer", name := "buildMultiples", desc := "()V" } : Jvm.MethodName)) ∈ lw_tbl := lw_at lw_m1 50 rfl
theorem q80 : (Jvm.Cond.instanceMethod ({ cls := "BlockSealer", name := "buildMultiples", desc := "()V" } : Jvm.MethodName)) ∈ lw_all := lw_g (lw_at lw_m1 51 rfl) rfl
theorem q81 : (Jvm.Cond.code ({ cls := "BlockSealer", name := "buildMultiples", desc := "()V" } : Jvm.MethodName) prog_1_method_29_code (4 : Nat) (Option.none : Option Jvm.ClassFile.FieldType)) ∈ lw_all := lw_g (lw_at lw_m1 52 rfl) rfl
theorem q82 : (Jvm.Cond.methodLink "BlockSealer" (83 : Nat) ({ cls := "BlockSealer", name := "runForward", desc := "()V" } : Jvm.MethodName)) ∈ lw_all := lw_g (lw_at lw_m1 53 rfl) rfl
theorem q83 : (Jvm.Cond.privateMethod ({ cls := "BlockSealer", name := "runForward", desc := "()V" } : Jvm.MethodName)) ∈ lw_tbl := lw_at lw_m1 54 rfl
theorem q84 : (Jvm.Cond.instanceMethod ({ cls := "BlockSealer", name := "runForward", desc := "()V" } : Jvm.MethodName)) ∈ lw_all := lw_g (lw_at lw_m1 55 rfl) rfl
theorem q85 : (Jvm.Cond.code ({ cls := "BlockSealer", name := "runForward", desc := "()V" } : Jvm.MethodName) prog_1_method_23_code (4 : Nat) (Option.none : Option Jvm.ClassFile.FieldType)) ∈ lw_all := lw_g (lw_at lw_m1 56 rfl) rfl
theorem q86 : (Jvm.Cond.methodLink "BlockSealer" (95 : Nat) ({ cls := "BlockSealer", name := "forwardColumn", desc := "(I)I" } : Jvm.MethodName)) ∈ lw_all := lw_g (lw_at lw_m1 57 rfl) rfl
theorem q87 : (Jvm.Cond.privateMethod ({ cls := "BlockSealer", name := "forwardColumn", desc := "(I)I" } : Jvm.MethodName)) ∈ lw_tbl := lw_at lw_m1 58 rfl
theorem q88 : (Jvm.Cond.instanceMethod ({ cls := "BlockSealer", name := "forwardColumn", desc := "(I)I" } : Jvm.MethodName)) ∈ lw_all := lw_g (lw_at lw_m1 59 rfl) rfl
theorem q89 : (Jvm.Cond.code ({ cls := "BlockSealer", name := "forwardColumn", desc := "(I)I" } : Jvm.MethodName) prog_1_method_24_code (6 : Nat) (Option.some Jvm.ClassFile.FieldType.int)) ∈ lw_all := lw_g (lw_at lw_m1 60 rfl) rfl
theorem q90 : (Jvm.Cond.methodLink "BlockSealer" (98 : Nat) ({ cls := "BlockSealer", name := "keepFresh", desc := "()V" } : Jvm.MethodName)) ∈ lw_all := lw_g (lw_at lw_m1 61 rfl) rfl
theorem q91 : (Jvm.Cond.privateMethod ({ cls := "BlockSealer", name := "keepFresh", desc := "()V" } : Jvm.MethodName)) ∈ lw_tbl := lw_at lw_m1 62 rfl
theorem q92 : (Jvm.Cond.instanceMethod ({ cls := "BlockSealer", name := "keepFresh", desc := "()V" } : Jvm.MethodName)) ∈ lw_all := lw_g (lw_at lw_m1 63 rfl) rfl
theorem q93 : (Jvm.Cond.code ({ cls := "BlockSealer", name := "keepFresh", desc := "()V" } : Jvm.MethodName) prog_1_method_27_code (2 : Nat) (Option.none : Option Jvm.ClassFile.FieldType)) ∈ lw_all := lw_g (lw_at lw_m1 64 rfl) rfl
theorem q94 : (Jvm.Cond.methodLink "BlockSealer" (108 : Nat) ({ cls := "BlockSealer", name := "moveOne", desc := "()V" } : Jvm.MethodName)) ∈ lw_all := lw_g (lw_at lw_m1 65 rfl) rfl
theorem q95 : (Jvm.Cond.privateMethod ({ cls := "BlockSealer", name := "moveOne", desc := "()V" } : Jvm.MethodName)) ∈ lw_tbl := lw_at lw_m1 66 rfl
theorem q96 : (Jvm.Cond.instanceMethod ({ cls := "BlockSealer", name := "moveOne", desc := "()V" } : Jvm.MethodName)) ∈ lw_all := lw_g (lw_at lw_m1 67 rfl) rfl
theorem q97 : (Jvm.Cond.code ({ cls := "BlockSealer", name := "moveOne", desc := "()V" } : Jvm.MethodName) prog_1_method_30_code (3 : Nat) (Option.none : Option Jvm.ClassFile.FieldType)) ∈ lw_all := lw_g (lw_at lw_m1 68 rfl) rfl
theorem q98 : (Jvm.Cond.fieldLink "BlockSealer" (7 : Nat) "BlockSealer" "substitute" "[I") ∈ lw_all := lw_g (lw_at lw_m1 69 rfl) rfl
theorem q99 : (Jvm.Cond.fieldLink "BlockSealer" (13 : Nat) "BlockSealer" "restore" "[I") ∈ lw_all := lw_g (lw_at lw_m1 70 rfl) rfl
theorem q100 : (Jvm.Cond.fieldLink "BlockSealer" (16 : Nat) "BlockSealer" "forward" "[I") ∈ lw_all := lw_g (lw_at lw_m1 71 rfl) rfl
theorem q101 : (Jvm.Cond.fieldLink "BlockSealer" (19 : Nat) "BlockSealer" "backward" "[I") ∈ lw_all := lw_g (lw_at lw_m1 72 rfl) rfl
theorem q102 : (Jvm.Cond.fieldLink "BlockSealer" (22 : Nat) "BlockSealer" "roundKeys" "[I") ∈ lw_all := lw_g (lw_at lw_m1 73 rfl) rfl
theorem q103 : (Jvm.Cond.fieldLink "BlockSealer" (25 : Nat) "BlockSealer" "turnedKeys" "[I") ∈ lw_all := lw_g (lw_at lw_m1 74 rfl) rfl
theorem q104 : (Jvm.Cond.fieldLink "BlockSealer" (28 : Nat) "BlockSealer" "present" "[I") ∈ lw_all := lw_g (lw_at lw_m1 75 rfl) rfl
theorem q105 : (Jvm.Cond.fieldLink "BlockSealer" (31 : Nat) "BlockSealer" "sum" "[I") ∈ lw_all := lw_g (lw_at lw_m1 76 rfl) rfl
theorem q106 : (Jvm.Cond.fieldLink "BlockSealer" (34 : Nat) "BlockSealer" "state" "[I") ∈ lw_all := lw_g (lw_at lw_m1 77 rfl) rfl
theorem q107 : (Jvm.Cond.fieldLink "BlockSealer" (37 : Nat) "BlockSealer" "fresh" "[I") ∈ lw_all := lw_g (lw_at lw_m1 78 rfl) rfl
theorem q108 : (Jvm.Cond.fieldLink "BlockSealer" (40 : Nat) "BlockSealer" "multiples" "[I") ∈ lw_all := lw_g (lw_at lw_m1 79 rfl) rfl
theorem q109 : (Jvm.Cond.fieldLink "BlockSealer" (43 : Nat) "BlockSealer" "fallen" "[I") ∈ lw_all := lw_g (lw_at lw_m1 80 rfl) rfl
theorem q110 : (Jvm.Cond.laysFinal "BlockSealer" "BlockSealer" "substitute" "[I") ∈ lw_all := lw_g (lw_at lw_m1 81 rfl) rfl
theorem q111 : (Jvm.Cond.soleField "BlockSealer" "substitute") ∈ lw_all := lw_g (lw_at lw_m1 82 rfl) rfl
theorem q112 : (Jvm.Cond.laysFinal "BlockSealer" "BlockSealer" "restore" "[I") ∈ lw_all := lw_g (lw_at lw_m1 83 rfl) rfl
theorem q113 : (Jvm.Cond.soleField "BlockSealer" "restore") ∈ lw_all := lw_g (lw_at lw_m1 84 rfl) rfl
theorem q114 : (Jvm.Cond.laysFinal "BlockSealer" "BlockSealer" "forward" "[I") ∈ lw_all := lw_g (lw_at lw_m1 85 rfl) rfl
theorem q115 : (Jvm.Cond.soleField "BlockSealer" "forward") ∈ lw_all := lw_g (lw_at lw_m1 86 rfl) rfl
theorem q116 : (Jvm.Cond.laysFinal "BlockSealer" "BlockSealer" "backward" "[I") ∈ lw_all := lw_g (lw_at lw_m1 87 rfl) rfl
theorem q117 : (Jvm.Cond.soleField "BlockSealer" "backward") ∈ lw_all := lw_g (lw_at lw_m1 88 rfl) rfl
theorem q118 : (Jvm.Cond.laysFinal "BlockSealer" "BlockSealer" "roundKeys" "[I") ∈ lw_all := lw_g (lw_at lw_m1 89 rfl) rfl
theorem q119 : (Jvm.Cond.soleField "BlockSealer" "roundKeys") ∈ lw_all := lw_g (lw_at lw_m1 90 rfl) rfl
theorem q120 : (Jvm.Cond.laysFinal "BlockSealer" "BlockSealer" "turnedKeys" "[I") ∈ lw_all := lw_g (lw_at lw_m1 91 rfl) rfl
theorem q121 : (Jvm.Cond.soleField "BlockSealer" "turnedKeys") ∈ lw_all := lw_g (lw_at lw_m1 92 rfl) rfl
theorem q122 : (Jvm.Cond.laysFinal "BlockSealer" "BlockSealer" "present" "[I") ∈ lw_all := lw_g (lw_at lw_m1 93 rfl) rfl
theorem q123 : (Jvm.Cond.soleField "BlockSealer" "present") ∈ lw_all := lw_g (lw_at lw_m1 94 rfl) rfl
theorem q124 : (Jvm.Cond.laysFinal "BlockSealer" "BlockSealer" "sum" "[I") ∈ lw_all := lw_g (lw_at lw_m1 95 rfl) rfl
theorem q125 : (Jvm.Cond.soleField "BlockSealer" "sum") ∈ lw_all := lw_g (lw_at lw_m1 96 rfl) rfl
theorem q126 : (Jvm.Cond.laysFinal "BlockSealer" "BlockSealer" "state" "[I") ∈ lw_all := lw_g (lw_at lw_m1 97 rfl) rfl
theorem q127 : (Jvm.Cond.soleField "BlockSealer" "state") ∈ lw_all := lw_g (lw_at lw_m1 98 rfl) rfl
theorem q128 : (Jvm.Cond.laysFinal "BlockSealer" "BlockSealer" "fresh" "[I") ∈ lw_all := lw_g (lw_at lw_m1 99 rfl) rfl
theorem q129 : (Jvm.Cond.soleField "BlockSealer" "fresh") ∈ lw_all := lw_g (lw_at lw_m1 100 rfl) rfl
theorem q130 : (Jvm.Cond.laysFinal "BlockSealer" "BlockSealer" "multiples" "[I") ∈ lw_all := lw_g (lw_at lw_m1 101 rfl) rfl
theorem q131 : (Jvm.Cond.soleField "BlockSealer" "multiples") ∈ lw_all := lw_g (lw_at lw_m1 102 rfl) rfl
theorem q132 : (Jvm.Cond.laysFinal "BlockSealer" "BlockSealer" "fallen" "[I") ∈ lw_all := lw_g (lw_at lw_m1 103 rfl) rfl
theorem q133 : (Jvm.Cond.soleField "BlockSealer" "fallen") ∈ lw_all := lw_g (lw_at lw_m1 104 rfl) rfl
theorem q134 : (Jvm.Cond.superclass "BlockSealer" "java/lang/Object") ∈ lw_all := lw_g (lw_at lw_m1 105 rfl) rfl
theorem q138 : (Jvm.Cond.instanceMethod ({ cls := "BlockSealer", name := "block", desc := "(IIII)V" } : Jvm.MethodName)) ∈ lw_all := lw_g (lw_at lw_m1 109 rfl) rfl
theorem q139 : (Jvm.Cond.selects "BlockSealer" ({ cls := "BlockSealer", name := "block", desc := "(IIII)V" } : Jvm.MethodName) ({ cls := "BlockSealer", name := "block", desc := "(IIII)V" } : Jvm.MethodName)) ∈ lw_all := lw_g (lw_at lw_m1 110 rfl) rfl
theorem q140 : (Jvm.Cond.code ({ cls := "BlockSealer", name := "block", desc := "(IIII)V" } : Jvm.MethodName) prog_1_method_9_code (5 : Nat) (Option.none : Option Jvm.ClassFile.FieldType)) ∈ lw_all := lw_g (lw_at lw_m1 111 rfl) rfl
theorem q142 : (Jvm.Cond.instanceMethod ({ cls := "BlockSealer", name := "mix", desc := "(IIII)V" } : Jvm.MethodName)) ∈ lw_all := lw_g (lw_at lw_m1 113 rfl) rfl
theorem q143 : (Jvm.Cond.selects "BlockSealer" ({ cls := "BlockSealer", name := "mix", desc := "(IIII)V" } : Jvm.MethodName) ({ cls := "BlockSealer", name := "mix", desc := "(IIII)V" } : Jvm.MethodName)) ∈ lw_all := lw_g (lw_at lw_m1 114 rfl) rfl
theorem q144 : (Jvm.Cond.code ({ cls := "BlockSealer", name := "mix", desc := "(IIII)V" } : Jvm.MethodName) prog_1_method_10_code (5 : Nat) (Option.none : Option Jvm.ClassFile.FieldType)) ∈ lw_all := lw_g (lw_at lw_m1 115 rfl) rfl
theorem q146 : (Jvm.Cond.instanceMethod ({ cls := "BlockSealer", name := "encrypt", desc := "()V" } : Jvm.MethodName)) ∈ lw_all := lw_g (lw_at lw_m1 117 rfl) rfl
theorem q147 : (Jvm.Cond.selects "BlockSealer" ({ cls := "BlockSealer", name := "encrypt", desc := "()V" } : Jvm.MethodName) ({ cls := "BlockSealer", name := "encrypt", desc := "()V" } : Jvm.MethodName)) ∈ lw_all := lw_g (lw_at lw_m1 118 rfl) rfl
theorem q148 : (Jvm.Cond.code ({ cls := "BlockSealer", name := "encrypt", desc := "()V" } : Jvm.MethodName) prog_1_method_11_code (1 : Nat) (Option.none : Option Jvm.ClassFile.FieldType)) ∈ lw_all := lw_g (lw_at lw_m1 119 rfl) rfl
theorem q149 : (Jvm.Cond.methodLink "BlockSealer" (80 : Nat) ({ cls := "BlockSealer", name := "takePresent", desc := "()V" } : Jvm.MethodName)) ∈ lw_all := lw_g (lw_at lw_m1 120 rfl) rfl
theorem q150 : (Jvm.Cond.privateMethod ({ cls := "BlockSealer", name := "takePresent", desc := "()V" } : Jvm.MethodName)) ∈ lw_tbl := lw_at lw_m1 121 rfl
theorem q151 : (Jvm.Cond.instanceMethod ({ cls := "BlockSealer", name := "takePresent", desc := "()V" } : Jvm.MethodName)) ∈ lw_all := lw_g (lw_at lw_m1 122 rfl) rfl
theorem q152 : (Jvm.Cond.code ({ cls := "BlockSealer", name := "takePresent", desc := "()V" } : Jvm.MethodName) prog_1_method_19_code (2 : Nat) (Option.none : Option Jvm.ClassFile.FieldType)) ∈ lw_all := lw_g (lw_at lw_m1 123 rfl) rfl
theorem q153 : (Jvm.Cond.methodLink "BlockSealer" (86 : Nat) ({ cls := "BlockSealer", name := "givePresent", desc := "()V" } : Jvm.MethodName)) ∈ lw_all := lw_g (lw_at lw_m1 124 rfl) rfl
theorem q154 : (Jvm.Cond.privateMethod ({ cls := "BlockSealer", name := "givePresent", desc := "()V" } : Jvm.MethodName)) ∈ lw_tbl := lw_at lw_m1 125 rfl
theorem q155 : (Jvm.Cond.instanceMethod ({ cls := "BlockSealer", name := "givePresent", desc := "()V" } : Jvm.MethodName)) ∈ lw_all := lw_g (lw_at lw_m1 126 rfl) rfl
theorem q156 : (Jvm.Cond.code ({ cls := "BlockSealer", name := "givePresent", desc := "()V" } : Jvm.MethodName) prog_1_method_20_code (2 : Nat) (Option.none : Option Jvm.ClassFile.FieldType)) ∈ lw_all := lw_g (lw_at lw_m1 127 rfl) rfl
theorem q158 : (Jvm.Cond.instanceMethod ({ cls := "BlockSealer", name := "decrypt", desc := "()V" } : Jvm.MethodName)) ∈ lw_all := lw_g (lw_at lw_m1 129 rfl) rfl
theorem q159 : (Jvm.Cond.selects "BlockSealer" ({ cls := "BlockSealer", name := "decrypt", desc := "()V" } : Jvm.MethodName) ({ cls := "BlockSealer", name := "decrypt", desc := "()V" } : Jvm.MethodName)) ∈ lw_all := lw_g (lw_at lw_m1 130 rfl) rfl
theorem q160 : (Jvm.Cond.code ({ cls := "BlockSealer", name := "decrypt", desc := "()V" } : Jvm.MethodName) prog_1_method_12_code (1 : Nat) (Option.none : Option Jvm.ClassFile.FieldType)) ∈ lw_all := lw_g (lw_at lw_m1 131 rfl) rfl
theorem q161 : (Jvm.Cond.methodLink "BlockSealer" (89 : Nat) ({ cls := "BlockSealer", name := "runBackward", desc := "()V" } : Jvm.MethodName)) ∈ lw_all := lw_g (lw_at lw_m1 132 rfl) rfl
theorem q162 : (Jvm.Cond.privateMethod ({ cls := "BlockSealer", name := "runBackward", desc := "()V" } : Jvm.MethodName)) ∈ lw_tbl := lw_at lw_m1 133 rfl
theorem q163 : (Jvm.Cond.instanceMethod ({ cls := "BlockSealer", name := "runBackward", desc := "()V" } : Jvm.MethodName)) ∈ lw_all := lw_g (lw_at lw_m1 134 rfl) rfl
theorem q164 : (Jvm.Cond.code ({ cls := "BlockSealer", name := "runBackward", desc := "()V" } : Jvm.MethodName) prog_1_method_25_code (4 : Nat) (Option.none : Option Jvm.ClassFile.FieldType)) ∈ lw_all := lw_g (lw_at lw_m1 135 rfl) rfl
theorem q165 : (Jvm.Cond.methodLink "BlockSealer" (105 : Nat) ({ cls := "BlockSealer", name := "backwardColumn", desc := "(I)I" } : Jvm.MethodName)) ∈ lw_all := lw_g (lw_at lw_m1 136 rfl) rfl
theorem q166 : (Jvm.Cond.privateMethod ({ cls := "BlockSealer", name := "backwardColumn", desc := "(I)I" } : Jvm.MethodName)) ∈ lw_tbl := lw_at lw_m1 137 rfl
theorem q167 : (Jvm.Cond.instanceMethod ({ cls := "BlockSealer", name := "backwardColumn", desc := "(I)I" } : Jvm.MethodName)) ∈ lw_all := lw_g (lw_at lw_m1 138 rfl) rfl
theorem q168 : (Jvm.Cond.code ({ cls := "BlockSealer", name := "backwardColumn", desc := "(I)I" } : Jvm.MethodName) prog_1_method_26_code (6 : Nat) (Option.some Jvm.ClassFile.FieldType.int)) ∈ lw_all := lw_g (lw_at lw_m1 139 rfl) rfl
theorem q170 : (Jvm.Cond.instanceMethod ({ cls := "BlockSealer", name := "next", desc := "()V" } : Jvm.MethodName)) ∈ lw_all := lw_g (lw_at lw_m1 141 rfl) rfl
theorem q171 : (Jvm.Cond.selects "BlockSealer" ({ cls := "BlockSealer", name := "next", desc := "()V" } : Jvm.MethodName) ({ cls := "BlockSealer", name := "next", desc := "()V" } : Jvm.MethodName)) ∈ lw_all := lw_g (lw_at lw_m1 142 rfl) rfl
theorem q172 : (Jvm.Cond.code ({ cls := "BlockSealer", name := "next", desc := "()V" } : Jvm.MethodName) prog_1_method_13_code (1 : Nat) (Option.none : Option Jvm.ClassFile.FieldType)) ∈ lw_all := lw_g (lw_at lw_m1 143 rfl) rfl
theorem q174 : (Jvm.Cond.instanceMethod ({ cls := "BlockSealer", name := "word", desc := "(I)I" } : Jvm.MethodName)) ∈ lw_all := lw_g (lw_at lw_m1 145 rfl) rfl
theorem q175 : (Jvm.Cond.selects "BlockSealer" ({ cls := "BlockSealer", name := "word", desc := "(I)I" } : Jvm.MethodName) ({ cls := "BlockSealer", name := "word", desc := "(I)I" } : Jvm.MethodName)) ∈ lw_all := lw_g (lw_at lw_m1 146 rfl) rfl
theorem q176 : (Jvm.Cond.code ({ cls := "BlockSealer", name := "word", desc := "(I)I" } : Jvm.MethodName) prog_1_method_14_code (2 : Nat) (Option.some Jvm.ClassFile.FieldType.int)) ∈ lw_all := lw_g (lw_at lw_m1 147 rfl) rfl
theorem q178 : (Jvm.Cond.instanceMethod ({ cls := "BlockSealer", name := "absorb", desc := "()V" } : Jvm.MethodName)) ∈ lw_all := lw_g (lw_at lw_m1 149 rfl) rfl
theorem q179 : (Jvm.Cond.selects "BlockSealer" ({ cls := "BlockSealer", name := "absorb", desc := "()V" } : Jvm.MethodName) ({ cls := "BlockSealer", name := "absorb", desc := "()V" } : Jvm.MethodName)) ∈ lw_all := lw_g (lw_at lw_m1 150 rfl) rfl
theorem q180 : (Jvm.Cond.code ({ cls := "BlockSealer", name := "absorb", desc := "()V" } : Jvm.MethodName) prog_1_method_15_code (4 : Nat) (Option.none : Option Jvm.ClassFile.FieldType)) ∈ lw_all := lw_g (lw_at lw_m1 151 rfl) rfl
theorem q181 : (Jvm.Cond.methodLink "BlockSealer" (92 : Nat) ({ cls := "BlockSealer", name := "moveSum", desc := "()V" } : Jvm.MethodName)) ∈ lw_all := lw_g (lw_at lw_m1 152 rfl) rfl
theorem q182 : (Jvm.Cond.privateMethod ({ cls := "BlockSealer", name := "moveSum", desc := "()V" } : Jvm.MethodName)) ∈ lw_tbl := lw_at lw_m1 153 rfl
theorem q183 : (Jvm.Cond.instanceMethod ({ cls := "BlockSealer", name := "moveSum", desc := "()V" } : Jvm.MethodName)) ∈ lw_all := lw_g (lw_at lw_m1 154 rfl) rfl
theorem q184 : (Jvm.Cond.code ({ cls := "BlockSealer", name := "moveSum", desc := "()V" } : Jvm.MethodName) prog_1_method_31_code (3 : Nat) (Option.none : Option Jvm.ClassFile.FieldType)) ∈ lw_all := lw_g (lw_at lw_m1 155 rfl) rfl
theorem q186 : (Jvm.Cond.instanceMethod ({ cls := "BlockSealer", name := "restart", desc := "()V" } : Jvm.MethodName)) ∈ lw_all := lw_g (lw_at lw_m1 157 rfl) rfl
theorem q187 : (Jvm.Cond.selects "BlockSealer" ({ cls := "BlockSealer", name := "restart", desc := "()V" } : Jvm.MethodName) ({ cls := "BlockSealer", name := "restart", desc := "()V" } : Jvm.MethodName)) ∈ lw_all := lw_g (lw_at lw_m1 158 rfl) rfl
theorem q188 : (Jvm.Cond.code ({ cls := "BlockSealer", name := "restart", desc := "()V" } : Jvm.MethodName) prog_1_method_16_code (2 : Nat) (Option.none : Option Jvm.ClassFile.FieldType)) ∈ lw_all := lw_g (lw_at lw_m1 159 rfl) rfl
theorem q190 : (Jvm.Cond.instanceMethod ({ cls := "BlockSealer", name := "hash", desc := "(I)I" } : Jvm.MethodName)) ∈ lw_all := lw_g (lw_at lw_m1 161 rfl) rfl
theorem q191 : (Jvm.Cond.selects "BlockSealer" ({ cls := "BlockSealer", name := "hash", desc := "(I)I" } : Jvm.MethodName) ({ cls := "BlockSealer", name := "hash", desc := "(I)I" } : Jvm.MethodName)) ∈ lw_all := lw_g (lw_at lw_m1 162 rfl) rfl
theorem q192 : (Jvm.Cond.code ({ cls := "BlockSealer", name := "hash", desc := "(I)I" } : Jvm.MethodName) prog_1_method_17_code (2 : Nat) (Option.some Jvm.ClassFile.FieldType.int)) ∈ lw_all := lw_g (lw_at lw_m1 163 rfl) rfl
theorem q194 : (Jvm.Cond.instanceMethod ({ cls := "BlockSealer", name := "roundKey", desc := "(II)I" } : Jvm.MethodName)) ∈ lw_all := lw_g (lw_at lw_m1 165 rfl) rfl
theorem q195 : (Jvm.Cond.selects "BlockSealer" ({ cls := "BlockSealer", name := "roundKey", desc := "(II)I" } : Jvm.MethodName) ({ cls := "BlockSealer", name := "roundKey", desc := "(II)I" } : Jvm.MethodName)) ∈ lw_all := lw_g (lw_at lw_m1 166 rfl) rfl
theorem q196 : (Jvm.Cond.code ({ cls := "BlockSealer", name := "roundKey", desc := "(II)I" } : Jvm.MethodName) prog_1_method_18_code (4 : Nat) (Option.some Jvm.ClassFile.FieldType.int)) ∈ lw_all := lw_g (lw_at lw_m1 167 rfl) rfl
theorem in_X0 : ∀ w ∈ wsX00, w ∈ lw_all := lw_in wsX00 [110, 112, 114, 116, 118, 120, 122, 124, 126, 128, 130, 132] (by decide +kernel) (by decide +kernel)
theorem q31 : (Jvm.Cond.initialized "BlockSealerModel") ∈ lw_all := lw_g (lw_at lw_m1 2 rfl) rfl
theorem q198 : (Jvm.Cond.instantiable "BlockSealerModel" (9 : Nat)) ∈ lw_all := lw_g (lw_at lw_m1 169 rfl) rfl
theorem q200 : (Jvm.Cond.instanceMethod ({ cls := "BlockSealerModel", name := "<init>", desc := "()V" } : Jvm.MethodName)) ∈ lw_all := lw_g (lw_at lw_m1 171 rfl) rfl
theorem q201 : (Jvm.Cond.code ({ cls := "BlockSealerModel", name := "<init>", desc := "()V" } : Jvm.MethodName) prog_3_method_1_code (3 : Nat) (Option.none : Option Jvm.ClassFile.FieldType)) ∈ lw_all := lw_g (lw_at lw_m1 172 rfl) rfl
theorem q202 : (Jvm.Cond.methodLink "BlockSealerModel" (1 : Nat) ({ cls := "java/lang/Object", name := "<init>", desc := "()V" } : Jvm.MethodName)) ∈ lw_all := lw_g (lw_at lw_m1 173 rfl) rfl
theorem q203 : (Jvm.Cond.methodLink "BlockSealerModel" (37 : Nat) ({ cls := "BlockSealerModel", name := "inverse", desc := "(I)I" } : Jvm.MethodName)) ∈ lw_all := lw_g (lw_at lw_m1 174 rfl) rfl
theorem q204 : (Jvm.Cond.static ({ cls := "BlockSealerModel", name := "inverse", desc := "(I)I" } : Jvm.MethodName)) ∈ lw_all := lw_g (lw_at lw_m1 175 rfl) rfl
theorem q205 : (Jvm.Cond.code ({ cls := "BlockSealerModel", name := "inverse", desc := "(I)I" } : Jvm.MethodName) prog_3_method_4_code (2 : Nat) (Option.some Jvm.ClassFile.FieldType.int)) ∈ lw_all := lw_g (lw_at lw_m1 176 rfl) rfl
theorem q206 : (Jvm.Cond.methodLink "BlockSealerModel" (51 : Nat) ({ cls := "BlockSealerModel", name := "times", desc := "(II)I" } : Jvm.MethodName)) ∈ lw_all := lw_g (lw_at lw_m1 177 rfl) rfl
theorem q207 : (Jvm.Cond.static ({ cls := "BlockSealerModel", name := "times", desc := "(II)I" } : Jvm.MethodName)) ∈ lw_all := lw_g (lw_at lw_m1 178 rfl) rfl
theorem q208 : (Jvm.Cond.code ({ cls := "BlockSealerModel", name := "times", desc := "(II)I" } : Jvm.MethodName) prog_3_method_3_code (5 : Nat) (Option.some Jvm.ClassFile.FieldType.int)) ∈ lw_all := lw_g (lw_at lw_m1 179 rfl) rfl
theorem q209 : (Jvm.Cond.methodLink "BlockSealerModel" (48 : Nat) ({ cls := "BlockSealerModel", name := "twice", desc := "(I)I" } : Jvm.MethodName)) ∈ lw_all := lw_g (lw_at lw_m1 180 rfl) rfl
theorem q210 : (Jvm.Cond.static ({ cls := "BlockSealerModel", name := "twice", desc := "(I)I" } : Jvm.MethodName)) ∈ lw_all := lw_g (lw_at lw_m1 181 rfl) rfl
theorem q211 : (Jvm.Cond.code ({ cls := "BlockSealerModel", name := "twice", desc := "(I)I" } : Jvm.MethodName) prog_3_method_2_code (1 : Nat) (Option.some Jvm.ClassFile.FieldType.int)) ∈ lw_all := lw_g (lw_at lw_m1 182 rfl) rfl
theorem q212 : (Jvm.Cond.methodLink "BlockSealerModel" (41 : Nat) ({ cls := "BlockSealerModel", name := "spread", desc := "(I)I" } : Jvm.MethodName)) ∈ lw_all := lw_g (lw_at lw_m1 183 rfl) rfl
theorem q213 : (Jvm.Cond.static ({ cls := "BlockSealerModel", name := "spread", desc := "(I)I" } : Jvm.MethodName)) ∈ lw_all := lw_g (lw_at lw_m1 184 rfl) rfl
theorem q214 : (Jvm.Cond.code ({ cls := "BlockSealerModel", name := "spread", desc := "(I)I" } : Jvm.MethodName) prog_3_method_5_code (4 : Nat) (Option.some Jvm.ClassFile.FieldType.int)) ∈ lw_all := lw_g (lw_at lw_m1 185 rfl) rfl
theorem q215 : (Jvm.Cond.methodLink "BlockSealerModel" (44 : Nat) ({ cls := "BlockSealerModel", name := "key", desc := "(IIII)V" } : Jvm.MethodName)) ∈ lw_all := lw_g (lw_at lw_m1 186 rfl) rfl
theorem q216 : (Jvm.Cond.instanceMethod ({ cls := "BlockSealerModel", name := "key", desc := "(IIII)V" } : Jvm.MethodName)) ∈ lw_all := lw_g (lw_at lw_m1 187 rfl) rfl
theorem q217 : (Jvm.Cond.selects "BlockSealerModel" ({ cls := "BlockSealerModel", name := "key", desc := "(IIII)V" } : Jvm.MethodName) ({ cls := "BlockSealerModel", name := "key", desc := "(IIII)V" } : Jvm.MethodName)) ∈ lw_all := lw_g (lw_at lw_m1 188 rfl) rfl
theorem q218 : (Jvm.Cond.code ({ cls := "BlockSealerModel", name := "key", desc := "(IIII)V" } : Jvm.MethodName) prog_3_method_8_code (9 : Nat) (Option.none : Option Jvm.ClassFile.FieldType)) ∈ lw_all := lw_g (lw_at lw_m1 189 rfl) rfl
theorem q219 : (Jvm.Cond.methodLink "BlockSealerModel" (58 : Nat) ({ cls := "BlockSealerModel", name := "substituted", desc := "(I)I" } : Jvm.MethodName)) ∈ lw_all := lw_g (lw_at lw_m1 190 rfl) rfl
theorem q220 : (Jvm.Cond.privateMethod ({ cls := "BlockSealerModel", name := "substituted", desc := "(I)I" } : Jvm.MethodName)) ∈ lw_tbl := lw_at lw_m1 191 rfl
theorem q221 : (Jvm.Cond.instanceMethod ({ cls := "BlockSealerModel", name := "substituted", desc := "(I)I" } : Jvm.MethodName)) ∈ lw_all := lw_g (lw_at lw_m1 192 rfl) rfl
theorem q222 : (Jvm.Cond.code ({ cls := "BlockSealerModel", name := "substituted", desc := "(I)I" } : Jvm.MethodName) prog_3_method_7_code (4 : Nat) (Option.some Jvm.ClassFile.FieldType.int)) ∈ lw_all := lw_g (lw_at lw_m1 193 rfl) rfl
theorem q223 : (Jvm.Cond.methodLink "BlockSealerModel" (55 : Nat) ({ cls := "BlockSealerModel", name := "byteOf", desc := "(II)I" } : Jvm.MethodName)) ∈ lw_all := lw_g (lw_at lw_m1 194 rfl) rfl
theorem q224 : (Jvm.Cond.static ({ cls := "BlockSealerModel", name := "byteOf", desc := "(II)I" } : Jvm.MethodName)) ∈ lw_all := lw_g (lw_at lw_m1 195 rfl) rfl
theorem q225 : (Jvm.Cond.code ({ cls := "BlockSealerModel", name := "byteOf", desc := "(II)I" } : Jvm.MethodName) prog_3_method_6_code (2 : Nat) (Option.some Jvm.ClassFile.FieldType.int)) ∈ lw_all := lw_g (lw_at lw_m1 196 rfl) rfl
theorem q226 : (Jvm.Cond.fieldLink "BlockSealerModel" (7 : Nat) "BlockSealerModel" "substitute" "[I") ∈ lw_all := lw_g (lw_at lw_m1 197 rfl) rfl
theorem q227 : (Jvm.Cond.fieldLink "BlockSealerModel" (13 : Nat) "BlockSealerModel" "keys" "[I") ∈ lw_all := lw_g (lw_at lw_m1 198 rfl) rfl
theorem q228 : (Jvm.Cond.fieldLink "BlockSealerModel" (16 : Nat) "BlockSealerModel" "present" "[I") ∈ lw_all := lw_g (lw_at lw_m1 199 rfl) rfl
theorem q229 : (Jvm.Cond.fieldLink "BlockSealerModel" (19 : Nat) "BlockSealerModel" "hashed" "[I") ∈ lw_all := lw_g (lw_at lw_m1 200 rfl) rfl
theorem q230 : (Jvm.Cond.fieldLink "BlockSealerModel" (22 : Nat) "BlockSealerModel" "square" "[I") ∈ lw_all := lw_g (lw_at lw_m1 201 rfl) rfl
theorem q231 : (Jvm.Cond.fieldLink "BlockSealerModel" (25 : Nat) "BlockSealerModel" "shifted" "[I") ∈ lw_all := lw_g (lw_at lw_m1 202 rfl) rfl
theorem q232 : (Jvm.Cond.fieldLink "BlockSealerModel" (28 : Nat) "BlockSealerModel" "sealed" "[I") ∈ lw_all := lw_g (lw_at lw_m1 203 rfl) rfl
theorem q233 : (Jvm.Cond.fieldLink "BlockSealerModel" (31 : Nat) "BlockSealerModel" "moved" "[I") ∈ lw_all := lw_g (lw_at lw_m1 204 rfl) rfl
theorem q234 : (Jvm.Cond.fieldLink "BlockSealerModel" (34 : Nat) "BlockSealerModel" "product" "[I") ∈ lw_all := lw_g (lw_at lw_m1 205 rfl) rfl
theorem q235 : (Jvm.Cond.laysFinal "BlockSealerModel" "BlockSealerModel" "substitute" "[I") ∈ lw_all := lw_g (lw_at lw_m1 206 rfl) rfl
theorem q236 : (Jvm.Cond.soleField "BlockSealerModel" "substitute") ∈ lw_all := lw_g (lw_at lw_m1 207 rfl) rfl
theorem q237 : (Jvm.Cond.laysFinal "BlockSealerModel" "BlockSealerModel" "keys" "[I") ∈ lw_all := lw_g (lw_at lw_m1 208 rfl) rfl
theorem q238 : (Jvm.Cond.soleField "BlockSealerModel" "keys") ∈ lw_all := lw_g (lw_at lw_m1 209 rfl) rfl
theorem q239 : (Jvm.Cond.laysFinal "BlockSealerModel" "BlockSealerModel" "present" "[I") ∈ lw_all := lw_g (lw_at lw_m1 210 rfl) rfl
theorem q240 : (Jvm.Cond.soleField "BlockSealerModel" "present") ∈ lw_all := lw_g (lw_at lw_m1 211 rfl) rfl
theorem q241 : (Jvm.Cond.laysFinal "BlockSealerModel" "BlockSealerModel" "hashed" "[I") ∈ lw_all := lw_g (lw_at lw_m1 212 rfl) rfl
theorem q242 : (Jvm.Cond.soleField "BlockSealerModel" "hashed") ∈ lw_all := lw_g (lw_at lw_m1 213 rfl) rfl
theorem q243 : (Jvm.Cond.laysFinal "BlockSealerModel" "BlockSealerModel" "square" "[I") ∈ lw_all := lw_g (lw_at lw_m1 214 rfl) rfl
theorem q244 : (Jvm.Cond.soleField "BlockSealerModel" "square") ∈ lw_all := lw_g (lw_at lw_m1 215 rfl) rfl
theorem q245 : (Jvm.Cond.laysFinal "BlockSealerModel" "BlockSealerModel" "shifted" "[I") ∈ lw_all := lw_g (lw_at lw_m1 216 rfl) rfl
theorem q246 : (Jvm.Cond.soleField "BlockSealerModel" "shifted") ∈ lw_all := lw_g (lw_at lw_m1 217 rfl) rfl
theorem q247 : (Jvm.Cond.laysFinal "BlockSealerModel" "BlockSealerModel" "sealed" "[I") ∈ lw_all := lw_g (lw_at lw_m1 218 rfl) rfl
theorem q248 : (Jvm.Cond.soleField "BlockSealerModel" "sealed") ∈ lw_all := lw_g (lw_at lw_m1 219 rfl) rfl
theorem q249 : (Jvm.Cond.laysFinal "BlockSealerModel" "BlockSealerModel" "moved" "[I") ∈ lw_all := lw_g (lw_at lw_m1 220 rfl) rfl
theorem q250 : (Jvm.Cond.soleField "BlockSealerModel" "moved") ∈ lw_all := lw_g (lw_at lw_m1 221 rfl) rfl
theorem q251 : (Jvm.Cond.laysFinal "BlockSealerModel" "BlockSealerModel" "product" "[I") ∈ lw_all := lw_g (lw_at lw_m1 222 rfl) rfl
theorem q252 : (Jvm.Cond.soleField "BlockSealerModel" "product") ∈ lw_all := lw_g (lw_at lw_m1 223 rfl) rfl
theorem q253 : (Jvm.Cond.superclass "BlockSealerModel" "java/lang/Object") ∈ lw_all := lw_g (lw_at lw_m1 224 rfl) rfl
theorem q256 : (Jvm.Cond.instanceMethod ({ cls := "BlockSealerModel", name := "block", desc := "(IIII)V" } : Jvm.MethodName)) ∈ lw_all := lw_g (lw_at lw_m1 227 rfl) rfl
theorem q257 : (Jvm.Cond.selects "BlockSealerModel" ({ cls := "BlockSealerModel", name := "block", desc := "(IIII)V" } : Jvm.MethodName) ({ cls := "BlockSealerModel", name := "block", desc := "(IIII)V" } : Jvm.MethodName)) ∈ lw_all := lw_g (lw_at lw_m1 228 rfl) rfl
theorem q258 : (Jvm.Cond.code ({ cls := "BlockSealerModel", name := "block", desc := "(IIII)V" } : Jvm.MethodName) prog_3_method_9_code (5 : Nat) (Option.none : Option Jvm.ClassFile.FieldType)) ∈ lw_all := lw_g (lw_at lw_m1 229 rfl) rfl
theorem q260 : (Jvm.Cond.instanceMethod ({ cls := "BlockSealerModel", name := "mix", desc := "(IIII)V" } : Jvm.MethodName)) ∈ lw_all := lw_g (lw_at lw_m1 231 rfl) rfl
theorem q261 : (Jvm.Cond.selects "BlockSealerModel" ({ cls := "BlockSealerModel", name := "mix", desc := "(IIII)V" } : Jvm.MethodName) ({ cls := "BlockSealerModel", name := "mix", desc := "(IIII)V" } : Jvm.MethodName)) ∈ lw_all := lw_g (lw_at lw_m1 232 rfl) rfl
theorem q262 : (Jvm.Cond.code ({ cls := "BlockSealerModel", name := "mix", desc := "(IIII)V" } : Jvm.MethodName) prog_3_method_10_code (5 : Nat) (Option.none : Option Jvm.ClassFile.FieldType)) ∈ lw_all := lw_g (lw_at lw_m1 233 rfl) rfl
theorem q263 : (Jvm.Cond.methodLink "BlockSealerModel" (61 : Nat) ({ cls := "BlockSealerModel", name := "block", desc := "(IIII)V" } : Jvm.MethodName)) ∈ lw_all := lw_g (lw_at lw_m1 234 rfl) rfl
theorem q265 : (Jvm.Cond.instanceMethod ({ cls := "BlockSealerModel", name := "encrypt", desc := "()V" } : Jvm.MethodName)) ∈ lw_all := lw_g (lw_at lw_m1 236 rfl) rfl
theorem q266 : (Jvm.Cond.selects "BlockSealerModel" ({ cls := "BlockSealerModel", name := "encrypt", desc := "()V" } : Jvm.MethodName) ({ cls := "BlockSealerModel", name := "encrypt", desc := "()V" } : Jvm.MethodName)) ∈ lw_all := lw_g (lw_at lw_m1 237 rfl) rfl
theorem q267 : (Jvm.Cond.code ({ cls := "BlockSealerModel", name := "encrypt", desc := "()V" } : Jvm.MethodName) prog_3_method_22_code (2 : Nat) (Option.none : Option Jvm.ClassFile.FieldType)) ∈ lw_all := lw_g (lw_at lw_m1 238 rfl) rfl
theorem q268 : (Jvm.Cond.methodLink "BlockSealerModel" (86 : Nat) ({ cls := "BlockSealerModel", name := "lay", desc := "(IIII)V" } : Jvm.MethodName)) ∈ lw_all := lw_g (lw_at lw_m1 239 rfl) rfl
theorem q269 : (Jvm.Cond.privateMethod ({ cls := "BlockSealerModel", name := "lay", desc := "(IIII)V" } : Jvm.MethodName)) ∈ lw_tbl := lw_at lw_m2 0 rfl
theorem q270 : (Jvm.Cond.instanceMethod ({ cls := "BlockSealerModel", name := "lay", desc := "(IIII)V" } : Jvm.MethodName)) ∈ lw_all := lw_g (lw_at lw_m2 1 rfl) rfl
theorem q271 : (Jvm.Cond.code ({ cls := "BlockSealerModel", name := "lay", desc := "(IIII)V" } : Jvm.MethodName) prog_3_method_18_code (6 : Nat) (Option.none : Option Jvm.ClassFile.FieldType)) ∈ lw_all := lw_g (lw_at lw_m2 2 rfl) rfl
theorem q272 : (Jvm.Cond.methodLink "BlockSealerModel" (89 : Nat) ({ cls := "BlockSealerModel", name := "rounds", desc := "()V" } : Jvm.MethodName)) ∈ lw_all := lw_g (lw_at lw_m2 3 rfl) rfl
theorem q273 : (Jvm.Cond.privateMethod ({ cls := "BlockSealerModel", name := "rounds", desc := "()V" } : Jvm.MethodName)) ∈ lw_tbl := lw_at lw_m2 4 rfl
theorem q274 : (Jvm.Cond.instanceMethod ({ cls := "BlockSealerModel", name := "rounds", desc := "()V" } : Jvm.MethodName)) ∈ lw_all := lw_g (lw_at lw_m2 5 rfl) rfl
theorem q275 : (Jvm.Cond.code ({ cls := "BlockSealerModel", name := "rounds", desc := "()V" } : Jvm.MethodName) prog_3_method_20_code (2 : Nat) (Option.none : Option Jvm.ClassFile.FieldType)) ∈ lw_all := lw_g (lw_at lw_m2 6 rfl) rfl
theorem q276 : (Jvm.Cond.methodLink "BlockSealerModel" (70 : Nat) ({ cls := "BlockSealerModel", name := "addKey", desc := "(I)V" } : Jvm.MethodName)) ∈ lw_all := lw_g (lw_at lw_m2 7 rfl) rfl
theorem q277 : (Jvm.Cond.privateMethod ({ cls := "BlockSealerModel", name := "addKey", desc := "(I)V" } : Jvm.MethodName)) ∈ lw_tbl := lw_at lw_m2 8 rfl
theorem q278 : (Jvm.Cond.instanceMethod ({ cls := "BlockSealerModel", name := "addKey", desc := "(I)V" } : Jvm.MethodName)) ∈ lw_all := lw_g (lw_at lw_m2 9 rfl) rfl
theorem q279 : (Jvm.Cond.code ({ cls := "BlockSealerModel", name := "addKey", desc := "(I)V" } : Jvm.MethodName) prog_3_method_11_code (3 : Nat) (Option.none : Option Jvm.ClassFile.FieldType)) ∈ lw_all := lw_g (lw_at lw_m2 10 rfl) rfl
theorem q280 : (Jvm.Cond.methodLink "BlockSealerModel" (74 : Nat) ({ cls := "BlockSealerModel", name := "replaceAll", desc := "()V" } : Jvm.MethodName)) ∈ lw_all := lw_g (lw_at lw_m2 11 rfl) rfl
theorem q281 : (Jvm.Cond.privateMethod ({ cls := "BlockSealerModel", name := "replaceAll", desc := "()V" } : Jvm.MethodName)) ∈ lw_tbl := lw_at lw_m2 12 rfl
theorem q282 : (Jvm.Cond.instanceMethod ({ cls := "BlockSealerModel", name := "replaceAll", desc := "()V" } : Jvm.MethodName)) ∈ lw_all := lw_g (lw_at lw_m2 13 rfl) rfl
theorem q283 : (Jvm.Cond.code ({ cls := "BlockSealerModel", name := "replaceAll", desc := "()V" } : Jvm.MethodName) prog_3_method_12_code (2 : Nat) (Option.none : Option Jvm.ClassFile.FieldType)) ∈ lw_all := lw_g (lw_at lw_m2 14 rfl) rfl
theorem q284 : (Jvm.Cond.methodLink "BlockSealerModel" (77 : Nat) ({ cls := "BlockSealerModel", name := "shift", desc := "()V" } : Jvm.MethodName)) ∈ lw_all := lw_g (lw_at lw_m2 15 rfl) rfl
theorem q285 : (Jvm.Cond.privateMethod ({ cls := "BlockSealerModel", name := "shift", desc := "()V" } : Jvm.MethodName)) ∈ lw_tbl := lw_at lw_m2 16 rfl
theorem q286 : (Jvm.Cond.instanceMethod ({ cls := "BlockSealerModel", name := "shift", desc := "()V" } : Jvm.MethodName)) ∈ lw_all := lw_g (lw_at lw_m2 17 rfl) rfl
theorem q287 : (Jvm.Cond.code ({ cls := "BlockSealerModel", name := "shift", desc := "()V" } : Jvm.MethodName) prog_3_method_15_code (2 : Nat) (Option.none : Option Jvm.ClassFile.FieldType)) ∈ lw_all := lw_g (lw_at lw_m2 18 rfl) rfl
theorem q288 : (Jvm.Cond.methodLink "BlockSealerModel" (80 : Nat) ({ cls := "BlockSealerModel", name := "mixColumns", desc := "()V" } : Jvm.MethodName)) ∈ lw_all := lw_g (lw_at lw_m2 19 rfl) rfl
theorem q289 : (Jvm.Cond.privateMethod ({ cls := "BlockSealerModel", name := "mixColumns", desc := "()V" } : Jvm.MethodName)) ∈ lw_tbl := lw_at lw_m2 20 rfl
theorem q290 : (Jvm.Cond.instanceMethod ({ cls := "BlockSealerModel", name := "mixColumns", desc := "()V" } : Jvm.MethodName)) ∈ lw_all := lw_g (lw_at lw_m2 21 rfl) rfl
theorem q291 : (Jvm.Cond.code ({ cls := "BlockSealerModel", name := "mixColumns", desc := "()V" } : Jvm.MethodName) prog_3_method_17_code (2 : Nat) (Option.none : Option Jvm.ClassFile.FieldType)) ∈ lw_all := lw_g (lw_at lw_m2 22 rfl) rfl
theorem q292 : (Jvm.Cond.methodLink "BlockSealerModel" (67 : Nat) ({ cls := "BlockSealerModel", name := "mixed", desc := "(I)I" } : Jvm.MethodName)) ∈ lw_all := lw_g (lw_at lw_m2 23 rfl) rfl
theorem q293 : (Jvm.Cond.privateMethod ({ cls := "BlockSealerModel", name := "mixed", desc := "(I)I" } : Jvm.MethodName)) ∈ lw_tbl := lw_at lw_m2 24 rfl
theorem q294 : (Jvm.Cond.instanceMethod ({ cls := "BlockSealerModel", name := "mixed", desc := "(I)I" } : Jvm.MethodName)) ∈ lw_all := lw_g (lw_at lw_m2 25 rfl) rfl
theorem q295 : (Jvm.Cond.code ({ cls := "BlockSealerModel", name := "mixed", desc := "(I)I" } : Jvm.MethodName) prog_3_method_16_code (6 : Nat) (Option.some Jvm.ClassFile.FieldType.int)) ∈ lw_all := lw_g (lw_at lw_m2 26 rfl) rfl
theorem q296 : (Jvm.Cond.methodLink "BlockSealerModel" (92 : Nat) ({ cls := "BlockSealerModel", name := "joined", desc := "(I)I" } : Jvm.MethodName)) ∈ lw_all := lw_g (lw_at lw_m2 27 rfl) rfl
theorem q297 : (Jvm.Cond.privateMethod ({ cls := "BlockSealerModel", name := "joined", desc := "(I)I" } : Jvm.MethodName)) ∈ lw_tbl := lw_at lw_m2 28 rfl
theorem q298 : (Jvm.Cond.instanceMethod ({ cls := "BlockSealerModel", name := "joined", desc := "(I)I" } : Jvm.MethodName)) ∈ lw_all := lw_g (lw_at lw_m2 29 rfl) rfl
theorem q299 : (Jvm.Cond.code ({ cls := "BlockSealerModel", name := "joined", desc := "(I)I" } : Jvm.MethodName) prog_3_method_19_code (2 : Nat) (Option.some Jvm.ClassFile.FieldType.int)) ∈ lw_all := lw_g (lw_at lw_m2 30 rfl) rfl
theorem q301 : (Jvm.Cond.instanceMethod ({ cls := "BlockSealerModel", name := "decrypt", desc := "()V" } : Jvm.MethodName)) ∈ lw_all := lw_g (lw_at lw_m2 32 rfl) rfl
theorem q302 : (Jvm.Cond.selects "BlockSealerModel" ({ cls := "BlockSealerModel", name := "decrypt", desc := "()V" } : Jvm.MethodName) ({ cls := "BlockSealerModel", name := "decrypt", desc := "()V" } : Jvm.MethodName)) ∈ lw_all := lw_g (lw_at lw_m2 33 rfl) rfl
theorem q303 : (Jvm.Cond.code ({ cls := "BlockSealerModel", name := "decrypt", desc := "()V" } : Jvm.MethodName) prog_3_method_23_code (2 : Nat) (Option.none : Option Jvm.ClassFile.FieldType)) ∈ lw_all := lw_g (lw_at lw_m2 34 rfl) rfl
theorem q304 : (Jvm.Cond.methodLink "BlockSealerModel" (95 : Nat) ({ cls := "BlockSealerModel", name := "roundsBack", desc := "()V" } : Jvm.MethodName)) ∈ lw_all := lw_g (lw_at lw_m2 35 rfl) rfl
theorem q305 : (Jvm.Cond.privateMethod ({ cls := "BlockSealerModel", name := "roundsBack", desc := "()V" } : Jvm.MethodName)) ∈ lw_tbl := lw_at lw_m2 36 rfl
theorem q306 : (Jvm.Cond.instanceMethod ({ cls := "BlockSealerModel", name := "roundsBack", desc := "()V" } : Jvm.MethodName)) ∈ lw_all := lw_g (lw_at lw_m2 37 rfl) rfl
theorem q307 : (Jvm.Cond.code ({ cls := "BlockSealerModel", name := "roundsBack", desc := "()V" } : Jvm.MethodName) prog_3_method_21_code (3 : Nat) (Option.none : Option Jvm.ClassFile.FieldType)) ∈ lw_all := lw_g (lw_at lw_m2 38 rfl) rfl
theorem q308 : (Jvm.Cond.methodLink "BlockSealerModel" (83 : Nat) ({ cls := "BlockSealerModel", name := "restoreAll", desc := "()V" } : Jvm.MethodName)) ∈ lw_all := lw_g (lw_at lw_m2 39 rfl) rfl
theorem q309 : (Jvm.Cond.privateMethod ({ cls := "BlockSealerModel", name := "restoreAll", desc := "()V" } : Jvm.MethodName)) ∈ lw_tbl := lw_at lw_m2 40 rfl
theorem q310 : (Jvm.Cond.instanceMethod ({ cls := "BlockSealerModel", name := "restoreAll", desc := "()V" } : Jvm.MethodName)) ∈ lw_all := lw_g (lw_at lw_m2 41 rfl) rfl
theorem q311 : (Jvm.Cond.code ({ cls := "BlockSealerModel", name := "restoreAll", desc := "()V" } : Jvm.MethodName) prog_3_method_14_code (2 : Nat) (Option.none : Option Jvm.ClassFile.FieldType)) ∈ lw_all := lw_g (lw_at lw_m2 42 rfl) rfl
theorem q312 : (Jvm.Cond.methodLink "BlockSealerModel" (64 : Nat) ({ cls := "BlockSealerModel", name := "origin", desc := "(I)I" } : Jvm.MethodName)) ∈ lw_all := lw_g (lw_at lw_m2 43 rfl) rfl
theorem q313 : (Jvm.Cond.privateMethod ({ cls := "BlockSealerModel", name := "origin", desc := "(I)I" } : Jvm.MethodName)) ∈ lw_tbl := lw_at lw_m2 44 rfl
theorem q314 : (Jvm.Cond.instanceMethod ({ cls := "BlockSealerModel", name := "origin", desc := "(I)I" } : Jvm.MethodName)) ∈ lw_all := lw_g (lw_at lw_m2 45 rfl) rfl
theorem q315 : (Jvm.Cond.code ({ cls := "BlockSealerModel", name := "origin", desc := "(I)I" } : Jvm.MethodName) prog_3_method_13_code (3 : Nat) (Option.some Jvm.ClassFile.FieldType.int)) ∈ lw_all := lw_g (lw_at lw_m2 46 rfl) rfl
theorem q317 : (Jvm.Cond.instanceMethod ({ cls := "BlockSealerModel", name := "next", desc := "()V" } : Jvm.MethodName)) ∈ lw_all := lw_g (lw_at lw_m2 48 rfl) rfl
theorem q318 : (Jvm.Cond.selects "BlockSealerModel" ({ cls := "BlockSealerModel", name := "next", desc := "()V" } : Jvm.MethodName) ({ cls := "BlockSealerModel", name := "next", desc := "()V" } : Jvm.MethodName)) ∈ lw_all := lw_g (lw_at lw_m2 49 rfl) rfl
theorem q319 : (Jvm.Cond.code ({ cls := "BlockSealerModel", name := "next", desc := "()V" } : Jvm.MethodName) prog_3_method_24_code (1 : Nat) (Option.none : Option Jvm.ClassFile.FieldType)) ∈ lw_all := lw_g (lw_at lw_m2 50 rfl) rfl
theorem q321 : (Jvm.Cond.instanceMethod ({ cls := "BlockSealerModel", name := "word", desc := "(I)I" } : Jvm.MethodName)) ∈ lw_all := lw_g (lw_at lw_m2 52 rfl) rfl
theorem q322 : (Jvm.Cond.selects "BlockSealerModel" ({ cls := "BlockSealerModel", name := "word", desc := "(I)I" } : Jvm.MethodName) ({ cls := "BlockSealerModel", name := "word", desc := "(I)I" } : Jvm.MethodName)) ∈ lw_all := lw_g (lw_at lw_m2 53 rfl) rfl
theorem q323 : (Jvm.Cond.code ({ cls := "BlockSealerModel", name := "word", desc := "(I)I" } : Jvm.MethodName) prog_3_method_25_code (2 : Nat) (Option.some Jvm.ClassFile.FieldType.int)) ∈ lw_all := lw_g (lw_at lw_m2 54 rfl) rfl
theorem q325 : (Jvm.Cond.instanceMethod ({ cls := "BlockSealerModel", name := "absorb", desc := "()V" } : Jvm.MethodName)) ∈ lw_all := lw_g (lw_at lw_m2 56 rfl) rfl
theorem q326 : (Jvm.Cond.selects "BlockSealerModel" ({ cls := "BlockSealerModel", name := "absorb", desc := "()V" } : Jvm.MethodName) ({ cls := "BlockSealerModel", name := "absorb", desc := "()V" } : Jvm.MethodName)) ∈ lw_all := lw_g (lw_at lw_m2 57 rfl) rfl
theorem q327 : (Jvm.Cond.code ({ cls := "BlockSealerModel", name := "absorb", desc := "()V" } : Jvm.MethodName) prog_3_method_27_code (3 : Nat) (Option.none : Option Jvm.ClassFile.FieldType)) ∈ lw_all := lw_g (lw_at lw_m2 58 rfl) rfl
theorem q328 : (Jvm.Cond.methodLink "BlockSealerModel" (99 : Nat) ({ cls := "BlockSealerModel", name := "moveBit", desc := "()V" } : Jvm.MethodName)) ∈ lw_all := lw_g (lw_at lw_m2 59 rfl) rfl
theorem q329 : (Jvm.Cond.privateMethod ({ cls := "BlockSealerModel", name := "moveBit", desc := "()V" } : Jvm.MethodName)) ∈ lw_tbl := lw_at lw_m2 60 rfl
theorem q330 : (Jvm.Cond.instanceMethod ({ cls := "BlockSealerModel", name := "moveBit", desc := "()V" } : Jvm.MethodName)) ∈ lw_all := lw_g (lw_at lw_m2 61 rfl) rfl
theorem q331 : (Jvm.Cond.code ({ cls := "BlockSealerModel", name := "moveBit", desc := "()V" } : Jvm.MethodName) prog_3_method_26_code (3 : Nat) (Option.none : Option Jvm.ClassFile.FieldType)) ∈ lw_all := lw_g (lw_at lw_m2 62 rfl) rfl
theorem q332 : (Jvm.Cond.constant "BlockSealerModel" (98 : Nat) (-520093696 : Int32)) ∈ lw_all := lw_g (lw_at lw_m2 63 rfl) rfl
theorem q334 : (Jvm.Cond.instanceMethod ({ cls := "BlockSealerModel", name := "restart", desc := "()V" } : Jvm.MethodName)) ∈ lw_all := lw_g (lw_at lw_m2 65 rfl) rfl
theorem q335 : (Jvm.Cond.selects "BlockSealerModel" ({ cls := "BlockSealerModel", name := "restart", desc := "()V" } : Jvm.MethodName) ({ cls := "BlockSealerModel", name := "restart", desc := "()V" } : Jvm.MethodName)) ∈ lw_all := lw_g (lw_at lw_m2 66 rfl) rfl
theorem q336 : (Jvm.Cond.code ({ cls := "BlockSealerModel", name := "restart", desc := "()V" } : Jvm.MethodName) prog_3_method_28_code (2 : Nat) (Option.none : Option Jvm.ClassFile.FieldType)) ∈ lw_all := lw_g (lw_at lw_m2 67 rfl) rfl
theorem q338 : (Jvm.Cond.instanceMethod ({ cls := "BlockSealerModel", name := "hash", desc := "(I)I" } : Jvm.MethodName)) ∈ lw_all := lw_g (lw_at lw_m2 69 rfl) rfl
theorem q339 : (Jvm.Cond.selects "BlockSealerModel" ({ cls := "BlockSealerModel", name := "hash", desc := "(I)I" } : Jvm.MethodName) ({ cls := "BlockSealerModel", name := "hash", desc := "(I)I" } : Jvm.MethodName)) ∈ lw_all := lw_g (lw_at lw_m2 70 rfl) rfl
theorem q340 : (Jvm.Cond.code ({ cls := "BlockSealerModel", name := "hash", desc := "(I)I" } : Jvm.MethodName) prog_3_method_29_code (2 : Nat) (Option.some Jvm.ClassFile.FieldType.int)) ∈ lw_all := lw_g (lw_at lw_m2 71 rfl) rfl
theorem q342 : (Jvm.Cond.instanceMethod ({ cls := "BlockSealerModel", name := "roundKey", desc := "(II)I" } : Jvm.MethodName)) ∈ lw_all := lw_g (lw_at lw_m2 73 rfl) rfl
theorem q343 : (Jvm.Cond.selects "BlockSealerModel" ({ cls := "BlockSealerModel", name := "roundKey", desc := "(II)I" } : Jvm.MethodName) ({ cls := "BlockSealerModel", name := "roundKey", desc := "(II)I" } : Jvm.MethodName)) ∈ lw_all := lw_g (lw_at lw_m2 74 rfl) rfl
theorem q344 : (Jvm.Cond.code ({ cls := "BlockSealerModel", name := "roundKey", desc := "(II)I" } : Jvm.MethodName) prog_3_method_30_code (4 : Nat) (Option.some Jvm.ClassFile.FieldType.int)) ∈ lw_all := lw_g (lw_at lw_m2 75 rfl) rfl
theorem in_X1 : ∀ w ∈ wsX10, w ∈ lw_all := lw_in wsX10 [235, 237, 239, 241, 243, 245, 247, 249, 251] (by decide +kernel) (by decide +kernel)
end
section
set_option maxRecDepth 100000
theorem dX0_init_0 : decode cX0_init 0 = .ok (.aload_n 0, 1) := by decide +kernel
theorem dX0_init_1 : decode cX0_init 1 = .ok (.invokespecial 1, 3) := by decide +kernel
theorem dX0_init_4 : decode cX0_init 4 = .ok (.aload_n 0, 1) := by decide +kernel
theorem dX0_init_5 : decode cX0_init 5 = .ok (.sipush 256, 3) := by decide +kernel
theorem dX0_init_8 : decode cX0_init 8 = .ok (.newarray .int, 2) := by decide +kernel
theorem dX0_init_10 : decode cX0_init 10 = .ok (.putfield 7, 3) := by decide +kernel
theorem dX0_init_13 : decode cX0_init 13 = .ok (.aload_n 0, 1) := by decide +kernel
theorem dX0_init_14 : decode cX0_init 14 = .ok (.sipush 256, 3) := by decide +kernel
theorem dX0_init_17 : decode cX0_init 17 = .ok (.newarray .int, 2) := by decide +kernel
theorem dX0_init_19 : decode cX0_init 19 = .ok (.putfield 13, 3) := by decide +kernel
theorem dX0_init_22 : decode cX0_init 22 = .ok (.aload_n 0, 1) := by decide +kernel
theorem dX0_init_23 : decode cX0_init 23 = .ok (.sipush 256, 3) := by decide +kernel
theorem dX0_init_26 : decode cX0_init 26 = .ok (.newarray .int, 2) := by decide +kernel
theorem dX0_init_28 : decode cX0_init 28 = .ok (.putfield 16, 3) := by decide +kernel
theorem dX0_init_31 : decode cX0_init 31 = .ok (.aload_n 0, 1) := by decide +kernel
theorem dX0_init_32 : decode cX0_init 32 = .ok (.sipush 256, 3) := by decide +kernel
theorem dX0_init_35 : decode cX0_init 35 = .ok (.newarray .int, 2) := by decide +kernel
theorem dX0_init_37 : decode cX0_init 37 = .ok (.putfield 19, 3) := by decide +kernel
theorem dX0_init_40 : decode cX0_init 40 = .ok (.aload_n 0, 1) := by decide +kernel
theorem dX0_init_41 : decode cX0_init 41 = .ok (.bipush 44, 2) := by decide +kernel
theorem dX0_init_43 : decode cX0_init 43 = .ok (.newarray .int, 2) := by decide +kernel
theorem dX0_init_45 : decode cX0_init 45 = .ok (.putfield 22, 3) := by decide +kernel
theorem dX0_init_48 : decode cX0_init 48 = .ok (.aload_n 0, 1) := by decide +kernel
theorem dX0_init_49 : decode cX0_init 49 = .ok (.bipush 44, 2) := by decide +kernel
theorem dX0_init_51 : decode cX0_init 51 = .ok (.newarray .int, 2) := by decide +kernel
theorem dX0_init_53 : decode cX0_init 53 = .ok (.putfield 25, 3) := by decide +kernel
theorem dX0_init_56 : decode cX0_init 56 = .ok (.aload_n 0, 1) := by decide +kernel
theorem dX0_init_57 : decode cX0_init 57 = .ok (.iconst 4, 1) := by decide +kernel
theorem dX0_init_58 : decode cX0_init 58 = .ok (.newarray .int, 2) := by decide +kernel
theorem dX0_init_60 : decode cX0_init 60 = .ok (.putfield 28, 3) := by decide +kernel
theorem dX0_init_63 : decode cX0_init 63 = .ok (.aload_n 0, 1) := by decide +kernel
theorem dX0_init_64 : decode cX0_init 64 = .ok (.iconst 4, 1) := by decide +kernel
theorem dX0_init_65 : decode cX0_init 65 = .ok (.newarray .int, 2) := by decide +kernel
theorem dX0_init_67 : decode cX0_init 67 = .ok (.putfield 31, 3) := by decide +kernel
theorem dX0_init_70 : decode cX0_init 70 = .ok (.aload_n 0, 1) := by decide +kernel
theorem dX0_init_71 : decode cX0_init 71 = .ok (.iconst 4, 1) := by decide +kernel
theorem dX0_init_72 : decode cX0_init 72 = .ok (.newarray .int, 2) := by decide +kernel
theorem dX0_init_74 : decode cX0_init 74 = .ok (.putfield 34, 3) := by decide +kernel
theorem dX0_init_77 : decode cX0_init 77 = .ok (.aload_n 0, 1) := by decide +kernel
theorem dX0_init_78 : decode cX0_init 78 = .ok (.iconst 4, 1) := by decide +kernel
theorem dX0_init_79 : decode cX0_init 79 = .ok (.newarray .int, 2) := by decide +kernel
theorem dX0_init_81 : decode cX0_init 81 = .ok (.putfield 37, 3) := by decide +kernel
theorem dX0_init_84 : decode cX0_init 84 = .ok (.aload_n 0, 1) := by decide +kernel
theorem dX0_init_85 : decode cX0_init 85 = .ok (.bipush 64, 2) := by decide +kernel
theorem dX0_init_87 : decode cX0_init 87 = .ok (.newarray .int, 2) := by decide +kernel
theorem dX0_init_89 : decode cX0_init 89 = .ok (.putfield 40, 3) := by decide +kernel
theorem dX0_init_92 : decode cX0_init 92 = .ok (.aload_n 0, 1) := by decide +kernel
theorem dX0_init_93 : decode cX0_init 93 = .ok (.bipush 16, 2) := by decide +kernel
theorem dX0_init_95 : decode cX0_init 95 = .ok (.newarray .int, 2) := by decide +kernel
theorem dX0_init_97 : decode cX0_init 97 = .ok (.putfield 43, 3) := by decide +kernel
theorem dX0_init_100 : decode cX0_init 100 = .ok (.aload_n 0, 1) := by decide +kernel
theorem dX0_init_101 : decode cX0_init 101 = .ok (.invokevirtual 46, 3) := by decide +kernel
theorem dX0_init_104 : decode cX0_init 104 = .ok (.aload_n 0, 1) := by decide +kernel
theorem dX0_init_105 : decode cX0_init 105 = .ok (.invokevirtual 49, 3) := by decide +kernel
theorem dX0_init_108 : decode cX0_init 108 = .ok (.aload_n 0, 1) := by decide +kernel
theorem dX0_init_109 : decode cX0_init 109 = .ok (.invokevirtual 52, 3) := by decide +kernel
theorem dX0_init_112 : decode cX0_init 112 = .ok (.aload_n 0, 1) := by decide +kernel
theorem dX0_init_113 : decode cX0_init 113 = .ok (.iconst 0, 1) := by decide +kernel
theorem dX0_init_114 : decode cX0_init 114 = .ok (.iconst 0, 1) := by decide +kernel
theorem dX0_init_115 : decode cX0_init 115 = .ok (.iconst 0, 1) := by decide +kernel
theorem dX0_init_116 : decode cX0_init 116 = .ok (.iconst 0, 1) := by decide +kernel
theorem dX0_init_117 : decode cX0_init 117 = .ok (.invokevirtual 55, 3) := by decide +kernel
theorem dX0_init_120 : decode cX0_init 120 = .ok (.return_, 1) := by decide +kernel
theorem dX0_buildSubstitution_0 : decode cX0_buildSubstitution 0 = .ok (.iconst 1, 1) := by decide +kernel
theorem dX0_buildSubstitution_1 : decode cX0_buildSubstitution 1 = .ok (.istore_n 1, 1) := by decide +kernel
theorem dX0_buildSubstitution_2 : decode cX0_buildSubstitution 2 = .ok (.iconst 1, 1) := by decide +kernel
theorem dX0_buildSubstitution_3 : decode cX0_buildSubstitution 3 = .ok (.istore_n 2, 1) := by decide +kernel
theorem dX0_buildSubstitution_4 : decode cX0_buildSubstitution 4 = .ok (.iconst 0, 1) := by decide +kernel
theorem dX0_buildSubstitution_5 : decode cX0_buildSubstitution 5 = .ok (.istore_n 3, 1) := by decide +kernel
theorem dX0_buildSubstitution_6 : decode cX0_buildSubstitution 6 = .ok (.iload_n 3, 1) := by decide +kernel
theorem dX0_buildSubstitution_7 : decode cX0_buildSubstitution 7 = .ok (.sipush 255, 3) := by decide +kernel
theorem dX0_buildSubstitution_10 : decode cX0_buildSubstitution 10 = .ok (.if_icmp .ge 27, 3) := by decide +kernel
theorem dX0_buildSubstitution_13 : decode cX0_buildSubstitution 13 = .ok (.aload_n 0, 1) := by decide +kernel
theorem dX0_buildSubstitution_14 : decode cX0_buildSubstitution 14 = .ok (.iload_n 1, 1) := by decide +kernel
theorem dX0_buildSubstitution_15 : decode cX0_buildSubstitution 15 = .ok (.iload_n 2, 1) := by decide +kernel
theorem dX0_buildSubstitution_16 : decode cX0_buildSubstitution 16 = .ok (.invokevirtual 59, 3) := by decide +kernel
theorem dX0_buildSubstitution_19 : decode cX0_buildSubstitution 19 = .ok (.iload_n 1, 1) := by decide +kernel
theorem dX0_buildSubstitution_20 : decode cX0_buildSubstitution 20 = .ok (.iload_n 1, 1) := by decide +kernel
theorem dX0_buildSubstitution_21 : decode cX0_buildSubstitution 21 = .ok (.invokestatic 63, 3) := by decide +kernel
theorem dX0_buildSubstitution_24 : decode cX0_buildSubstitution 24 = .ok (.ixor, 1) := by decide +kernel
theorem dX0_buildSubstitution_25 : decode cX0_buildSubstitution 25 = .ok (.istore_n 1, 1) := by decide +kernel
theorem dX0_buildSubstitution_26 : decode cX0_buildSubstitution 26 = .ok (.iload_n 2, 1) := by decide +kernel
theorem dX0_buildSubstitution_27 : decode cX0_buildSubstitution 27 = .ok (.invokestatic 67, 3) := by decide +kernel
theorem dX0_buildSubstitution_30 : decode cX0_buildSubstitution 30 = .ok (.istore_n 2, 1) := by decide +kernel
theorem dX0_buildSubstitution_31 : decode cX0_buildSubstitution 31 = .ok (.iinc 3 1, 3) := by decide +kernel
theorem dX0_buildSubstitution_34 : decode cX0_buildSubstitution 34 = .ok (.goto (-28), 3) := by decide +kernel
theorem dX0_buildSubstitution_37 : decode cX0_buildSubstitution 37 = .ok (.aload_n 0, 1) := by decide +kernel
theorem dX0_buildSubstitution_38 : decode cX0_buildSubstitution 38 = .ok (.iconst 0, 1) := by decide +kernel
theorem dX0_buildSubstitution_39 : decode cX0_buildSubstitution 39 = .ok (.iconst 0, 1) := by decide +kernel
theorem dX0_buildSubstitution_40 : decode cX0_buildSubstitution 40 = .ok (.invokevirtual 59, 3) := by decide +kernel
theorem dX0_buildSubstitution_43 : decode cX0_buildSubstitution 43 = .ok (.return_, 1) := by decide +kernel
theorem dX0_setSubstitution_0 : decode cX0_setSubstitution 0 = .ok (.iload_n 2, 1) := by decide +kernel
theorem dX0_setSubstitution_1 : decode cX0_setSubstitution 1 = .ok (.sipush 257, 3) := by decide +kernel
theorem dX0_setSubstitution_4 : decode cX0_setSubstitution 4 = .ok (.imul, 1) := by decide +kernel
theorem dX0_setSubstitution_5 : decode cX0_setSubstitution 5 = .ok (.istore_n 3, 1) := by decide +kernel
theorem dX0_setSubstitution_6 : decode cX0_setSubstitution 6 = .ok (.iload_n 3, 1) := by decide +kernel
theorem dX0_setSubstitution_7 : decode cX0_setSubstitution 7 = .ok (.iload_n 3, 1) := by decide +kernel
theorem dX0_setSubstitution_8 : decode cX0_setSubstitution 8 = .ok (.iconst 4, 1) := by decide +kernel
theorem dX0_setSubstitution_9 : decode cX0_setSubstitution 9 = .ok (.ishr, 1) := by decide +kernel
theorem dX0_setSubstitution_10 : decode cX0_setSubstitution 10 = .ok (.ixor, 1) := by decide +kernel
theorem dX0_setSubstitution_11 : decode cX0_setSubstitution 11 = .ok (.iload_n 3, 1) := by decide +kernel
theorem dX0_setSubstitution_12 : decode cX0_setSubstitution 12 = .ok (.iconst 5, 1) := by decide +kernel
theorem dX0_setSubstitution_13 : decode cX0_setSubstitution 13 = .ok (.ishr, 1) := by decide +kernel
theorem dX0_setSubstitution_14 : decode cX0_setSubstitution 14 = .ok (.ixor, 1) := by decide +kernel
theorem dX0_setSubstitution_15 : decode cX0_setSubstitution 15 = .ok (.iload_n 3, 1) := by decide +kernel
theorem dX0_setSubstitution_16 : decode cX0_setSubstitution 16 = .ok (.bipush 6, 2) := by decide +kernel
theorem dX0_setSubstitution_18 : decode cX0_setSubstitution 18 = .ok (.ishr, 1) := by decide +kernel
theorem dX0_setSubstitution_19 : decode cX0_setSubstitution 19 = .ok (.ixor, 1) := by decide +kernel
theorem dX0_setSubstitution_20 : decode cX0_setSubstitution 20 = .ok (.iload_n 3, 1) := by decide +kernel
theorem dX0_setSubstitution_21 : decode cX0_setSubstitution 21 = .ok (.bipush 7, 2) := by decide +kernel
theorem dX0_setSubstitution_23 : decode cX0_setSubstitution 23 = .ok (.ishr, 1) := by decide +kernel
theorem dX0_setSubstitution_24 : decode cX0_setSubstitution 24 = .ok (.ixor, 1) := by decide +kernel
theorem dX0_setSubstitution_25 : decode cX0_setSubstitution 25 = .ok (.bipush 99, 2) := by decide +kernel
theorem dX0_setSubstitution_27 : decode cX0_setSubstitution 27 = .ok (.ixor, 1) := by decide +kernel
theorem dX0_setSubstitution_28 : decode cX0_setSubstitution 28 = .ok (.sipush 255, 3) := by decide +kernel
theorem dX0_setSubstitution_31 : decode cX0_setSubstitution 31 = .ok (.iand, 1) := by decide +kernel
theorem dX0_setSubstitution_32 : decode cX0_setSubstitution 32 = .ok (.istore 4, 2) := by decide +kernel
theorem dX0_setSubstitution_34 : decode cX0_setSubstitution 34 = .ok (.aload_n 0, 1) := by decide +kernel
theorem dX0_setSubstitution_35 : decode cX0_setSubstitution 35 = .ok (.getfield 7, 3) := by decide +kernel
theorem dX0_setSubstitution_38 : decode cX0_setSubstitution 38 = .ok (.iload_n 1, 1) := by decide +kernel
theorem dX0_setSubstitution_39 : decode cX0_setSubstitution 39 = .ok (.iload 4, 2) := by decide +kernel
theorem dX0_setSubstitution_41 : decode cX0_setSubstitution 41 = .ok (.iastore, 1) := by decide +kernel
theorem dX0_setSubstitution_42 : decode cX0_setSubstitution 42 = .ok (.aload_n 0, 1) := by decide +kernel
theorem dX0_setSubstitution_43 : decode cX0_setSubstitution 43 = .ok (.getfield 13, 3) := by decide +kernel
theorem dX0_setSubstitution_46 : decode cX0_setSubstitution 46 = .ok (.iload 4, 2) := by decide +kernel
theorem dX0_setSubstitution_48 : decode cX0_setSubstitution 48 = .ok (.iload_n 1, 1) := by decide +kernel
theorem dX0_setSubstitution_49 : decode cX0_setSubstitution 49 = .ok (.iastore, 1) := by decide +kernel
theorem dX0_setSubstitution_50 : decode cX0_setSubstitution 50 = .ok (.return_, 1) := by decide +kernel
theorem dX0_twice_0 : decode cX0_twice 0 = .ok (.iload_n 0, 1) := by decide +kernel
theorem dX0_twice_1 : decode cX0_twice 1 = .ok (.sipush 128, 3) := by decide +kernel
theorem dX0_twice_4 : decode cX0_twice 4 = .ok (.if_icmp .ge 9, 3) := by decide +kernel
theorem dX0_twice_7 : decode cX0_twice 7 = .ok (.iconst 2, 1) := by decide +kernel
theorem dX0_twice_8 : decode cX0_twice 8 = .ok (.iload_n 0, 1) := by decide +kernel
theorem dX0_twice_9 : decode cX0_twice 9 = .ok (.imul, 1) := by decide +kernel
theorem dX0_twice_10 : decode cX0_twice 10 = .ok (.goto 10, 3) := by decide +kernel
theorem dX0_twice_13 : decode cX0_twice 13 = .ok (.iconst 2, 1) := by decide +kernel
theorem dX0_twice_14 : decode cX0_twice 14 = .ok (.iload_n 0, 1) := by decide +kernel
theorem dX0_twice_15 : decode cX0_twice 15 = .ok (.imul, 1) := by decide +kernel
theorem dX0_twice_16 : decode cX0_twice 16 = .ok (.sipush 283, 3) := by decide +kernel
theorem dX0_twice_19 : decode cX0_twice 19 = .ok (.ixor, 1) := by decide +kernel
theorem dX0_twice_20 : decode cX0_twice 20 = .ok (.ireturn, 1) := by decide +kernel
theorem dX0_timesInverseOfThree_0 : decode cX0_timesInverseOfThree 0 = .ok (.iload_n 0, 1) := by decide +kernel
theorem dX0_timesInverseOfThree_1 : decode cX0_timesInverseOfThree 1 = .ok (.invokestatic 63, 3) := by decide +kernel
theorem dX0_timesInverseOfThree_4 : decode cX0_timesInverseOfThree 4 = .ok (.istore_n 1, 1) := by decide +kernel
theorem dX0_timesInverseOfThree_5 : decode cX0_timesInverseOfThree 5 = .ok (.iload_n 1, 1) := by decide +kernel
theorem dX0_timesInverseOfThree_6 : decode cX0_timesInverseOfThree 6 = .ok (.invokestatic 63, 3) := by decide +kernel
theorem dX0_timesInverseOfThree_9 : decode cX0_timesInverseOfThree 9 = .ok (.istore_n 2, 1) := by decide +kernel
theorem dX0_timesInverseOfThree_10 : decode cX0_timesInverseOfThree 10 = .ok (.iload_n 2, 1) := by decide +kernel
theorem dX0_timesInverseOfThree_11 : decode cX0_timesInverseOfThree 11 = .ok (.invokestatic 63, 3) := by decide +kernel
theorem dX0_timesInverseOfThree_14 : decode cX0_timesInverseOfThree 14 = .ok (.istore_n 3, 1) := by decide +kernel
theorem dX0_timesInverseOfThree_15 : decode cX0_timesInverseOfThree 15 = .ok (.iload_n 3, 1) := by decide +kernel
theorem dX0_timesInverseOfThree_16 : decode cX0_timesInverseOfThree 16 = .ok (.invokestatic 63, 3) := by decide +kernel
theorem dX0_timesInverseOfThree_19 : decode cX0_timesInverseOfThree 19 = .ok (.istore 4, 2) := by decide +kernel
theorem dX0_timesInverseOfThree_21 : decode cX0_timesInverseOfThree 21 = .ok (.iload 4, 2) := by decide +kernel
theorem dX0_timesInverseOfThree_23 : decode cX0_timesInverseOfThree 23 = .ok (.invokestatic 63, 3) := by decide +kernel
theorem dX0_timesInverseOfThree_26 : decode cX0_timesInverseOfThree 26 = .ok (.istore 5, 2) := by decide +kernel
theorem dX0_timesInverseOfThree_28 : decode cX0_timesInverseOfThree 28 = .ok (.iload 5, 2) := by decide +kernel
theorem dX0_timesInverseOfThree_30 : decode cX0_timesInverseOfThree 30 = .ok (.invokestatic 63, 3) := by decide +kernel
theorem dX0_timesInverseOfThree_33 : decode cX0_timesInverseOfThree 33 = .ok (.istore 6, 2) := by decide +kernel
theorem dX0_timesInverseOfThree_35 : decode cX0_timesInverseOfThree 35 = .ok (.iload 6, 2) := by decide +kernel
theorem dX0_timesInverseOfThree_37 : decode cX0_timesInverseOfThree 37 = .ok (.invokestatic 63, 3) := by decide +kernel
theorem dX0_timesInverseOfThree_40 : decode cX0_timesInverseOfThree 40 = .ok (.istore 7, 2) := by decide +kernel
theorem dX0_timesInverseOfThree_42 : decode cX0_timesInverseOfThree 42 = .ok (.iload_n 1, 1) := by decide +kernel
theorem dX0_timesInverseOfThree_43 : decode cX0_timesInverseOfThree 43 = .ok (.iload_n 2, 1) := by decide +kernel
theorem dX0_timesInverseOfThree_44 : decode cX0_timesInverseOfThree 44 = .ok (.ixor, 1) := by decide +kernel
theorem dX0_timesInverseOfThree_45 : decode cX0_timesInverseOfThree 45 = .ok (.iload 4, 2) := by decide +kernel
theorem dX0_timesInverseOfThree_47 : decode cX0_timesInverseOfThree 47 = .ok (.ixor, 1) := by decide +kernel
theorem dX0_timesInverseOfThree_48 : decode cX0_timesInverseOfThree 48 = .ok (.iload 5, 2) := by decide +kernel
theorem dX0_timesInverseOfThree_50 : decode cX0_timesInverseOfThree 50 = .ok (.ixor, 1) := by decide +kernel
theorem dX0_timesInverseOfThree_51 : decode cX0_timesInverseOfThree 51 = .ok (.iload 6, 2) := by decide +kernel
theorem dX0_timesInverseOfThree_53 : decode cX0_timesInverseOfThree 53 = .ok (.ixor, 1) := by decide +kernel
theorem dX0_timesInverseOfThree_54 : decode cX0_timesInverseOfThree 54 = .ok (.iload 7, 2) := by decide +kernel
theorem dX0_timesInverseOfThree_56 : decode cX0_timesInverseOfThree 56 = .ok (.ixor, 1) := by decide +kernel
theorem dX0_timesInverseOfThree_57 : decode cX0_timesInverseOfThree 57 = .ok (.ireturn, 1) := by decide +kernel
theorem dX0_buildMixing_0 : decode cX0_buildMixing 0 = .ok (.iconst 0, 1) := by decide +kernel
theorem dX0_buildMixing_1 : decode cX0_buildMixing 1 = .ok (.istore_n 1, 1) := by decide +kernel
theorem dX0_buildMixing_2 : decode cX0_buildMixing 2 = .ok (.iload_n 1, 1) := by decide +kernel
theorem dX0_buildMixing_3 : decode cX0_buildMixing 3 = .ok (.sipush 256, 3) := by decide +kernel
theorem dX0_buildMixing_6 : decode cX0_buildMixing 6 = .ok (.if_icmp .ge 121, 3) := by decide +kernel
theorem dX0_buildMixing_9 : decode cX0_buildMixing 9 = .ok (.aload_n 0, 1) := by decide +kernel
theorem dX0_buildMixing_10 : decode cX0_buildMixing 10 = .ok (.getfield 7, 3) := by decide +kernel
theorem dX0_buildMixing_13 : decode cX0_buildMixing 13 = .ok (.iload_n 1, 1) := by decide +kernel
theorem dX0_buildMixing_14 : decode cX0_buildMixing 14 = .ok (.iaload, 1) := by decide +kernel
theorem dX0_buildMixing_15 : decode cX0_buildMixing 15 = .ok (.istore_n 2, 1) := by decide +kernel
theorem dX0_buildMixing_16 : decode cX0_buildMixing 16 = .ok (.iload_n 2, 1) := by decide +kernel
theorem dX0_buildMixing_17 : decode cX0_buildMixing 17 = .ok (.invokestatic 63, 3) := by decide +kernel
theorem dX0_buildMixing_20 : decode cX0_buildMixing 20 = .ok (.istore_n 3, 1) := by decide +kernel
theorem dX0_buildMixing_21 : decode cX0_buildMixing 21 = .ok (.aload_n 0, 1) := by decide +kernel
theorem dX0_buildMixing_22 : decode cX0_buildMixing 22 = .ok (.getfield 16, 3) := by decide +kernel
theorem dX0_buildMixing_25 : decode cX0_buildMixing 25 = .ok (.iload_n 1, 1) := by decide +kernel
theorem dX0_buildMixing_26 : decode cX0_buildMixing 26 = .ok (.iload_n 3, 1) := by decide +kernel
theorem dX0_buildMixing_27 : decode cX0_buildMixing 27 = .ok (.bipush 24, 2) := by decide +kernel
theorem dX0_buildMixing_29 : decode cX0_buildMixing 29 = .ok (.ishl, 1) := by decide +kernel
theorem dX0_buildMixing_30 : decode cX0_buildMixing 30 = .ok (.iload_n 2, 1) := by decide +kernel
theorem dX0_buildMixing_31 : decode cX0_buildMixing 31 = .ok (.bipush 16, 2) := by decide +kernel
theorem dX0_buildMixing_33 : decode cX0_buildMixing 33 = .ok (.ishl, 1) := by decide +kernel
theorem dX0_buildMixing_34 : decode cX0_buildMixing 34 = .ok (.ior, 1) := by decide +kernel
theorem dX0_buildMixing_35 : decode cX0_buildMixing 35 = .ok (.iload_n 2, 1) := by decide +kernel
theorem dX0_buildMixing_36 : decode cX0_buildMixing 36 = .ok (.bipush 8, 2) := by decide +kernel
theorem dX0_buildMixing_38 : decode cX0_buildMixing 38 = .ok (.ishl, 1) := by decide +kernel
theorem dX0_buildMixing_39 : decode cX0_buildMixing 39 = .ok (.ior, 1) := by decide +kernel
theorem dX0_buildMixing_40 : decode cX0_buildMixing 40 = .ok (.iload_n 3, 1) := by decide +kernel
theorem dX0_buildMixing_41 : decode cX0_buildMixing 41 = .ok (.iload_n 2, 1) := by decide +kernel
theorem dX0_buildMixing_42 : decode cX0_buildMixing 42 = .ok (.ixor, 1) := by decide +kernel
theorem dX0_buildMixing_43 : decode cX0_buildMixing 43 = .ok (.ior, 1) := by decide +kernel
theorem dX0_buildMixing_44 : decode cX0_buildMixing 44 = .ok (.iastore, 1) := by decide +kernel
theorem dX0_buildMixing_45 : decode cX0_buildMixing 45 = .ok (.aload_n 0, 1) := by decide +kernel
theorem dX0_buildMixing_46 : decode cX0_buildMixing 46 = .ok (.getfield 13, 3) := by decide +kernel
theorem dX0_buildMixing_49 : decode cX0_buildMixing 49 = .ok (.iload_n 1, 1) := by decide +kernel
theorem dX0_buildMixing_50 : decode cX0_buildMixing 50 = .ok (.iaload, 1) := by decide +kernel
theorem dX0_buildMixing_51 : decode cX0_buildMixing 51 = .ok (.istore 4, 2) := by decide +kernel
theorem dX0_buildMixing_53 : decode cX0_buildMixing 53 = .ok (.iload 4, 2) := by decide +kernel
theorem dX0_buildMixing_55 : decode cX0_buildMixing 55 = .ok (.invokestatic 63, 3) := by decide +kernel
theorem dX0_buildMixing_58 : decode cX0_buildMixing 58 = .ok (.istore 5, 2) := by decide +kernel
theorem dX0_buildMixing_60 : decode cX0_buildMixing 60 = .ok (.iload 5, 2) := by decide +kernel
theorem dX0_buildMixing_62 : decode cX0_buildMixing 62 = .ok (.invokestatic 63, 3) := by decide +kernel
theorem dX0_buildMixing_65 : decode cX0_buildMixing 65 = .ok (.istore 6, 2) := by decide +kernel
theorem dX0_buildMixing_67 : decode cX0_buildMixing 67 = .ok (.iload 6, 2) := by decide +kernel
theorem dX0_buildMixing_69 : decode cX0_buildMixing 69 = .ok (.invokestatic 63, 3) := by decide +kernel
theorem dX0_buildMixing_72 : decode cX0_buildMixing 72 = .ok (.istore 7, 2) := by decide +kernel
theorem dX0_buildMixing_74 : decode cX0_buildMixing 74 = .ok (.aload_n 0, 1) := by decide +kernel
theorem dX0_buildMixing_75 : decode cX0_buildMixing 75 = .ok (.getfield 19, 3) := by decide +kernel
theorem dX0_buildMixing_78 : decode cX0_buildMixing 78 = .ok (.iload_n 1, 1) := by decide +kernel
theorem dX0_buildMixing_79 : decode cX0_buildMixing 79 = .ok (.iload 7, 2) := by decide +kernel
theorem dX0_buildMixing_81 : decode cX0_buildMixing 81 = .ok (.iload 6, 2) := by decide +kernel
theorem dX0_buildMixing_83 : decode cX0_buildMixing 83 = .ok (.ixor, 1) := by decide +kernel
theorem dX0_buildMixing_84 : decode cX0_buildMixing 84 = .ok (.iload 5, 2) := by decide +kernel
theorem dX0_buildMixing_86 : decode cX0_buildMixing 86 = .ok (.ixor, 1) := by decide +kernel
theorem dX0_buildMixing_87 : decode cX0_buildMixing 87 = .ok (.bipush 24, 2) := by decide +kernel
theorem dX0_buildMixing_89 : decode cX0_buildMixing 89 = .ok (.ishl, 1) := by decide +kernel
theorem dX0_buildMixing_90 : decode cX0_buildMixing 90 = .ok (.iload 7, 2) := by decide +kernel
theorem dX0_buildMixing_92 : decode cX0_buildMixing 92 = .ok (.iload 4, 2) := by decide +kernel
theorem dX0_buildMixing_94 : decode cX0_buildMixing 94 = .ok (.ixor, 1) := by decide +kernel
theorem dX0_buildMixing_95 : decode cX0_buildMixing 95 = .ok (.bipush 16, 2) := by decide +kernel
theorem dX0_buildMixing_97 : decode cX0_buildMixing 97 = .ok (.ishl, 1) := by decide +kernel
theorem dX0_buildMixing_98 : decode cX0_buildMixing 98 = .ok (.ior, 1) := by decide +kernel
theorem dX0_buildMixing_99 : decode cX0_buildMixing 99 = .ok (.iload 7, 2) := by decide +kernel
theorem dX0_buildMixing_101 : decode cX0_buildMixing 101 = .ok (.iload 6, 2) := by decide +kernel
theorem dX0_buildMixing_103 : decode cX0_buildMixing 103 = .ok (.ixor, 1) := by decide +kernel
theorem dX0_buildMixing_104 : decode cX0_buildMixing 104 = .ok (.iload 4, 2) := by decide +kernel
theorem dX0_buildMixing_106 : decode cX0_buildMixing 106 = .ok (.ixor, 1) := by decide +kernel
theorem dX0_buildMixing_107 : decode cX0_buildMixing 107 = .ok (.bipush 8, 2) := by decide +kernel
theorem dX0_buildMixing_109 : decode cX0_buildMixing 109 = .ok (.ishl, 1) := by decide +kernel
theorem dX0_buildMixing_110 : decode cX0_buildMixing 110 = .ok (.ior, 1) := by decide +kernel
theorem dX0_buildMixing_111 : decode cX0_buildMixing 111 = .ok (.iload 7, 2) := by decide +kernel
theorem dX0_buildMixing_113 : decode cX0_buildMixing 113 = .ok (.iload 5, 2) := by decide +kernel
theorem dX0_buildMixing_115 : decode cX0_buildMixing 115 = .ok (.ixor, 1) := by decide +kernel
theorem dX0_buildMixing_116 : decode cX0_buildMixing 116 = .ok (.iload 4, 2) := by decide +kernel
theorem dX0_buildMixing_118 : decode cX0_buildMixing 118 = .ok (.ixor, 1) := by decide +kernel
theorem dX0_buildMixing_119 : decode cX0_buildMixing 119 = .ok (.ior, 1) := by decide +kernel
theorem dX0_buildMixing_120 : decode cX0_buildMixing 120 = .ok (.iastore, 1) := by decide +kernel
theorem dX0_buildMixing_121 : decode cX0_buildMixing 121 = .ok (.iinc 1 1, 3) := by decide +kernel
theorem dX0_buildMixing_124 : decode cX0_buildMixing 124 = .ok (.goto (-122), 3) := by decide +kernel
theorem dX0_buildMixing_127 : decode cX0_buildMixing 127 = .ok (.return_, 1) := by decide +kernel
theorem dX0_buildFallen_0 : decode cX0_buildFallen 0 = .ok (.iconst 0, 1) := by decide +kernel
theorem dX0_buildFallen_1 : decode cX0_buildFallen 1 = .ok (.istore_n 1, 1) := by decide +kernel
theorem dX0_buildFallen_2 : decode cX0_buildFallen 2 = .ok (.iload_n 1, 1) := by decide +kernel
theorem dX0_buildFallen_3 : decode cX0_buildFallen 3 = .ok (.bipush 16, 2) := by decide +kernel
theorem dX0_buildFallen_5 : decode cX0_buildFallen 5 = .ok (.if_icmp .ge 50, 3) := by decide +kernel
theorem dX0_buildFallen_8 : decode cX0_buildFallen 8 = .ok (.iconst 0, 1) := by decide +kernel
theorem dX0_buildFallen_9 : decode cX0_buildFallen 9 = .ok (.istore_n 2, 1) := by decide +kernel
theorem dX0_buildFallen_10 : decode cX0_buildFallen 10 = .ok (.iconst 0, 1) := by decide +kernel
theorem dX0_buildFallen_11 : decode cX0_buildFallen 11 = .ok (.istore_n 3, 1) := by decide +kernel
theorem dX0_buildFallen_12 : decode cX0_buildFallen 12 = .ok (.iload_n 3, 1) := by decide +kernel
theorem dX0_buildFallen_13 : decode cX0_buildFallen 13 = .ok (.iconst 4, 1) := by decide +kernel
theorem dX0_buildFallen_14 : decode cX0_buildFallen 14 = .ok (.if_icmp .ge 28, 3) := by decide +kernel
theorem dX0_buildFallen_17 : decode cX0_buildFallen 17 = .ok (.iload_n 2, 1) := by decide +kernel
theorem dX0_buildFallen_18 : decode cX0_buildFallen 18 = .ok (.iconst 1, 1) := by decide +kernel
theorem dX0_buildFallen_19 : decode cX0_buildFallen 19 = .ok (.iushr, 1) := by decide +kernel
theorem dX0_buildFallen_20 : decode cX0_buildFallen 20 = .ok (.iload_n 1, 1) := by decide +kernel
theorem dX0_buildFallen_21 : decode cX0_buildFallen 21 = .ok (.iload_n 3, 1) := by decide +kernel
theorem dX0_buildFallen_22 : decode cX0_buildFallen 22 = .ok (.iushr, 1) := by decide +kernel
theorem dX0_buildFallen_23 : decode cX0_buildFallen 23 = .ok (.iconst 1, 1) := by decide +kernel
theorem dX0_buildFallen_24 : decode cX0_buildFallen 24 = .ok (.iand, 1) := by decide +kernel
theorem dX0_buildFallen_25 : decode cX0_buildFallen 25 = .ok (.ifCond .eq 8, 3) := by decide +kernel
theorem dX0_buildFallen_28 : decode cX0_buildFallen 28 = .ok (.ldc 70, 2) := by decide +kernel
theorem dX0_buildFallen_30 : decode cX0_buildFallen 30 = .ok (.goto 4, 3) := by decide +kernel
theorem dX0_buildFallen_33 : decode cX0_buildFallen 33 = .ok (.iconst 0, 1) := by decide +kernel
theorem dX0_buildFallen_34 : decode cX0_buildFallen 34 = .ok (.ixor, 1) := by decide +kernel
theorem dX0_buildFallen_35 : decode cX0_buildFallen 35 = .ok (.istore_n 2, 1) := by decide +kernel
theorem dX0_buildFallen_36 : decode cX0_buildFallen 36 = .ok (.iinc 3 1, 3) := by decide +kernel
theorem dX0_buildFallen_39 : decode cX0_buildFallen 39 = .ok (.goto (-27), 3) := by decide +kernel
theorem dX0_buildFallen_42 : decode cX0_buildFallen 42 = .ok (.aload_n 0, 1) := by decide +kernel
theorem dX0_buildFallen_43 : decode cX0_buildFallen 43 = .ok (.getfield 43, 3) := by decide +kernel
theorem dX0_buildFallen_46 : decode cX0_buildFallen 46 = .ok (.iload_n 1, 1) := by decide +kernel
theorem dX0_buildFallen_47 : decode cX0_buildFallen 47 = .ok (.iload_n 2, 1) := by decide +kernel
theorem dX0_buildFallen_48 : decode cX0_buildFallen 48 = .ok (.iastore, 1) := by decide +kernel
theorem dX0_buildFallen_49 : decode cX0_buildFallen 49 = .ok (.iinc 1 1, 3) := by decide +kernel
theorem dX0_buildFallen_52 : decode cX0_buildFallen 52 = .ok (.goto (-50), 3) := by decide +kernel
theorem dX0_buildFallen_55 : decode cX0_buildFallen 55 = .ok (.return_, 1) := by decide +kernel
theorem dX0_key_0 : decode cX0_key 0 = .ok (.aload_n 0, 1) := by decide +kernel
theorem dX0_key_1 : decode cX0_key 1 = .ok (.getfield 22, 3) := by decide +kernel
theorem dX0_key_4 : decode cX0_key 4 = .ok (.iconst 0, 1) := by decide +kernel
theorem dX0_key_5 : decode cX0_key 5 = .ok (.iload_n 1, 1) := by decide +kernel
theorem dX0_key_6 : decode cX0_key 6 = .ok (.iastore, 1) := by decide +kernel
theorem dX0_key_7 : decode cX0_key 7 = .ok (.aload_n 0, 1) := by decide +kernel
theorem dX0_key_8 : decode cX0_key 8 = .ok (.getfield 22, 3) := by decide +kernel
theorem dX0_key_11 : decode cX0_key 11 = .ok (.iconst 1, 1) := by decide +kernel
theorem dX0_key_12 : decode cX0_key 12 = .ok (.iload_n 2, 1) := by decide +kernel
theorem dX0_key_13 : decode cX0_key 13 = .ok (.iastore, 1) := by decide +kernel
theorem dX0_key_14 : decode cX0_key 14 = .ok (.aload_n 0, 1) := by decide +kernel
theorem dX0_key_15 : decode cX0_key 15 = .ok (.getfield 22, 3) := by decide +kernel
theorem dX0_key_18 : decode cX0_key 18 = .ok (.iconst 2, 1) := by decide +kernel
theorem dX0_key_19 : decode cX0_key 19 = .ok (.iload_n 3, 1) := by decide +kernel
theorem dX0_key_20 : decode cX0_key 20 = .ok (.iastore, 1) := by decide +kernel
theorem dX0_key_21 : decode cX0_key 21 = .ok (.aload_n 0, 1) := by decide +kernel
theorem dX0_key_22 : decode cX0_key 22 = .ok (.getfield 22, 3) := by decide +kernel
theorem dX0_key_25 : decode cX0_key 25 = .ok (.iconst 3, 1) := by decide +kernel
theorem dX0_key_26 : decode cX0_key 26 = .ok (.iload 4, 2) := by decide +kernel
theorem dX0_key_28 : decode cX0_key 28 = .ok (.iastore, 1) := by decide +kernel
theorem dX0_key_29 : decode cX0_key 29 = .ok (.iconst 1, 1) := by decide +kernel
theorem dX0_key_30 : decode cX0_key 30 = .ok (.istore 5, 2) := by decide +kernel
theorem dX0_key_32 : decode cX0_key 32 = .ok (.iconst 4, 1) := by decide +kernel
theorem dX0_key_33 : decode cX0_key 33 = .ok (.istore 6, 2) := by decide +kernel
theorem dX0_key_35 : decode cX0_key 35 = .ok (.iload 6, 2) := by decide +kernel
theorem dX0_key_37 : decode cX0_key 37 = .ok (.bipush 44, 2) := by decide +kernel
theorem dX0_key_39 : decode cX0_key 39 = .ok (.if_icmp .ge 80, 3) := by decide +kernel
theorem dX0_key_42 : decode cX0_key 42 = .ok (.aload_n 0, 1) := by decide +kernel
theorem dX0_key_43 : decode cX0_key 43 = .ok (.getfield 22, 3) := by decide +kernel
theorem dX0_key_46 : decode cX0_key 46 = .ok (.iload 6, 2) := by decide +kernel
theorem dX0_key_48 : decode cX0_key 48 = .ok (.iconst 1, 1) := by decide +kernel
theorem dX0_key_49 : decode cX0_key 49 = .ok (.isub, 1) := by decide +kernel
theorem dX0_key_50 : decode cX0_key 50 = .ok (.iaload, 1) := by decide +kernel
theorem dX0_key_51 : decode cX0_key 51 = .ok (.istore 7, 2) := by decide +kernel
theorem dX0_key_53 : decode cX0_key 53 = .ok (.iload 6, 2) := by decide +kernel
theorem dX0_key_55 : decode cX0_key 55 = .ok (.iconst 3, 1) := by decide +kernel
theorem dX0_key_56 : decode cX0_key 56 = .ok (.iand, 1) := by decide +kernel
theorem dX0_key_57 : decode cX0_key 57 = .ok (.ifCond .ne 37, 3) := by decide +kernel
theorem dX0_key_60 : decode cX0_key 60 = .ok (.iload 7, 2) := by decide +kernel
theorem dX0_key_62 : decode cX0_key 62 = .ok (.bipush 8, 2) := by decide +kernel
theorem dX0_key_64 : decode cX0_key 64 = .ok (.ishl, 1) := by decide +kernel
theorem dX0_key_65 : decode cX0_key 65 = .ok (.iload 7, 2) := by decide +kernel
theorem dX0_key_67 : decode cX0_key 67 = .ok (.bipush 24, 2) := by decide +kernel
theorem dX0_key_69 : decode cX0_key 69 = .ok (.iushr, 1) := by decide +kernel
theorem dX0_key_70 : decode cX0_key 70 = .ok (.ior, 1) := by decide +kernel
theorem dX0_key_71 : decode cX0_key 71 = .ok (.istore 8, 2) := by decide +kernel
theorem dX0_key_73 : decode cX0_key 73 = .ok (.aload_n 0, 1) := by decide +kernel
theorem dX0_key_74 : decode cX0_key 74 = .ok (.iload 8, 2) := by decide +kernel
theorem dX0_key_76 : decode cX0_key 76 = .ok (.invokevirtual 71, 3) := by decide +kernel
theorem dX0_key_79 : decode cX0_key 79 = .ok (.iload 5, 2) := by decide +kernel
theorem dX0_key_81 : decode cX0_key 81 = .ok (.bipush 24, 2) := by decide +kernel
theorem dX0_key_83 : decode cX0_key 83 = .ok (.ishl, 1) := by decide +kernel
theorem dX0_key_84 : decode cX0_key 84 = .ok (.ixor, 1) := by decide +kernel
theorem dX0_key_85 : decode cX0_key 85 = .ok (.istore 7, 2) := by decide +kernel
theorem dX0_key_87 : decode cX0_key 87 = .ok (.iload 5, 2) := by decide +kernel
theorem dX0_key_89 : decode cX0_key 89 = .ok (.invokestatic 63, 3) := by decide +kernel
theorem dX0_key_92 : decode cX0_key 92 = .ok (.istore 5, 2) := by decide +kernel
theorem dX0_key_94 : decode cX0_key 94 = .ok (.aload_n 0, 1) := by decide +kernel
theorem dX0_key_95 : decode cX0_key 95 = .ok (.getfield 22, 3) := by decide +kernel
theorem dX0_key_98 : decode cX0_key 98 = .ok (.iload 6, 2) := by decide +kernel
theorem dX0_key_100 : decode cX0_key 100 = .ok (.aload_n 0, 1) := by decide +kernel
theorem dX0_key_101 : decode cX0_key 101 = .ok (.getfield 22, 3) := by decide +kernel
theorem dX0_key_104 : decode cX0_key 104 = .ok (.iload 6, 2) := by decide +kernel
theorem dX0_key_106 : decode cX0_key 106 = .ok (.iconst 4, 1) := by decide +kernel
theorem dX0_key_107 : decode cX0_key 107 = .ok (.isub, 1) := by decide +kernel
theorem dX0_key_108 : decode cX0_key 108 = .ok (.iaload, 1) := by decide +kernel
theorem dX0_key_109 : decode cX0_key 109 = .ok (.iload 7, 2) := by decide +kernel
theorem dX0_key_111 : decode cX0_key 111 = .ok (.ixor, 1) := by decide +kernel
theorem dX0_key_112 : decode cX0_key 112 = .ok (.iastore, 1) := by decide +kernel
theorem dX0_key_113 : decode cX0_key 113 = .ok (.iinc 6 1, 3) := by decide +kernel
theorem dX0_key_116 : decode cX0_key 116 = .ok (.goto (-81), 3) := by decide +kernel
theorem dX0_key_119 : decode cX0_key 119 = .ok (.iconst 0, 1) := by decide +kernel
theorem dX0_key_120 : decode cX0_key 120 = .ok (.istore 6, 2) := by decide +kernel
theorem dX0_key_122 : decode cX0_key 122 = .ok (.iload 6, 2) := by decide +kernel
theorem dX0_key_124 : decode cX0_key 124 = .ok (.bipush 44, 2) := by decide +kernel
theorem dX0_key_126 : decode cX0_key 126 = .ok (.if_icmp .ge 50, 3) := by decide +kernel
theorem dX0_key_129 : decode cX0_key 129 = .ok (.aload_n 0, 1) := by decide +kernel
theorem dX0_key_130 : decode cX0_key 130 = .ok (.getfield 25, 3) := by decide +kernel
theorem dX0_key_133 : decode cX0_key 133 = .ok (.iload 6, 2) := by decide +kernel
theorem dX0_key_135 : decode cX0_key 135 = .ok (.iload 6, 2) := by decide +kernel
theorem dX0_key_137 : decode cX0_key 137 = .ok (.iconst 4, 1) := by decide +kernel
theorem dX0_key_138 : decode cX0_key 138 = .ok (.if_icmp .lt 10, 3) := by decide +kernel
theorem dX0_key_141 : decode cX0_key 141 = .ok (.iload 6, 2) := by decide +kernel
theorem dX0_key_143 : decode cX0_key 143 = .ok (.bipush 40, 2) := by decide +kernel
theorem dX0_key_145 : decode cX0_key 145 = .ok (.if_icmp .lt 13, 3) := by decide +kernel
theorem dX0_key_148 : decode cX0_key 148 = .ok (.aload_n 0, 1) := by decide +kernel
theorem dX0_key_149 : decode cX0_key 149 = .ok (.getfield 22, 3) := by decide +kernel
theorem dX0_key_152 : decode cX0_key 152 = .ok (.iload 6, 2) := by decide +kernel
theorem dX0_key_154 : decode cX0_key 154 = .ok (.iaload, 1) := by decide +kernel
theorem dX0_key_155 : decode cX0_key 155 = .ok (.goto 14, 3) := by decide +kernel
theorem dX0_key_158 : decode cX0_key 158 = .ok (.aload_n 0, 1) := by decide +kernel
theorem dX0_key_159 : decode cX0_key 159 = .ok (.aload_n 0, 1) := by decide +kernel
theorem dX0_key_160 : decode cX0_key 160 = .ok (.getfield 22, 3) := by decide +kernel
theorem dX0_key_163 : decode cX0_key 163 = .ok (.iload 6, 2) := by decide +kernel
theorem dX0_key_165 : decode cX0_key 165 = .ok (.iaload, 1) := by decide +kernel
theorem dX0_key_166 : decode cX0_key 166 = .ok (.invokevirtual 74, 3) := by decide +kernel
theorem dX0_key_169 : decode cX0_key 169 = .ok (.iastore, 1) := by decide +kernel
theorem dX0_key_170 : decode cX0_key 170 = .ok (.iinc 6 1, 3) := by decide +kernel
theorem dX0_key_173 : decode cX0_key 173 = .ok (.goto (-51), 3) := by decide +kernel
theorem dX0_key_176 : decode cX0_key 176 = .ok (.aload_n 0, 1) := by decide +kernel
theorem dX0_key_177 : decode cX0_key 177 = .ok (.invokevirtual 77, 3) := by decide +kernel
theorem dX0_key_180 : decode cX0_key 180 = .ok (.return_, 1) := by decide +kernel
theorem dX0_substituteWord_0 : decode cX0_substituteWord 0 = .ok (.aload_n 0, 1) := by decide +kernel
theorem dX0_substituteWord_1 : decode cX0_substituteWord 1 = .ok (.getfield 7, 3) := by decide +kernel
theorem dX0_substituteWord_4 : decode cX0_substituteWord 4 = .ok (.iload_n 1, 1) := by decide +kernel
theorem dX0_substituteWord_5 : decode cX0_substituteWord 5 = .ok (.bipush 24, 2) := by decide +kernel
theorem dX0_substituteWord_7 : decode cX0_substituteWord 7 = .ok (.iushr, 1) := by decide +kernel
theorem dX0_substituteWord_8 : decode cX0_substituteWord 8 = .ok (.iaload, 1) := by decide +kernel
theorem dX0_substituteWord_9 : decode cX0_substituteWord 9 = .ok (.bipush 24, 2) := by decide +kernel
theorem dX0_substituteWord_11 : decode cX0_substituteWord 11 = .ok (.ishl, 1) := by decide +kernel
theorem dX0_substituteWord_12 : decode cX0_substituteWord 12 = .ok (.aload_n 0, 1) := by decide +kernel
theorem dX0_substituteWord_13 : decode cX0_substituteWord 13 = .ok (.getfield 7, 3) := by decide +kernel
theorem dX0_substituteWord_16 : decode cX0_substituteWord 16 = .ok (.iload_n 1, 1) := by decide +kernel
theorem dX0_substituteWord_17 : decode cX0_substituteWord 17 = .ok (.bipush 16, 2) := by decide +kernel
theorem dX0_substituteWord_19 : decode cX0_substituteWord 19 = .ok (.iushr, 1) := by decide +kernel
theorem dX0_substituteWord_20 : decode cX0_substituteWord 20 = .ok (.sipush 255, 3) := by decide +kernel
theorem dX0_substituteWord_23 : decode cX0_substituteWord 23 = .ok (.iand, 1) := by decide +kernel
theorem dX0_substituteWord_24 : decode cX0_substituteWord 24 = .ok (.iaload, 1) := by decide +kernel
theorem dX0_substituteWord_25 : decode cX0_substituteWord 25 = .ok (.bipush 16, 2) := by decide +kernel
theorem dX0_substituteWord_27 : decode cX0_substituteWord 27 = .ok (.ishl, 1) := by decide +kernel
theorem dX0_substituteWord_28 : decode cX0_substituteWord 28 = .ok (.ior, 1) := by decide +kernel
theorem dX0_substituteWord_29 : decode cX0_substituteWord 29 = .ok (.istore_n 2, 1) := by decide +kernel
theorem dX0_substituteWord_30 : decode cX0_substituteWord 30 = .ok (.iload_n 2, 1) := by decide +kernel
theorem dX0_substituteWord_31 : decode cX0_substituteWord 31 = .ok (.aload_n 0, 1) := by decide +kernel
theorem dX0_substituteWord_32 : decode cX0_substituteWord 32 = .ok (.getfield 7, 3) := by decide +kernel
theorem dX0_substituteWord_35 : decode cX0_substituteWord 35 = .ok (.iload_n 1, 1) := by decide +kernel
theorem dX0_substituteWord_36 : decode cX0_substituteWord 36 = .ok (.bipush 8, 2) := by decide +kernel
theorem dX0_substituteWord_38 : decode cX0_substituteWord 38 = .ok (.iushr, 1) := by decide +kernel
theorem dX0_substituteWord_39 : decode cX0_substituteWord 39 = .ok (.sipush 255, 3) := by decide +kernel
theorem dX0_substituteWord_42 : decode cX0_substituteWord 42 = .ok (.iand, 1) := by decide +kernel
theorem dX0_substituteWord_43 : decode cX0_substituteWord 43 = .ok (.iaload, 1) := by decide +kernel
theorem dX0_substituteWord_44 : decode cX0_substituteWord 44 = .ok (.bipush 8, 2) := by decide +kernel
theorem dX0_substituteWord_46 : decode cX0_substituteWord 46 = .ok (.ishl, 1) := by decide +kernel
theorem dX0_substituteWord_47 : decode cX0_substituteWord 47 = .ok (.ior, 1) := by decide +kernel
theorem dX0_substituteWord_48 : decode cX0_substituteWord 48 = .ok (.aload_n 0, 1) := by decide +kernel
theorem dX0_substituteWord_49 : decode cX0_substituteWord 49 = .ok (.getfield 7, 3) := by decide +kernel
theorem dX0_substituteWord_52 : decode cX0_substituteWord 52 = .ok (.iload_n 1, 1) := by decide +kernel
theorem dX0_substituteWord_53 : decode cX0_substituteWord 53 = .ok (.sipush 255, 3) := by decide +kernel
theorem dX0_substituteWord_56 : decode cX0_substituteWord 56 = .ok (.iand, 1) := by decide +kernel
theorem dX0_substituteWord_57 : decode cX0_substituteWord 57 = .ok (.iaload, 1) := by decide +kernel
theorem dX0_substituteWord_58 : decode cX0_substituteWord 58 = .ok (.ior, 1) := by decide +kernel
theorem dX0_substituteWord_59 : decode cX0_substituteWord 59 = .ok (.ireturn, 1) := by decide +kernel
theorem dX0_turnMixing_0 : decode cX0_turnMixing 0 = .ok (.aload_n 0, 1) := by decide +kernel
theorem dX0_turnMixing_1 : decode cX0_turnMixing 1 = .ok (.getfield 19, 3) := by decide +kernel
theorem dX0_turnMixing_4 : decode cX0_turnMixing 4 = .ok (.aload_n 0, 1) := by decide +kernel
theorem dX0_turnMixing_5 : decode cX0_turnMixing 5 = .ok (.getfield 7, 3) := by decide +kernel
theorem dX0_turnMixing_8 : decode cX0_turnMixing 8 = .ok (.iload_n 1, 1) := by decide +kernel
theorem dX0_turnMixing_9 : decode cX0_turnMixing 9 = .ok (.bipush 24, 2) := by decide +kernel
theorem dX0_turnMixing_11 : decode cX0_turnMixing 11 = .ok (.iushr, 1) := by decide +kernel
theorem dX0_turnMixing_12 : decode cX0_turnMixing 12 = .ok (.iaload, 1) := by decide +kernel
theorem dX0_turnMixing_13 : decode cX0_turnMixing 13 = .ok (.iaload, 1) := by decide +kernel
theorem dX0_turnMixing_14 : decode cX0_turnMixing 14 = .ok (.istore_n 2, 1) := by decide +kernel
theorem dX0_turnMixing_15 : decode cX0_turnMixing 15 = .ok (.aload_n 0, 1) := by decide +kernel
theorem dX0_turnMixing_16 : decode cX0_turnMixing 16 = .ok (.getfield 19, 3) := by decide +kernel
theorem dX0_turnMixing_19 : decode cX0_turnMixing 19 = .ok (.aload_n 0, 1) := by decide +kernel
theorem dX0_turnMixing_20 : decode cX0_turnMixing 20 = .ok (.getfield 7, 3) := by decide +kernel
theorem dX0_turnMixing_23 : decode cX0_turnMixing 23 = .ok (.iload_n 1, 1) := by decide +kernel
theorem dX0_turnMixing_24 : decode cX0_turnMixing 24 = .ok (.bipush 16, 2) := by decide +kernel
theorem dX0_turnMixing_26 : decode cX0_turnMixing 26 = .ok (.iushr, 1) := by decide +kernel
theorem dX0_turnMixing_27 : decode cX0_turnMixing 27 = .ok (.sipush 255, 3) := by decide +kernel
theorem dX0_turnMixing_30 : decode cX0_turnMixing 30 = .ok (.iand, 1) := by decide +kernel
theorem dX0_turnMixing_31 : decode cX0_turnMixing 31 = .ok (.iaload, 1) := by decide +kernel
theorem dX0_turnMixing_32 : decode cX0_turnMixing 32 = .ok (.iaload, 1) := by decide +kernel
theorem dX0_turnMixing_33 : decode cX0_turnMixing 33 = .ok (.istore_n 3, 1) := by decide +kernel
theorem dX0_turnMixing_34 : decode cX0_turnMixing 34 = .ok (.aload_n 0, 1) := by decide +kernel
theorem dX0_turnMixing_35 : decode cX0_turnMixing 35 = .ok (.getfield 19, 3) := by decide +kernel
theorem dX0_turnMixing_38 : decode cX0_turnMixing 38 = .ok (.aload_n 0, 1) := by decide +kernel
theorem dX0_turnMixing_39 : decode cX0_turnMixing 39 = .ok (.getfield 7, 3) := by decide +kernel
theorem dX0_turnMixing_42 : decode cX0_turnMixing 42 = .ok (.iload_n 1, 1) := by decide +kernel
theorem dX0_turnMixing_43 : decode cX0_turnMixing 43 = .ok (.bipush 8, 2) := by decide +kernel
theorem dX0_turnMixing_45 : decode cX0_turnMixing 45 = .ok (.iushr, 1) := by decide +kernel
theorem dX0_turnMixing_46 : decode cX0_turnMixing 46 = .ok (.sipush 255, 3) := by decide +kernel
theorem dX0_turnMixing_49 : decode cX0_turnMixing 49 = .ok (.iand, 1) := by decide +kernel
theorem dX0_turnMixing_50 : decode cX0_turnMixing 50 = .ok (.iaload, 1) := by decide +kernel
theorem dX0_turnMixing_51 : decode cX0_turnMixing 51 = .ok (.iaload, 1) := by decide +kernel
theorem dX0_turnMixing_52 : decode cX0_turnMixing 52 = .ok (.istore 4, 2) := by decide +kernel
theorem dX0_turnMixing_54 : decode cX0_turnMixing 54 = .ok (.aload_n 0, 1) := by decide +kernel
theorem dX0_turnMixing_55 : decode cX0_turnMixing 55 = .ok (.getfield 19, 3) := by decide +kernel
theorem dX0_turnMixing_58 : decode cX0_turnMixing 58 = .ok (.aload_n 0, 1) := by decide +kernel
theorem dX0_turnMixing_59 : decode cX0_turnMixing 59 = .ok (.getfield 7, 3) := by decide +kernel
theorem dX0_turnMixing_62 : decode cX0_turnMixing 62 = .ok (.iload_n 1, 1) := by decide +kernel
theorem dX0_turnMixing_63 : decode cX0_turnMixing 63 = .ok (.sipush 255, 3) := by decide +kernel
theorem dX0_turnMixing_66 : decode cX0_turnMixing 66 = .ok (.iand, 1) := by decide +kernel
theorem dX0_turnMixing_67 : decode cX0_turnMixing 67 = .ok (.iaload, 1) := by decide +kernel
theorem dX0_turnMixing_68 : decode cX0_turnMixing 68 = .ok (.iaload, 1) := by decide +kernel
theorem dX0_turnMixing_69 : decode cX0_turnMixing 69 = .ok (.istore 5, 2) := by decide +kernel
theorem dX0_turnMixing_71 : decode cX0_turnMixing 71 = .ok (.iload_n 2, 1) := by decide +kernel
theorem dX0_turnMixing_72 : decode cX0_turnMixing 72 = .ok (.iload_n 3, 1) := by decide +kernel
theorem dX0_turnMixing_73 : decode cX0_turnMixing 73 = .ok (.bipush 8, 2) := by decide +kernel
theorem dX0_turnMixing_75 : decode cX0_turnMixing 75 = .ok (.invokestatic 101, 3) := by decide +kernel
theorem dX0_turnMixing_78 : decode cX0_turnMixing 78 = .ok (.ixor, 1) := by decide +kernel
theorem dX0_turnMixing_79 : decode cX0_turnMixing 79 = .ok (.iload 4, 2) := by decide +kernel
theorem dX0_turnMixing_81 : decode cX0_turnMixing 81 = .ok (.bipush 16, 2) := by decide +kernel
theorem dX0_turnMixing_83 : decode cX0_turnMixing 83 = .ok (.invokestatic 101, 3) := by decide +kernel
theorem dX0_turnMixing_86 : decode cX0_turnMixing 86 = .ok (.ixor, 1) := by decide +kernel
theorem dX0_turnMixing_87 : decode cX0_turnMixing 87 = .ok (.iload 5, 2) := by decide +kernel
theorem dX0_turnMixing_89 : decode cX0_turnMixing 89 = .ok (.bipush 24, 2) := by decide +kernel
theorem dX0_turnMixing_91 : decode cX0_turnMixing 91 = .ok (.invokestatic 101, 3) := by decide +kernel
theorem dX0_turnMixing_94 : decode cX0_turnMixing 94 = .ok (.ixor, 1) := by decide +kernel
theorem dX0_turnMixing_95 : decode cX0_turnMixing 95 = .ok (.ireturn, 1) := by decide +kernel
theorem dX0_turnRight_0 : decode cX0_turnRight 0 = .ok (.iload_n 0, 1) := by decide +kernel
theorem dX0_turnRight_1 : decode cX0_turnRight 1 = .ok (.iload_n 1, 1) := by decide +kernel
theorem dX0_turnRight_2 : decode cX0_turnRight 2 = .ok (.iushr, 1) := by decide +kernel
theorem dX0_turnRight_3 : decode cX0_turnRight 3 = .ok (.iload_n 0, 1) := by decide +kernel
theorem dX0_turnRight_4 : decode cX0_turnRight 4 = .ok (.bipush 32, 2) := by decide +kernel
theorem dX0_turnRight_6 : decode cX0_turnRight 6 = .ok (.iload_n 1, 1) := by decide +kernel
theorem dX0_turnRight_7 : decode cX0_turnRight 7 = .ok (.isub, 1) := by decide +kernel
theorem dX0_turnRight_8 : decode cX0_turnRight 8 = .ok (.ishl, 1) := by decide +kernel
theorem dX0_turnRight_9 : decode cX0_turnRight 9 = .ok (.ior, 1) := by decide +kernel
theorem dX0_turnRight_10 : decode cX0_turnRight 10 = .ok (.ireturn, 1) := by decide +kernel
theorem dX0_buildMultiples_0 : decode cX0_buildMultiples 0 = .ok (.iconst 0, 1) := by decide +kernel
theorem dX0_buildMultiples_1 : decode cX0_buildMultiples 1 = .ok (.istore_n 1, 1) := by decide +kernel
theorem dX0_buildMultiples_2 : decode cX0_buildMultiples 2 = .ok (.iload_n 1, 1) := by decide +kernel
theorem dX0_buildMultiples_3 : decode cX0_buildMultiples 3 = .ok (.iconst 4, 1) := by decide +kernel
theorem dX0_buildMultiples_4 : decode cX0_buildMultiples 4 = .ok (.if_icmp .ge 23, 3) := by decide +kernel
theorem dX0_buildMultiples_7 : decode cX0_buildMultiples 7 = .ok (.aload_n 0, 1) := by decide +kernel
theorem dX0_buildMultiples_8 : decode cX0_buildMultiples 8 = .ok (.getfield 34, 3) := by decide +kernel
theorem dX0_buildMultiples_11 : decode cX0_buildMultiples 11 = .ok (.iload_n 1, 1) := by decide +kernel
theorem dX0_buildMultiples_12 : decode cX0_buildMultiples 12 = .ok (.iconst 0, 1) := by decide +kernel
theorem dX0_buildMultiples_13 : decode cX0_buildMultiples 13 = .ok (.iastore, 1) := by decide +kernel
theorem dX0_buildMultiples_14 : decode cX0_buildMultiples 14 = .ok (.aload_n 0, 1) := by decide +kernel
theorem dX0_buildMultiples_15 : decode cX0_buildMultiples 15 = .ok (.getfield 40, 3) := by decide +kernel
theorem dX0_buildMultiples_18 : decode cX0_buildMultiples 18 = .ok (.iload_n 1, 1) := by decide +kernel
theorem dX0_buildMultiples_19 : decode cX0_buildMultiples 19 = .ok (.iconst 0, 1) := by decide +kernel
theorem dX0_buildMultiples_20 : decode cX0_buildMultiples 20 = .ok (.iastore, 1) := by decide +kernel
theorem dX0_buildMultiples_21 : decode cX0_buildMultiples 21 = .ok (.iinc 1 1, 3) := by decide +kernel
theorem dX0_buildMultiples_24 : decode cX0_buildMultiples 24 = .ok (.goto (-22), 3) := by decide +kernel
theorem dX0_buildMultiples_27 : decode cX0_buildMultiples 27 = .ok (.aload_n 0, 1) := by decide +kernel
theorem dX0_buildMultiples_28 : decode cX0_buildMultiples 28 = .ok (.invokevirtual 83, 3) := by decide +kernel
theorem dX0_buildMultiples_31 : decode cX0_buildMultiples 31 = .ok (.bipush 8, 2) := by decide +kernel
theorem dX0_buildMultiples_33 : decode cX0_buildMultiples 33 = .ok (.istore_n 1, 1) := by decide +kernel
theorem dX0_buildMultiples_34 : decode cX0_buildMultiples 34 = .ok (.iload_n 1, 1) := by decide +kernel
theorem dX0_buildMultiples_35 : decode cX0_buildMultiples 35 = .ok (.ifCond .le 43, 3) := by decide +kernel
theorem dX0_buildMultiples_38 : decode cX0_buildMultiples 38 = .ok (.iconst 0, 1) := by decide +kernel
theorem dX0_buildMultiples_39 : decode cX0_buildMultiples 39 = .ok (.istore_n 2, 1) := by decide +kernel
theorem dX0_buildMultiples_40 : decode cX0_buildMultiples 40 = .ok (.iload_n 2, 1) := by decide +kernel
theorem dX0_buildMultiples_41 : decode cX0_buildMultiples 41 = .ok (.iconst 4, 1) := by decide +kernel
theorem dX0_buildMultiples_42 : decode cX0_buildMultiples 42 = .ok (.if_icmp .ge 25, 3) := by decide +kernel
theorem dX0_buildMultiples_45 : decode cX0_buildMultiples 45 = .ok (.aload_n 0, 1) := by decide +kernel
theorem dX0_buildMultiples_46 : decode cX0_buildMultiples 46 = .ok (.getfield 40, 3) := by decide +kernel
theorem dX0_buildMultiples_49 : decode cX0_buildMultiples 49 = .ok (.iconst 4, 1) := by decide +kernel
theorem dX0_buildMultiples_50 : decode cX0_buildMultiples 50 = .ok (.iload_n 1, 1) := by decide +kernel
theorem dX0_buildMultiples_51 : decode cX0_buildMultiples 51 = .ok (.imul, 1) := by decide +kernel
theorem dX0_buildMultiples_52 : decode cX0_buildMultiples 52 = .ok (.iload_n 2, 1) := by decide +kernel
theorem dX0_buildMultiples_53 : decode cX0_buildMultiples 53 = .ok (.iadd, 1) := by decide +kernel
theorem dX0_buildMultiples_54 : decode cX0_buildMultiples 54 = .ok (.aload_n 0, 1) := by decide +kernel
theorem dX0_buildMultiples_55 : decode cX0_buildMultiples 55 = .ok (.getfield 34, 3) := by decide +kernel
theorem dX0_buildMultiples_58 : decode cX0_buildMultiples 58 = .ok (.iload_n 2, 1) := by decide +kernel
theorem dX0_buildMultiples_59 : decode cX0_buildMultiples 59 = .ok (.iaload, 1) := by decide +kernel
theorem dX0_buildMultiples_60 : decode cX0_buildMultiples 60 = .ok (.iastore, 1) := by decide +kernel
theorem dX0_buildMultiples_61 : decode cX0_buildMultiples 61 = .ok (.iinc 2 1, 3) := by decide +kernel
theorem dX0_buildMultiples_64 : decode cX0_buildMultiples 64 = .ok (.goto (-24), 3) := by decide +kernel
theorem dX0_buildMultiples_67 : decode cX0_buildMultiples 67 = .ok (.aload_n 0, 1) := by decide +kernel
theorem dX0_buildMultiples_68 : decode cX0_buildMultiples 68 = .ok (.invokevirtual 108, 3) := by decide +kernel
theorem dX0_buildMultiples_71 : decode cX0_buildMultiples 71 = .ok (.iload_n 1, 1) := by decide +kernel
theorem dX0_buildMultiples_72 : decode cX0_buildMultiples 72 = .ok (.iconst 2, 1) := by decide +kernel
theorem dX0_buildMultiples_73 : decode cX0_buildMultiples 73 = .ok (.idiv, 1) := by decide +kernel
theorem dX0_buildMultiples_74 : decode cX0_buildMultiples 74 = .ok (.istore_n 1, 1) := by decide +kernel
theorem dX0_buildMultiples_75 : decode cX0_buildMultiples 75 = .ok (.goto (-41), 3) := by decide +kernel
theorem dX0_buildMultiples_78 : decode cX0_buildMultiples 78 = .ok (.iconst 3, 1) := by decide +kernel
theorem dX0_buildMultiples_79 : decode cX0_buildMultiples 79 = .ok (.istore_n 1, 1) := by decide +kernel
theorem dX0_buildMultiples_80 : decode cX0_buildMultiples 80 = .ok (.iload_n 1, 1) := by decide +kernel
theorem dX0_buildMultiples_81 : decode cX0_buildMultiples 81 = .ok (.bipush 16, 2) := by decide +kernel
theorem dX0_buildMultiples_83 : decode cX0_buildMultiples 83 = .ok (.if_icmp .ge 65, 3) := by decide +kernel
theorem dX0_buildMultiples_86 : decode cX0_buildMultiples 86 = .ok (.iload_n 1, 1) := by decide +kernel
theorem dX0_buildMultiples_87 : decode cX0_buildMultiples 87 = .ok (.iload_n 1, 1) := by decide +kernel
theorem dX0_buildMultiples_88 : decode cX0_buildMultiples 88 = .ok (.ineg, 1) := by decide +kernel
theorem dX0_buildMultiples_89 : decode cX0_buildMultiples 89 = .ok (.iand, 1) := by decide +kernel
theorem dX0_buildMultiples_90 : decode cX0_buildMultiples 90 = .ok (.istore_n 2, 1) := by decide +kernel
theorem dX0_buildMultiples_91 : decode cX0_buildMultiples 91 = .ok (.iload_n 2, 1) := by decide +kernel
theorem dX0_buildMultiples_92 : decode cX0_buildMultiples 92 = .ok (.iload_n 1, 1) := by decide +kernel
theorem dX0_buildMultiples_93 : decode cX0_buildMultiples 93 = .ok (.if_icmp .eq 49, 3) := by decide +kernel
theorem dX0_buildMultiples_96 : decode cX0_buildMultiples 96 = .ok (.iconst 0, 1) := by decide +kernel
theorem dX0_buildMultiples_97 : decode cX0_buildMultiples 97 = .ok (.istore_n 3, 1) := by decide +kernel
theorem dX0_buildMultiples_98 : decode cX0_buildMultiples 98 = .ok (.iload_n 3, 1) := by decide +kernel
theorem dX0_buildMultiples_99 : decode cX0_buildMultiples 99 = .ok (.iconst 4, 1) := by decide +kernel
theorem dX0_buildMultiples_100 : decode cX0_buildMultiples 100 = .ok (.if_icmp .ge 42, 3) := by decide +kernel
theorem dX0_buildMultiples_103 : decode cX0_buildMultiples 103 = .ok (.aload_n 0, 1) := by decide +kernel
theorem dX0_buildMultiples_104 : decode cX0_buildMultiples 104 = .ok (.getfield 40, 3) := by decide +kernel
theorem dX0_buildMultiples_107 : decode cX0_buildMultiples 107 = .ok (.iconst 4, 1) := by decide +kernel
theorem dX0_buildMultiples_108 : decode cX0_buildMultiples 108 = .ok (.iload_n 1, 1) := by decide +kernel
theorem dX0_buildMultiples_109 : decode cX0_buildMultiples 109 = .ok (.imul, 1) := by decide +kernel
theorem dX0_buildMultiples_110 : decode cX0_buildMultiples 110 = .ok (.iload_n 3, 1) := by decide +kernel
theorem dX0_buildMultiples_111 : decode cX0_buildMultiples 111 = .ok (.iadd, 1) := by decide +kernel
theorem dX0_buildMultiples_112 : decode cX0_buildMultiples 112 = .ok (.aload_n 0, 1) := by decide +kernel
theorem dX0_buildMultiples_113 : decode cX0_buildMultiples 113 = .ok (.getfield 40, 3) := by decide +kernel
theorem dX0_buildMultiples_116 : decode cX0_buildMultiples 116 = .ok (.iconst 4, 1) := by decide +kernel
theorem dX0_buildMultiples_117 : decode cX0_buildMultiples 117 = .ok (.iload_n 2, 1) := by decide +kernel
theorem dX0_buildMultiples_118 : decode cX0_buildMultiples 118 = .ok (.imul, 1) := by decide +kernel
theorem dX0_buildMultiples_119 : decode cX0_buildMultiples 119 = .ok (.iload_n 3, 1) := by decide +kernel
theorem dX0_buildMultiples_120 : decode cX0_buildMultiples 120 = .ok (.iadd, 1) := by decide +kernel
theorem dX0_buildMultiples_121 : decode cX0_buildMultiples 121 = .ok (.iaload, 1) := by decide +kernel
theorem dX0_buildMultiples_122 : decode cX0_buildMultiples 122 = .ok (.aload_n 0, 1) := by decide +kernel
theorem dX0_buildMultiples_123 : decode cX0_buildMultiples 123 = .ok (.getfield 40, 3) := by decide +kernel
theorem dX0_buildMultiples_126 : decode cX0_buildMultiples 126 = .ok (.iconst 4, 1) := by decide +kernel
theorem dX0_buildMultiples_127 : decode cX0_buildMultiples 127 = .ok (.iload_n 1, 1) := by decide +kernel
theorem dX0_buildMultiples_128 : decode cX0_buildMultiples 128 = .ok (.iload_n 2, 1) := by decide +kernel
theorem dX0_buildMultiples_129 : decode cX0_buildMultiples 129 = .ok (.isub, 1) := by decide +kernel
theorem dX0_buildMultiples_130 : decode cX0_buildMultiples 130 = .ok (.imul, 1) := by decide +kernel
theorem dX0_buildMultiples_131 : decode cX0_buildMultiples 131 = .ok (.iload_n 3, 1) := by decide +kernel
theorem dX0_buildMultiples_132 : decode cX0_buildMultiples 132 = .ok (.iadd, 1) := by decide +kernel
theorem dX0_buildMultiples_133 : decode cX0_buildMultiples 133 = .ok (.iaload, 1) := by decide +kernel
theorem dX0_buildMultiples_134 : decode cX0_buildMultiples 134 = .ok (.ixor, 1) := by decide +kernel
theorem dX0_buildMultiples_135 : decode cX0_buildMultiples 135 = .ok (.iastore, 1) := by decide +kernel
theorem dX0_buildMultiples_136 : decode cX0_buildMultiples 136 = .ok (.iinc 3 1, 3) := by decide +kernel
theorem dX0_buildMultiples_139 : decode cX0_buildMultiples 139 = .ok (.goto (-41), 3) := by decide +kernel
theorem dX0_buildMultiples_142 : decode cX0_buildMultiples 142 = .ok (.iinc 1 1, 3) := by decide +kernel
theorem dX0_buildMultiples_145 : decode cX0_buildMultiples 145 = .ok (.goto (-65), 3) := by decide +kernel
theorem dX0_buildMultiples_148 : decode cX0_buildMultiples 148 = .ok (.return_, 1) := by decide +kernel
theorem dX0_runForward_0 : decode cX0_runForward 0 = .ok (.iconst 0, 1) := by decide +kernel
theorem dX0_runForward_1 : decode cX0_runForward 1 = .ok (.istore_n 1, 1) := by decide +kernel
theorem dX0_runForward_2 : decode cX0_runForward 2 = .ok (.iload_n 1, 1) := by decide +kernel
theorem dX0_runForward_3 : decode cX0_runForward 3 = .ok (.iconst 4, 1) := by decide +kernel
theorem dX0_runForward_4 : decode cX0_runForward 4 = .ok (.if_icmp .ge 24, 3) := by decide +kernel
theorem dX0_runForward_7 : decode cX0_runForward 7 = .ok (.aload_n 0, 1) := by decide +kernel
theorem dX0_runForward_8 : decode cX0_runForward 8 = .ok (.getfield 34, 3) := by decide +kernel
theorem dX0_runForward_11 : decode cX0_runForward 11 = .ok (.iload_n 1, 1) := by decide +kernel
theorem dX0_runForward_12 : decode cX0_runForward 12 = .ok (.dup2, 1) := by decide +kernel
theorem dX0_runForward_13 : decode cX0_runForward 13 = .ok (.iaload, 1) := by decide +kernel
theorem dX0_runForward_14 : decode cX0_runForward 14 = .ok (.aload_n 0, 1) := by decide +kernel
theorem dX0_runForward_15 : decode cX0_runForward 15 = .ok (.getfield 22, 3) := by decide +kernel
theorem dX0_runForward_18 : decode cX0_runForward 18 = .ok (.iload_n 1, 1) := by decide +kernel
theorem dX0_runForward_19 : decode cX0_runForward 19 = .ok (.iaload, 1) := by decide +kernel
theorem dX0_runForward_20 : decode cX0_runForward 20 = .ok (.ixor, 1) := by decide +kernel
theorem dX0_runForward_21 : decode cX0_runForward 21 = .ok (.iastore, 1) := by decide +kernel
theorem dX0_runForward_22 : decode cX0_runForward 22 = .ok (.iinc 1 1, 3) := by decide +kernel
theorem dX0_runForward_25 : decode cX0_runForward 25 = .ok (.goto (-23), 3) := by decide +kernel
theorem dX0_runForward_28 : decode cX0_runForward 28 = .ok (.iconst 1, 1) := by decide +kernel
theorem dX0_runForward_29 : decode cX0_runForward 29 = .ok (.istore_n 1, 1) := by decide +kernel
theorem dX0_runForward_30 : decode cX0_runForward 30 = .ok (.iload_n 1, 1) := by decide +kernel
theorem dX0_runForward_31 : decode cX0_runForward 31 = .ok (.bipush 10, 2) := by decide +kernel
theorem dX0_runForward_33 : decode cX0_runForward 33 = .ok (.if_icmp .ge 48, 3) := by decide +kernel
theorem dX0_runForward_36 : decode cX0_runForward 36 = .ok (.iconst 0, 1) := by decide +kernel
theorem dX0_runForward_37 : decode cX0_runForward 37 = .ok (.istore_n 2, 1) := by decide +kernel
theorem dX0_runForward_38 : decode cX0_runForward 38 = .ok (.iload_n 2, 1) := by decide +kernel
theorem dX0_runForward_39 : decode cX0_runForward 39 = .ok (.iconst 4, 1) := by decide +kernel
theorem dX0_runForward_40 : decode cX0_runForward 40 = .ok (.if_icmp .ge 31, 3) := by decide +kernel
theorem dX0_runForward_43 : decode cX0_runForward 43 = .ok (.aload_n 0, 1) := by decide +kernel
theorem dX0_runForward_44 : decode cX0_runForward 44 = .ok (.getfield 37, 3) := by decide +kernel
theorem dX0_runForward_47 : decode cX0_runForward 47 = .ok (.iload_n 2, 1) := by decide +kernel
theorem dX0_runForward_48 : decode cX0_runForward 48 = .ok (.aload_n 0, 1) := by decide +kernel
theorem dX0_runForward_49 : decode cX0_runForward 49 = .ok (.iload_n 2, 1) := by decide +kernel
theorem dX0_runForward_50 : decode cX0_runForward 50 = .ok (.invokevirtual 95, 3) := by decide +kernel
theorem dX0_runForward_53 : decode cX0_runForward 53 = .ok (.aload_n 0, 1) := by decide +kernel
theorem dX0_runForward_54 : decode cX0_runForward 54 = .ok (.getfield 22, 3) := by decide +kernel
theorem dX0_runForward_57 : decode cX0_runForward 57 = .ok (.iconst 4, 1) := by decide +kernel
theorem dX0_runForward_58 : decode cX0_runForward 58 = .ok (.iload_n 1, 1) := by decide +kernel
theorem dX0_runForward_59 : decode cX0_runForward 59 = .ok (.imul, 1) := by decide +kernel
theorem dX0_runForward_60 : decode cX0_runForward 60 = .ok (.iload_n 2, 1) := by decide +kernel
theorem dX0_runForward_61 : decode cX0_runForward 61 = .ok (.iadd, 1) := by decide +kernel
theorem dX0_runForward_62 : decode cX0_runForward 62 = .ok (.iaload, 1) := by decide +kernel
theorem dX0_runForward_63 : decode cX0_runForward 63 = .ok (.ixor, 1) := by decide +kernel
theorem dX0_runForward_64 : decode cX0_runForward 64 = .ok (.iastore, 1) := by decide +kernel
theorem dX0_runForward_65 : decode cX0_runForward 65 = .ok (.iinc 2 1, 3) := by decide +kernel
theorem dX0_runForward_68 : decode cX0_runForward 68 = .ok (.goto (-30), 3) := by decide +kernel
theorem dX0_runForward_71 : decode cX0_runForward 71 = .ok (.aload_n 0, 1) := by decide +kernel
theorem dX0_runForward_72 : decode cX0_runForward 72 = .ok (.invokevirtual 98, 3) := by decide +kernel
theorem dX0_runForward_75 : decode cX0_runForward 75 = .ok (.iinc 1 1, 3) := by decide +kernel
theorem dX0_runForward_78 : decode cX0_runForward 78 = .ok (.goto (-48), 3) := by decide +kernel
theorem dX0_runForward_81 : decode cX0_runForward 81 = .ok (.iconst 0, 1) := by decide +kernel
theorem dX0_runForward_82 : decode cX0_runForward 82 = .ok (.istore_n 1, 1) := by decide +kernel
theorem dX0_runForward_83 : decode cX0_runForward 83 = .ok (.iload_n 1, 1) := by decide +kernel
theorem dX0_runForward_84 : decode cX0_runForward 84 = .ok (.iconst 4, 1) := by decide +kernel
theorem dX0_runForward_85 : decode cX0_runForward 85 = .ok (.if_icmp .ge 118, 3) := by decide +kernel
theorem dX0_runForward_88 : decode cX0_runForward 88 = .ok (.aload_n 0, 1) := by decide +kernel
theorem dX0_runForward_89 : decode cX0_runForward 89 = .ok (.getfield 7, 3) := by decide +kernel
theorem dX0_runForward_92 : decode cX0_runForward 92 = .ok (.aload_n 0, 1) := by decide +kernel
theorem dX0_runForward_93 : decode cX0_runForward 93 = .ok (.getfield 34, 3) := by decide +kernel
theorem dX0_runForward_96 : decode cX0_runForward 96 = .ok (.iload_n 1, 1) := by decide +kernel
theorem dX0_runForward_97 : decode cX0_runForward 97 = .ok (.iaload, 1) := by decide +kernel
theorem dX0_runForward_98 : decode cX0_runForward 98 = .ok (.bipush 24, 2) := by decide +kernel
theorem dX0_runForward_100 : decode cX0_runForward 100 = .ok (.iushr, 1) := by decide +kernel
theorem dX0_runForward_101 : decode cX0_runForward 101 = .ok (.iaload, 1) := by decide +kernel
theorem dX0_runForward_102 : decode cX0_runForward 102 = .ok (.bipush 24, 2) := by decide +kernel
theorem dX0_runForward_104 : decode cX0_runForward 104 = .ok (.ishl, 1) := by decide +kernel
theorem dX0_runForward_105 : decode cX0_runForward 105 = .ok (.aload_n 0, 1) := by decide +kernel
theorem dX0_runForward_106 : decode cX0_runForward 106 = .ok (.getfield 7, 3) := by decide +kernel
theorem dX0_runForward_109 : decode cX0_runForward 109 = .ok (.aload_n 0, 1) := by decide +kernel
theorem dX0_runForward_110 : decode cX0_runForward 110 = .ok (.getfield 34, 3) := by decide +kernel
theorem dX0_runForward_113 : decode cX0_runForward 113 = .ok (.iload_n 1, 1) := by decide +kernel
theorem dX0_runForward_114 : decode cX0_runForward 114 = .ok (.iconst 1, 1) := by decide +kernel
theorem dX0_runForward_115 : decode cX0_runForward 115 = .ok (.iadd, 1) := by decide +kernel
theorem dX0_runForward_116 : decode cX0_runForward 116 = .ok (.iconst 3, 1) := by decide +kernel
theorem dX0_runForward_117 : decode cX0_runForward 117 = .ok (.iand, 1) := by decide +kernel
theorem dX0_runForward_118 : decode cX0_runForward 118 = .ok (.iaload, 1) := by decide +kernel
end
section
set_option maxRecDepth 100000
theorem dX0_runForward_119 : decode cX0_runForward 119 = .ok (.bipush 16, 2) := by decide +kernel
theorem dX0_runForward_121 : decode cX0_runForward 121 = .ok (.iushr, 1) := by decide +kernel
theorem dX0_runForward_122 : decode cX0_runForward 122 = .ok (.sipush 255, 3) := by decide +kernel
theorem dX0_runForward_125 : decode cX0_runForward 125 = .ok (.iand, 1) := by decide +kernel
theorem dX0_runForward_126 : decode cX0_runForward 126 = .ok (.iaload, 1) := by decide +kernel
theorem dX0_runForward_127 : decode cX0_runForward 127 = .ok (.bipush 16, 2) := by decide +kernel
theorem dX0_runForward_129 : decode cX0_runForward 129 = .ok (.ishl, 1) := by decide +kernel
theorem dX0_runForward_130 : decode cX0_runForward 130 = .ok (.ior, 1) := by decide +kernel
theorem dX0_runForward_131 : decode cX0_runForward 131 = .ok (.istore_n 2, 1) := by decide +kernel
theorem dX0_runForward_132 : decode cX0_runForward 132 = .ok (.aload_n 0, 1) := by decide +kernel
theorem dX0_runForward_133 : decode cX0_runForward 133 = .ok (.getfield 7, 3) := by decide +kernel
theorem dX0_runForward_136 : decode cX0_runForward 136 = .ok (.aload_n 0, 1) := by decide +kernel
theorem dX0_runForward_137 : decode cX0_runForward 137 = .ok (.getfield 34, 3) := by decide +kernel
theorem dX0_runForward_140 : decode cX0_runForward 140 = .ok (.iload_n 1, 1) := by decide +kernel
theorem dX0_runForward_141 : decode cX0_runForward 141 = .ok (.iconst 2, 1) := by decide +kernel
theorem dX0_runForward_142 : decode cX0_runForward 142 = .ok (.iadd, 1) := by decide +kernel
theorem dX0_runForward_143 : decode cX0_runForward 143 = .ok (.iconst 3, 1) := by decide +kernel
theorem dX0_runForward_144 : decode cX0_runForward 144 = .ok (.iand, 1) := by decide +kernel
theorem dX0_runForward_145 : decode cX0_runForward 145 = .ok (.iaload, 1) := by decide +kernel
theorem dX0_runForward_146 : decode cX0_runForward 146 = .ok (.bipush 8, 2) := by decide +kernel
theorem dX0_runForward_148 : decode cX0_runForward 148 = .ok (.iushr, 1) := by decide +kernel
theorem dX0_runForward_149 : decode cX0_runForward 149 = .ok (.sipush 255, 3) := by decide +kernel
theorem dX0_runForward_152 : decode cX0_runForward 152 = .ok (.iand, 1) := by decide +kernel
theorem dX0_runForward_153 : decode cX0_runForward 153 = .ok (.iaload, 1) := by decide +kernel
theorem dX0_runForward_154 : decode cX0_runForward 154 = .ok (.bipush 8, 2) := by decide +kernel
theorem dX0_runForward_156 : decode cX0_runForward 156 = .ok (.ishl, 1) := by decide +kernel
theorem dX0_runForward_157 : decode cX0_runForward 157 = .ok (.aload_n 0, 1) := by decide +kernel
theorem dX0_runForward_158 : decode cX0_runForward 158 = .ok (.getfield 7, 3) := by decide +kernel
theorem dX0_runForward_161 : decode cX0_runForward 161 = .ok (.aload_n 0, 1) := by decide +kernel
theorem dX0_runForward_162 : decode cX0_runForward 162 = .ok (.getfield 34, 3) := by decide +kernel
theorem dX0_runForward_165 : decode cX0_runForward 165 = .ok (.iload_n 1, 1) := by decide +kernel
theorem dX0_runForward_166 : decode cX0_runForward 166 = .ok (.iconst 3, 1) := by decide +kernel
theorem dX0_runForward_167 : decode cX0_runForward 167 = .ok (.iadd, 1) := by decide +kernel
theorem dX0_runForward_168 : decode cX0_runForward 168 = .ok (.iconst 3, 1) := by decide +kernel
theorem dX0_runForward_169 : decode cX0_runForward 169 = .ok (.iand, 1) := by decide +kernel
theorem dX0_runForward_170 : decode cX0_runForward 170 = .ok (.iaload, 1) := by decide +kernel
theorem dX0_runForward_171 : decode cX0_runForward 171 = .ok (.sipush 255, 3) := by decide +kernel
theorem dX0_runForward_174 : decode cX0_runForward 174 = .ok (.iand, 1) := by decide +kernel
theorem dX0_runForward_175 : decode cX0_runForward 175 = .ok (.iaload, 1) := by decide +kernel
theorem dX0_runForward_176 : decode cX0_runForward 176 = .ok (.ior, 1) := by decide +kernel
theorem dX0_runForward_177 : decode cX0_runForward 177 = .ok (.istore_n 3, 1) := by decide +kernel
theorem dX0_runForward_178 : decode cX0_runForward 178 = .ok (.aload_n 0, 1) := by decide +kernel
theorem dX0_runForward_179 : decode cX0_runForward 179 = .ok (.getfield 37, 3) := by decide +kernel
theorem dX0_runForward_182 : decode cX0_runForward 182 = .ok (.iload_n 1, 1) := by decide +kernel
theorem dX0_runForward_183 : decode cX0_runForward 183 = .ok (.iload_n 2, 1) := by decide +kernel
theorem dX0_runForward_184 : decode cX0_runForward 184 = .ok (.iload_n 3, 1) := by decide +kernel
theorem dX0_runForward_185 : decode cX0_runForward 185 = .ok (.ior, 1) := by decide +kernel
theorem dX0_runForward_186 : decode cX0_runForward 186 = .ok (.aload_n 0, 1) := by decide +kernel
theorem dX0_runForward_187 : decode cX0_runForward 187 = .ok (.getfield 22, 3) := by decide +kernel
theorem dX0_runForward_190 : decode cX0_runForward 190 = .ok (.bipush 40, 2) := by decide +kernel
theorem dX0_runForward_192 : decode cX0_runForward 192 = .ok (.iload_n 1, 1) := by decide +kernel
theorem dX0_runForward_193 : decode cX0_runForward 193 = .ok (.iadd, 1) := by decide +kernel
theorem dX0_runForward_194 : decode cX0_runForward 194 = .ok (.iaload, 1) := by decide +kernel
theorem dX0_runForward_195 : decode cX0_runForward 195 = .ok (.ixor, 1) := by decide +kernel
theorem dX0_runForward_196 : decode cX0_runForward 196 = .ok (.iastore, 1) := by decide +kernel
theorem dX0_runForward_197 : decode cX0_runForward 197 = .ok (.iinc 1 1, 3) := by decide +kernel
theorem dX0_runForward_200 : decode cX0_runForward 200 = .ok (.goto (-117), 3) := by decide +kernel
theorem dX0_runForward_203 : decode cX0_runForward 203 = .ok (.aload_n 0, 1) := by decide +kernel
theorem dX0_runForward_204 : decode cX0_runForward 204 = .ok (.invokevirtual 98, 3) := by decide +kernel
theorem dX0_runForward_207 : decode cX0_runForward 207 = .ok (.return_, 1) := by decide +kernel
theorem dX0_forwardColumn_0 : decode cX0_forwardColumn 0 = .ok (.aload_n 0, 1) := by decide +kernel
theorem dX0_forwardColumn_1 : decode cX0_forwardColumn 1 = .ok (.getfield 16, 3) := by decide +kernel
theorem dX0_forwardColumn_4 : decode cX0_forwardColumn 4 = .ok (.aload_n 0, 1) := by decide +kernel
theorem dX0_forwardColumn_5 : decode cX0_forwardColumn 5 = .ok (.getfield 34, 3) := by decide +kernel
theorem dX0_forwardColumn_8 : decode cX0_forwardColumn 8 = .ok (.iload_n 1, 1) := by decide +kernel
theorem dX0_forwardColumn_9 : decode cX0_forwardColumn 9 = .ok (.iaload, 1) := by decide +kernel
theorem dX0_forwardColumn_10 : decode cX0_forwardColumn 10 = .ok (.bipush 24, 2) := by decide +kernel
theorem dX0_forwardColumn_12 : decode cX0_forwardColumn 12 = .ok (.iushr, 1) := by decide +kernel
theorem dX0_forwardColumn_13 : decode cX0_forwardColumn 13 = .ok (.iaload, 1) := by decide +kernel
theorem dX0_forwardColumn_14 : decode cX0_forwardColumn 14 = .ok (.istore_n 2, 1) := by decide +kernel
theorem dX0_forwardColumn_15 : decode cX0_forwardColumn 15 = .ok (.aload_n 0, 1) := by decide +kernel
theorem dX0_forwardColumn_16 : decode cX0_forwardColumn 16 = .ok (.getfield 16, 3) := by decide +kernel
theorem dX0_forwardColumn_19 : decode cX0_forwardColumn 19 = .ok (.aload_n 0, 1) := by decide +kernel
theorem dX0_forwardColumn_20 : decode cX0_forwardColumn 20 = .ok (.getfield 34, 3) := by decide +kernel
theorem dX0_forwardColumn_23 : decode cX0_forwardColumn 23 = .ok (.iload_n 1, 1) := by decide +kernel
theorem dX0_forwardColumn_24 : decode cX0_forwardColumn 24 = .ok (.iconst 1, 1) := by decide +kernel
theorem dX0_forwardColumn_25 : decode cX0_forwardColumn 25 = .ok (.iadd, 1) := by decide +kernel
theorem dX0_forwardColumn_26 : decode cX0_forwardColumn 26 = .ok (.iconst 3, 1) := by decide +kernel
theorem dX0_forwardColumn_27 : decode cX0_forwardColumn 27 = .ok (.iand, 1) := by decide +kernel
theorem dX0_forwardColumn_28 : decode cX0_forwardColumn 28 = .ok (.iaload, 1) := by decide +kernel
theorem dX0_forwardColumn_29 : decode cX0_forwardColumn 29 = .ok (.bipush 16, 2) := by decide +kernel
theorem dX0_forwardColumn_31 : decode cX0_forwardColumn 31 = .ok (.iushr, 1) := by decide +kernel
theorem dX0_forwardColumn_32 : decode cX0_forwardColumn 32 = .ok (.sipush 255, 3) := by decide +kernel
theorem dX0_forwardColumn_35 : decode cX0_forwardColumn 35 = .ok (.iand, 1) := by decide +kernel
theorem dX0_forwardColumn_36 : decode cX0_forwardColumn 36 = .ok (.iaload, 1) := by decide +kernel
theorem dX0_forwardColumn_37 : decode cX0_forwardColumn 37 = .ok (.istore_n 3, 1) := by decide +kernel
theorem dX0_forwardColumn_38 : decode cX0_forwardColumn 38 = .ok (.aload_n 0, 1) := by decide +kernel
theorem dX0_forwardColumn_39 : decode cX0_forwardColumn 39 = .ok (.getfield 16, 3) := by decide +kernel
theorem dX0_forwardColumn_42 : decode cX0_forwardColumn 42 = .ok (.aload_n 0, 1) := by decide +kernel
theorem dX0_forwardColumn_43 : decode cX0_forwardColumn 43 = .ok (.getfield 34, 3) := by decide +kernel
theorem dX0_forwardColumn_46 : decode cX0_forwardColumn 46 = .ok (.iload_n 1, 1) := by decide +kernel
theorem dX0_forwardColumn_47 : decode cX0_forwardColumn 47 = .ok (.iconst 2, 1) := by decide +kernel
theorem dX0_forwardColumn_48 : decode cX0_forwardColumn 48 = .ok (.iadd, 1) := by decide +kernel
theorem dX0_forwardColumn_49 : decode cX0_forwardColumn 49 = .ok (.iconst 3, 1) := by decide +kernel
theorem dX0_forwardColumn_50 : decode cX0_forwardColumn 50 = .ok (.iand, 1) := by decide +kernel
theorem dX0_forwardColumn_51 : decode cX0_forwardColumn 51 = .ok (.iaload, 1) := by decide +kernel
theorem dX0_forwardColumn_52 : decode cX0_forwardColumn 52 = .ok (.bipush 8, 2) := by decide +kernel
theorem dX0_forwardColumn_54 : decode cX0_forwardColumn 54 = .ok (.iushr, 1) := by decide +kernel
theorem dX0_forwardColumn_55 : decode cX0_forwardColumn 55 = .ok (.sipush 255, 3) := by decide +kernel
theorem dX0_forwardColumn_58 : decode cX0_forwardColumn 58 = .ok (.iand, 1) := by decide +kernel
theorem dX0_forwardColumn_59 : decode cX0_forwardColumn 59 = .ok (.iaload, 1) := by decide +kernel
theorem dX0_forwardColumn_60 : decode cX0_forwardColumn 60 = .ok (.istore 4, 2) := by decide +kernel
theorem dX0_forwardColumn_62 : decode cX0_forwardColumn 62 = .ok (.aload_n 0, 1) := by decide +kernel
theorem dX0_forwardColumn_63 : decode cX0_forwardColumn 63 = .ok (.getfield 16, 3) := by decide +kernel
theorem dX0_forwardColumn_66 : decode cX0_forwardColumn 66 = .ok (.aload_n 0, 1) := by decide +kernel
theorem dX0_forwardColumn_67 : decode cX0_forwardColumn 67 = .ok (.getfield 34, 3) := by decide +kernel
theorem dX0_forwardColumn_70 : decode cX0_forwardColumn 70 = .ok (.iload_n 1, 1) := by decide +kernel
theorem dX0_forwardColumn_71 : decode cX0_forwardColumn 71 = .ok (.iconst 3, 1) := by decide +kernel
theorem dX0_forwardColumn_72 : decode cX0_forwardColumn 72 = .ok (.iadd, 1) := by decide +kernel
theorem dX0_forwardColumn_73 : decode cX0_forwardColumn 73 = .ok (.iconst 3, 1) := by decide +kernel
theorem dX0_forwardColumn_74 : decode cX0_forwardColumn 74 = .ok (.iand, 1) := by decide +kernel
theorem dX0_forwardColumn_75 : decode cX0_forwardColumn 75 = .ok (.iaload, 1) := by decide +kernel
theorem dX0_forwardColumn_76 : decode cX0_forwardColumn 76 = .ok (.sipush 255, 3) := by decide +kernel
theorem dX0_forwardColumn_79 : decode cX0_forwardColumn 79 = .ok (.iand, 1) := by decide +kernel
theorem dX0_forwardColumn_80 : decode cX0_forwardColumn 80 = .ok (.iaload, 1) := by decide +kernel
theorem dX0_forwardColumn_81 : decode cX0_forwardColumn 81 = .ok (.istore 5, 2) := by decide +kernel
theorem dX0_forwardColumn_83 : decode cX0_forwardColumn 83 = .ok (.iload_n 2, 1) := by decide +kernel
theorem dX0_forwardColumn_84 : decode cX0_forwardColumn 84 = .ok (.iload_n 3, 1) := by decide +kernel
theorem dX0_forwardColumn_85 : decode cX0_forwardColumn 85 = .ok (.bipush 8, 2) := by decide +kernel
theorem dX0_forwardColumn_87 : decode cX0_forwardColumn 87 = .ok (.invokestatic 101, 3) := by decide +kernel
theorem dX0_forwardColumn_90 : decode cX0_forwardColumn 90 = .ok (.ixor, 1) := by decide +kernel
theorem dX0_forwardColumn_91 : decode cX0_forwardColumn 91 = .ok (.iload 4, 2) := by decide +kernel
theorem dX0_forwardColumn_93 : decode cX0_forwardColumn 93 = .ok (.bipush 16, 2) := by decide +kernel
theorem dX0_forwardColumn_95 : decode cX0_forwardColumn 95 = .ok (.invokestatic 101, 3) := by decide +kernel
theorem dX0_forwardColumn_98 : decode cX0_forwardColumn 98 = .ok (.ixor, 1) := by decide +kernel
theorem dX0_forwardColumn_99 : decode cX0_forwardColumn 99 = .ok (.iload 5, 2) := by decide +kernel
theorem dX0_forwardColumn_101 : decode cX0_forwardColumn 101 = .ok (.bipush 24, 2) := by decide +kernel
theorem dX0_forwardColumn_103 : decode cX0_forwardColumn 103 = .ok (.invokestatic 101, 3) := by decide +kernel
theorem dX0_forwardColumn_106 : decode cX0_forwardColumn 106 = .ok (.ixor, 1) := by decide +kernel
theorem dX0_forwardColumn_107 : decode cX0_forwardColumn 107 = .ok (.ireturn, 1) := by decide +kernel
theorem dX0_keepFresh_0 : decode cX0_keepFresh 0 = .ok (.iconst 0, 1) := by decide +kernel
theorem dX0_keepFresh_1 : decode cX0_keepFresh 1 = .ok (.istore_n 1, 1) := by decide +kernel
theorem dX0_keepFresh_2 : decode cX0_keepFresh 2 = .ok (.iload_n 1, 1) := by decide +kernel
theorem dX0_keepFresh_3 : decode cX0_keepFresh 3 = .ok (.iconst 4, 1) := by decide +kernel
theorem dX0_keepFresh_4 : decode cX0_keepFresh 4 = .ok (.if_icmp .ge 21, 3) := by decide +kernel
theorem dX0_keepFresh_7 : decode cX0_keepFresh 7 = .ok (.aload_n 0, 1) := by decide +kernel
theorem dX0_keepFresh_8 : decode cX0_keepFresh 8 = .ok (.getfield 34, 3) := by decide +kernel
theorem dX0_keepFresh_11 : decode cX0_keepFresh 11 = .ok (.iload_n 1, 1) := by decide +kernel
theorem dX0_keepFresh_12 : decode cX0_keepFresh 12 = .ok (.aload_n 0, 1) := by decide +kernel
theorem dX0_keepFresh_13 : decode cX0_keepFresh 13 = .ok (.getfield 37, 3) := by decide +kernel
theorem dX0_keepFresh_16 : decode cX0_keepFresh 16 = .ok (.iload_n 1, 1) := by decide +kernel
theorem dX0_keepFresh_17 : decode cX0_keepFresh 17 = .ok (.iaload, 1) := by decide +kernel
theorem dX0_keepFresh_18 : decode cX0_keepFresh 18 = .ok (.iastore, 1) := by decide +kernel
theorem dX0_keepFresh_19 : decode cX0_keepFresh 19 = .ok (.iinc 1 1, 3) := by decide +kernel
theorem dX0_keepFresh_22 : decode cX0_keepFresh 22 = .ok (.goto (-20), 3) := by decide +kernel
theorem dX0_keepFresh_25 : decode cX0_keepFresh 25 = .ok (.return_, 1) := by decide +kernel
theorem dX0_moveOne_0 : decode cX0_moveOne 0 = .ok (.aload_n 0, 1) := by decide +kernel
theorem dX0_moveOne_1 : decode cX0_moveOne 1 = .ok (.getfield 34, 3) := by decide +kernel
theorem dX0_moveOne_4 : decode cX0_moveOne 4 = .ok (.iconst 3, 1) := by decide +kernel
theorem dX0_moveOne_5 : decode cX0_moveOne 5 = .ok (.iaload, 1) := by decide +kernel
theorem dX0_moveOne_6 : decode cX0_moveOne 6 = .ok (.iconst 1, 1) := by decide +kernel
theorem dX0_moveOne_7 : decode cX0_moveOne 7 = .ok (.iand, 1) := by decide +kernel
theorem dX0_moveOne_8 : decode cX0_moveOne 8 = .ok (.istore_n 1, 1) := by decide +kernel
theorem dX0_moveOne_9 : decode cX0_moveOne 9 = .ok (.iconst 3, 1) := by decide +kernel
theorem dX0_moveOne_10 : decode cX0_moveOne 10 = .ok (.istore_n 2, 1) := by decide +kernel
theorem dX0_moveOne_11 : decode cX0_moveOne 11 = .ok (.iload_n 2, 1) := by decide +kernel
theorem dX0_moveOne_12 : decode cX0_moveOne 12 = .ok (.ifCond .le 35, 3) := by decide +kernel
theorem dX0_moveOne_15 : decode cX0_moveOne 15 = .ok (.aload_n 0, 1) := by decide +kernel
theorem dX0_moveOne_16 : decode cX0_moveOne 16 = .ok (.getfield 34, 3) := by decide +kernel
theorem dX0_moveOne_19 : decode cX0_moveOne 19 = .ok (.iload_n 2, 1) := by decide +kernel
theorem dX0_moveOne_20 : decode cX0_moveOne 20 = .ok (.aload_n 0, 1) := by decide +kernel
theorem dX0_moveOne_21 : decode cX0_moveOne 21 = .ok (.getfield 34, 3) := by decide +kernel
theorem dX0_moveOne_24 : decode cX0_moveOne 24 = .ok (.iload_n 2, 1) := by decide +kernel
theorem dX0_moveOne_25 : decode cX0_moveOne 25 = .ok (.iaload, 1) := by decide +kernel
theorem dX0_moveOne_26 : decode cX0_moveOne 26 = .ok (.iconst 1, 1) := by decide +kernel
theorem dX0_moveOne_27 : decode cX0_moveOne 27 = .ok (.iushr, 1) := by decide +kernel
theorem dX0_moveOne_28 : decode cX0_moveOne 28 = .ok (.aload_n 0, 1) := by decide +kernel
theorem dX0_moveOne_29 : decode cX0_moveOne 29 = .ok (.getfield 34, 3) := by decide +kernel
theorem dX0_moveOne_32 : decode cX0_moveOne 32 = .ok (.iload_n 2, 1) := by decide +kernel
theorem dX0_moveOne_33 : decode cX0_moveOne 33 = .ok (.iconst 1, 1) := by decide +kernel
theorem dX0_moveOne_34 : decode cX0_moveOne 34 = .ok (.isub, 1) := by decide +kernel
theorem dX0_moveOne_35 : decode cX0_moveOne 35 = .ok (.iaload, 1) := by decide +kernel
theorem dX0_moveOne_36 : decode cX0_moveOne 36 = .ok (.bipush 31, 2) := by decide +kernel
theorem dX0_moveOne_38 : decode cX0_moveOne 38 = .ok (.ishl, 1) := by decide +kernel
theorem dX0_moveOne_39 : decode cX0_moveOne 39 = .ok (.ior, 1) := by decide +kernel
theorem dX0_moveOne_40 : decode cX0_moveOne 40 = .ok (.iastore, 1) := by decide +kernel
theorem dX0_moveOne_41 : decode cX0_moveOne 41 = .ok (.iinc 2 (-1), 3) := by decide +kernel
theorem dX0_moveOne_44 : decode cX0_moveOne 44 = .ok (.goto (-33), 3) := by decide +kernel
theorem dX0_moveOne_47 : decode cX0_moveOne 47 = .ok (.aload_n 0, 1) := by decide +kernel
theorem dX0_moveOne_48 : decode cX0_moveOne 48 = .ok (.getfield 34, 3) := by decide +kernel
theorem dX0_moveOne_51 : decode cX0_moveOne 51 = .ok (.iconst 0, 1) := by decide +kernel
theorem dX0_moveOne_52 : decode cX0_moveOne 52 = .ok (.aload_n 0, 1) := by decide +kernel
theorem dX0_moveOne_53 : decode cX0_moveOne 53 = .ok (.getfield 34, 3) := by decide +kernel
theorem dX0_moveOne_56 : decode cX0_moveOne 56 = .ok (.iconst 0, 1) := by decide +kernel
theorem dX0_moveOne_57 : decode cX0_moveOne 57 = .ok (.iaload, 1) := by decide +kernel
theorem dX0_moveOne_58 : decode cX0_moveOne 58 = .ok (.iconst 1, 1) := by decide +kernel
theorem dX0_moveOne_59 : decode cX0_moveOne 59 = .ok (.iushr, 1) := by decide +kernel
theorem dX0_moveOne_60 : decode cX0_moveOne 60 = .ok (.iload_n 1, 1) := by decide +kernel
theorem dX0_moveOne_61 : decode cX0_moveOne 61 = .ok (.ifCond .eq 8, 3) := by decide +kernel
theorem dX0_moveOne_64 : decode cX0_moveOne 64 = .ok (.ldc 70, 2) := by decide +kernel
theorem dX0_moveOne_66 : decode cX0_moveOne 66 = .ok (.goto 4, 3) := by decide +kernel
theorem dX0_moveOne_69 : decode cX0_moveOne 69 = .ok (.iconst 0, 1) := by decide +kernel
theorem dX0_moveOne_70 : decode cX0_moveOne 70 = .ok (.ixor, 1) := by decide +kernel
theorem dX0_moveOne_71 : decode cX0_moveOne 71 = .ok (.iastore, 1) := by decide +kernel
theorem dX0_moveOne_72 : decode cX0_moveOne 72 = .ok (.return_, 1) := by decide +kernel
theorem dX0_block_0 : decode cX0_block 0 = .ok (.aload_n 0, 1) := by decide +kernel
theorem dX0_block_1 : decode cX0_block 1 = .ok (.getfield 28, 3) := by decide +kernel
theorem dX0_block_4 : decode cX0_block 4 = .ok (.iconst 0, 1) := by decide +kernel
theorem dX0_block_5 : decode cX0_block 5 = .ok (.iload_n 1, 1) := by decide +kernel
theorem dX0_block_6 : decode cX0_block 6 = .ok (.iastore, 1) := by decide +kernel
theorem dX0_block_7 : decode cX0_block 7 = .ok (.aload_n 0, 1) := by decide +kernel
theorem dX0_block_8 : decode cX0_block 8 = .ok (.getfield 28, 3) := by decide +kernel
theorem dX0_block_11 : decode cX0_block 11 = .ok (.iconst 1, 1) := by decide +kernel
theorem dX0_block_12 : decode cX0_block 12 = .ok (.iload_n 2, 1) := by decide +kernel
theorem dX0_block_13 : decode cX0_block 13 = .ok (.iastore, 1) := by decide +kernel
theorem dX0_block_14 : decode cX0_block 14 = .ok (.aload_n 0, 1) := by decide +kernel
theorem dX0_block_15 : decode cX0_block 15 = .ok (.getfield 28, 3) := by decide +kernel
theorem dX0_block_18 : decode cX0_block 18 = .ok (.iconst 2, 1) := by decide +kernel
theorem dX0_block_19 : decode cX0_block 19 = .ok (.iload_n 3, 1) := by decide +kernel
theorem dX0_block_20 : decode cX0_block 20 = .ok (.iastore, 1) := by decide +kernel
theorem dX0_block_21 : decode cX0_block 21 = .ok (.aload_n 0, 1) := by decide +kernel
theorem dX0_block_22 : decode cX0_block 22 = .ok (.getfield 28, 3) := by decide +kernel
theorem dX0_block_25 : decode cX0_block 25 = .ok (.iconst 3, 1) := by decide +kernel
theorem dX0_block_26 : decode cX0_block 26 = .ok (.iload 4, 2) := by decide +kernel
theorem dX0_block_28 : decode cX0_block 28 = .ok (.iastore, 1) := by decide +kernel
theorem dX0_block_29 : decode cX0_block 29 = .ok (.return_, 1) := by decide +kernel
theorem dX0_mix_0 : decode cX0_mix 0 = .ok (.aload_n 0, 1) := by decide +kernel
theorem dX0_mix_1 : decode cX0_mix 1 = .ok (.getfield 28, 3) := by decide +kernel
theorem dX0_mix_4 : decode cX0_mix 4 = .ok (.iconst 0, 1) := by decide +kernel
theorem dX0_mix_5 : decode cX0_mix 5 = .ok (.dup2, 1) := by decide +kernel
theorem dX0_mix_6 : decode cX0_mix 6 = .ok (.iaload, 1) := by decide +kernel
theorem dX0_mix_7 : decode cX0_mix 7 = .ok (.iload_n 1, 1) := by decide +kernel
theorem dX0_mix_8 : decode cX0_mix 8 = .ok (.ixor, 1) := by decide +kernel
theorem dX0_mix_9 : decode cX0_mix 9 = .ok (.iastore, 1) := by decide +kernel
theorem dX0_mix_10 : decode cX0_mix 10 = .ok (.aload_n 0, 1) := by decide +kernel
theorem dX0_mix_11 : decode cX0_mix 11 = .ok (.getfield 28, 3) := by decide +kernel
theorem dX0_mix_14 : decode cX0_mix 14 = .ok (.iconst 1, 1) := by decide +kernel
theorem dX0_mix_15 : decode cX0_mix 15 = .ok (.dup2, 1) := by decide +kernel
theorem dX0_mix_16 : decode cX0_mix 16 = .ok (.iaload, 1) := by decide +kernel
theorem dX0_mix_17 : decode cX0_mix 17 = .ok (.iload_n 2, 1) := by decide +kernel
theorem dX0_mix_18 : decode cX0_mix 18 = .ok (.ixor, 1) := by decide +kernel
theorem dX0_mix_19 : decode cX0_mix 19 = .ok (.iastore, 1) := by decide +kernel
theorem dX0_mix_20 : decode cX0_mix 20 = .ok (.aload_n 0, 1) := by decide +kernel
theorem dX0_mix_21 : decode cX0_mix 21 = .ok (.getfield 28, 3) := by decide +kernel
theorem dX0_mix_24 : decode cX0_mix 24 = .ok (.iconst 2, 1) := by decide +kernel
theorem dX0_mix_25 : decode cX0_mix 25 = .ok (.dup2, 1) := by decide +kernel
theorem dX0_mix_26 : decode cX0_mix 26 = .ok (.iaload, 1) := by decide +kernel
theorem dX0_mix_27 : decode cX0_mix 27 = .ok (.iload_n 3, 1) := by decide +kernel
theorem dX0_mix_28 : decode cX0_mix 28 = .ok (.ixor, 1) := by decide +kernel
theorem dX0_mix_29 : decode cX0_mix 29 = .ok (.iastore, 1) := by decide +kernel
theorem dX0_mix_30 : decode cX0_mix 30 = .ok (.aload_n 0, 1) := by decide +kernel
theorem dX0_mix_31 : decode cX0_mix 31 = .ok (.getfield 28, 3) := by decide +kernel
theorem dX0_mix_34 : decode cX0_mix 34 = .ok (.iconst 3, 1) := by decide +kernel
theorem dX0_mix_35 : decode cX0_mix 35 = .ok (.dup2, 1) := by decide +kernel
theorem dX0_mix_36 : decode cX0_mix 36 = .ok (.iaload, 1) := by decide +kernel
theorem dX0_mix_37 : decode cX0_mix 37 = .ok (.iload 4, 2) := by decide +kernel
theorem dX0_mix_39 : decode cX0_mix 39 = .ok (.ixor, 1) := by decide +kernel
theorem dX0_mix_40 : decode cX0_mix 40 = .ok (.iastore, 1) := by decide +kernel
theorem dX0_mix_41 : decode cX0_mix 41 = .ok (.return_, 1) := by decide +kernel
theorem dX0_encrypt_0 : decode cX0_encrypt 0 = .ok (.aload_n 0, 1) := by decide +kernel
theorem dX0_encrypt_1 : decode cX0_encrypt 1 = .ok (.invokevirtual 80, 3) := by decide +kernel
theorem dX0_encrypt_4 : decode cX0_encrypt 4 = .ok (.aload_n 0, 1) := by decide +kernel
theorem dX0_encrypt_5 : decode cX0_encrypt 5 = .ok (.invokevirtual 83, 3) := by decide +kernel
theorem dX0_encrypt_8 : decode cX0_encrypt 8 = .ok (.aload_n 0, 1) := by decide +kernel
theorem dX0_encrypt_9 : decode cX0_encrypt 9 = .ok (.invokevirtual 86, 3) := by decide +kernel
theorem dX0_encrypt_12 : decode cX0_encrypt 12 = .ok (.return_, 1) := by decide +kernel
theorem dX0_takePresent_0 : decode cX0_takePresent 0 = .ok (.iconst 0, 1) := by decide +kernel
theorem dX0_takePresent_1 : decode cX0_takePresent 1 = .ok (.istore_n 1, 1) := by decide +kernel
theorem dX0_takePresent_2 : decode cX0_takePresent 2 = .ok (.iload_n 1, 1) := by decide +kernel
theorem dX0_takePresent_3 : decode cX0_takePresent 3 = .ok (.iconst 4, 1) := by decide +kernel
theorem dX0_takePresent_4 : decode cX0_takePresent 4 = .ok (.if_icmp .ge 21, 3) := by decide +kernel
theorem dX0_takePresent_7 : decode cX0_takePresent 7 = .ok (.aload_n 0, 1) := by decide +kernel
theorem dX0_takePresent_8 : decode cX0_takePresent 8 = .ok (.getfield 34, 3) := by decide +kernel
theorem dX0_takePresent_11 : decode cX0_takePresent 11 = .ok (.iload_n 1, 1) := by decide +kernel
theorem dX0_takePresent_12 : decode cX0_takePresent 12 = .ok (.aload_n 0, 1) := by decide +kernel
theorem dX0_takePresent_13 : decode cX0_takePresent 13 = .ok (.getfield 28, 3) := by decide +kernel
theorem dX0_takePresent_16 : decode cX0_takePresent 16 = .ok (.iload_n 1, 1) := by decide +kernel
theorem dX0_takePresent_17 : decode cX0_takePresent 17 = .ok (.iaload, 1) := by decide +kernel
theorem dX0_takePresent_18 : decode cX0_takePresent 18 = .ok (.iastore, 1) := by decide +kernel
theorem dX0_takePresent_19 : decode cX0_takePresent 19 = .ok (.iinc 1 1, 3) := by decide +kernel
theorem dX0_takePresent_22 : decode cX0_takePresent 22 = .ok (.goto (-20), 3) := by decide +kernel
theorem dX0_takePresent_25 : decode cX0_takePresent 25 = .ok (.return_, 1) := by decide +kernel
theorem dX0_givePresent_0 : decode cX0_givePresent 0 = .ok (.iconst 0, 1) := by decide +kernel
theorem dX0_givePresent_1 : decode cX0_givePresent 1 = .ok (.istore_n 1, 1) := by decide +kernel
theorem dX0_givePresent_2 : decode cX0_givePresent 2 = .ok (.iload_n 1, 1) := by decide +kernel
theorem dX0_givePresent_3 : decode cX0_givePresent 3 = .ok (.iconst 4, 1) := by decide +kernel
theorem dX0_givePresent_4 : decode cX0_givePresent 4 = .ok (.if_icmp .ge 21, 3) := by decide +kernel
theorem dX0_givePresent_7 : decode cX0_givePresent 7 = .ok (.aload_n 0, 1) := by decide +kernel
theorem dX0_givePresent_8 : decode cX0_givePresent 8 = .ok (.getfield 28, 3) := by decide +kernel
theorem dX0_givePresent_11 : decode cX0_givePresent 11 = .ok (.iload_n 1, 1) := by decide +kernel
theorem dX0_givePresent_12 : decode cX0_givePresent 12 = .ok (.aload_n 0, 1) := by decide +kernel
theorem dX0_givePresent_13 : decode cX0_givePresent 13 = .ok (.getfield 34, 3) := by decide +kernel
theorem dX0_givePresent_16 : decode cX0_givePresent 16 = .ok (.iload_n 1, 1) := by decide +kernel
theorem dX0_givePresent_17 : decode cX0_givePresent 17 = .ok (.iaload, 1) := by decide +kernel
theorem dX0_givePresent_18 : decode cX0_givePresent 18 = .ok (.iastore, 1) := by decide +kernel
theorem dX0_givePresent_19 : decode cX0_givePresent 19 = .ok (.iinc 1 1, 3) := by decide +kernel
theorem dX0_givePresent_22 : decode cX0_givePresent 22 = .ok (.goto (-20), 3) := by decide +kernel
theorem dX0_givePresent_25 : decode cX0_givePresent 25 = .ok (.return_, 1) := by decide +kernel
theorem dX0_decrypt_0 : decode cX0_decrypt 0 = .ok (.aload_n 0, 1) := by decide +kernel
theorem dX0_decrypt_1 : decode cX0_decrypt 1 = .ok (.invokevirtual 80, 3) := by decide +kernel
theorem dX0_decrypt_4 : decode cX0_decrypt 4 = .ok (.aload_n 0, 1) := by decide +kernel
theorem dX0_decrypt_5 : decode cX0_decrypt 5 = .ok (.invokevirtual 89, 3) := by decide +kernel
theorem dX0_decrypt_8 : decode cX0_decrypt 8 = .ok (.aload_n 0, 1) := by decide +kernel
theorem dX0_decrypt_9 : decode cX0_decrypt 9 = .ok (.invokevirtual 86, 3) := by decide +kernel
theorem dX0_decrypt_12 : decode cX0_decrypt 12 = .ok (.return_, 1) := by decide +kernel
theorem dX0_runBackward_0 : decode cX0_runBackward 0 = .ok (.iconst 0, 1) := by decide +kernel
theorem dX0_runBackward_1 : decode cX0_runBackward 1 = .ok (.istore_n 1, 1) := by decide +kernel
theorem dX0_runBackward_2 : decode cX0_runBackward 2 = .ok (.iload_n 1, 1) := by decide +kernel
theorem dX0_runBackward_3 : decode cX0_runBackward 3 = .ok (.iconst 4, 1) := by decide +kernel
theorem dX0_runBackward_4 : decode cX0_runBackward 4 = .ok (.if_icmp .ge 27, 3) := by decide +kernel
theorem dX0_runBackward_7 : decode cX0_runBackward 7 = .ok (.aload_n 0, 1) := by decide +kernel
theorem dX0_runBackward_8 : decode cX0_runBackward 8 = .ok (.getfield 34, 3) := by decide +kernel
theorem dX0_runBackward_11 : decode cX0_runBackward 11 = .ok (.iload_n 1, 1) := by decide +kernel
theorem dX0_runBackward_12 : decode cX0_runBackward 12 = .ok (.dup2, 1) := by decide +kernel
theorem dX0_runBackward_13 : decode cX0_runBackward 13 = .ok (.iaload, 1) := by decide +kernel
theorem dX0_runBackward_14 : decode cX0_runBackward 14 = .ok (.aload_n 0, 1) := by decide +kernel
theorem dX0_runBackward_15 : decode cX0_runBackward 15 = .ok (.getfield 25, 3) := by decide +kernel
theorem dX0_runBackward_18 : decode cX0_runBackward 18 = .ok (.bipush 40, 2) := by decide +kernel
theorem dX0_runBackward_20 : decode cX0_runBackward 20 = .ok (.iload_n 1, 1) := by decide +kernel
theorem dX0_runBackward_21 : decode cX0_runBackward 21 = .ok (.iadd, 1) := by decide +kernel
theorem dX0_runBackward_22 : decode cX0_runBackward 22 = .ok (.iaload, 1) := by decide +kernel
theorem dX0_runBackward_23 : decode cX0_runBackward 23 = .ok (.ixor, 1) := by decide +kernel
theorem dX0_runBackward_24 : decode cX0_runBackward 24 = .ok (.iastore, 1) := by decide +kernel
theorem dX0_runBackward_25 : decode cX0_runBackward 25 = .ok (.iinc 1 1, 3) := by decide +kernel
theorem dX0_runBackward_28 : decode cX0_runBackward 28 = .ok (.goto (-26), 3) := by decide +kernel
theorem dX0_runBackward_31 : decode cX0_runBackward 31 = .ok (.bipush 9, 2) := by decide +kernel
theorem dX0_runBackward_33 : decode cX0_runBackward 33 = .ok (.istore_n 1, 1) := by decide +kernel
theorem dX0_runBackward_34 : decode cX0_runBackward 34 = .ok (.iload_n 1, 1) := by decide +kernel
theorem dX0_runBackward_35 : decode cX0_runBackward 35 = .ok (.ifCond .le 48, 3) := by decide +kernel
theorem dX0_runBackward_38 : decode cX0_runBackward 38 = .ok (.iconst 0, 1) := by decide +kernel
theorem dX0_runBackward_39 : decode cX0_runBackward 39 = .ok (.istore_n 2, 1) := by decide +kernel
theorem dX0_runBackward_40 : decode cX0_runBackward 40 = .ok (.iload_n 2, 1) := by decide +kernel
theorem dX0_runBackward_41 : decode cX0_runBackward 41 = .ok (.iconst 4, 1) := by decide +kernel
theorem dX0_runBackward_42 : decode cX0_runBackward 42 = .ok (.if_icmp .ge 31, 3) := by decide +kernel
theorem dX0_runBackward_45 : decode cX0_runBackward 45 = .ok (.aload_n 0, 1) := by decide +kernel
theorem dX0_runBackward_46 : decode cX0_runBackward 46 = .ok (.getfield 37, 3) := by decide +kernel
theorem dX0_runBackward_49 : decode cX0_runBackward 49 = .ok (.iload_n 2, 1) := by decide +kernel
theorem dX0_runBackward_50 : decode cX0_runBackward 50 = .ok (.aload_n 0, 1) := by decide +kernel
theorem dX0_runBackward_51 : decode cX0_runBackward 51 = .ok (.iload_n 2, 1) := by decide +kernel
theorem dX0_runBackward_52 : decode cX0_runBackward 52 = .ok (.invokevirtual 105, 3) := by decide +kernel
theorem dX0_runBackward_55 : decode cX0_runBackward 55 = .ok (.aload_n 0, 1) := by decide +kernel
theorem dX0_runBackward_56 : decode cX0_runBackward 56 = .ok (.getfield 25, 3) := by decide +kernel
theorem dX0_runBackward_59 : decode cX0_runBackward 59 = .ok (.iconst 4, 1) := by decide +kernel
theorem dX0_runBackward_60 : decode cX0_runBackward 60 = .ok (.iload_n 1, 1) := by decide +kernel
theorem dX0_runBackward_61 : decode cX0_runBackward 61 = .ok (.imul, 1) := by decide +kernel
theorem dX0_runBackward_62 : decode cX0_runBackward 62 = .ok (.iload_n 2, 1) := by decide +kernel
theorem dX0_runBackward_63 : decode cX0_runBackward 63 = .ok (.iadd, 1) := by decide +kernel
theorem dX0_runBackward_64 : decode cX0_runBackward 64 = .ok (.iaload, 1) := by decide +kernel
theorem dX0_runBackward_65 : decode cX0_runBackward 65 = .ok (.ixor, 1) := by decide +kernel
theorem dX0_runBackward_66 : decode cX0_runBackward 66 = .ok (.iastore, 1) := by decide +kernel
theorem dX0_runBackward_67 : decode cX0_runBackward 67 = .ok (.iinc 2 1, 3) := by decide +kernel
theorem dX0_runBackward_70 : decode cX0_runBackward 70 = .ok (.goto (-30), 3) := by decide +kernel
theorem dX0_runBackward_73 : decode cX0_runBackward 73 = .ok (.aload_n 0, 1) := by decide +kernel
theorem dX0_runBackward_74 : decode cX0_runBackward 74 = .ok (.invokevirtual 98, 3) := by decide +kernel
theorem dX0_runBackward_77 : decode cX0_runBackward 77 = .ok (.iinc 1 (-1), 3) := by decide +kernel
theorem dX0_runBackward_80 : decode cX0_runBackward 80 = .ok (.goto (-46), 3) := by decide +kernel
theorem dX0_runBackward_83 : decode cX0_runBackward 83 = .ok (.iconst 0, 1) := by decide +kernel
theorem dX0_runBackward_84 : decode cX0_runBackward 84 = .ok (.istore_n 1, 1) := by decide +kernel
theorem dX0_runBackward_85 : decode cX0_runBackward 85 = .ok (.iload_n 1, 1) := by decide +kernel
theorem dX0_runBackward_86 : decode cX0_runBackward 86 = .ok (.iconst 4, 1) := by decide +kernel
theorem dX0_runBackward_87 : decode cX0_runBackward 87 = .ok (.if_icmp .ge 115, 3) := by decide +kernel
theorem dX0_runBackward_90 : decode cX0_runBackward 90 = .ok (.aload_n 0, 1) := by decide +kernel
theorem dX0_runBackward_91 : decode cX0_runBackward 91 = .ok (.getfield 13, 3) := by decide +kernel
theorem dX0_runBackward_94 : decode cX0_runBackward 94 = .ok (.aload_n 0, 1) := by decide +kernel
theorem dX0_runBackward_95 : decode cX0_runBackward 95 = .ok (.getfield 34, 3) := by decide +kernel
theorem dX0_runBackward_98 : decode cX0_runBackward 98 = .ok (.iload_n 1, 1) := by decide +kernel
theorem dX0_runBackward_99 : decode cX0_runBackward 99 = .ok (.iaload, 1) := by decide +kernel
theorem dX0_runBackward_100 : decode cX0_runBackward 100 = .ok (.bipush 24, 2) := by decide +kernel
theorem dX0_runBackward_102 : decode cX0_runBackward 102 = .ok (.iushr, 1) := by decide +kernel
theorem dX0_runBackward_103 : decode cX0_runBackward 103 = .ok (.iaload, 1) := by decide +kernel
theorem dX0_runBackward_104 : decode cX0_runBackward 104 = .ok (.bipush 24, 2) := by decide +kernel
theorem dX0_runBackward_106 : decode cX0_runBackward 106 = .ok (.ishl, 1) := by decide +kernel
theorem dX0_runBackward_107 : decode cX0_runBackward 107 = .ok (.aload_n 0, 1) := by decide +kernel
theorem dX0_runBackward_108 : decode cX0_runBackward 108 = .ok (.getfield 13, 3) := by decide +kernel
theorem dX0_runBackward_111 : decode cX0_runBackward 111 = .ok (.aload_n 0, 1) := by decide +kernel
theorem dX0_runBackward_112 : decode cX0_runBackward 112 = .ok (.getfield 34, 3) := by decide +kernel
theorem dX0_runBackward_115 : decode cX0_runBackward 115 = .ok (.iload_n 1, 1) := by decide +kernel
theorem dX0_runBackward_116 : decode cX0_runBackward 116 = .ok (.iconst 3, 1) := by decide +kernel
theorem dX0_runBackward_117 : decode cX0_runBackward 117 = .ok (.iadd, 1) := by decide +kernel
theorem dX0_runBackward_118 : decode cX0_runBackward 118 = .ok (.iconst 3, 1) := by decide +kernel
theorem dX0_runBackward_119 : decode cX0_runBackward 119 = .ok (.iand, 1) := by decide +kernel
theorem dX0_runBackward_120 : decode cX0_runBackward 120 = .ok (.iaload, 1) := by decide +kernel
theorem dX0_runBackward_121 : decode cX0_runBackward 121 = .ok (.bipush 16, 2) := by decide +kernel
theorem dX0_runBackward_123 : decode cX0_runBackward 123 = .ok (.iushr, 1) := by decide +kernel
theorem dX0_runBackward_124 : decode cX0_runBackward 124 = .ok (.sipush 255, 3) := by decide +kernel
theorem dX0_runBackward_127 : decode cX0_runBackward 127 = .ok (.iand, 1) := by decide +kernel
theorem dX0_runBackward_128 : decode cX0_runBackward 128 = .ok (.iaload, 1) := by decide +kernel
theorem dX0_runBackward_129 : decode cX0_runBackward 129 = .ok (.bipush 16, 2) := by decide +kernel
theorem dX0_runBackward_131 : decode cX0_runBackward 131 = .ok (.ishl, 1) := by decide +kernel
theorem dX0_runBackward_132 : decode cX0_runBackward 132 = .ok (.ior, 1) := by decide +kernel
theorem dX0_runBackward_133 : decode cX0_runBackward 133 = .ok (.istore_n 2, 1) := by decide +kernel
theorem dX0_runBackward_134 : decode cX0_runBackward 134 = .ok (.aload_n 0, 1) := by decide +kernel
theorem dX0_runBackward_135 : decode cX0_runBackward 135 = .ok (.getfield 13, 3) := by decide +kernel
theorem dX0_runBackward_138 : decode cX0_runBackward 138 = .ok (.aload_n 0, 1) := by decide +kernel
theorem dX0_runBackward_139 : decode cX0_runBackward 139 = .ok (.getfield 34, 3) := by decide +kernel
theorem dX0_runBackward_142 : decode cX0_runBackward 142 = .ok (.iload_n 1, 1) := by decide +kernel
theorem dX0_runBackward_143 : decode cX0_runBackward 143 = .ok (.iconst 2, 1) := by decide +kernel
theorem dX0_runBackward_144 : decode cX0_runBackward 144 = .ok (.iadd, 1) := by decide +kernel
theorem dX0_runBackward_145 : decode cX0_runBackward 145 = .ok (.iconst 3, 1) := by decide +kernel
theorem dX0_runBackward_146 : decode cX0_runBackward 146 = .ok (.iand, 1) := by decide +kernel
theorem dX0_runBackward_147 : decode cX0_runBackward 147 = .ok (.iaload, 1) := by decide +kernel
theorem dX0_runBackward_148 : decode cX0_runBackward 148 = .ok (.bipush 8, 2) := by decide +kernel
theorem dX0_runBackward_150 : decode cX0_runBackward 150 = .ok (.iushr, 1) := by decide +kernel
theorem dX0_runBackward_151 : decode cX0_runBackward 151 = .ok (.sipush 255, 3) := by decide +kernel
theorem dX0_runBackward_154 : decode cX0_runBackward 154 = .ok (.iand, 1) := by decide +kernel
theorem dX0_runBackward_155 : decode cX0_runBackward 155 = .ok (.iaload, 1) := by decide +kernel
theorem dX0_runBackward_156 : decode cX0_runBackward 156 = .ok (.bipush 8, 2) := by decide +kernel
theorem dX0_runBackward_158 : decode cX0_runBackward 158 = .ok (.ishl, 1) := by decide +kernel
theorem dX0_runBackward_159 : decode cX0_runBackward 159 = .ok (.aload_n 0, 1) := by decide +kernel
theorem dX0_runBackward_160 : decode cX0_runBackward 160 = .ok (.getfield 13, 3) := by decide +kernel
theorem dX0_runBackward_163 : decode cX0_runBackward 163 = .ok (.aload_n 0, 1) := by decide +kernel
theorem dX0_runBackward_164 : decode cX0_runBackward 164 = .ok (.getfield 34, 3) := by decide +kernel
theorem dX0_runBackward_167 : decode cX0_runBackward 167 = .ok (.iload_n 1, 1) := by decide +kernel
theorem dX0_runBackward_168 : decode cX0_runBackward 168 = .ok (.iconst 1, 1) := by decide +kernel
theorem dX0_runBackward_169 : decode cX0_runBackward 169 = .ok (.iadd, 1) := by decide +kernel
theorem dX0_runBackward_170 : decode cX0_runBackward 170 = .ok (.iconst 3, 1) := by decide +kernel
theorem dX0_runBackward_171 : decode cX0_runBackward 171 = .ok (.iand, 1) := by decide +kernel
theorem dX0_runBackward_172 : decode cX0_runBackward 172 = .ok (.iaload, 1) := by decide +kernel
theorem dX0_runBackward_173 : decode cX0_runBackward 173 = .ok (.sipush 255, 3) := by decide +kernel
theorem dX0_runBackward_176 : decode cX0_runBackward 176 = .ok (.iand, 1) := by decide +kernel
theorem dX0_runBackward_177 : decode cX0_runBackward 177 = .ok (.iaload, 1) := by decide +kernel
theorem dX0_runBackward_178 : decode cX0_runBackward 178 = .ok (.ior, 1) := by decide +kernel
theorem dX0_runBackward_179 : decode cX0_runBackward 179 = .ok (.istore_n 3, 1) := by decide +kernel
theorem dX0_runBackward_180 : decode cX0_runBackward 180 = .ok (.aload_n 0, 1) := by decide +kernel
theorem dX0_runBackward_181 : decode cX0_runBackward 181 = .ok (.getfield 37, 3) := by decide +kernel
theorem dX0_runBackward_184 : decode cX0_runBackward 184 = .ok (.iload_n 1, 1) := by decide +kernel
theorem dX0_runBackward_185 : decode cX0_runBackward 185 = .ok (.iload_n 2, 1) := by decide +kernel
theorem dX0_runBackward_186 : decode cX0_runBackward 186 = .ok (.iload_n 3, 1) := by decide +kernel
theorem dX0_runBackward_187 : decode cX0_runBackward 187 = .ok (.ior, 1) := by decide +kernel
theorem dX0_runBackward_188 : decode cX0_runBackward 188 = .ok (.aload_n 0, 1) := by decide +kernel
theorem dX0_runBackward_189 : decode cX0_runBackward 189 = .ok (.getfield 25, 3) := by decide +kernel
theorem dX0_runBackward_192 : decode cX0_runBackward 192 = .ok (.iload_n 1, 1) := by decide +kernel
theorem dX0_runBackward_193 : decode cX0_runBackward 193 = .ok (.iaload, 1) := by decide +kernel
theorem dX0_runBackward_194 : decode cX0_runBackward 194 = .ok (.ixor, 1) := by decide +kernel
theorem dX0_runBackward_195 : decode cX0_runBackward 195 = .ok (.iastore, 1) := by decide +kernel
theorem dX0_runBackward_196 : decode cX0_runBackward 196 = .ok (.iinc 1 1, 3) := by decide +kernel
theorem dX0_runBackward_199 : decode cX0_runBackward 199 = .ok (.goto (-114), 3) := by decide +kernel
theorem dX0_runBackward_202 : decode cX0_runBackward 202 = .ok (.aload_n 0, 1) := by decide +kernel
theorem dX0_runBackward_203 : decode cX0_runBackward 203 = .ok (.invokevirtual 98, 3) := by decide +kernel
theorem dX0_runBackward_206 : decode cX0_runBackward 206 = .ok (.return_, 1) := by decide +kernel
theorem dX0_backwardColumn_0 : decode cX0_backwardColumn 0 = .ok (.aload_n 0, 1) := by decide +kernel
theorem dX0_backwardColumn_1 : decode cX0_backwardColumn 1 = .ok (.getfield 19, 3) := by decide +kernel
theorem dX0_backwardColumn_4 : decode cX0_backwardColumn 4 = .ok (.aload_n 0, 1) := by decide +kernel
theorem dX0_backwardColumn_5 : decode cX0_backwardColumn 5 = .ok (.getfield 34, 3) := by decide +kernel
theorem dX0_backwardColumn_8 : decode cX0_backwardColumn 8 = .ok (.iload_n 1, 1) := by decide +kernel
theorem dX0_backwardColumn_9 : decode cX0_backwardColumn 9 = .ok (.iaload, 1) := by decide +kernel
theorem dX0_backwardColumn_10 : decode cX0_backwardColumn 10 = .ok (.bipush 24, 2) := by decide +kernel
theorem dX0_backwardColumn_12 : decode cX0_backwardColumn 12 = .ok (.iushr, 1) := by decide +kernel
theorem dX0_backwardColumn_13 : decode cX0_backwardColumn 13 = .ok (.iaload, 1) := by decide +kernel
theorem dX0_backwardColumn_14 : decode cX0_backwardColumn 14 = .ok (.istore_n 2, 1) := by decide +kernel
theorem dX0_backwardColumn_15 : decode cX0_backwardColumn 15 = .ok (.aload_n 0, 1) := by decide +kernel
theorem dX0_backwardColumn_16 : decode cX0_backwardColumn 16 = .ok (.getfield 19, 3) := by decide +kernel
theorem dX0_backwardColumn_19 : decode cX0_backwardColumn 19 = .ok (.aload_n 0, 1) := by decide +kernel
theorem dX0_backwardColumn_20 : decode cX0_backwardColumn 20 = .ok (.getfield 34, 3) := by decide +kernel
theorem dX0_backwardColumn_23 : decode cX0_backwardColumn 23 = .ok (.iload_n 1, 1) := by decide +kernel
theorem dX0_backwardColumn_24 : decode cX0_backwardColumn 24 = .ok (.iconst 3, 1) := by decide +kernel
theorem dX0_backwardColumn_25 : decode cX0_backwardColumn 25 = .ok (.iadd, 1) := by decide +kernel
theorem dX0_backwardColumn_26 : decode cX0_backwardColumn 26 = .ok (.iconst 3, 1) := by decide +kernel
theorem dX0_backwardColumn_27 : decode cX0_backwardColumn 27 = .ok (.iand, 1) := by decide +kernel
theorem dX0_backwardColumn_28 : decode cX0_backwardColumn 28 = .ok (.iaload, 1) := by decide +kernel
theorem dX0_backwardColumn_29 : decode cX0_backwardColumn 29 = .ok (.bipush 16, 2) := by decide +kernel
theorem dX0_backwardColumn_31 : decode cX0_backwardColumn 31 = .ok (.iushr, 1) := by decide +kernel
theorem dX0_backwardColumn_32 : decode cX0_backwardColumn 32 = .ok (.sipush 255, 3) := by decide +kernel
theorem dX0_backwardColumn_35 : decode cX0_backwardColumn 35 = .ok (.iand, 1) := by decide +kernel
theorem dX0_backwardColumn_36 : decode cX0_backwardColumn 36 = .ok (.iaload, 1) := by decide +kernel
theorem dX0_backwardColumn_37 : decode cX0_backwardColumn 37 = .ok (.istore_n 3, 1) := by decide +kernel
theorem dX0_backwardColumn_38 : decode cX0_backwardColumn 38 = .ok (.aload_n 0, 1) := by decide +kernel
theorem dX0_backwardColumn_39 : decode cX0_backwardColumn 39 = .ok (.getfield 19, 3) := by decide +kernel
theorem dX0_backwardColumn_42 : decode cX0_backwardColumn 42 = .ok (.aload_n 0, 1) := by decide +kernel
theorem dX0_backwardColumn_43 : decode cX0_backwardColumn 43 = .ok (.getfield 34, 3) := by decide +kernel
theorem dX0_backwardColumn_46 : decode cX0_backwardColumn 46 = .ok (.iload_n 1, 1) := by decide +kernel
theorem dX0_backwardColumn_47 : decode cX0_backwardColumn 47 = .ok (.iconst 2, 1) := by decide +kernel
theorem dX0_backwardColumn_48 : decode cX0_backwardColumn 48 = .ok (.iadd, 1) := by decide +kernel
theorem dX0_backwardColumn_49 : decode cX0_backwardColumn 49 = .ok (.iconst 3, 1) := by decide +kernel
theorem dX0_backwardColumn_50 : decode cX0_backwardColumn 50 = .ok (.iand, 1) := by decide +kernel
theorem dX0_backwardColumn_51 : decode cX0_backwardColumn 51 = .ok (.iaload, 1) := by decide +kernel
theorem dX0_backwardColumn_52 : decode cX0_backwardColumn 52 = .ok (.bipush 8, 2) := by decide +kernel
theorem dX0_backwardColumn_54 : decode cX0_backwardColumn 54 = .ok (.iushr, 1) := by decide +kernel
theorem dX0_backwardColumn_55 : decode cX0_backwardColumn 55 = .ok (.sipush 255, 3) := by decide +kernel
theorem dX0_backwardColumn_58 : decode cX0_backwardColumn 58 = .ok (.iand, 1) := by decide +kernel
theorem dX0_backwardColumn_59 : decode cX0_backwardColumn 59 = .ok (.iaload, 1) := by decide +kernel
theorem dX0_backwardColumn_60 : decode cX0_backwardColumn 60 = .ok (.istore 4, 2) := by decide +kernel
theorem dX0_backwardColumn_62 : decode cX0_backwardColumn 62 = .ok (.aload_n 0, 1) := by decide +kernel
theorem dX0_backwardColumn_63 : decode cX0_backwardColumn 63 = .ok (.getfield 19, 3) := by decide +kernel
theorem dX0_backwardColumn_66 : decode cX0_backwardColumn 66 = .ok (.aload_n 0, 1) := by decide +kernel
theorem dX0_backwardColumn_67 : decode cX0_backwardColumn 67 = .ok (.getfield 34, 3) := by decide +kernel
theorem dX0_backwardColumn_70 : decode cX0_backwardColumn 70 = .ok (.iload_n 1, 1) := by decide +kernel
theorem dX0_backwardColumn_71 : decode cX0_backwardColumn 71 = .ok (.iconst 1, 1) := by decide +kernel
theorem dX0_backwardColumn_72 : decode cX0_backwardColumn 72 = .ok (.iadd, 1) := by decide +kernel
theorem dX0_backwardColumn_73 : decode cX0_backwardColumn 73 = .ok (.iconst 3, 1) := by decide +kernel
theorem dX0_backwardColumn_74 : decode cX0_backwardColumn 74 = .ok (.iand, 1) := by decide +kernel
theorem dX0_backwardColumn_75 : decode cX0_backwardColumn 75 = .ok (.iaload, 1) := by decide +kernel
theorem dX0_backwardColumn_76 : decode cX0_backwardColumn 76 = .ok (.sipush 255, 3) := by decide +kernel
theorem dX0_backwardColumn_79 : decode cX0_backwardColumn 79 = .ok (.iand, 1) := by decide +kernel
theorem dX0_backwardColumn_80 : decode cX0_backwardColumn 80 = .ok (.iaload, 1) := by decide +kernel
theorem dX0_backwardColumn_81 : decode cX0_backwardColumn 81 = .ok (.istore 5, 2) := by decide +kernel
theorem dX0_backwardColumn_83 : decode cX0_backwardColumn 83 = .ok (.iload_n 2, 1) := by decide +kernel
theorem dX0_backwardColumn_84 : decode cX0_backwardColumn 84 = .ok (.iload_n 3, 1) := by decide +kernel
theorem dX0_backwardColumn_85 : decode cX0_backwardColumn 85 = .ok (.bipush 8, 2) := by decide +kernel
theorem dX0_backwardColumn_87 : decode cX0_backwardColumn 87 = .ok (.invokestatic 101, 3) := by decide +kernel
theorem dX0_backwardColumn_90 : decode cX0_backwardColumn 90 = .ok (.ixor, 1) := by decide +kernel
theorem dX0_backwardColumn_91 : decode cX0_backwardColumn 91 = .ok (.iload 4, 2) := by decide +kernel
theorem dX0_backwardColumn_93 : decode cX0_backwardColumn 93 = .ok (.bipush 16, 2) := by decide +kernel
theorem dX0_backwardColumn_95 : decode cX0_backwardColumn 95 = .ok (.invokestatic 101, 3) := by decide +kernel
theorem dX0_backwardColumn_98 : decode cX0_backwardColumn 98 = .ok (.ixor, 1) := by decide +kernel
theorem dX0_backwardColumn_99 : decode cX0_backwardColumn 99 = .ok (.iload 5, 2) := by decide +kernel
theorem dX0_backwardColumn_101 : decode cX0_backwardColumn 101 = .ok (.bipush 24, 2) := by decide +kernel
theorem dX0_backwardColumn_103 : decode cX0_backwardColumn 103 = .ok (.invokestatic 101, 3) := by decide +kernel
theorem dX0_backwardColumn_106 : decode cX0_backwardColumn 106 = .ok (.ixor, 1) := by decide +kernel
theorem dX0_backwardColumn_107 : decode cX0_backwardColumn 107 = .ok (.ireturn, 1) := by decide +kernel
theorem dX0_next_0 : decode cX0_next 0 = .ok (.aload_n 0, 1) := by decide +kernel
theorem dX0_next_1 : decode cX0_next 1 = .ok (.getfield 28, 3) := by decide +kernel
theorem dX0_next_4 : decode cX0_next 4 = .ok (.iconst 3, 1) := by decide +kernel
theorem dX0_next_5 : decode cX0_next 5 = .ok (.dup2, 1) := by decide +kernel
theorem dX0_next_6 : decode cX0_next 6 = .ok (.iaload, 1) := by decide +kernel
theorem dX0_next_7 : decode cX0_next 7 = .ok (.iconst 1, 1) := by decide +kernel
theorem dX0_next_8 : decode cX0_next 8 = .ok (.iadd, 1) := by decide +kernel
theorem dX0_next_9 : decode cX0_next 9 = .ok (.iastore, 1) := by decide +kernel
theorem dX0_next_10 : decode cX0_next 10 = .ok (.return_, 1) := by decide +kernel
theorem dX0_word_0 : decode cX0_word 0 = .ok (.aload_n 0, 1) := by decide +kernel
theorem dX0_word_1 : decode cX0_word 1 = .ok (.getfield 28, 3) := by decide +kernel
theorem dX0_word_4 : decode cX0_word 4 = .ok (.iload_n 1, 1) := by decide +kernel
theorem dX0_word_5 : decode cX0_word 5 = .ok (.iconst 3, 1) := by decide +kernel
theorem dX0_word_6 : decode cX0_word 6 = .ok (.iand, 1) := by decide +kernel
theorem dX0_word_7 : decode cX0_word 7 = .ok (.iaload, 1) := by decide +kernel
theorem dX0_word_8 : decode cX0_word 8 = .ok (.ireturn, 1) := by decide +kernel
theorem dX0_absorb_0 : decode cX0_absorb 0 = .ok (.iconst 0, 1) := by decide +kernel
theorem dX0_absorb_1 : decode cX0_absorb 1 = .ok (.istore_n 1, 1) := by decide +kernel
theorem dX0_absorb_2 : decode cX0_absorb 2 = .ok (.iload_n 1, 1) := by decide +kernel
theorem dX0_absorb_3 : decode cX0_absorb 3 = .ok (.iconst 4, 1) := by decide +kernel
theorem dX0_absorb_4 : decode cX0_absorb 4 = .ok (.if_icmp .ge 35, 3) := by decide +kernel
theorem dX0_absorb_7 : decode cX0_absorb 7 = .ok (.aload_n 0, 1) := by decide +kernel
theorem dX0_absorb_8 : decode cX0_absorb 8 = .ok (.getfield 34, 3) := by decide +kernel
theorem dX0_absorb_11 : decode cX0_absorb 11 = .ok (.iload_n 1, 1) := by decide +kernel
theorem dX0_absorb_12 : decode cX0_absorb 12 = .ok (.aload_n 0, 1) := by decide +kernel
theorem dX0_absorb_13 : decode cX0_absorb 13 = .ok (.getfield 31, 3) := by decide +kernel
theorem dX0_absorb_16 : decode cX0_absorb 16 = .ok (.iload_n 1, 1) := by decide +kernel
theorem dX0_absorb_17 : decode cX0_absorb 17 = .ok (.iaload, 1) := by decide +kernel
theorem dX0_absorb_18 : decode cX0_absorb 18 = .ok (.aload_n 0, 1) := by decide +kernel
theorem dX0_absorb_19 : decode cX0_absorb 19 = .ok (.getfield 28, 3) := by decide +kernel
theorem dX0_absorb_22 : decode cX0_absorb 22 = .ok (.iload_n 1, 1) := by decide +kernel
theorem dX0_absorb_23 : decode cX0_absorb 23 = .ok (.iaload, 1) := by decide +kernel
theorem dX0_absorb_24 : decode cX0_absorb 24 = .ok (.ixor, 1) := by decide +kernel
theorem dX0_absorb_25 : decode cX0_absorb 25 = .ok (.iastore, 1) := by decide +kernel
theorem dX0_absorb_26 : decode cX0_absorb 26 = .ok (.aload_n 0, 1) := by decide +kernel
theorem dX0_absorb_27 : decode cX0_absorb 27 = .ok (.getfield 31, 3) := by decide +kernel
theorem dX0_absorb_30 : decode cX0_absorb 30 = .ok (.iload_n 1, 1) := by decide +kernel
theorem dX0_absorb_31 : decode cX0_absorb 31 = .ok (.iconst 0, 1) := by decide +kernel
theorem dX0_absorb_32 : decode cX0_absorb 32 = .ok (.iastore, 1) := by decide +kernel
theorem dX0_absorb_33 : decode cX0_absorb 33 = .ok (.iinc 1 1, 3) := by decide +kernel
theorem dX0_absorb_36 : decode cX0_absorb 36 = .ok (.goto (-34), 3) := by decide +kernel
theorem dX0_absorb_39 : decode cX0_absorb 39 = .ok (.bipush 31, 2) := by decide +kernel
theorem dX0_absorb_41 : decode cX0_absorb 41 = .ok (.istore_n 1, 1) := by decide +kernel
theorem dX0_absorb_42 : decode cX0_absorb 42 = .ok (.iload_n 1, 1) := by decide +kernel
theorem dX0_absorb_43 : decode cX0_absorb 43 = .ok (.ifCond .lt 67, 3) := by decide +kernel
theorem dX0_absorb_46 : decode cX0_absorb 46 = .ok (.aload_n 0, 1) := by decide +kernel
theorem dX0_absorb_47 : decode cX0_absorb 47 = .ok (.invokevirtual 92, 3) := by decide +kernel
theorem dX0_absorb_50 : decode cX0_absorb 50 = .ok (.aload_n 0, 1) := by decide +kernel
theorem dX0_absorb_51 : decode cX0_absorb 51 = .ok (.getfield 34, 3) := by decide +kernel
theorem dX0_absorb_54 : decode cX0_absorb 54 = .ok (.iload_n 1, 1) := by decide +kernel
theorem dX0_absorb_55 : decode cX0_absorb 55 = .ok (.iconst 3, 1) := by decide +kernel
theorem dX0_absorb_56 : decode cX0_absorb 56 = .ok (.ishr, 1) := by decide +kernel
theorem dX0_absorb_57 : decode cX0_absorb 57 = .ok (.iaload, 1) := by decide +kernel
theorem dX0_absorb_58 : decode cX0_absorb 58 = .ok (.bipush 28, 2) := by decide +kernel
theorem dX0_absorb_60 : decode cX0_absorb 60 = .ok (.iconst 4, 1) := by decide +kernel
theorem dX0_absorb_61 : decode cX0_absorb 61 = .ok (.iload_n 1, 1) := by decide +kernel
theorem dX0_absorb_62 : decode cX0_absorb 62 = .ok (.bipush 7, 2) := by decide +kernel
theorem dX0_absorb_64 : decode cX0_absorb 64 = .ok (.iand, 1) := by decide +kernel
theorem dX0_absorb_65 : decode cX0_absorb 65 = .ok (.imul, 1) := by decide +kernel
theorem dX0_absorb_66 : decode cX0_absorb 66 = .ok (.isub, 1) := by decide +kernel
theorem dX0_absorb_67 : decode cX0_absorb 67 = .ok (.iushr, 1) := by decide +kernel
theorem dX0_absorb_68 : decode cX0_absorb 68 = .ok (.bipush 15, 2) := by decide +kernel
theorem dX0_absorb_70 : decode cX0_absorb 70 = .ok (.iand, 1) := by decide +kernel
theorem dX0_absorb_71 : decode cX0_absorb 71 = .ok (.istore_n 2, 1) := by decide +kernel
theorem dX0_absorb_72 : decode cX0_absorb 72 = .ok (.iconst 0, 1) := by decide +kernel
theorem dX0_absorb_73 : decode cX0_absorb 73 = .ok (.istore_n 3, 1) := by decide +kernel
theorem dX0_absorb_74 : decode cX0_absorb 74 = .ok (.iload_n 3, 1) := by decide +kernel
theorem dX0_absorb_75 : decode cX0_absorb 75 = .ok (.iconst 4, 1) := by decide +kernel
theorem dX0_absorb_76 : decode cX0_absorb 76 = .ok (.if_icmp .ge 28, 3) := by decide +kernel
theorem dX0_absorb_79 : decode cX0_absorb 79 = .ok (.aload_n 0, 1) := by decide +kernel
theorem dX0_absorb_80 : decode cX0_absorb 80 = .ok (.getfield 31, 3) := by decide +kernel
theorem dX0_absorb_83 : decode cX0_absorb 83 = .ok (.iload_n 3, 1) := by decide +kernel
theorem dX0_absorb_84 : decode cX0_absorb 84 = .ok (.dup2, 1) := by decide +kernel
theorem dX0_absorb_85 : decode cX0_absorb 85 = .ok (.iaload, 1) := by decide +kernel
theorem dX0_absorb_86 : decode cX0_absorb 86 = .ok (.aload_n 0, 1) := by decide +kernel
theorem dX0_absorb_87 : decode cX0_absorb 87 = .ok (.getfield 40, 3) := by decide +kernel
theorem dX0_absorb_90 : decode cX0_absorb 90 = .ok (.iconst 4, 1) := by decide +kernel
theorem dX0_absorb_91 : decode cX0_absorb 91 = .ok (.iload_n 2, 1) := by decide +kernel
theorem dX0_absorb_92 : decode cX0_absorb 92 = .ok (.imul, 1) := by decide +kernel
theorem dX0_absorb_93 : decode cX0_absorb 93 = .ok (.iload_n 3, 1) := by decide +kernel
theorem dX0_absorb_94 : decode cX0_absorb 94 = .ok (.iadd, 1) := by decide +kernel
theorem dX0_absorb_95 : decode cX0_absorb 95 = .ok (.iaload, 1) := by decide +kernel
theorem dX0_absorb_96 : decode cX0_absorb 96 = .ok (.ixor, 1) := by decide +kernel
theorem dX0_absorb_97 : decode cX0_absorb 97 = .ok (.iastore, 1) := by decide +kernel
theorem dX0_absorb_98 : decode cX0_absorb 98 = .ok (.iinc 3 1, 3) := by decide +kernel
theorem dX0_absorb_101 : decode cX0_absorb 101 = .ok (.goto (-27), 3) := by decide +kernel
theorem dX0_absorb_104 : decode cX0_absorb 104 = .ok (.iinc 1 (-1), 3) := by decide +kernel
theorem dX0_absorb_107 : decode cX0_absorb 107 = .ok (.goto (-65), 3) := by decide +kernel
theorem dX0_absorb_110 : decode cX0_absorb 110 = .ok (.return_, 1) := by decide +kernel
theorem dX0_moveSum_0 : decode cX0_moveSum 0 = .ok (.aload_n 0, 1) := by decide +kernel
theorem dX0_moveSum_1 : decode cX0_moveSum 1 = .ok (.getfield 31, 3) := by decide +kernel
theorem dX0_moveSum_4 : decode cX0_moveSum 4 = .ok (.iconst 3, 1) := by decide +kernel
theorem dX0_moveSum_5 : decode cX0_moveSum 5 = .ok (.iaload, 1) := by decide +kernel
theorem dX0_moveSum_6 : decode cX0_moveSum 6 = .ok (.bipush 15, 2) := by decide +kernel
theorem dX0_moveSum_8 : decode cX0_moveSum 8 = .ok (.iand, 1) := by decide +kernel
theorem dX0_moveSum_9 : decode cX0_moveSum 9 = .ok (.istore_n 1, 1) := by decide +kernel
theorem dX0_moveSum_10 : decode cX0_moveSum 10 = .ok (.iconst 3, 1) := by decide +kernel
theorem dX0_moveSum_11 : decode cX0_moveSum 11 = .ok (.istore_n 2, 1) := by decide +kernel
theorem dX0_moveSum_12 : decode cX0_moveSum 12 = .ok (.iload_n 2, 1) := by decide +kernel
theorem dX0_moveSum_13 : decode cX0_moveSum 13 = .ok (.ifCond .le 35, 3) := by decide +kernel
theorem dX0_moveSum_16 : decode cX0_moveSum 16 = .ok (.aload_n 0, 1) := by decide +kernel
theorem dX0_moveSum_17 : decode cX0_moveSum 17 = .ok (.getfield 31, 3) := by decide +kernel
theorem dX0_moveSum_20 : decode cX0_moveSum 20 = .ok (.iload_n 2, 1) := by decide +kernel
theorem dX0_moveSum_21 : decode cX0_moveSum 21 = .ok (.aload_n 0, 1) := by decide +kernel
theorem dX0_moveSum_22 : decode cX0_moveSum 22 = .ok (.getfield 31, 3) := by decide +kernel
theorem dX0_moveSum_25 : decode cX0_moveSum 25 = .ok (.iload_n 2, 1) := by decide +kernel
theorem dX0_moveSum_26 : decode cX0_moveSum 26 = .ok (.iaload, 1) := by decide +kernel
theorem dX0_moveSum_27 : decode cX0_moveSum 27 = .ok (.iconst 4, 1) := by decide +kernel
theorem dX0_moveSum_28 : decode cX0_moveSum 28 = .ok (.iushr, 1) := by decide +kernel
theorem dX0_moveSum_29 : decode cX0_moveSum 29 = .ok (.aload_n 0, 1) := by decide +kernel
theorem dX0_moveSum_30 : decode cX0_moveSum 30 = .ok (.getfield 31, 3) := by decide +kernel
theorem dX0_moveSum_33 : decode cX0_moveSum 33 = .ok (.iload_n 2, 1) := by decide +kernel
theorem dX0_moveSum_34 : decode cX0_moveSum 34 = .ok (.iconst 1, 1) := by decide +kernel
theorem dX0_moveSum_35 : decode cX0_moveSum 35 = .ok (.isub, 1) := by decide +kernel
theorem dX0_moveSum_36 : decode cX0_moveSum 36 = .ok (.iaload, 1) := by decide +kernel
theorem dX0_moveSum_37 : decode cX0_moveSum 37 = .ok (.bipush 28, 2) := by decide +kernel
theorem dX0_moveSum_39 : decode cX0_moveSum 39 = .ok (.ishl, 1) := by decide +kernel
theorem dX0_moveSum_40 : decode cX0_moveSum 40 = .ok (.ior, 1) := by decide +kernel
theorem dX0_moveSum_41 : decode cX0_moveSum 41 = .ok (.iastore, 1) := by decide +kernel
theorem dX0_moveSum_42 : decode cX0_moveSum 42 = .ok (.iinc 2 (-1), 3) := by decide +kernel
theorem dX0_moveSum_45 : decode cX0_moveSum 45 = .ok (.goto (-33), 3) := by decide +kernel
theorem dX0_moveSum_48 : decode cX0_moveSum 48 = .ok (.aload_n 0, 1) := by decide +kernel
theorem dX0_moveSum_49 : decode cX0_moveSum 49 = .ok (.getfield 31, 3) := by decide +kernel
theorem dX0_moveSum_52 : decode cX0_moveSum 52 = .ok (.iconst 0, 1) := by decide +kernel
theorem dX0_moveSum_53 : decode cX0_moveSum 53 = .ok (.aload_n 0, 1) := by decide +kernel
theorem dX0_moveSum_54 : decode cX0_moveSum 54 = .ok (.getfield 31, 3) := by decide +kernel
theorem dX0_moveSum_57 : decode cX0_moveSum 57 = .ok (.iconst 0, 1) := by decide +kernel
theorem dX0_moveSum_58 : decode cX0_moveSum 58 = .ok (.iaload, 1) := by decide +kernel
theorem dX0_moveSum_59 : decode cX0_moveSum 59 = .ok (.iconst 4, 1) := by decide +kernel
theorem dX0_moveSum_60 : decode cX0_moveSum 60 = .ok (.iushr, 1) := by decide +kernel
theorem dX0_moveSum_61 : decode cX0_moveSum 61 = .ok (.aload_n 0, 1) := by decide +kernel
theorem dX0_moveSum_62 : decode cX0_moveSum 62 = .ok (.getfield 43, 3) := by decide +kernel
theorem dX0_moveSum_65 : decode cX0_moveSum 65 = .ok (.iload_n 1, 1) := by decide +kernel
theorem dX0_moveSum_66 : decode cX0_moveSum 66 = .ok (.iaload, 1) := by decide +kernel
theorem dX0_moveSum_67 : decode cX0_moveSum 67 = .ok (.ixor, 1) := by decide +kernel
theorem dX0_moveSum_68 : decode cX0_moveSum 68 = .ok (.iastore, 1) := by decide +kernel
theorem dX0_moveSum_69 : decode cX0_moveSum 69 = .ok (.return_, 1) := by decide +kernel
theorem dX0_restart_0 : decode cX0_restart 0 = .ok (.iconst 0, 1) := by decide +kernel
theorem dX0_restart_1 : decode cX0_restart 1 = .ok (.istore_n 1, 1) := by decide +kernel
theorem dX0_restart_2 : decode cX0_restart 2 = .ok (.iload_n 1, 1) := by decide +kernel
theorem dX0_restart_3 : decode cX0_restart 3 = .ok (.iconst 4, 1) := by decide +kernel
theorem dX0_restart_4 : decode cX0_restart 4 = .ok (.if_icmp .ge 16, 3) := by decide +kernel
theorem dX0_restart_7 : decode cX0_restart 7 = .ok (.aload_n 0, 1) := by decide +kernel
theorem dX0_restart_8 : decode cX0_restart 8 = .ok (.getfield 31, 3) := by decide +kernel
theorem dX0_restart_11 : decode cX0_restart 11 = .ok (.iload_n 1, 1) := by decide +kernel
theorem dX0_restart_12 : decode cX0_restart 12 = .ok (.iconst 0, 1) := by decide +kernel
theorem dX0_restart_13 : decode cX0_restart 13 = .ok (.iastore, 1) := by decide +kernel
theorem dX0_restart_14 : decode cX0_restart 14 = .ok (.iinc 1 1, 3) := by decide +kernel
theorem dX0_restart_17 : decode cX0_restart 17 = .ok (.goto (-15), 3) := by decide +kernel
theorem dX0_restart_20 : decode cX0_restart 20 = .ok (.return_, 1) := by decide +kernel
theorem dX0_hash_0 : decode cX0_hash 0 = .ok (.aload_n 0, 1) := by decide +kernel
theorem dX0_hash_1 : decode cX0_hash 1 = .ok (.getfield 31, 3) := by decide +kernel
theorem dX0_hash_4 : decode cX0_hash 4 = .ok (.iload_n 1, 1) := by decide +kernel
theorem dX0_hash_5 : decode cX0_hash 5 = .ok (.iconst 3, 1) := by decide +kernel
theorem dX0_hash_6 : decode cX0_hash 6 = .ok (.iand, 1) := by decide +kernel
theorem dX0_hash_7 : decode cX0_hash 7 = .ok (.iaload, 1) := by decide +kernel
theorem dX0_hash_8 : decode cX0_hash 8 = .ok (.ireturn, 1) := by decide +kernel
theorem dX0_roundKey_0 : decode cX0_roundKey 0 = .ok (.iload_n 1, 1) := by decide +kernel
theorem dX0_roundKey_1 : decode cX0_roundKey 1 = .ok (.bipush 11, 2) := by decide +kernel
theorem dX0_roundKey_3 : decode cX0_roundKey 3 = .ok (.irem, 1) := by decide +kernel
theorem dX0_roundKey_4 : decode cX0_roundKey 4 = .ok (.istore_n 3, 1) := by decide +kernel
theorem dX0_roundKey_5 : decode cX0_roundKey 5 = .ok (.iload_n 3, 1) := by decide +kernel
theorem dX0_roundKey_6 : decode cX0_roundKey 6 = .ok (.ifCond .ge 6, 3) := by decide +kernel
theorem dX0_roundKey_9 : decode cX0_roundKey 9 = .ok (.iinc 3 11, 3) := by decide +kernel
theorem dX0_roundKey_12 : decode cX0_roundKey 12 = .ok (.aload_n 0, 1) := by decide +kernel
theorem dX0_roundKey_13 : decode cX0_roundKey 13 = .ok (.getfield 22, 3) := by decide +kernel
theorem dX0_roundKey_16 : decode cX0_roundKey 16 = .ok (.iconst 4, 1) := by decide +kernel
theorem dX0_roundKey_17 : decode cX0_roundKey 17 = .ok (.iload_n 3, 1) := by decide +kernel
theorem dX0_roundKey_18 : decode cX0_roundKey 18 = .ok (.imul, 1) := by decide +kernel
theorem dX0_roundKey_19 : decode cX0_roundKey 19 = .ok (.iload_n 2, 1) := by decide +kernel
theorem dX0_roundKey_20 : decode cX0_roundKey 20 = .ok (.iconst 3, 1) := by decide +kernel
theorem dX0_roundKey_21 : decode cX0_roundKey 21 = .ok (.iand, 1) := by decide +kernel
theorem dX0_roundKey_22 : decode cX0_roundKey 22 = .ok (.iadd, 1) := by decide +kernel
theorem dX0_roundKey_23 : decode cX0_roundKey 23 = .ok (.iaload, 1) := by decide +kernel
theorem dX0_roundKey_24 : decode cX0_roundKey 24 = .ok (.ireturn, 1) := by decide +kernel
end
section
set_option maxRecDepth 100000
theorem dX1_init_0 : decode cX1_init 0 = .ok (.aload_n 0, 1) := by decide +kernel
theorem dX1_init_1 : decode cX1_init 1 = .ok (.invokespecial 1, 3) := by decide +kernel
theorem dX1_init_4 : decode cX1_init 4 = .ok (.aload_n 0, 1) := by decide +kernel
theorem dX1_init_5 : decode cX1_init 5 = .ok (.sipush 256, 3) := by decide +kernel
theorem dX1_init_8 : decode cX1_init 8 = .ok (.newarray .int, 2) := by decide +kernel
theorem dX1_init_10 : decode cX1_init 10 = .ok (.putfield 7, 3) := by decide +kernel
theorem dX1_init_13 : decode cX1_init 13 = .ok (.aload_n 0, 1) := by decide +kernel
theorem dX1_init_14 : decode cX1_init 14 = .ok (.bipush 44, 2) := by decide +kernel
theorem dX1_init_16 : decode cX1_init 16 = .ok (.newarray .int, 2) := by decide +kernel
theorem dX1_init_18 : decode cX1_init 18 = .ok (.putfield 13, 3) := by decide +kernel
theorem dX1_init_21 : decode cX1_init 21 = .ok (.aload_n 0, 1) := by decide +kernel
theorem dX1_init_22 : decode cX1_init 22 = .ok (.iconst 4, 1) := by decide +kernel
theorem dX1_init_23 : decode cX1_init 23 = .ok (.newarray .int, 2) := by decide +kernel
theorem dX1_init_25 : decode cX1_init 25 = .ok (.putfield 16, 3) := by decide +kernel
theorem dX1_init_28 : decode cX1_init 28 = .ok (.aload_n 0, 1) := by decide +kernel
theorem dX1_init_29 : decode cX1_init 29 = .ok (.iconst 4, 1) := by decide +kernel
theorem dX1_init_30 : decode cX1_init 30 = .ok (.newarray .int, 2) := by decide +kernel
theorem dX1_init_32 : decode cX1_init 32 = .ok (.putfield 19, 3) := by decide +kernel
theorem dX1_init_35 : decode cX1_init 35 = .ok (.aload_n 0, 1) := by decide +kernel
theorem dX1_init_36 : decode cX1_init 36 = .ok (.bipush 16, 2) := by decide +kernel
theorem dX1_init_38 : decode cX1_init 38 = .ok (.newarray .int, 2) := by decide +kernel
theorem dX1_init_40 : decode cX1_init 40 = .ok (.putfield 22, 3) := by decide +kernel
theorem dX1_init_43 : decode cX1_init 43 = .ok (.aload_n 0, 1) := by decide +kernel
theorem dX1_init_44 : decode cX1_init 44 = .ok (.bipush 16, 2) := by decide +kernel
theorem dX1_init_46 : decode cX1_init 46 = .ok (.newarray .int, 2) := by decide +kernel
theorem dX1_init_48 : decode cX1_init 48 = .ok (.putfield 25, 3) := by decide +kernel
theorem dX1_init_51 : decode cX1_init 51 = .ok (.aload_n 0, 1) := by decide +kernel
theorem dX1_init_52 : decode cX1_init 52 = .ok (.iconst 4, 1) := by decide +kernel
theorem dX1_init_53 : decode cX1_init 53 = .ok (.newarray .int, 2) := by decide +kernel
theorem dX1_init_55 : decode cX1_init 55 = .ok (.putfield 28, 3) := by decide +kernel
theorem dX1_init_58 : decode cX1_init 58 = .ok (.aload_n 0, 1) := by decide +kernel
theorem dX1_init_59 : decode cX1_init 59 = .ok (.iconst 4, 1) := by decide +kernel
theorem dX1_init_60 : decode cX1_init 60 = .ok (.newarray .int, 2) := by decide +kernel
theorem dX1_init_62 : decode cX1_init 62 = .ok (.putfield 31, 3) := by decide +kernel
theorem dX1_init_65 : decode cX1_init 65 = .ok (.aload_n 0, 1) := by decide +kernel
theorem dX1_init_66 : decode cX1_init 66 = .ok (.iconst 4, 1) := by decide +kernel
theorem dX1_init_67 : decode cX1_init 67 = .ok (.newarray .int, 2) := by decide +kernel
theorem dX1_init_69 : decode cX1_init 69 = .ok (.putfield 34, 3) := by decide +kernel
theorem dX1_init_72 : decode cX1_init 72 = .ok (.iconst 0, 1) := by decide +kernel
theorem dX1_init_73 : decode cX1_init 73 = .ok (.istore_n 1, 1) := by decide +kernel
theorem dX1_init_74 : decode cX1_init 74 = .ok (.iload_n 1, 1) := by decide +kernel
theorem dX1_init_75 : decode cX1_init 75 = .ok (.sipush 256, 3) := by decide +kernel
theorem dX1_init_78 : decode cX1_init 78 = .ok (.if_icmp .ge 24, 3) := by decide +kernel
theorem dX1_init_81 : decode cX1_init 81 = .ok (.iload_n 1, 1) := by decide +kernel
theorem dX1_init_82 : decode cX1_init 82 = .ok (.invokestatic 37, 3) := by decide +kernel
theorem dX1_init_85 : decode cX1_init 85 = .ok (.istore_n 2, 1) := by decide +kernel
theorem dX1_init_86 : decode cX1_init 86 = .ok (.aload_n 0, 1) := by decide +kernel
theorem dX1_init_87 : decode cX1_init 87 = .ok (.getfield 7, 3) := by decide +kernel
theorem dX1_init_90 : decode cX1_init 90 = .ok (.iload_n 1, 1) := by decide +kernel
theorem dX1_init_91 : decode cX1_init 91 = .ok (.iload_n 2, 1) := by decide +kernel
theorem dX1_init_92 : decode cX1_init 92 = .ok (.invokestatic 41, 3) := by decide +kernel
theorem dX1_init_95 : decode cX1_init 95 = .ok (.iastore, 1) := by decide +kernel
theorem dX1_init_96 : decode cX1_init 96 = .ok (.iinc 1 1, 3) := by decide +kernel
theorem dX1_init_99 : decode cX1_init 99 = .ok (.goto (-25), 3) := by decide +kernel
theorem dX1_init_102 : decode cX1_init 102 = .ok (.aload_n 0, 1) := by decide +kernel
theorem dX1_init_103 : decode cX1_init 103 = .ok (.iconst 0, 1) := by decide +kernel
theorem dX1_init_104 : decode cX1_init 104 = .ok (.iconst 0, 1) := by decide +kernel
theorem dX1_init_105 : decode cX1_init 105 = .ok (.iconst 0, 1) := by decide +kernel
theorem dX1_init_106 : decode cX1_init 106 = .ok (.iconst 0, 1) := by decide +kernel
theorem dX1_init_107 : decode cX1_init 107 = .ok (.invokevirtual 44, 3) := by decide +kernel
theorem dX1_init_110 : decode cX1_init 110 = .ok (.return_, 1) := by decide +kernel
theorem dX1_inverse_0 : decode cX1_inverse 0 = .ok (.iconst 1, 1) := by decide +kernel
theorem dX1_inverse_1 : decode cX1_inverse 1 = .ok (.istore_n 1, 1) := by decide +kernel
theorem dX1_inverse_2 : decode cX1_inverse 2 = .ok (.iload_n 1, 1) := by decide +kernel
theorem dX1_inverse_3 : decode cX1_inverse 3 = .ok (.sipush 256, 3) := by decide +kernel
theorem dX1_inverse_6 : decode cX1_inverse 6 = .ok (.if_icmp .ge 20, 3) := by decide +kernel
theorem dX1_inverse_9 : decode cX1_inverse 9 = .ok (.iload_n 0, 1) := by decide +kernel
theorem dX1_inverse_10 : decode cX1_inverse 10 = .ok (.iload_n 1, 1) := by decide +kernel
theorem dX1_inverse_11 : decode cX1_inverse 11 = .ok (.invokestatic 51, 3) := by decide +kernel
theorem dX1_inverse_14 : decode cX1_inverse 14 = .ok (.iconst 1, 1) := by decide +kernel
theorem dX1_inverse_15 : decode cX1_inverse 15 = .ok (.if_icmp .ne 5, 3) := by decide +kernel
theorem dX1_inverse_18 : decode cX1_inverse 18 = .ok (.iload_n 1, 1) := by decide +kernel
theorem dX1_inverse_19 : decode cX1_inverse 19 = .ok (.ireturn, 1) := by decide +kernel
theorem dX1_inverse_20 : decode cX1_inverse 20 = .ok (.iinc 1 1, 3) := by decide +kernel
theorem dX1_inverse_23 : decode cX1_inverse 23 = .ok (.goto (-21), 3) := by decide +kernel
theorem dX1_inverse_26 : decode cX1_inverse 26 = .ok (.iconst 0, 1) := by decide +kernel
theorem dX1_inverse_27 : decode cX1_inverse 27 = .ok (.ireturn, 1) := by decide +kernel
theorem dX1_times_0 : decode cX1_times 0 = .ok (.iconst 0, 1) := by decide +kernel
theorem dX1_times_1 : decode cX1_times 1 = .ok (.istore_n 2, 1) := by decide +kernel
theorem dX1_times_2 : decode cX1_times 2 = .ok (.iload_n 0, 1) := by decide +kernel
theorem dX1_times_3 : decode cX1_times 3 = .ok (.istore_n 3, 1) := by decide +kernel
theorem dX1_times_4 : decode cX1_times 4 = .ok (.iconst 0, 1) := by decide +kernel
theorem dX1_times_5 : decode cX1_times 5 = .ok (.istore 4, 2) := by decide +kernel
theorem dX1_times_7 : decode cX1_times 7 = .ok (.iload 4, 2) := by decide +kernel
theorem dX1_times_9 : decode cX1_times 9 = .ok (.bipush 8, 2) := by decide +kernel
theorem dX1_times_11 : decode cX1_times 11 = .ok (.if_icmp .ge 28, 3) := by decide +kernel
theorem dX1_times_14 : decode cX1_times 14 = .ok (.iload_n 1, 1) := by decide +kernel
theorem dX1_times_15 : decode cX1_times 15 = .ok (.iload 4, 2) := by decide +kernel
theorem dX1_times_17 : decode cX1_times 17 = .ok (.ishr, 1) := by decide +kernel
theorem dX1_times_18 : decode cX1_times 18 = .ok (.iconst 1, 1) := by decide +kernel
theorem dX1_times_19 : decode cX1_times 19 = .ok (.iand, 1) := by decide +kernel
theorem dX1_times_20 : decode cX1_times 20 = .ok (.iconst 1, 1) := by decide +kernel
theorem dX1_times_21 : decode cX1_times 21 = .ok (.if_icmp .ne 7, 3) := by decide +kernel
theorem dX1_times_24 : decode cX1_times 24 = .ok (.iload_n 2, 1) := by decide +kernel
theorem dX1_times_25 : decode cX1_times 25 = .ok (.iload_n 3, 1) := by decide +kernel
theorem dX1_times_26 : decode cX1_times 26 = .ok (.ixor, 1) := by decide +kernel
theorem dX1_times_27 : decode cX1_times 27 = .ok (.istore_n 2, 1) := by decide +kernel
theorem dX1_times_28 : decode cX1_times 28 = .ok (.iload_n 3, 1) := by decide +kernel
theorem dX1_times_29 : decode cX1_times 29 = .ok (.invokestatic 48, 3) := by decide +kernel
theorem dX1_times_32 : decode cX1_times 32 = .ok (.istore_n 3, 1) := by decide +kernel
theorem dX1_times_33 : decode cX1_times 33 = .ok (.iinc 4 1, 3) := by decide +kernel
theorem dX1_times_36 : decode cX1_times 36 = .ok (.goto (-29), 3) := by decide +kernel
theorem dX1_times_39 : decode cX1_times 39 = .ok (.iload_n 2, 1) := by decide +kernel
theorem dX1_times_40 : decode cX1_times 40 = .ok (.ireturn, 1) := by decide +kernel
theorem dX1_twice_0 : decode cX1_twice 0 = .ok (.iconst 2, 1) := by decide +kernel
theorem dX1_twice_1 : decode cX1_twice 1 = .ok (.iload_n 0, 1) := by decide +kernel
theorem dX1_twice_2 : decode cX1_twice 2 = .ok (.imul, 1) := by decide +kernel
theorem dX1_twice_3 : decode cX1_twice 3 = .ok (.sipush 255, 3) := by decide +kernel
theorem dX1_twice_6 : decode cX1_twice 6 = .ok (.if_icmp .le 13, 3) := by decide +kernel
theorem dX1_twice_9 : decode cX1_twice 9 = .ok (.iconst 2, 1) := by decide +kernel
theorem dX1_twice_10 : decode cX1_twice 10 = .ok (.iload_n 0, 1) := by decide +kernel
theorem dX1_twice_11 : decode cX1_twice 11 = .ok (.imul, 1) := by decide +kernel
theorem dX1_twice_12 : decode cX1_twice 12 = .ok (.sipush 283, 3) := by decide +kernel
theorem dX1_twice_15 : decode cX1_twice 15 = .ok (.ixor, 1) := by decide +kernel
theorem dX1_twice_16 : decode cX1_twice 16 = .ok (.goto 6, 3) := by decide +kernel
theorem dX1_twice_19 : decode cX1_twice 19 = .ok (.iconst 2, 1) := by decide +kernel
theorem dX1_twice_20 : decode cX1_twice 20 = .ok (.iload_n 0, 1) := by decide +kernel
theorem dX1_twice_21 : decode cX1_twice 21 = .ok (.imul, 1) := by decide +kernel
theorem dX1_twice_22 : decode cX1_twice 22 = .ok (.ireturn, 1) := by decide +kernel
theorem dX1_spread_0 : decode cX1_spread 0 = .ok (.iconst 0, 1) := by decide +kernel
theorem dX1_spread_1 : decode cX1_spread 1 = .ok (.istore_n 1, 1) := by decide +kernel
theorem dX1_spread_2 : decode cX1_spread 2 = .ok (.iconst 0, 1) := by decide +kernel
theorem dX1_spread_3 : decode cX1_spread 3 = .ok (.istore_n 2, 1) := by decide +kernel
theorem dX1_spread_4 : decode cX1_spread 4 = .ok (.iload_n 2, 1) := by decide +kernel
theorem dX1_spread_5 : decode cX1_spread 5 = .ok (.bipush 8, 2) := by decide +kernel
theorem dX1_spread_7 : decode cX1_spread 7 = .ok (.if_icmp .ge 64, 3) := by decide +kernel
theorem dX1_spread_10 : decode cX1_spread 10 = .ok (.iload_n 0, 1) := by decide +kernel
theorem dX1_spread_11 : decode cX1_spread 11 = .ok (.iload_n 2, 1) := by decide +kernel
theorem dX1_spread_12 : decode cX1_spread 12 = .ok (.ishr, 1) := by decide +kernel
theorem dX1_spread_13 : decode cX1_spread 13 = .ok (.iload_n 0, 1) := by decide +kernel
theorem dX1_spread_14 : decode cX1_spread 14 = .ok (.iload_n 2, 1) := by decide +kernel
theorem dX1_spread_15 : decode cX1_spread 15 = .ok (.iconst 4, 1) := by decide +kernel
theorem dX1_spread_16 : decode cX1_spread 16 = .ok (.iadd, 1) := by decide +kernel
theorem dX1_spread_17 : decode cX1_spread 17 = .ok (.bipush 8, 2) := by decide +kernel
theorem dX1_spread_19 : decode cX1_spread 19 = .ok (.irem, 1) := by decide +kernel
theorem dX1_spread_20 : decode cX1_spread 20 = .ok (.ishr, 1) := by decide +kernel
theorem dX1_spread_21 : decode cX1_spread 21 = .ok (.ixor, 1) := by decide +kernel
theorem dX1_spread_22 : decode cX1_spread 22 = .ok (.iload_n 0, 1) := by decide +kernel
theorem dX1_spread_23 : decode cX1_spread 23 = .ok (.iload_n 2, 1) := by decide +kernel
theorem dX1_spread_24 : decode cX1_spread 24 = .ok (.iconst 5, 1) := by decide +kernel
theorem dX1_spread_25 : decode cX1_spread 25 = .ok (.iadd, 1) := by decide +kernel
theorem dX1_spread_26 : decode cX1_spread 26 = .ok (.bipush 8, 2) := by decide +kernel
theorem dX1_spread_28 : decode cX1_spread 28 = .ok (.irem, 1) := by decide +kernel
theorem dX1_spread_29 : decode cX1_spread 29 = .ok (.ishr, 1) := by decide +kernel
theorem dX1_spread_30 : decode cX1_spread 30 = .ok (.ixor, 1) := by decide +kernel
theorem dX1_spread_31 : decode cX1_spread 31 = .ok (.iload_n 0, 1) := by decide +kernel
theorem dX1_spread_32 : decode cX1_spread 32 = .ok (.iload_n 2, 1) := by decide +kernel
theorem dX1_spread_33 : decode cX1_spread 33 = .ok (.bipush 6, 2) := by decide +kernel
theorem dX1_spread_35 : decode cX1_spread 35 = .ok (.iadd, 1) := by decide +kernel
theorem dX1_spread_36 : decode cX1_spread 36 = .ok (.bipush 8, 2) := by decide +kernel
theorem dX1_spread_38 : decode cX1_spread 38 = .ok (.irem, 1) := by decide +kernel
theorem dX1_spread_39 : decode cX1_spread 39 = .ok (.ishr, 1) := by decide +kernel
theorem dX1_spread_40 : decode cX1_spread 40 = .ok (.ixor, 1) := by decide +kernel
theorem dX1_spread_41 : decode cX1_spread 41 = .ok (.iload_n 0, 1) := by decide +kernel
theorem dX1_spread_42 : decode cX1_spread 42 = .ok (.iload_n 2, 1) := by decide +kernel
theorem dX1_spread_43 : decode cX1_spread 43 = .ok (.bipush 7, 2) := by decide +kernel
theorem dX1_spread_45 : decode cX1_spread 45 = .ok (.iadd, 1) := by decide +kernel
theorem dX1_spread_46 : decode cX1_spread 46 = .ok (.bipush 8, 2) := by decide +kernel
theorem dX1_spread_48 : decode cX1_spread 48 = .ok (.irem, 1) := by decide +kernel
theorem dX1_spread_49 : decode cX1_spread 49 = .ok (.ishr, 1) := by decide +kernel
theorem dX1_spread_50 : decode cX1_spread 50 = .ok (.ixor, 1) := by decide +kernel
theorem dX1_spread_51 : decode cX1_spread 51 = .ok (.bipush 99, 2) := by decide +kernel
theorem dX1_spread_53 : decode cX1_spread 53 = .ok (.iload_n 2, 1) := by decide +kernel
theorem dX1_spread_54 : decode cX1_spread 54 = .ok (.ishr, 1) := by decide +kernel
theorem dX1_spread_55 : decode cX1_spread 55 = .ok (.ixor, 1) := by decide +kernel
theorem dX1_spread_56 : decode cX1_spread 56 = .ok (.istore_n 3, 1) := by decide +kernel
theorem dX1_spread_57 : decode cX1_spread 57 = .ok (.iload_n 1, 1) := by decide +kernel
theorem dX1_spread_58 : decode cX1_spread 58 = .ok (.iload_n 3, 1) := by decide +kernel
theorem dX1_spread_59 : decode cX1_spread 59 = .ok (.iconst 1, 1) := by decide +kernel
theorem dX1_spread_60 : decode cX1_spread 60 = .ok (.iand, 1) := by decide +kernel
theorem dX1_spread_61 : decode cX1_spread 61 = .ok (.iload_n 2, 1) := by decide +kernel
theorem dX1_spread_62 : decode cX1_spread 62 = .ok (.ishl, 1) := by decide +kernel
theorem dX1_spread_63 : decode cX1_spread 63 = .ok (.ior, 1) := by decide +kernel
theorem dX1_spread_64 : decode cX1_spread 64 = .ok (.istore_n 1, 1) := by decide +kernel
theorem dX1_spread_65 : decode cX1_spread 65 = .ok (.iinc 2 1, 3) := by decide +kernel
theorem dX1_spread_68 : decode cX1_spread 68 = .ok (.goto (-64), 3) := by decide +kernel
theorem dX1_spread_71 : decode cX1_spread 71 = .ok (.iload_n 1, 1) := by decide +kernel
theorem dX1_spread_72 : decode cX1_spread 72 = .ok (.ireturn, 1) := by decide +kernel
theorem dX1_key_0 : decode cX1_key 0 = .ok (.aload_n 0, 1) := by decide +kernel
theorem dX1_key_1 : decode cX1_key 1 = .ok (.getfield 13, 3) := by decide +kernel
theorem dX1_key_4 : decode cX1_key 4 = .ok (.iconst 0, 1) := by decide +kernel
theorem dX1_key_5 : decode cX1_key 5 = .ok (.iload_n 1, 1) := by decide +kernel
theorem dX1_key_6 : decode cX1_key 6 = .ok (.iastore, 1) := by decide +kernel
theorem dX1_key_7 : decode cX1_key 7 = .ok (.aload_n 0, 1) := by decide +kernel
theorem dX1_key_8 : decode cX1_key 8 = .ok (.getfield 13, 3) := by decide +kernel
theorem dX1_key_11 : decode cX1_key 11 = .ok (.iconst 1, 1) := by decide +kernel
theorem dX1_key_12 : decode cX1_key 12 = .ok (.iload_n 2, 1) := by decide +kernel
theorem dX1_key_13 : decode cX1_key 13 = .ok (.iastore, 1) := by decide +kernel
theorem dX1_key_14 : decode cX1_key 14 = .ok (.aload_n 0, 1) := by decide +kernel
theorem dX1_key_15 : decode cX1_key 15 = .ok (.getfield 13, 3) := by decide +kernel
theorem dX1_key_18 : decode cX1_key 18 = .ok (.iconst 2, 1) := by decide +kernel
theorem dX1_key_19 : decode cX1_key 19 = .ok (.iload_n 3, 1) := by decide +kernel
theorem dX1_key_20 : decode cX1_key 20 = .ok (.iastore, 1) := by decide +kernel
theorem dX1_key_21 : decode cX1_key 21 = .ok (.aload_n 0, 1) := by decide +kernel
theorem dX1_key_22 : decode cX1_key 22 = .ok (.getfield 13, 3) := by decide +kernel
theorem dX1_key_25 : decode cX1_key 25 = .ok (.iconst 3, 1) := by decide +kernel
theorem dX1_key_26 : decode cX1_key 26 = .ok (.iload 4, 2) := by decide +kernel
theorem dX1_key_28 : decode cX1_key 28 = .ok (.iastore, 1) := by decide +kernel
theorem dX1_key_29 : decode cX1_key 29 = .ok (.iconst 1, 1) := by decide +kernel
theorem dX1_key_30 : decode cX1_key 30 = .ok (.istore 5, 2) := by decide +kernel
theorem dX1_key_32 : decode cX1_key 32 = .ok (.iconst 4, 1) := by decide +kernel
theorem dX1_key_33 : decode cX1_key 33 = .ok (.istore 6, 2) := by decide +kernel
theorem dX1_key_35 : decode cX1_key 35 = .ok (.iload 6, 2) := by decide +kernel
theorem dX1_key_37 : decode cX1_key 37 = .ok (.bipush 44, 2) := by decide +kernel
theorem dX1_key_39 : decode cX1_key 39 = .ok (.if_icmp .ge 80, 3) := by decide +kernel
theorem dX1_key_42 : decode cX1_key 42 = .ok (.aload_n 0, 1) := by decide +kernel
theorem dX1_key_43 : decode cX1_key 43 = .ok (.getfield 13, 3) := by decide +kernel
theorem dX1_key_46 : decode cX1_key 46 = .ok (.iload 6, 2) := by decide +kernel
theorem dX1_key_48 : decode cX1_key 48 = .ok (.iconst 1, 1) := by decide +kernel
theorem dX1_key_49 : decode cX1_key 49 = .ok (.isub, 1) := by decide +kernel
theorem dX1_key_50 : decode cX1_key 50 = .ok (.iaload, 1) := by decide +kernel
theorem dX1_key_51 : decode cX1_key 51 = .ok (.istore 7, 2) := by decide +kernel
theorem dX1_key_53 : decode cX1_key 53 = .ok (.iload 6, 2) := by decide +kernel
theorem dX1_key_55 : decode cX1_key 55 = .ok (.iconst 4, 1) := by decide +kernel
theorem dX1_key_56 : decode cX1_key 56 = .ok (.irem, 1) := by decide +kernel
theorem dX1_key_57 : decode cX1_key 57 = .ok (.ifCond .ne 37, 3) := by decide +kernel
theorem dX1_key_60 : decode cX1_key 60 = .ok (.iload 7, 2) := by decide +kernel
theorem dX1_key_62 : decode cX1_key 62 = .ok (.bipush 8, 2) := by decide +kernel
theorem dX1_key_64 : decode cX1_key 64 = .ok (.ishl, 1) := by decide +kernel
theorem dX1_key_65 : decode cX1_key 65 = .ok (.iload 7, 2) := by decide +kernel
theorem dX1_key_67 : decode cX1_key 67 = .ok (.bipush 24, 2) := by decide +kernel
theorem dX1_key_69 : decode cX1_key 69 = .ok (.iushr, 1) := by decide +kernel
theorem dX1_key_70 : decode cX1_key 70 = .ok (.ior, 1) := by decide +kernel
theorem dX1_key_71 : decode cX1_key 71 = .ok (.istore 8, 2) := by decide +kernel
theorem dX1_key_73 : decode cX1_key 73 = .ok (.aload_n 0, 1) := by decide +kernel
theorem dX1_key_74 : decode cX1_key 74 = .ok (.iload 8, 2) := by decide +kernel
theorem dX1_key_76 : decode cX1_key 76 = .ok (.invokevirtual 58, 3) := by decide +kernel
theorem dX1_key_79 : decode cX1_key 79 = .ok (.iload 5, 2) := by decide +kernel
theorem dX1_key_81 : decode cX1_key 81 = .ok (.bipush 24, 2) := by decide +kernel
theorem dX1_key_83 : decode cX1_key 83 = .ok (.ishl, 1) := by decide +kernel
theorem dX1_key_84 : decode cX1_key 84 = .ok (.ixor, 1) := by decide +kernel
theorem dX1_key_85 : decode cX1_key 85 = .ok (.istore 7, 2) := by decide +kernel
theorem dX1_key_87 : decode cX1_key 87 = .ok (.iload 5, 2) := by decide +kernel
theorem dX1_key_89 : decode cX1_key 89 = .ok (.invokestatic 48, 3) := by decide +kernel
theorem dX1_key_92 : decode cX1_key 92 = .ok (.istore 5, 2) := by decide +kernel
theorem dX1_key_94 : decode cX1_key 94 = .ok (.aload_n 0, 1) := by decide +kernel
theorem dX1_key_95 : decode cX1_key 95 = .ok (.getfield 13, 3) := by decide +kernel
theorem dX1_key_98 : decode cX1_key 98 = .ok (.iload 6, 2) := by decide +kernel
theorem dX1_key_100 : decode cX1_key 100 = .ok (.aload_n 0, 1) := by decide +kernel
theorem dX1_key_101 : decode cX1_key 101 = .ok (.getfield 13, 3) := by decide +kernel
theorem dX1_key_104 : decode cX1_key 104 = .ok (.iload 6, 2) := by decide +kernel
theorem dX1_key_106 : decode cX1_key 106 = .ok (.iconst 4, 1) := by decide +kernel
theorem dX1_key_107 : decode cX1_key 107 = .ok (.isub, 1) := by decide +kernel
theorem dX1_key_108 : decode cX1_key 108 = .ok (.iaload, 1) := by decide +kernel
theorem dX1_key_109 : decode cX1_key 109 = .ok (.iload 7, 2) := by decide +kernel
theorem dX1_key_111 : decode cX1_key 111 = .ok (.ixor, 1) := by decide +kernel
theorem dX1_key_112 : decode cX1_key 112 = .ok (.iastore, 1) := by decide +kernel
theorem dX1_key_113 : decode cX1_key 113 = .ok (.iinc 6 1, 3) := by decide +kernel
theorem dX1_key_116 : decode cX1_key 116 = .ok (.goto (-81), 3) := by decide +kernel
theorem dX1_key_119 : decode cX1_key 119 = .ok (.return_, 1) := by decide +kernel
theorem dX1_substituted_0 : decode cX1_substituted 0 = .ok (.iconst 0, 1) := by decide +kernel
theorem dX1_substituted_1 : decode cX1_substituted 1 = .ok (.istore_n 2, 1) := by decide +kernel
theorem dX1_substituted_2 : decode cX1_substituted 2 = .ok (.iconst 0, 1) := by decide +kernel
theorem dX1_substituted_3 : decode cX1_substituted 3 = .ok (.istore_n 3, 1) := by decide +kernel
theorem dX1_substituted_4 : decode cX1_substituted 4 = .ok (.iload_n 3, 1) := by decide +kernel
theorem dX1_substituted_5 : decode cX1_substituted 5 = .ok (.iconst 4, 1) := by decide +kernel
theorem dX1_substituted_6 : decode cX1_substituted 6 = .ok (.if_icmp .ge 25, 3) := by decide +kernel
theorem dX1_substituted_9 : decode cX1_substituted 9 = .ok (.iload_n 2, 1) := by decide +kernel
theorem dX1_substituted_10 : decode cX1_substituted 10 = .ok (.bipush 8, 2) := by decide +kernel
theorem dX1_substituted_12 : decode cX1_substituted 12 = .ok (.ishl, 1) := by decide +kernel
theorem dX1_substituted_13 : decode cX1_substituted 13 = .ok (.aload_n 0, 1) := by decide +kernel
theorem dX1_substituted_14 : decode cX1_substituted 14 = .ok (.getfield 7, 3) := by decide +kernel
theorem dX1_substituted_17 : decode cX1_substituted 17 = .ok (.iload_n 1, 1) := by decide +kernel
theorem dX1_substituted_18 : decode cX1_substituted 18 = .ok (.iload_n 3, 1) := by decide +kernel
theorem dX1_substituted_19 : decode cX1_substituted 19 = .ok (.invokestatic 55, 3) := by decide +kernel
theorem dX1_substituted_22 : decode cX1_substituted 22 = .ok (.iaload, 1) := by decide +kernel
theorem dX1_substituted_23 : decode cX1_substituted 23 = .ok (.ior, 1) := by decide +kernel
theorem dX1_substituted_24 : decode cX1_substituted 24 = .ok (.istore_n 2, 1) := by decide +kernel
theorem dX1_substituted_25 : decode cX1_substituted 25 = .ok (.iinc 3 1, 3) := by decide +kernel
theorem dX1_substituted_28 : decode cX1_substituted 28 = .ok (.goto (-24), 3) := by decide +kernel
theorem dX1_substituted_31 : decode cX1_substituted 31 = .ok (.iload_n 2, 1) := by decide +kernel
theorem dX1_substituted_32 : decode cX1_substituted 32 = .ok (.ireturn, 1) := by decide +kernel
theorem dX1_byteOf_0 : decode cX1_byteOf 0 = .ok (.iload_n 0, 1) := by decide +kernel
theorem dX1_byteOf_1 : decode cX1_byteOf 1 = .ok (.bipush 24, 2) := by decide +kernel
theorem dX1_byteOf_3 : decode cX1_byteOf 3 = .ok (.bipush 8, 2) := by decide +kernel
theorem dX1_byteOf_5 : decode cX1_byteOf 5 = .ok (.iload_n 1, 1) := by decide +kernel
theorem dX1_byteOf_6 : decode cX1_byteOf 6 = .ok (.imul, 1) := by decide +kernel
theorem dX1_byteOf_7 : decode cX1_byteOf 7 = .ok (.isub, 1) := by decide +kernel
theorem dX1_byteOf_8 : decode cX1_byteOf 8 = .ok (.ishr, 1) := by decide +kernel
theorem dX1_byteOf_9 : decode cX1_byteOf 9 = .ok (.sipush 255, 3) := by decide +kernel
theorem dX1_byteOf_12 : decode cX1_byteOf 12 = .ok (.iand, 1) := by decide +kernel
theorem dX1_byteOf_13 : decode cX1_byteOf 13 = .ok (.ireturn, 1) := by decide +kernel
theorem dX1_block_0 : decode cX1_block 0 = .ok (.aload_n 0, 1) := by decide +kernel
theorem dX1_block_1 : decode cX1_block 1 = .ok (.getfield 16, 3) := by decide +kernel
theorem dX1_block_4 : decode cX1_block 4 = .ok (.iconst 0, 1) := by decide +kernel
theorem dX1_block_5 : decode cX1_block 5 = .ok (.iload_n 1, 1) := by decide +kernel
theorem dX1_block_6 : decode cX1_block 6 = .ok (.iastore, 1) := by decide +kernel
theorem dX1_block_7 : decode cX1_block 7 = .ok (.aload_n 0, 1) := by decide +kernel
theorem dX1_block_8 : decode cX1_block 8 = .ok (.getfield 16, 3) := by decide +kernel
theorem dX1_block_11 : decode cX1_block 11 = .ok (.iconst 1, 1) := by decide +kernel
theorem dX1_block_12 : decode cX1_block 12 = .ok (.iload_n 2, 1) := by decide +kernel
theorem dX1_block_13 : decode cX1_block 13 = .ok (.iastore, 1) := by decide +kernel
theorem dX1_block_14 : decode cX1_block 14 = .ok (.aload_n 0, 1) := by decide +kernel
theorem dX1_block_15 : decode cX1_block 15 = .ok (.getfield 16, 3) := by decide +kernel
theorem dX1_block_18 : decode cX1_block 18 = .ok (.iconst 2, 1) := by decide +kernel
theorem dX1_block_19 : decode cX1_block 19 = .ok (.iload_n 3, 1) := by decide +kernel
theorem dX1_block_20 : decode cX1_block 20 = .ok (.iastore, 1) := by decide +kernel
theorem dX1_block_21 : decode cX1_block 21 = .ok (.aload_n 0, 1) := by decide +kernel
theorem dX1_block_22 : decode cX1_block 22 = .ok (.getfield 16, 3) := by decide +kernel
theorem dX1_block_25 : decode cX1_block 25 = .ok (.iconst 3, 1) := by decide +kernel
theorem dX1_block_26 : decode cX1_block 26 = .ok (.iload 4, 2) := by decide +kernel
theorem dX1_block_28 : decode cX1_block 28 = .ok (.iastore, 1) := by decide +kernel
theorem dX1_block_29 : decode cX1_block 29 = .ok (.return_, 1) := by decide +kernel
theorem dX1_mix_0 : decode cX1_mix 0 = .ok (.aload_n 0, 1) := by decide +kernel
theorem dX1_mix_1 : decode cX1_mix 1 = .ok (.aload_n 0, 1) := by decide +kernel
theorem dX1_mix_2 : decode cX1_mix 2 = .ok (.getfield 16, 3) := by decide +kernel
theorem dX1_mix_5 : decode cX1_mix 5 = .ok (.iconst 0, 1) := by decide +kernel
theorem dX1_mix_6 : decode cX1_mix 6 = .ok (.iaload, 1) := by decide +kernel
theorem dX1_mix_7 : decode cX1_mix 7 = .ok (.iload_n 1, 1) := by decide +kernel
theorem dX1_mix_8 : decode cX1_mix 8 = .ok (.ixor, 1) := by decide +kernel
theorem dX1_mix_9 : decode cX1_mix 9 = .ok (.aload_n 0, 1) := by decide +kernel
theorem dX1_mix_10 : decode cX1_mix 10 = .ok (.getfield 16, 3) := by decide +kernel
theorem dX1_mix_13 : decode cX1_mix 13 = .ok (.iconst 1, 1) := by decide +kernel
theorem dX1_mix_14 : decode cX1_mix 14 = .ok (.iaload, 1) := by decide +kernel
theorem dX1_mix_15 : decode cX1_mix 15 = .ok (.iload_n 2, 1) := by decide +kernel
theorem dX1_mix_16 : decode cX1_mix 16 = .ok (.ixor, 1) := by decide +kernel
theorem dX1_mix_17 : decode cX1_mix 17 = .ok (.aload_n 0, 1) := by decide +kernel
theorem dX1_mix_18 : decode cX1_mix 18 = .ok (.getfield 16, 3) := by decide +kernel
theorem dX1_mix_21 : decode cX1_mix 21 = .ok (.iconst 2, 1) := by decide +kernel
theorem dX1_mix_22 : decode cX1_mix 22 = .ok (.iaload, 1) := by decide +kernel
theorem dX1_mix_23 : decode cX1_mix 23 = .ok (.iload_n 3, 1) := by decide +kernel
theorem dX1_mix_24 : decode cX1_mix 24 = .ok (.ixor, 1) := by decide +kernel
theorem dX1_mix_25 : decode cX1_mix 25 = .ok (.aload_n 0, 1) := by decide +kernel
theorem dX1_mix_26 : decode cX1_mix 26 = .ok (.getfield 16, 3) := by decide +kernel
theorem dX1_mix_29 : decode cX1_mix 29 = .ok (.iconst 3, 1) := by decide +kernel
theorem dX1_mix_30 : decode cX1_mix 30 = .ok (.iaload, 1) := by decide +kernel
theorem dX1_mix_31 : decode cX1_mix 31 = .ok (.iload 4, 2) := by decide +kernel
theorem dX1_mix_33 : decode cX1_mix 33 = .ok (.ixor, 1) := by decide +kernel
theorem dX1_mix_34 : decode cX1_mix 34 = .ok (.invokevirtual 61, 3) := by decide +kernel
theorem dX1_mix_37 : decode cX1_mix 37 = .ok (.return_, 1) := by decide +kernel
theorem dX1_encrypt_0 : decode cX1_encrypt 0 = .ok (.aload_n 0, 1) := by decide +kernel
theorem dX1_encrypt_1 : decode cX1_encrypt 1 = .ok (.aload_n 0, 1) := by decide +kernel
theorem dX1_encrypt_2 : decode cX1_encrypt 2 = .ok (.getfield 16, 3) := by decide +kernel
theorem dX1_encrypt_5 : decode cX1_encrypt 5 = .ok (.iconst 0, 1) := by decide +kernel
theorem dX1_encrypt_6 : decode cX1_encrypt 6 = .ok (.iaload, 1) := by decide +kernel
theorem dX1_encrypt_7 : decode cX1_encrypt 7 = .ok (.aload_n 0, 1) := by decide +kernel
theorem dX1_encrypt_8 : decode cX1_encrypt 8 = .ok (.getfield 16, 3) := by decide +kernel
theorem dX1_encrypt_11 : decode cX1_encrypt 11 = .ok (.iconst 1, 1) := by decide +kernel
theorem dX1_encrypt_12 : decode cX1_encrypt 12 = .ok (.iaload, 1) := by decide +kernel
theorem dX1_encrypt_13 : decode cX1_encrypt 13 = .ok (.aload_n 0, 1) := by decide +kernel
theorem dX1_encrypt_14 : decode cX1_encrypt 14 = .ok (.getfield 16, 3) := by decide +kernel
theorem dX1_encrypt_17 : decode cX1_encrypt 17 = .ok (.iconst 2, 1) := by decide +kernel
theorem dX1_encrypt_18 : decode cX1_encrypt 18 = .ok (.iaload, 1) := by decide +kernel
theorem dX1_encrypt_19 : decode cX1_encrypt 19 = .ok (.aload_n 0, 1) := by decide +kernel
theorem dX1_encrypt_20 : decode cX1_encrypt 20 = .ok (.getfield 16, 3) := by decide +kernel
theorem dX1_encrypt_23 : decode cX1_encrypt 23 = .ok (.iconst 3, 1) := by decide +kernel
theorem dX1_encrypt_24 : decode cX1_encrypt 24 = .ok (.iaload, 1) := by decide +kernel
theorem dX1_encrypt_25 : decode cX1_encrypt 25 = .ok (.invokevirtual 86, 3) := by decide +kernel
theorem dX1_encrypt_28 : decode cX1_encrypt 28 = .ok (.aload_n 0, 1) := by decide +kernel
theorem dX1_encrypt_29 : decode cX1_encrypt 29 = .ok (.invokevirtual 89, 3) := by decide +kernel
theorem dX1_encrypt_32 : decode cX1_encrypt 32 = .ok (.iconst 0, 1) := by decide +kernel
theorem dX1_encrypt_33 : decode cX1_encrypt 33 = .ok (.istore_n 1, 1) := by decide +kernel
theorem dX1_encrypt_34 : decode cX1_encrypt 34 = .ok (.iload_n 1, 1) := by decide +kernel
theorem dX1_encrypt_35 : decode cX1_encrypt 35 = .ok (.iconst 4, 1) := by decide +kernel
theorem dX1_encrypt_36 : decode cX1_encrypt 36 = .ok (.if_icmp .ge 20, 3) := by decide +kernel
theorem dX1_encrypt_39 : decode cX1_encrypt 39 = .ok (.aload_n 0, 1) := by decide +kernel
theorem dX1_encrypt_40 : decode cX1_encrypt 40 = .ok (.getfield 16, 3) := by decide +kernel
theorem dX1_encrypt_43 : decode cX1_encrypt 43 = .ok (.iload_n 1, 1) := by decide +kernel
theorem dX1_encrypt_44 : decode cX1_encrypt 44 = .ok (.aload_n 0, 1) := by decide +kernel
theorem dX1_encrypt_45 : decode cX1_encrypt 45 = .ok (.iload_n 1, 1) := by decide +kernel
theorem dX1_encrypt_46 : decode cX1_encrypt 46 = .ok (.invokevirtual 92, 3) := by decide +kernel
theorem dX1_encrypt_49 : decode cX1_encrypt 49 = .ok (.iastore, 1) := by decide +kernel
theorem dX1_encrypt_50 : decode cX1_encrypt 50 = .ok (.iinc 1 1, 3) := by decide +kernel
theorem dX1_encrypt_53 : decode cX1_encrypt 53 = .ok (.goto (-19), 3) := by decide +kernel
theorem dX1_encrypt_56 : decode cX1_encrypt 56 = .ok (.return_, 1) := by decide +kernel
theorem dX1_lay_0 : decode cX1_lay 0 = .ok (.iconst 0, 1) := by decide +kernel
theorem dX1_lay_1 : decode cX1_lay 1 = .ok (.istore 5, 2) := by decide +kernel
theorem dX1_lay_3 : decode cX1_lay 3 = .ok (.iload 5, 2) := by decide +kernel
theorem dX1_lay_5 : decode cX1_lay 5 = .ok (.iconst 4, 1) := by decide +kernel
theorem dX1_lay_6 : decode cX1_lay 6 = .ok (.if_icmp .ge 70, 3) := by decide +kernel
theorem dX1_lay_9 : decode cX1_lay 9 = .ok (.aload_n 0, 1) := by decide +kernel
theorem dX1_lay_10 : decode cX1_lay 10 = .ok (.getfield 22, 3) := by decide +kernel
theorem dX1_lay_13 : decode cX1_lay 13 = .ok (.iload 5, 2) := by decide +kernel
theorem dX1_lay_15 : decode cX1_lay 15 = .ok (.iload_n 1, 1) := by decide +kernel
theorem dX1_lay_16 : decode cX1_lay 16 = .ok (.iload 5, 2) := by decide +kernel
theorem dX1_lay_18 : decode cX1_lay 18 = .ok (.invokestatic 55, 3) := by decide +kernel
theorem dX1_lay_21 : decode cX1_lay 21 = .ok (.iastore, 1) := by decide +kernel
theorem dX1_lay_22 : decode cX1_lay 22 = .ok (.aload_n 0, 1) := by decide +kernel
theorem dX1_lay_23 : decode cX1_lay 23 = .ok (.getfield 22, 3) := by decide +kernel
theorem dX1_lay_26 : decode cX1_lay 26 = .ok (.iconst 4, 1) := by decide +kernel
theorem dX1_lay_27 : decode cX1_lay 27 = .ok (.iload 5, 2) := by decide +kernel
theorem dX1_lay_29 : decode cX1_lay 29 = .ok (.iadd, 1) := by decide +kernel
theorem dX1_lay_30 : decode cX1_lay 30 = .ok (.iload_n 2, 1) := by decide +kernel
theorem dX1_lay_31 : decode cX1_lay 31 = .ok (.iload 5, 2) := by decide +kernel
theorem dX1_lay_33 : decode cX1_lay 33 = .ok (.invokestatic 55, 3) := by decide +kernel
theorem dX1_lay_36 : decode cX1_lay 36 = .ok (.iastore, 1) := by decide +kernel
theorem dX1_lay_37 : decode cX1_lay 37 = .ok (.aload_n 0, 1) := by decide +kernel
theorem dX1_lay_38 : decode cX1_lay 38 = .ok (.getfield 22, 3) := by decide +kernel
theorem dX1_lay_41 : decode cX1_lay 41 = .ok (.bipush 8, 2) := by decide +kernel
theorem dX1_lay_43 : decode cX1_lay 43 = .ok (.iload 5, 2) := by decide +kernel
theorem dX1_lay_45 : decode cX1_lay 45 = .ok (.iadd, 1) := by decide +kernel
theorem dX1_lay_46 : decode cX1_lay 46 = .ok (.iload_n 3, 1) := by decide +kernel
theorem dX1_lay_47 : decode cX1_lay 47 = .ok (.iload 5, 2) := by decide +kernel
theorem dX1_lay_49 : decode cX1_lay 49 = .ok (.invokestatic 55, 3) := by decide +kernel
theorem dX1_lay_52 : decode cX1_lay 52 = .ok (.iastore, 1) := by decide +kernel
theorem dX1_lay_53 : decode cX1_lay 53 = .ok (.aload_n 0, 1) := by decide +kernel
theorem dX1_lay_54 : decode cX1_lay 54 = .ok (.getfield 22, 3) := by decide +kernel
theorem dX1_lay_57 : decode cX1_lay 57 = .ok (.bipush 12, 2) := by decide +kernel
theorem dX1_lay_59 : decode cX1_lay 59 = .ok (.iload 5, 2) := by decide +kernel
theorem dX1_lay_61 : decode cX1_lay 61 = .ok (.iadd, 1) := by decide +kernel
theorem dX1_lay_62 : decode cX1_lay 62 = .ok (.iload 4, 2) := by decide +kernel
theorem dX1_lay_64 : decode cX1_lay 64 = .ok (.iload 5, 2) := by decide +kernel
theorem dX1_lay_66 : decode cX1_lay 66 = .ok (.invokestatic 55, 3) := by decide +kernel
theorem dX1_lay_69 : decode cX1_lay 69 = .ok (.iastore, 1) := by decide +kernel
theorem dX1_lay_70 : decode cX1_lay 70 = .ok (.iinc 5 1, 3) := by decide +kernel
theorem dX1_lay_73 : decode cX1_lay 73 = .ok (.goto (-70), 3) := by decide +kernel
theorem dX1_lay_76 : decode cX1_lay 76 = .ok (.return_, 1) := by decide +kernel
theorem dX1_rounds_0 : decode cX1_rounds 0 = .ok (.aload_n 0, 1) := by decide +kernel
theorem dX1_rounds_1 : decode cX1_rounds 1 = .ok (.iconst 0, 1) := by decide +kernel
theorem dX1_rounds_2 : decode cX1_rounds 2 = .ok (.invokevirtual 70, 3) := by decide +kernel
theorem dX1_rounds_5 : decode cX1_rounds 5 = .ok (.iconst 1, 1) := by decide +kernel
theorem dX1_rounds_6 : decode cX1_rounds 6 = .ok (.istore_n 1, 1) := by decide +kernel
theorem dX1_rounds_7 : decode cX1_rounds 7 = .ok (.iload_n 1, 1) := by decide +kernel
theorem dX1_rounds_8 : decode cX1_rounds 8 = .ok (.bipush 10, 2) := by decide +kernel
theorem dX1_rounds_10 : decode cX1_rounds 10 = .ok (.if_icmp .gt 32, 3) := by decide +kernel
theorem dX1_rounds_13 : decode cX1_rounds 13 = .ok (.aload_n 0, 1) := by decide +kernel
theorem dX1_rounds_14 : decode cX1_rounds 14 = .ok (.invokevirtual 74, 3) := by decide +kernel
theorem dX1_rounds_17 : decode cX1_rounds 17 = .ok (.aload_n 0, 1) := by decide +kernel
theorem dX1_rounds_18 : decode cX1_rounds 18 = .ok (.invokevirtual 77, 3) := by decide +kernel
theorem dX1_rounds_21 : decode cX1_rounds 21 = .ok (.iload_n 1, 1) := by decide +kernel
theorem dX1_rounds_22 : decode cX1_rounds 22 = .ok (.bipush 10, 2) := by decide +kernel
theorem dX1_rounds_24 : decode cX1_rounds 24 = .ok (.if_icmp .ge 7, 3) := by decide +kernel
theorem dX1_rounds_27 : decode cX1_rounds 27 = .ok (.aload_n 0, 1) := by decide +kernel
theorem dX1_rounds_28 : decode cX1_rounds 28 = .ok (.invokevirtual 80, 3) := by decide +kernel
theorem dX1_rounds_31 : decode cX1_rounds 31 = .ok (.aload_n 0, 1) := by decide +kernel
theorem dX1_rounds_32 : decode cX1_rounds 32 = .ok (.iload_n 1, 1) := by decide +kernel
theorem dX1_rounds_33 : decode cX1_rounds 33 = .ok (.invokevirtual 70, 3) := by decide +kernel
theorem dX1_rounds_36 : decode cX1_rounds 36 = .ok (.iinc 1 1, 3) := by decide +kernel
theorem dX1_rounds_39 : decode cX1_rounds 39 = .ok (.goto (-32), 3) := by decide +kernel
theorem dX1_rounds_42 : decode cX1_rounds 42 = .ok (.return_, 1) := by decide +kernel
theorem dX1_addKey_0 : decode cX1_addKey 0 = .ok (.iconst 0, 1) := by decide +kernel
theorem dX1_addKey_1 : decode cX1_addKey 1 = .ok (.istore_n 2, 1) := by decide +kernel
theorem dX1_addKey_2 : decode cX1_addKey 2 = .ok (.iload_n 2, 1) := by decide +kernel
theorem dX1_addKey_3 : decode cX1_addKey 3 = .ok (.bipush 16, 2) := by decide +kernel
theorem dX1_addKey_5 : decode cX1_addKey 5 = .ok (.if_icmp .ge 36, 3) := by decide +kernel
theorem dX1_addKey_8 : decode cX1_addKey 8 = .ok (.aload_n 0, 1) := by decide +kernel
theorem dX1_addKey_9 : decode cX1_addKey 9 = .ok (.getfield 22, 3) := by decide +kernel
theorem dX1_addKey_12 : decode cX1_addKey 12 = .ok (.iload_n 2, 1) := by decide +kernel
theorem dX1_addKey_13 : decode cX1_addKey 13 = .ok (.dup2, 1) := by decide +kernel
theorem dX1_addKey_14 : decode cX1_addKey 14 = .ok (.iaload, 1) := by decide +kernel
theorem dX1_addKey_15 : decode cX1_addKey 15 = .ok (.aload_n 0, 1) := by decide +kernel
theorem dX1_addKey_16 : decode cX1_addKey 16 = .ok (.getfield 13, 3) := by decide +kernel
theorem dX1_addKey_19 : decode cX1_addKey 19 = .ok (.iconst 4, 1) := by decide +kernel
theorem dX1_addKey_20 : decode cX1_addKey 20 = .ok (.iload_n 1, 1) := by decide +kernel
theorem dX1_addKey_21 : decode cX1_addKey 21 = .ok (.imul, 1) := by decide +kernel
theorem dX1_addKey_22 : decode cX1_addKey 22 = .ok (.iload_n 2, 1) := by decide +kernel
theorem dX1_addKey_23 : decode cX1_addKey 23 = .ok (.iconst 4, 1) := by decide +kernel
theorem dX1_addKey_24 : decode cX1_addKey 24 = .ok (.idiv, 1) := by decide +kernel
theorem dX1_addKey_25 : decode cX1_addKey 25 = .ok (.iadd, 1) := by decide +kernel
theorem dX1_addKey_26 : decode cX1_addKey 26 = .ok (.iaload, 1) := by decide +kernel
theorem dX1_addKey_27 : decode cX1_addKey 27 = .ok (.iload_n 2, 1) := by decide +kernel
theorem dX1_addKey_28 : decode cX1_addKey 28 = .ok (.iconst 4, 1) := by decide +kernel
theorem dX1_addKey_29 : decode cX1_addKey 29 = .ok (.irem, 1) := by decide +kernel
theorem dX1_addKey_30 : decode cX1_addKey 30 = .ok (.invokestatic 55, 3) := by decide +kernel
theorem dX1_addKey_33 : decode cX1_addKey 33 = .ok (.ixor, 1) := by decide +kernel
theorem dX1_addKey_34 : decode cX1_addKey 34 = .ok (.iastore, 1) := by decide +kernel
theorem dX1_addKey_35 : decode cX1_addKey 35 = .ok (.iinc 2 1, 3) := by decide +kernel
theorem dX1_addKey_38 : decode cX1_addKey 38 = .ok (.goto (-36), 3) := by decide +kernel
theorem dX1_addKey_41 : decode cX1_addKey 41 = .ok (.return_, 1) := by decide +kernel
theorem dX1_replaceAll_0 : decode cX1_replaceAll 0 = .ok (.iconst 0, 1) := by decide +kernel
theorem dX1_replaceAll_1 : decode cX1_replaceAll 1 = .ok (.istore_n 1, 1) := by decide +kernel
theorem dX1_replaceAll_2 : decode cX1_replaceAll 2 = .ok (.iload_n 1, 1) := by decide +kernel
theorem dX1_replaceAll_3 : decode cX1_replaceAll 3 = .ok (.bipush 16, 2) := by decide +kernel
theorem dX1_replaceAll_5 : decode cX1_replaceAll 5 = .ok (.if_icmp .ge 26, 3) := by decide +kernel
theorem dX1_replaceAll_8 : decode cX1_replaceAll 8 = .ok (.aload_n 0, 1) := by decide +kernel
theorem dX1_replaceAll_9 : decode cX1_replaceAll 9 = .ok (.getfield 22, 3) := by decide +kernel
theorem dX1_replaceAll_12 : decode cX1_replaceAll 12 = .ok (.iload_n 1, 1) := by decide +kernel
theorem dX1_replaceAll_13 : decode cX1_replaceAll 13 = .ok (.aload_n 0, 1) := by decide +kernel
theorem dX1_replaceAll_14 : decode cX1_replaceAll 14 = .ok (.getfield 7, 3) := by decide +kernel
theorem dX1_replaceAll_17 : decode cX1_replaceAll 17 = .ok (.aload_n 0, 1) := by decide +kernel
theorem dX1_replaceAll_18 : decode cX1_replaceAll 18 = .ok (.getfield 22, 3) := by decide +kernel
theorem dX1_replaceAll_21 : decode cX1_replaceAll 21 = .ok (.iload_n 1, 1) := by decide +kernel
theorem dX1_replaceAll_22 : decode cX1_replaceAll 22 = .ok (.iaload, 1) := by decide +kernel
theorem dX1_replaceAll_23 : decode cX1_replaceAll 23 = .ok (.iaload, 1) := by decide +kernel
theorem dX1_replaceAll_24 : decode cX1_replaceAll 24 = .ok (.iastore, 1) := by decide +kernel
theorem dX1_replaceAll_25 : decode cX1_replaceAll 25 = .ok (.iinc 1 1, 3) := by decide +kernel
theorem dX1_replaceAll_28 : decode cX1_replaceAll 28 = .ok (.goto (-26), 3) := by decide +kernel
theorem dX1_replaceAll_31 : decode cX1_replaceAll 31 = .ok (.return_, 1) := by decide +kernel
theorem dX1_shift_0 : decode cX1_shift 0 = .ok (.iconst 0, 1) := by decide +kernel
theorem dX1_shift_1 : decode cX1_shift 1 = .ok (.istore_n 1, 1) := by decide +kernel
theorem dX1_shift_2 : decode cX1_shift 2 = .ok (.iload_n 1, 1) := by decide +kernel
theorem dX1_shift_3 : decode cX1_shift 3 = .ok (.bipush 16, 2) := by decide +kernel
theorem dX1_shift_5 : decode cX1_shift 5 = .ok (.if_icmp .ge 36, 3) := by decide +kernel
theorem dX1_shift_8 : decode cX1_shift 8 = .ok (.aload_n 0, 1) := by decide +kernel
theorem dX1_shift_9 : decode cX1_shift 9 = .ok (.getfield 25, 3) := by decide +kernel
theorem dX1_shift_12 : decode cX1_shift 12 = .ok (.iload_n 1, 1) := by decide +kernel
theorem dX1_shift_13 : decode cX1_shift 13 = .ok (.aload_n 0, 1) := by decide +kernel
theorem dX1_shift_14 : decode cX1_shift 14 = .ok (.getfield 22, 3) := by decide +kernel
theorem dX1_shift_17 : decode cX1_shift 17 = .ok (.iload_n 1, 1) := by decide +kernel
theorem dX1_shift_18 : decode cX1_shift 18 = .ok (.iconst 4, 1) := by decide +kernel
theorem dX1_shift_19 : decode cX1_shift 19 = .ok (.irem, 1) := by decide +kernel
theorem dX1_shift_20 : decode cX1_shift 20 = .ok (.iconst 4, 1) := by decide +kernel
theorem dX1_shift_21 : decode cX1_shift 21 = .ok (.iload_n 1, 1) := by decide +kernel
theorem dX1_shift_22 : decode cX1_shift 22 = .ok (.iconst 4, 1) := by decide +kernel
theorem dX1_shift_23 : decode cX1_shift 23 = .ok (.idiv, 1) := by decide +kernel
theorem dX1_shift_24 : decode cX1_shift 24 = .ok (.iload_n 1, 1) := by decide +kernel
theorem dX1_shift_25 : decode cX1_shift 25 = .ok (.iconst 4, 1) := by decide +kernel
theorem dX1_shift_26 : decode cX1_shift 26 = .ok (.irem, 1) := by decide +kernel
theorem dX1_shift_27 : decode cX1_shift 27 = .ok (.iadd, 1) := by decide +kernel
theorem dX1_shift_28 : decode cX1_shift 28 = .ok (.imul, 1) := by decide +kernel
theorem dX1_shift_29 : decode cX1_shift 29 = .ok (.iadd, 1) := by decide +kernel
theorem dX1_shift_30 : decode cX1_shift 30 = .ok (.bipush 16, 2) := by decide +kernel
theorem dX1_shift_32 : decode cX1_shift 32 = .ok (.irem, 1) := by decide +kernel
theorem dX1_shift_33 : decode cX1_shift 33 = .ok (.iaload, 1) := by decide +kernel
theorem dX1_shift_34 : decode cX1_shift 34 = .ok (.iastore, 1) := by decide +kernel
theorem dX1_shift_35 : decode cX1_shift 35 = .ok (.iinc 1 1, 3) := by decide +kernel
theorem dX1_shift_38 : decode cX1_shift 38 = .ok (.goto (-36), 3) := by decide +kernel
theorem dX1_shift_41 : decode cX1_shift 41 = .ok (.iconst 0, 1) := by decide +kernel
theorem dX1_shift_42 : decode cX1_shift 42 = .ok (.istore_n 1, 1) := by decide +kernel
theorem dX1_shift_43 : decode cX1_shift 43 = .ok (.iload_n 1, 1) := by decide +kernel
theorem dX1_shift_44 : decode cX1_shift 44 = .ok (.bipush 16, 2) := by decide +kernel
theorem dX1_shift_46 : decode cX1_shift 46 = .ok (.if_icmp .ge 21, 3) := by decide +kernel
theorem dX1_shift_49 : decode cX1_shift 49 = .ok (.aload_n 0, 1) := by decide +kernel
theorem dX1_shift_50 : decode cX1_shift 50 = .ok (.getfield 22, 3) := by decide +kernel
theorem dX1_shift_53 : decode cX1_shift 53 = .ok (.iload_n 1, 1) := by decide +kernel
theorem dX1_shift_54 : decode cX1_shift 54 = .ok (.aload_n 0, 1) := by decide +kernel
theorem dX1_shift_55 : decode cX1_shift 55 = .ok (.getfield 25, 3) := by decide +kernel
theorem dX1_shift_58 : decode cX1_shift 58 = .ok (.iload_n 1, 1) := by decide +kernel
theorem dX1_shift_59 : decode cX1_shift 59 = .ok (.iaload, 1) := by decide +kernel
theorem dX1_shift_60 : decode cX1_shift 60 = .ok (.iastore, 1) := by decide +kernel
theorem dX1_shift_61 : decode cX1_shift 61 = .ok (.iinc 1 1, 3) := by decide +kernel
theorem dX1_shift_64 : decode cX1_shift 64 = .ok (.goto (-21), 3) := by decide +kernel
theorem dX1_shift_67 : decode cX1_shift 67 = .ok (.return_, 1) := by decide +kernel
theorem dX1_mixColumns_0 : decode cX1_mixColumns 0 = .ok (.iconst 0, 1) := by decide +kernel
theorem dX1_mixColumns_1 : decode cX1_mixColumns 1 = .ok (.istore_n 1, 1) := by decide +kernel
theorem dX1_mixColumns_2 : decode cX1_mixColumns 2 = .ok (.iload_n 1, 1) := by decide +kernel
theorem dX1_mixColumns_3 : decode cX1_mixColumns 3 = .ok (.bipush 16, 2) := by decide +kernel
theorem dX1_mixColumns_5 : decode cX1_mixColumns 5 = .ok (.if_icmp .ge 21, 3) := by decide +kernel
theorem dX1_mixColumns_8 : decode cX1_mixColumns 8 = .ok (.aload_n 0, 1) := by decide +kernel
theorem dX1_mixColumns_9 : decode cX1_mixColumns 9 = .ok (.getfield 25, 3) := by decide +kernel
theorem dX1_mixColumns_12 : decode cX1_mixColumns 12 = .ok (.iload_n 1, 1) := by decide +kernel
theorem dX1_mixColumns_13 : decode cX1_mixColumns 13 = .ok (.aload_n 0, 1) := by decide +kernel
theorem dX1_mixColumns_14 : decode cX1_mixColumns 14 = .ok (.getfield 22, 3) := by decide +kernel
theorem dX1_mixColumns_17 : decode cX1_mixColumns 17 = .ok (.iload_n 1, 1) := by decide +kernel
theorem dX1_mixColumns_18 : decode cX1_mixColumns 18 = .ok (.iaload, 1) := by decide +kernel
theorem dX1_mixColumns_19 : decode cX1_mixColumns 19 = .ok (.iastore, 1) := by decide +kernel
theorem dX1_mixColumns_20 : decode cX1_mixColumns 20 = .ok (.iinc 1 1, 3) := by decide +kernel
theorem dX1_mixColumns_23 : decode cX1_mixColumns 23 = .ok (.goto (-21), 3) := by decide +kernel
theorem dX1_mixColumns_26 : decode cX1_mixColumns 26 = .ok (.iconst 0, 1) := by decide +kernel
theorem dX1_mixColumns_27 : decode cX1_mixColumns 27 = .ok (.istore_n 1, 1) := by decide +kernel
theorem dX1_mixColumns_28 : decode cX1_mixColumns 28 = .ok (.iload_n 1, 1) := by decide +kernel
theorem dX1_mixColumns_29 : decode cX1_mixColumns 29 = .ok (.bipush 16, 2) := by decide +kernel
theorem dX1_mixColumns_31 : decode cX1_mixColumns 31 = .ok (.if_icmp .ge 20, 3) := by decide +kernel
theorem dX1_mixColumns_34 : decode cX1_mixColumns 34 = .ok (.aload_n 0, 1) := by decide +kernel
theorem dX1_mixColumns_35 : decode cX1_mixColumns 35 = .ok (.getfield 22, 3) := by decide +kernel
theorem dX1_mixColumns_38 : decode cX1_mixColumns 38 = .ok (.iload_n 1, 1) := by decide +kernel
theorem dX1_mixColumns_39 : decode cX1_mixColumns 39 = .ok (.aload_n 0, 1) := by decide +kernel
theorem dX1_mixColumns_40 : decode cX1_mixColumns 40 = .ok (.iload_n 1, 1) := by decide +kernel
theorem dX1_mixColumns_41 : decode cX1_mixColumns 41 = .ok (.invokevirtual 67, 3) := by decide +kernel
theorem dX1_mixColumns_44 : decode cX1_mixColumns 44 = .ok (.iastore, 1) := by decide +kernel
theorem dX1_mixColumns_45 : decode cX1_mixColumns 45 = .ok (.iinc 1 1, 3) := by decide +kernel
theorem dX1_mixColumns_48 : decode cX1_mixColumns 48 = .ok (.goto (-20), 3) := by decide +kernel
theorem dX1_mixColumns_51 : decode cX1_mixColumns 51 = .ok (.return_, 1) := by decide +kernel
theorem dX1_mixed_0 : decode cX1_mixed 0 = .ok (.iload_n 1, 1) := by decide +kernel
theorem dX1_mixed_1 : decode cX1_mixed 1 = .ok (.iconst 4, 1) := by decide +kernel
theorem dX1_mixed_2 : decode cX1_mixed 2 = .ok (.idiv, 1) := by decide +kernel
theorem dX1_mixed_3 : decode cX1_mixed 3 = .ok (.iconst 4, 1) := by decide +kernel
theorem dX1_mixed_4 : decode cX1_mixed 4 = .ok (.imul, 1) := by decide +kernel
theorem dX1_mixed_5 : decode cX1_mixed 5 = .ok (.istore_n 2, 1) := by decide +kernel
theorem dX1_mixed_6 : decode cX1_mixed 6 = .ok (.aload_n 0, 1) := by decide +kernel
theorem dX1_mixed_7 : decode cX1_mixed 7 = .ok (.getfield 25, 3) := by decide +kernel
theorem dX1_mixed_10 : decode cX1_mixed 10 = .ok (.iload_n 2, 1) := by decide +kernel
theorem dX1_mixed_11 : decode cX1_mixed 11 = .ok (.iload_n 1, 1) := by decide +kernel
theorem dX1_mixed_12 : decode cX1_mixed 12 = .ok (.iconst 1, 1) := by decide +kernel
theorem dX1_mixed_13 : decode cX1_mixed 13 = .ok (.iadd, 1) := by decide +kernel
theorem dX1_mixed_14 : decode cX1_mixed 14 = .ok (.iconst 4, 1) := by decide +kernel
theorem dX1_mixed_15 : decode cX1_mixed 15 = .ok (.irem, 1) := by decide +kernel
theorem dX1_mixed_16 : decode cX1_mixed 16 = .ok (.iadd, 1) := by decide +kernel
theorem dX1_mixed_17 : decode cX1_mixed 17 = .ok (.iaload, 1) := by decide +kernel
theorem dX1_mixed_18 : decode cX1_mixed 18 = .ok (.istore_n 3, 1) := by decide +kernel
theorem dX1_mixed_19 : decode cX1_mixed 19 = .ok (.aload_n 0, 1) := by decide +kernel
theorem dX1_mixed_20 : decode cX1_mixed 20 = .ok (.getfield 25, 3) := by decide +kernel
theorem dX1_mixed_23 : decode cX1_mixed 23 = .ok (.iload_n 2, 1) := by decide +kernel
theorem dX1_mixed_24 : decode cX1_mixed 24 = .ok (.iload_n 1, 1) := by decide +kernel
theorem dX1_mixed_25 : decode cX1_mixed 25 = .ok (.iconst 2, 1) := by decide +kernel
theorem dX1_mixed_26 : decode cX1_mixed 26 = .ok (.iadd, 1) := by decide +kernel
theorem dX1_mixed_27 : decode cX1_mixed 27 = .ok (.iconst 4, 1) := by decide +kernel
theorem dX1_mixed_28 : decode cX1_mixed 28 = .ok (.irem, 1) := by decide +kernel
theorem dX1_mixed_29 : decode cX1_mixed 29 = .ok (.iadd, 1) := by decide +kernel
theorem dX1_mixed_30 : decode cX1_mixed 30 = .ok (.iaload, 1) := by decide +kernel
theorem dX1_mixed_31 : decode cX1_mixed 31 = .ok (.istore 4, 2) := by decide +kernel
theorem dX1_mixed_33 : decode cX1_mixed 33 = .ok (.aload_n 0, 1) := by decide +kernel
theorem dX1_mixed_34 : decode cX1_mixed 34 = .ok (.getfield 25, 3) := by decide +kernel
theorem dX1_mixed_37 : decode cX1_mixed 37 = .ok (.iload_n 2, 1) := by decide +kernel
theorem dX1_mixed_38 : decode cX1_mixed 38 = .ok (.iload_n 1, 1) := by decide +kernel
theorem dX1_mixed_39 : decode cX1_mixed 39 = .ok (.iconst 3, 1) := by decide +kernel
theorem dX1_mixed_40 : decode cX1_mixed 40 = .ok (.iadd, 1) := by decide +kernel
theorem dX1_mixed_41 : decode cX1_mixed 41 = .ok (.iconst 4, 1) := by decide +kernel
theorem dX1_mixed_42 : decode cX1_mixed 42 = .ok (.irem, 1) := by decide +kernel
theorem dX1_mixed_43 : decode cX1_mixed 43 = .ok (.iadd, 1) := by decide +kernel
theorem dX1_mixed_44 : decode cX1_mixed 44 = .ok (.iaload, 1) := by decide +kernel
theorem dX1_mixed_45 : decode cX1_mixed 45 = .ok (.istore 5, 2) := by decide +kernel
theorem dX1_mixed_47 : decode cX1_mixed 47 = .ok (.iconst 2, 1) := by decide +kernel
theorem dX1_mixed_48 : decode cX1_mixed 48 = .ok (.aload_n 0, 1) := by decide +kernel
theorem dX1_mixed_49 : decode cX1_mixed 49 = .ok (.getfield 25, 3) := by decide +kernel
theorem dX1_mixed_52 : decode cX1_mixed 52 = .ok (.iload_n 1, 1) := by decide +kernel
theorem dX1_mixed_53 : decode cX1_mixed 53 = .ok (.iaload, 1) := by decide +kernel
theorem dX1_mixed_54 : decode cX1_mixed 54 = .ok (.invokestatic 51, 3) := by decide +kernel
theorem dX1_mixed_57 : decode cX1_mixed 57 = .ok (.iconst 3, 1) := by decide +kernel
theorem dX1_mixed_58 : decode cX1_mixed 58 = .ok (.iload_n 3, 1) := by decide +kernel
theorem dX1_mixed_59 : decode cX1_mixed 59 = .ok (.invokestatic 51, 3) := by decide +kernel
theorem dX1_mixed_62 : decode cX1_mixed 62 = .ok (.ixor, 1) := by decide +kernel
theorem dX1_mixed_63 : decode cX1_mixed 63 = .ok (.iload 4, 2) := by decide +kernel
theorem dX1_mixed_65 : decode cX1_mixed 65 = .ok (.ixor, 1) := by decide +kernel
theorem dX1_mixed_66 : decode cX1_mixed 66 = .ok (.iload 5, 2) := by decide +kernel
theorem dX1_mixed_68 : decode cX1_mixed 68 = .ok (.ixor, 1) := by decide +kernel
theorem dX1_mixed_69 : decode cX1_mixed 69 = .ok (.ireturn, 1) := by decide +kernel
theorem dX1_joined_0 : decode cX1_joined 0 = .ok (.aload_n 0, 1) := by decide +kernel
theorem dX1_joined_1 : decode cX1_joined 1 = .ok (.getfield 22, 3) := by decide +kernel
theorem dX1_joined_4 : decode cX1_joined 4 = .ok (.iconst 4, 1) := by decide +kernel
theorem dX1_joined_5 : decode cX1_joined 5 = .ok (.iload_n 1, 1) := by decide +kernel
theorem dX1_joined_6 : decode cX1_joined 6 = .ok (.imul, 1) := by decide +kernel
theorem dX1_joined_7 : decode cX1_joined 7 = .ok (.iaload, 1) := by decide +kernel
theorem dX1_joined_8 : decode cX1_joined 8 = .ok (.bipush 24, 2) := by decide +kernel
theorem dX1_joined_10 : decode cX1_joined 10 = .ok (.ishl, 1) := by decide +kernel
theorem dX1_joined_11 : decode cX1_joined 11 = .ok (.aload_n 0, 1) := by decide +kernel
theorem dX1_joined_12 : decode cX1_joined 12 = .ok (.getfield 22, 3) := by decide +kernel
theorem dX1_joined_15 : decode cX1_joined 15 = .ok (.iconst 4, 1) := by decide +kernel
theorem dX1_joined_16 : decode cX1_joined 16 = .ok (.iload_n 1, 1) := by decide +kernel
theorem dX1_joined_17 : decode cX1_joined 17 = .ok (.imul, 1) := by decide +kernel
theorem dX1_joined_18 : decode cX1_joined 18 = .ok (.iconst 1, 1) := by decide +kernel
theorem dX1_joined_19 : decode cX1_joined 19 = .ok (.iadd, 1) := by decide +kernel
theorem dX1_joined_20 : decode cX1_joined 20 = .ok (.iaload, 1) := by decide +kernel
theorem dX1_joined_21 : decode cX1_joined 21 = .ok (.bipush 16, 2) := by decide +kernel
theorem dX1_joined_23 : decode cX1_joined 23 = .ok (.ishl, 1) := by decide +kernel
theorem dX1_joined_24 : decode cX1_joined 24 = .ok (.ior, 1) := by decide +kernel
theorem dX1_joined_25 : decode cX1_joined 25 = .ok (.aload_n 0, 1) := by decide +kernel
theorem dX1_joined_26 : decode cX1_joined 26 = .ok (.getfield 22, 3) := by decide +kernel
theorem dX1_joined_29 : decode cX1_joined 29 = .ok (.iconst 4, 1) := by decide +kernel
theorem dX1_joined_30 : decode cX1_joined 30 = .ok (.iload_n 1, 1) := by decide +kernel
theorem dX1_joined_31 : decode cX1_joined 31 = .ok (.imul, 1) := by decide +kernel
theorem dX1_joined_32 : decode cX1_joined 32 = .ok (.iconst 2, 1) := by decide +kernel
theorem dX1_joined_33 : decode cX1_joined 33 = .ok (.iadd, 1) := by decide +kernel
theorem dX1_joined_34 : decode cX1_joined 34 = .ok (.iaload, 1) := by decide +kernel
theorem dX1_joined_35 : decode cX1_joined 35 = .ok (.bipush 8, 2) := by decide +kernel
theorem dX1_joined_37 : decode cX1_joined 37 = .ok (.ishl, 1) := by decide +kernel
theorem dX1_joined_38 : decode cX1_joined 38 = .ok (.ior, 1) := by decide +kernel
theorem dX1_joined_39 : decode cX1_joined 39 = .ok (.aload_n 0, 1) := by decide +kernel
theorem dX1_joined_40 : decode cX1_joined 40 = .ok (.getfield 22, 3) := by decide +kernel
theorem dX1_joined_43 : decode cX1_joined 43 = .ok (.iconst 4, 1) := by decide +kernel
theorem dX1_joined_44 : decode cX1_joined 44 = .ok (.iload_n 1, 1) := by decide +kernel
theorem dX1_joined_45 : decode cX1_joined 45 = .ok (.imul, 1) := by decide +kernel
theorem dX1_joined_46 : decode cX1_joined 46 = .ok (.iconst 3, 1) := by decide +kernel
theorem dX1_joined_47 : decode cX1_joined 47 = .ok (.iadd, 1) := by decide +kernel
theorem dX1_joined_48 : decode cX1_joined 48 = .ok (.iaload, 1) := by decide +kernel
theorem dX1_joined_49 : decode cX1_joined 49 = .ok (.ior, 1) := by decide +kernel
theorem dX1_joined_50 : decode cX1_joined 50 = .ok (.ireturn, 1) := by decide +kernel
theorem dX1_decrypt_0 : decode cX1_decrypt 0 = .ok (.aload_n 0, 1) := by decide +kernel
theorem dX1_decrypt_1 : decode cX1_decrypt 1 = .ok (.aload_n 0, 1) := by decide +kernel
theorem dX1_decrypt_2 : decode cX1_decrypt 2 = .ok (.getfield 16, 3) := by decide +kernel
theorem dX1_decrypt_5 : decode cX1_decrypt 5 = .ok (.iconst 0, 1) := by decide +kernel
theorem dX1_decrypt_6 : decode cX1_decrypt 6 = .ok (.iaload, 1) := by decide +kernel
theorem dX1_decrypt_7 : decode cX1_decrypt 7 = .ok (.aload_n 0, 1) := by decide +kernel
theorem dX1_decrypt_8 : decode cX1_decrypt 8 = .ok (.getfield 16, 3) := by decide +kernel
theorem dX1_decrypt_11 : decode cX1_decrypt 11 = .ok (.iconst 1, 1) := by decide +kernel
theorem dX1_decrypt_12 : decode cX1_decrypt 12 = .ok (.iaload, 1) := by decide +kernel
theorem dX1_decrypt_13 : decode cX1_decrypt 13 = .ok (.aload_n 0, 1) := by decide +kernel
theorem dX1_decrypt_14 : decode cX1_decrypt 14 = .ok (.getfield 16, 3) := by decide +kernel
theorem dX1_decrypt_17 : decode cX1_decrypt 17 = .ok (.iconst 2, 1) := by decide +kernel
theorem dX1_decrypt_18 : decode cX1_decrypt 18 = .ok (.iaload, 1) := by decide +kernel
theorem dX1_decrypt_19 : decode cX1_decrypt 19 = .ok (.aload_n 0, 1) := by decide +kernel
theorem dX1_decrypt_20 : decode cX1_decrypt 20 = .ok (.getfield 16, 3) := by decide +kernel
theorem dX1_decrypt_23 : decode cX1_decrypt 23 = .ok (.iconst 3, 1) := by decide +kernel
theorem dX1_decrypt_24 : decode cX1_decrypt 24 = .ok (.iaload, 1) := by decide +kernel
theorem dX1_decrypt_25 : decode cX1_decrypt 25 = .ok (.invokevirtual 86, 3) := by decide +kernel
theorem dX1_decrypt_28 : decode cX1_decrypt 28 = .ok (.aload_n 0, 1) := by decide +kernel
theorem dX1_decrypt_29 : decode cX1_decrypt 29 = .ok (.invokevirtual 95, 3) := by decide +kernel
theorem dX1_decrypt_32 : decode cX1_decrypt 32 = .ok (.iconst 0, 1) := by decide +kernel
theorem dX1_decrypt_33 : decode cX1_decrypt 33 = .ok (.istore_n 1, 1) := by decide +kernel
theorem dX1_decrypt_34 : decode cX1_decrypt 34 = .ok (.iload_n 1, 1) := by decide +kernel
theorem dX1_decrypt_35 : decode cX1_decrypt 35 = .ok (.iconst 4, 1) := by decide +kernel
theorem dX1_decrypt_36 : decode cX1_decrypt 36 = .ok (.if_icmp .ge 20, 3) := by decide +kernel
theorem dX1_decrypt_39 : decode cX1_decrypt 39 = .ok (.aload_n 0, 1) := by decide +kernel
theorem dX1_decrypt_40 : decode cX1_decrypt 40 = .ok (.getfield 16, 3) := by decide +kernel
theorem dX1_decrypt_43 : decode cX1_decrypt 43 = .ok (.iload_n 1, 1) := by decide +kernel
theorem dX1_decrypt_44 : decode cX1_decrypt 44 = .ok (.aload_n 0, 1) := by decide +kernel
theorem dX1_decrypt_45 : decode cX1_decrypt 45 = .ok (.iload_n 1, 1) := by decide +kernel
theorem dX1_decrypt_46 : decode cX1_decrypt 46 = .ok (.invokevirtual 92, 3) := by decide +kernel
theorem dX1_decrypt_49 : decode cX1_decrypt 49 = .ok (.iastore, 1) := by decide +kernel
theorem dX1_decrypt_50 : decode cX1_decrypt 50 = .ok (.iinc 1 1, 3) := by decide +kernel
theorem dX1_decrypt_53 : decode cX1_decrypt 53 = .ok (.goto (-19), 3) := by decide +kernel
theorem dX1_decrypt_56 : decode cX1_decrypt 56 = .ok (.return_, 1) := by decide +kernel
theorem dX1_roundsBack_0 : decode cX1_roundsBack 0 = .ok (.bipush 10, 2) := by decide +kernel
theorem dX1_roundsBack_2 : decode cX1_roundsBack 2 = .ok (.istore_n 1, 1) := by decide +kernel
theorem dX1_roundsBack_3 : decode cX1_roundsBack 3 = .ok (.iload_n 1, 1) := by decide +kernel
theorem dX1_roundsBack_4 : decode cX1_roundsBack 4 = .ok (.iconst 1, 1) := by decide +kernel
theorem dX1_roundsBack_5 : decode cX1_roundsBack 5 = .ok (.if_icmp .lt 58, 3) := by decide +kernel
theorem dX1_roundsBack_8 : decode cX1_roundsBack 8 = .ok (.aload_n 0, 1) := by decide +kernel
theorem dX1_roundsBack_9 : decode cX1_roundsBack 9 = .ok (.iload_n 1, 1) := by decide +kernel
theorem dX1_roundsBack_10 : decode cX1_roundsBack 10 = .ok (.invokevirtual 70, 3) := by decide +kernel
theorem dX1_roundsBack_13 : decode cX1_roundsBack 13 = .ok (.iconst 0, 1) := by decide +kernel
theorem dX1_roundsBack_14 : decode cX1_roundsBack 14 = .ok (.istore_n 2, 1) := by decide +kernel
theorem dX1_roundsBack_15 : decode cX1_roundsBack 15 = .ok (.iload_n 2, 1) := by decide +kernel
theorem dX1_roundsBack_16 : decode cX1_roundsBack 16 = .ok (.iconst 3, 1) := by decide +kernel
theorem dX1_roundsBack_17 : decode cX1_roundsBack 17 = .ok (.if_icmp .ge 19, 3) := by decide +kernel
theorem dX1_roundsBack_20 : decode cX1_roundsBack 20 = .ok (.iload_n 1, 1) := by decide +kernel
theorem dX1_roundsBack_21 : decode cX1_roundsBack 21 = .ok (.bipush 10, 2) := by decide +kernel
theorem dX1_roundsBack_23 : decode cX1_roundsBack 23 = .ok (.if_icmp .ge 13, 3) := by decide +kernel
theorem dX1_roundsBack_26 : decode cX1_roundsBack 26 = .ok (.aload_n 0, 1) := by decide +kernel
theorem dX1_roundsBack_27 : decode cX1_roundsBack 27 = .ok (.invokevirtual 80, 3) := by decide +kernel
theorem dX1_roundsBack_30 : decode cX1_roundsBack 30 = .ok (.iinc 2 1, 3) := by decide +kernel
theorem dX1_roundsBack_33 : decode cX1_roundsBack 33 = .ok (.goto (-18), 3) := by decide +kernel
theorem dX1_roundsBack_36 : decode cX1_roundsBack 36 = .ok (.iconst 0, 1) := by decide +kernel
theorem dX1_roundsBack_37 : decode cX1_roundsBack 37 = .ok (.istore_n 2, 1) := by decide +kernel
theorem dX1_roundsBack_38 : decode cX1_roundsBack 38 = .ok (.iload_n 2, 1) := by decide +kernel
theorem dX1_roundsBack_39 : decode cX1_roundsBack 39 = .ok (.iconst 3, 1) := by decide +kernel
theorem dX1_roundsBack_40 : decode cX1_roundsBack 40 = .ok (.if_icmp .ge 13, 3) := by decide +kernel
theorem dX1_roundsBack_43 : decode cX1_roundsBack 43 = .ok (.aload_n 0, 1) := by decide +kernel
theorem dX1_roundsBack_44 : decode cX1_roundsBack 44 = .ok (.invokevirtual 77, 3) := by decide +kernel
theorem dX1_roundsBack_47 : decode cX1_roundsBack 47 = .ok (.iinc 2 1, 3) := by decide +kernel
theorem dX1_roundsBack_50 : decode cX1_roundsBack 50 = .ok (.goto (-12), 3) := by decide +kernel
theorem dX1_roundsBack_53 : decode cX1_roundsBack 53 = .ok (.aload_n 0, 1) := by decide +kernel
theorem dX1_roundsBack_54 : decode cX1_roundsBack 54 = .ok (.invokevirtual 83, 3) := by decide +kernel
theorem dX1_roundsBack_57 : decode cX1_roundsBack 57 = .ok (.iinc 1 (-1), 3) := by decide +kernel
theorem dX1_roundsBack_60 : decode cX1_roundsBack 60 = .ok (.goto (-57), 3) := by decide +kernel
theorem dX1_roundsBack_63 : decode cX1_roundsBack 63 = .ok (.aload_n 0, 1) := by decide +kernel
theorem dX1_roundsBack_64 : decode cX1_roundsBack 64 = .ok (.iconst 0, 1) := by decide +kernel
theorem dX1_roundsBack_65 : decode cX1_roundsBack 65 = .ok (.invokevirtual 70, 3) := by decide +kernel
theorem dX1_roundsBack_68 : decode cX1_roundsBack 68 = .ok (.return_, 1) := by decide +kernel
theorem dX1_restoreAll_0 : decode cX1_restoreAll 0 = .ok (.iconst 0, 1) := by decide +kernel
theorem dX1_restoreAll_1 : decode cX1_restoreAll 1 = .ok (.istore_n 1, 1) := by decide +kernel
theorem dX1_restoreAll_2 : decode cX1_restoreAll 2 = .ok (.iload_n 1, 1) := by decide +kernel
theorem dX1_restoreAll_3 : decode cX1_restoreAll 3 = .ok (.bipush 16, 2) := by decide +kernel
theorem dX1_restoreAll_5 : decode cX1_restoreAll 5 = .ok (.if_icmp .ge 25, 3) := by decide +kernel
theorem dX1_restoreAll_8 : decode cX1_restoreAll 8 = .ok (.aload_n 0, 1) := by decide +kernel
theorem dX1_restoreAll_9 : decode cX1_restoreAll 9 = .ok (.getfield 22, 3) := by decide +kernel
theorem dX1_restoreAll_12 : decode cX1_restoreAll 12 = .ok (.iload_n 1, 1) := by decide +kernel
theorem dX1_restoreAll_13 : decode cX1_restoreAll 13 = .ok (.aload_n 0, 1) := by decide +kernel
theorem dX1_restoreAll_14 : decode cX1_restoreAll 14 = .ok (.aload_n 0, 1) := by decide +kernel
theorem dX1_restoreAll_15 : decode cX1_restoreAll 15 = .ok (.getfield 22, 3) := by decide +kernel
theorem dX1_restoreAll_18 : decode cX1_restoreAll 18 = .ok (.iload_n 1, 1) := by decide +kernel
theorem dX1_restoreAll_19 : decode cX1_restoreAll 19 = .ok (.iaload, 1) := by decide +kernel
theorem dX1_restoreAll_20 : decode cX1_restoreAll 20 = .ok (.invokevirtual 64, 3) := by decide +kernel
theorem dX1_restoreAll_23 : decode cX1_restoreAll 23 = .ok (.iastore, 1) := by decide +kernel
theorem dX1_restoreAll_24 : decode cX1_restoreAll 24 = .ok (.iinc 1 1, 3) := by decide +kernel
theorem dX1_restoreAll_27 : decode cX1_restoreAll 27 = .ok (.goto (-25), 3) := by decide +kernel
theorem dX1_restoreAll_30 : decode cX1_restoreAll 30 = .ok (.return_, 1) := by decide +kernel
theorem dX1_origin_0 : decode cX1_origin 0 = .ok (.iconst 0, 1) := by decide +kernel
theorem dX1_origin_1 : decode cX1_origin 1 = .ok (.istore_n 2, 1) := by decide +kernel
theorem dX1_origin_2 : decode cX1_origin 2 = .ok (.iload_n 2, 1) := by decide +kernel
theorem dX1_origin_3 : decode cX1_origin 3 = .ok (.sipush 256, 3) := by decide +kernel
theorem dX1_origin_6 : decode cX1_origin 6 = .ok (.if_icmp .ge 21, 3) := by decide +kernel
theorem dX1_origin_9 : decode cX1_origin 9 = .ok (.aload_n 0, 1) := by decide +kernel
theorem dX1_origin_10 : decode cX1_origin 10 = .ok (.getfield 7, 3) := by decide +kernel
theorem dX1_origin_13 : decode cX1_origin 13 = .ok (.iload_n 2, 1) := by decide +kernel
theorem dX1_origin_14 : decode cX1_origin 14 = .ok (.iaload, 1) := by decide +kernel
theorem dX1_origin_15 : decode cX1_origin 15 = .ok (.iload_n 1, 1) := by decide +kernel
theorem dX1_origin_16 : decode cX1_origin 16 = .ok (.if_icmp .ne 5, 3) := by decide +kernel
theorem dX1_origin_19 : decode cX1_origin 19 = .ok (.iload_n 2, 1) := by decide +kernel
theorem dX1_origin_20 : decode cX1_origin 20 = .ok (.ireturn, 1) := by decide +kernel
theorem dX1_origin_21 : decode cX1_origin 21 = .ok (.iinc 2 1, 3) := by decide +kernel
theorem dX1_origin_24 : decode cX1_origin 24 = .ok (.goto (-22), 3) := by decide +kernel
theorem dX1_origin_27 : decode cX1_origin 27 = .ok (.iconst 0, 1) := by decide +kernel
theorem dX1_origin_28 : decode cX1_origin 28 = .ok (.ireturn, 1) := by decide +kernel
theorem dX1_next_0 : decode cX1_next 0 = .ok (.aload_n 0, 1) := by decide +kernel
theorem dX1_next_1 : decode cX1_next 1 = .ok (.getfield 16, 3) := by decide +kernel
theorem dX1_next_4 : decode cX1_next 4 = .ok (.iconst 3, 1) := by decide +kernel
theorem dX1_next_5 : decode cX1_next 5 = .ok (.dup2, 1) := by decide +kernel
theorem dX1_next_6 : decode cX1_next 6 = .ok (.iaload, 1) := by decide +kernel
theorem dX1_next_7 : decode cX1_next 7 = .ok (.iconst 1, 1) := by decide +kernel
theorem dX1_next_8 : decode cX1_next 8 = .ok (.iadd, 1) := by decide +kernel
theorem dX1_next_9 : decode cX1_next 9 = .ok (.iastore, 1) := by decide +kernel
theorem dX1_next_10 : decode cX1_next 10 = .ok (.return_, 1) := by decide +kernel
theorem dX1_word_0 : decode cX1_word 0 = .ok (.aload_n 0, 1) := by decide +kernel
theorem dX1_word_1 : decode cX1_word 1 = .ok (.getfield 16, 3) := by decide +kernel
theorem dX1_word_4 : decode cX1_word 4 = .ok (.iload_n 1, 1) := by decide +kernel
theorem dX1_word_5 : decode cX1_word 5 = .ok (.iconst 3, 1) := by decide +kernel
theorem dX1_word_6 : decode cX1_word 6 = .ok (.iand, 1) := by decide +kernel
theorem dX1_word_7 : decode cX1_word 7 = .ok (.iaload, 1) := by decide +kernel
theorem dX1_word_8 : decode cX1_word 8 = .ok (.ireturn, 1) := by decide +kernel
theorem dX1_absorb_0 : decode cX1_absorb 0 = .ok (.aload_n 0, 1) := by decide +kernel
theorem dX1_absorb_1 : decode cX1_absorb 1 = .ok (.iconst 0, 1) := by decide +kernel
theorem dX1_absorb_2 : decode cX1_absorb 2 = .ok (.iconst 0, 1) := by decide +kernel
theorem dX1_absorb_3 : decode cX1_absorb 3 = .ok (.iconst 0, 1) := by decide +kernel
theorem dX1_absorb_4 : decode cX1_absorb 4 = .ok (.iconst 0, 1) := by decide +kernel
theorem dX1_absorb_5 : decode cX1_absorb 5 = .ok (.invokevirtual 86, 3) := by decide +kernel
theorem dX1_absorb_8 : decode cX1_absorb 8 = .ok (.aload_n 0, 1) := by decide +kernel
theorem dX1_absorb_9 : decode cX1_absorb 9 = .ok (.invokevirtual 89, 3) := by decide +kernel
theorem dX1_absorb_12 : decode cX1_absorb 12 = .ok (.iconst 0, 1) := by decide +kernel
theorem dX1_absorb_13 : decode cX1_absorb 13 = .ok (.istore_n 1, 1) := by decide +kernel
theorem dX1_absorb_14 : decode cX1_absorb 14 = .ok (.iload_n 1, 1) := by decide +kernel
theorem dX1_absorb_15 : decode cX1_absorb 15 = .ok (.iconst 4, 1) := by decide +kernel
theorem dX1_absorb_16 : decode cX1_absorb 16 = .ok (.if_icmp .ge 46, 3) := by decide +kernel
theorem dX1_absorb_19 : decode cX1_absorb 19 = .ok (.aload_n 0, 1) := by decide +kernel
theorem dX1_absorb_20 : decode cX1_absorb 20 = .ok (.getfield 31, 3) := by decide +kernel
theorem dX1_absorb_23 : decode cX1_absorb 23 = .ok (.iload_n 1, 1) := by decide +kernel
theorem dX1_absorb_24 : decode cX1_absorb 24 = .ok (.aload_n 0, 1) := by decide +kernel
theorem dX1_absorb_25 : decode cX1_absorb 25 = .ok (.iload_n 1, 1) := by decide +kernel
theorem dX1_absorb_26 : decode cX1_absorb 26 = .ok (.invokevirtual 92, 3) := by decide +kernel
theorem dX1_absorb_29 : decode cX1_absorb 29 = .ok (.iastore, 1) := by decide +kernel
theorem dX1_absorb_30 : decode cX1_absorb 30 = .ok (.aload_n 0, 1) := by decide +kernel
theorem dX1_absorb_31 : decode cX1_absorb 31 = .ok (.getfield 28, 3) := by decide +kernel
theorem dX1_absorb_34 : decode cX1_absorb 34 = .ok (.iload_n 1, 1) := by decide +kernel
theorem dX1_absorb_35 : decode cX1_absorb 35 = .ok (.aload_n 0, 1) := by decide +kernel
theorem dX1_absorb_36 : decode cX1_absorb 36 = .ok (.getfield 19, 3) := by decide +kernel
theorem dX1_absorb_39 : decode cX1_absorb 39 = .ok (.iload_n 1, 1) := by decide +kernel
theorem dX1_absorb_40 : decode cX1_absorb 40 = .ok (.iaload, 1) := by decide +kernel
theorem dX1_absorb_41 : decode cX1_absorb 41 = .ok (.aload_n 0, 1) := by decide +kernel
theorem dX1_absorb_42 : decode cX1_absorb 42 = .ok (.getfield 16, 3) := by decide +kernel
theorem dX1_absorb_45 : decode cX1_absorb 45 = .ok (.iload_n 1, 1) := by decide +kernel
theorem dX1_absorb_46 : decode cX1_absorb 46 = .ok (.iaload, 1) := by decide +kernel
theorem dX1_absorb_47 : decode cX1_absorb 47 = .ok (.ixor, 1) := by decide +kernel
theorem dX1_absorb_48 : decode cX1_absorb 48 = .ok (.iastore, 1) := by decide +kernel
theorem dX1_absorb_49 : decode cX1_absorb 49 = .ok (.aload_n 0, 1) := by decide +kernel
theorem dX1_absorb_50 : decode cX1_absorb 50 = .ok (.getfield 34, 3) := by decide +kernel
theorem dX1_absorb_53 : decode cX1_absorb 53 = .ok (.iload_n 1, 1) := by decide +kernel
theorem dX1_absorb_54 : decode cX1_absorb 54 = .ok (.iconst 0, 1) := by decide +kernel
theorem dX1_absorb_55 : decode cX1_absorb 55 = .ok (.iastore, 1) := by decide +kernel
theorem dX1_absorb_56 : decode cX1_absorb 56 = .ok (.iinc 1 1, 3) := by decide +kernel
theorem dX1_absorb_59 : decode cX1_absorb 59 = .ok (.goto (-45), 3) := by decide +kernel
theorem dX1_absorb_62 : decode cX1_absorb 62 = .ok (.iconst 0, 1) := by decide +kernel
theorem dX1_absorb_63 : decode cX1_absorb 63 = .ok (.istore_n 1, 1) := by decide +kernel
theorem dX1_absorb_64 : decode cX1_absorb 64 = .ok (.iload_n 1, 1) := by decide +kernel
theorem dX1_absorb_65 : decode cX1_absorb 65 = .ok (.sipush 128, 3) := by decide +kernel
theorem dX1_absorb_68 : decode cX1_absorb 68 = .ok (.if_icmp .ge 64, 3) := by decide +kernel
theorem dX1_absorb_71 : decode cX1_absorb 71 = .ok (.iconst 0, 1) := by decide +kernel
theorem dX1_absorb_72 : decode cX1_absorb 72 = .ok (.istore_n 2, 1) := by decide +kernel
theorem dX1_absorb_73 : decode cX1_absorb 73 = .ok (.iload_n 2, 1) := by decide +kernel
theorem dX1_absorb_74 : decode cX1_absorb 74 = .ok (.iconst 4, 1) := by decide +kernel
theorem dX1_absorb_75 : decode cX1_absorb 75 = .ok (.if_icmp .ge 47, 3) := by decide +kernel
theorem dX1_absorb_78 : decode cX1_absorb 78 = .ok (.aload_n 0, 1) := by decide +kernel
theorem dX1_absorb_79 : decode cX1_absorb 79 = .ok (.getfield 28, 3) := by decide +kernel
theorem dX1_absorb_82 : decode cX1_absorb 82 = .ok (.iload_n 1, 1) := by decide +kernel
theorem dX1_absorb_83 : decode cX1_absorb 83 = .ok (.bipush 32, 2) := by decide +kernel
theorem dX1_absorb_85 : decode cX1_absorb 85 = .ok (.idiv, 1) := by decide +kernel
theorem dX1_absorb_86 : decode cX1_absorb 86 = .ok (.iaload, 1) := by decide +kernel
theorem dX1_absorb_87 : decode cX1_absorb 87 = .ok (.bipush 31, 2) := by decide +kernel
theorem dX1_absorb_89 : decode cX1_absorb 89 = .ok (.iload_n 1, 1) := by decide +kernel
theorem dX1_absorb_90 : decode cX1_absorb 90 = .ok (.bipush 32, 2) := by decide +kernel
theorem dX1_absorb_92 : decode cX1_absorb 92 = .ok (.irem, 1) := by decide +kernel
theorem dX1_absorb_93 : decode cX1_absorb 93 = .ok (.isub, 1) := by decide +kernel
theorem dX1_absorb_94 : decode cX1_absorb 94 = .ok (.ishr, 1) := by decide +kernel
theorem dX1_absorb_95 : decode cX1_absorb 95 = .ok (.iconst 1, 1) := by decide +kernel
theorem dX1_absorb_96 : decode cX1_absorb 96 = .ok (.iand, 1) := by decide +kernel
theorem dX1_absorb_97 : decode cX1_absorb 97 = .ok (.iconst 1, 1) := by decide +kernel
theorem dX1_absorb_98 : decode cX1_absorb 98 = .ok (.if_icmp .ne 18, 3) := by decide +kernel
theorem dX1_absorb_101 : decode cX1_absorb 101 = .ok (.aload_n 0, 1) := by decide +kernel
theorem dX1_absorb_102 : decode cX1_absorb 102 = .ok (.getfield 34, 3) := by decide +kernel
theorem dX1_absorb_105 : decode cX1_absorb 105 = .ok (.iload_n 2, 1) := by decide +kernel
theorem dX1_absorb_106 : decode cX1_absorb 106 = .ok (.dup2, 1) := by decide +kernel
theorem dX1_absorb_107 : decode cX1_absorb 107 = .ok (.iaload, 1) := by decide +kernel
theorem dX1_absorb_108 : decode cX1_absorb 108 = .ok (.aload_n 0, 1) := by decide +kernel
theorem dX1_absorb_109 : decode cX1_absorb 109 = .ok (.getfield 31, 3) := by decide +kernel
theorem dX1_absorb_112 : decode cX1_absorb 112 = .ok (.iload_n 2, 1) := by decide +kernel
theorem dX1_absorb_113 : decode cX1_absorb 113 = .ok (.iaload, 1) := by decide +kernel
theorem dX1_absorb_114 : decode cX1_absorb 114 = .ok (.ixor, 1) := by decide +kernel
theorem dX1_absorb_115 : decode cX1_absorb 115 = .ok (.iastore, 1) := by decide +kernel
theorem dX1_absorb_116 : decode cX1_absorb 116 = .ok (.iinc 2 1, 3) := by decide +kernel
theorem dX1_absorb_119 : decode cX1_absorb 119 = .ok (.goto (-46), 3) := by decide +kernel
theorem dX1_absorb_122 : decode cX1_absorb 122 = .ok (.aload_n 0, 1) := by decide +kernel
theorem dX1_absorb_123 : decode cX1_absorb 123 = .ok (.invokevirtual 99, 3) := by decide +kernel
theorem dX1_absorb_126 : decode cX1_absorb 126 = .ok (.iinc 1 1, 3) := by decide +kernel
theorem dX1_absorb_129 : decode cX1_absorb 129 = .ok (.goto (-65), 3) := by decide +kernel
theorem dX1_absorb_132 : decode cX1_absorb 132 = .ok (.iconst 0, 1) := by decide +kernel
theorem dX1_absorb_133 : decode cX1_absorb 133 = .ok (.istore_n 1, 1) := by decide +kernel
theorem dX1_absorb_134 : decode cX1_absorb 134 = .ok (.iload_n 1, 1) := by decide +kernel
theorem dX1_absorb_135 : decode cX1_absorb 135 = .ok (.iconst 4, 1) := by decide +kernel
theorem dX1_absorb_136 : decode cX1_absorb 136 = .ok (.if_icmp .ge 21, 3) := by decide +kernel
theorem dX1_absorb_139 : decode cX1_absorb 139 = .ok (.aload_n 0, 1) := by decide +kernel
theorem dX1_absorb_140 : decode cX1_absorb 140 = .ok (.getfield 19, 3) := by decide +kernel
theorem dX1_absorb_143 : decode cX1_absorb 143 = .ok (.iload_n 1, 1) := by decide +kernel
theorem dX1_absorb_144 : decode cX1_absorb 144 = .ok (.aload_n 0, 1) := by decide +kernel
theorem dX1_absorb_145 : decode cX1_absorb 145 = .ok (.getfield 34, 3) := by decide +kernel
theorem dX1_absorb_148 : decode cX1_absorb 148 = .ok (.iload_n 1, 1) := by decide +kernel
theorem dX1_absorb_149 : decode cX1_absorb 149 = .ok (.iaload, 1) := by decide +kernel
theorem dX1_absorb_150 : decode cX1_absorb 150 = .ok (.iastore, 1) := by decide +kernel
theorem dX1_absorb_151 : decode cX1_absorb 151 = .ok (.iinc 1 1, 3) := by decide +kernel
theorem dX1_absorb_154 : decode cX1_absorb 154 = .ok (.goto (-20), 3) := by decide +kernel
theorem dX1_absorb_157 : decode cX1_absorb 157 = .ok (.return_, 1) := by decide +kernel
theorem dX1_moveBit_0 : decode cX1_moveBit 0 = .ok (.aload_n 0, 1) := by decide +kernel
theorem dX1_moveBit_1 : decode cX1_moveBit 1 = .ok (.getfield 31, 3) := by decide +kernel
theorem dX1_moveBit_4 : decode cX1_moveBit 4 = .ok (.iconst 3, 1) := by decide +kernel
theorem dX1_moveBit_5 : decode cX1_moveBit 5 = .ok (.iaload, 1) := by decide +kernel
theorem dX1_moveBit_6 : decode cX1_moveBit 6 = .ok (.iconst 1, 1) := by decide +kernel
theorem dX1_moveBit_7 : decode cX1_moveBit 7 = .ok (.iand, 1) := by decide +kernel
theorem dX1_moveBit_8 : decode cX1_moveBit 8 = .ok (.iconst 1, 1) := by decide +kernel
theorem dX1_moveBit_9 : decode cX1_moveBit 9 = .ok (.if_icmp .ne 7, 3) := by decide +kernel
theorem dX1_moveBit_12 : decode cX1_moveBit 12 = .ok (.iconst 1, 1) := by decide +kernel
theorem dX1_moveBit_13 : decode cX1_moveBit 13 = .ok (.goto 4, 3) := by decide +kernel
theorem dX1_moveBit_16 : decode cX1_moveBit 16 = .ok (.iconst 0, 1) := by decide +kernel
theorem dX1_moveBit_17 : decode cX1_moveBit 17 = .ok (.istore_n 1, 1) := by decide +kernel
theorem dX1_moveBit_18 : decode cX1_moveBit 18 = .ok (.iconst 3, 1) := by decide +kernel
theorem dX1_moveBit_19 : decode cX1_moveBit 19 = .ok (.istore_n 2, 1) := by decide +kernel
theorem dX1_moveBit_20 : decode cX1_moveBit 20 = .ok (.iload_n 2, 1) := by decide +kernel
theorem dX1_moveBit_21 : decode cX1_moveBit 21 = .ok (.ifCond .le 35, 3) := by decide +kernel
theorem dX1_moveBit_24 : decode cX1_moveBit 24 = .ok (.aload_n 0, 1) := by decide +kernel
theorem dX1_moveBit_25 : decode cX1_moveBit 25 = .ok (.getfield 31, 3) := by decide +kernel
theorem dX1_moveBit_28 : decode cX1_moveBit 28 = .ok (.iload_n 2, 1) := by decide +kernel
theorem dX1_moveBit_29 : decode cX1_moveBit 29 = .ok (.aload_n 0, 1) := by decide +kernel
theorem dX1_moveBit_30 : decode cX1_moveBit 30 = .ok (.getfield 31, 3) := by decide +kernel
theorem dX1_moveBit_33 : decode cX1_moveBit 33 = .ok (.iload_n 2, 1) := by decide +kernel
theorem dX1_moveBit_34 : decode cX1_moveBit 34 = .ok (.iaload, 1) := by decide +kernel
theorem dX1_moveBit_35 : decode cX1_moveBit 35 = .ok (.iconst 1, 1) := by decide +kernel
theorem dX1_moveBit_36 : decode cX1_moveBit 36 = .ok (.iushr, 1) := by decide +kernel
theorem dX1_moveBit_37 : decode cX1_moveBit 37 = .ok (.aload_n 0, 1) := by decide +kernel
theorem dX1_moveBit_38 : decode cX1_moveBit 38 = .ok (.getfield 31, 3) := by decide +kernel
theorem dX1_moveBit_41 : decode cX1_moveBit 41 = .ok (.iload_n 2, 1) := by decide +kernel
theorem dX1_moveBit_42 : decode cX1_moveBit 42 = .ok (.iconst 1, 1) := by decide +kernel
theorem dX1_moveBit_43 : decode cX1_moveBit 43 = .ok (.isub, 1) := by decide +kernel
theorem dX1_moveBit_44 : decode cX1_moveBit 44 = .ok (.iaload, 1) := by decide +kernel
theorem dX1_moveBit_45 : decode cX1_moveBit 45 = .ok (.bipush 31, 2) := by decide +kernel
theorem dX1_moveBit_47 : decode cX1_moveBit 47 = .ok (.ishl, 1) := by decide +kernel
theorem dX1_moveBit_48 : decode cX1_moveBit 48 = .ok (.ior, 1) := by decide +kernel
theorem dX1_moveBit_49 : decode cX1_moveBit 49 = .ok (.iastore, 1) := by decide +kernel
theorem dX1_moveBit_50 : decode cX1_moveBit 50 = .ok (.iinc 2 (-1), 3) := by decide +kernel
theorem dX1_moveBit_53 : decode cX1_moveBit 53 = .ok (.goto (-33), 3) := by decide +kernel
theorem dX1_moveBit_56 : decode cX1_moveBit 56 = .ok (.aload_n 0, 1) := by decide +kernel
theorem dX1_moveBit_57 : decode cX1_moveBit 57 = .ok (.getfield 31, 3) := by decide +kernel
theorem dX1_moveBit_60 : decode cX1_moveBit 60 = .ok (.iconst 0, 1) := by decide +kernel
theorem dX1_moveBit_61 : decode cX1_moveBit 61 = .ok (.aload_n 0, 1) := by decide +kernel
theorem dX1_moveBit_62 : decode cX1_moveBit 62 = .ok (.getfield 31, 3) := by decide +kernel
theorem dX1_moveBit_65 : decode cX1_moveBit 65 = .ok (.iconst 0, 1) := by decide +kernel
theorem dX1_moveBit_66 : decode cX1_moveBit 66 = .ok (.iaload, 1) := by decide +kernel
theorem dX1_moveBit_67 : decode cX1_moveBit 67 = .ok (.iconst 1, 1) := by decide +kernel
theorem dX1_moveBit_68 : decode cX1_moveBit 68 = .ok (.iushr, 1) := by decide +kernel
theorem dX1_moveBit_69 : decode cX1_moveBit 69 = .ok (.iastore, 1) := by decide +kernel
theorem dX1_moveBit_70 : decode cX1_moveBit 70 = .ok (.iload_n 1, 1) := by decide +kernel
theorem dX1_moveBit_71 : decode cX1_moveBit 71 = .ok (.ifCond .eq 14, 3) := by decide +kernel
theorem dX1_moveBit_74 : decode cX1_moveBit 74 = .ok (.aload_n 0, 1) := by decide +kernel
theorem dX1_moveBit_75 : decode cX1_moveBit 75 = .ok (.getfield 31, 3) := by decide +kernel
theorem dX1_moveBit_78 : decode cX1_moveBit 78 = .ok (.iconst 0, 1) := by decide +kernel
theorem dX1_moveBit_79 : decode cX1_moveBit 79 = .ok (.dup2, 1) := by decide +kernel
theorem dX1_moveBit_80 : decode cX1_moveBit 80 = .ok (.iaload, 1) := by decide +kernel
theorem dX1_moveBit_81 : decode cX1_moveBit 81 = .ok (.ldc 98, 2) := by decide +kernel
theorem dX1_moveBit_83 : decode cX1_moveBit 83 = .ok (.ixor, 1) := by decide +kernel
theorem dX1_moveBit_84 : decode cX1_moveBit 84 = .ok (.iastore, 1) := by decide +kernel
theorem dX1_moveBit_85 : decode cX1_moveBit 85 = .ok (.return_, 1) := by decide +kernel
theorem dX1_restart_0 : decode cX1_restart 0 = .ok (.iconst 0, 1) := by decide +kernel
theorem dX1_restart_1 : decode cX1_restart 1 = .ok (.istore_n 1, 1) := by decide +kernel
theorem dX1_restart_2 : decode cX1_restart 2 = .ok (.iload_n 1, 1) := by decide +kernel
theorem dX1_restart_3 : decode cX1_restart 3 = .ok (.iconst 4, 1) := by decide +kernel
theorem dX1_restart_4 : decode cX1_restart 4 = .ok (.if_icmp .ge 16, 3) := by decide +kernel
theorem dX1_restart_7 : decode cX1_restart 7 = .ok (.aload_n 0, 1) := by decide +kernel
theorem dX1_restart_8 : decode cX1_restart 8 = .ok (.getfield 19, 3) := by decide +kernel
theorem dX1_restart_11 : decode cX1_restart 11 = .ok (.iload_n 1, 1) := by decide +kernel
theorem dX1_restart_12 : decode cX1_restart 12 = .ok (.iconst 0, 1) := by decide +kernel
theorem dX1_restart_13 : decode cX1_restart 13 = .ok (.iastore, 1) := by decide +kernel
theorem dX1_restart_14 : decode cX1_restart 14 = .ok (.iinc 1 1, 3) := by decide +kernel
theorem dX1_restart_17 : decode cX1_restart 17 = .ok (.goto (-15), 3) := by decide +kernel
theorem dX1_restart_20 : decode cX1_restart 20 = .ok (.return_, 1) := by decide +kernel
theorem dX1_hash_0 : decode cX1_hash 0 = .ok (.aload_n 0, 1) := by decide +kernel
theorem dX1_hash_1 : decode cX1_hash 1 = .ok (.getfield 19, 3) := by decide +kernel
theorem dX1_hash_4 : decode cX1_hash 4 = .ok (.iload_n 1, 1) := by decide +kernel
theorem dX1_hash_5 : decode cX1_hash 5 = .ok (.iconst 3, 1) := by decide +kernel
theorem dX1_hash_6 : decode cX1_hash 6 = .ok (.iand, 1) := by decide +kernel
theorem dX1_hash_7 : decode cX1_hash 7 = .ok (.iaload, 1) := by decide +kernel
theorem dX1_hash_8 : decode cX1_hash 8 = .ok (.ireturn, 1) := by decide +kernel
theorem dX1_roundKey_0 : decode cX1_roundKey 0 = .ok (.iload_n 1, 1) := by decide +kernel
theorem dX1_roundKey_1 : decode cX1_roundKey 1 = .ok (.bipush 11, 2) := by decide +kernel
theorem dX1_roundKey_3 : decode cX1_roundKey 3 = .ok (.irem, 1) := by decide +kernel
theorem dX1_roundKey_4 : decode cX1_roundKey 4 = .ok (.istore_n 3, 1) := by decide +kernel
theorem dX1_roundKey_5 : decode cX1_roundKey 5 = .ok (.iload_n 3, 1) := by decide +kernel
theorem dX1_roundKey_6 : decode cX1_roundKey 6 = .ok (.ifCond .ge 6, 3) := by decide +kernel
theorem dX1_roundKey_9 : decode cX1_roundKey 9 = .ok (.iinc 3 11, 3) := by decide +kernel
theorem dX1_roundKey_12 : decode cX1_roundKey 12 = .ok (.aload_n 0, 1) := by decide +kernel
theorem dX1_roundKey_13 : decode cX1_roundKey 13 = .ok (.getfield 13, 3) := by decide +kernel
theorem dX1_roundKey_16 : decode cX1_roundKey 16 = .ok (.iconst 4, 1) := by decide +kernel
theorem dX1_roundKey_17 : decode cX1_roundKey 17 = .ok (.iload_n 3, 1) := by decide +kernel
theorem dX1_roundKey_18 : decode cX1_roundKey 18 = .ok (.imul, 1) := by decide +kernel
theorem dX1_roundKey_19 : decode cX1_roundKey 19 = .ok (.iload_n 2, 1) := by decide +kernel
theorem dX1_roundKey_20 : decode cX1_roundKey 20 = .ok (.iconst 3, 1) := by decide +kernel
theorem dX1_roundKey_21 : decode cX1_roundKey 21 = .ok (.iand, 1) := by decide +kernel
theorem dX1_roundKey_22 : decode cX1_roundKey 22 = .ok (.iadd, 1) := by decide +kernel
theorem dX1_roundKey_23 : decode cX1_roundKey 23 = .ok (.iaload, 1) := by decide +kernel
theorem dX1_roundKey_24 : decode cX1_roundKey 24 = .ok (.ireturn, 1) := by decide +kernel
end
section
set_option maxRecDepth 100000
/-! the law's own entry -/
abbrev cL_law : ByteArray := code
theorem dL_law_0 : decode cL_law 0 = .ok (.new 7, 3) := by decide +kernel
theorem dL_law_3 : decode cL_law 3 = .ok (.dup, 1) := by decide +kernel
theorem dL_law_4 : decode cL_law 4 = .ok (.invokespecial 9, 3) := by decide +kernel
theorem dL_law_7 : decode cL_law 7 = .ok (.astore_n 1, 1) := by decide +kernel
theorem dL_law_8 : decode cL_law 8 = .ok (.new 10, 3) := by decide +kernel
theorem dL_law_11 : decode cL_law 11 = .ok (.dup, 1) := by decide +kernel
theorem dL_law_12 : decode cL_law 12 = .ok (.invokespecial 12, 3) := by decide +kernel
theorem dL_law_15 : decode cL_law 15 = .ok (.astore_n 2, 1) := by decide +kernel
theorem dL_law_16 : decode cL_law 16 = .ok (.iconst 0, 1) := by decide +kernel
theorem dL_law_17 : decode cL_law 17 = .ok (.istore_n 3, 1) := by decide +kernel
theorem dL_law_18 : decode cL_law 18 = .ok (.iload_n 3, 1) := by decide +kernel
theorem dL_law_19 : decode cL_law 19 = .ok (.aload_n 0, 1) := by decide +kernel
theorem dL_law_20 : decode cL_law 20 = .ok (.arraylength, 1) := by decide +kernel
theorem dL_law_21 : decode cL_law 21 = .ok (.iconst 5, 1) := by decide +kernel
theorem dL_law_22 : decode cL_law 22 = .ok (.isub, 1) := by decide +kernel
theorem dL_law_23 : decode cL_law 23 = .ok (.if_icmp .gt 362, 3) := by decide +kernel
theorem dL_law_26 : decode cL_law 26 = .ok (.aload_n 0, 1) := by decide +kernel
theorem dL_law_27 : decode cL_law 27 = .ok (.iload_n 3, 1) := by decide +kernel
theorem dL_law_28 : decode cL_law 28 = .ok (.iaload, 1) := by decide +kernel
theorem dL_law_29 : decode cL_law 29 = .ok (.bipush 15, 2) := by decide +kernel
theorem dL_law_31 : decode cL_law 31 = .ok (.iand, 1) := by decide +kernel
theorem dL_law_32 : decode cL_law 32 = .ok (.tableswitch 347 0 10 #[60, 111, 162, 213, 224, 235, 246, 269, 280, 291, 314], 60) := by decide +kernel
theorem dL_law_92 : decode cL_law 92 = .ok (.aload_n 1, 1) := by decide +kernel
theorem dL_law_93 : decode cL_law 93 = .ok (.aload_n 0, 1) := by decide +kernel
theorem dL_law_94 : decode cL_law 94 = .ok (.iload_n 3, 1) := by decide +kernel
theorem dL_law_95 : decode cL_law 95 = .ok (.iconst 1, 1) := by decide +kernel
theorem dL_law_96 : decode cL_law 96 = .ok (.iadd, 1) := by decide +kernel
theorem dL_law_97 : decode cL_law 97 = .ok (.iaload, 1) := by decide +kernel
theorem dL_law_98 : decode cL_law 98 = .ok (.aload_n 0, 1) := by decide +kernel
theorem dL_law_99 : decode cL_law 99 = .ok (.iload_n 3, 1) := by decide +kernel
theorem dL_law_100 : decode cL_law 100 = .ok (.iconst 2, 1) := by decide +kernel
theorem dL_law_101 : decode cL_law 101 = .ok (.iadd, 1) := by decide +kernel
theorem dL_law_102 : decode cL_law 102 = .ok (.iaload, 1) := by decide +kernel
theorem dL_law_103 : decode cL_law 103 = .ok (.aload_n 0, 1) := by decide +kernel
theorem dL_law_104 : decode cL_law 104 = .ok (.iload_n 3, 1) := by decide +kernel
theorem dL_law_105 : decode cL_law 105 = .ok (.iconst 3, 1) := by decide +kernel
theorem dL_law_106 : decode cL_law 106 = .ok (.iadd, 1) := by decide +kernel
theorem dL_law_107 : decode cL_law 107 = .ok (.iaload, 1) := by decide +kernel
theorem dL_law_108 : decode cL_law 108 = .ok (.aload_n 0, 1) := by decide +kernel
theorem dL_law_109 : decode cL_law 109 = .ok (.iload_n 3, 1) := by decide +kernel
theorem dL_law_110 : decode cL_law 110 = .ok (.iconst 4, 1) := by decide +kernel
theorem dL_law_111 : decode cL_law 111 = .ok (.iadd, 1) := by decide +kernel
theorem dL_law_112 : decode cL_law 112 = .ok (.iaload, 1) := by decide +kernel
theorem dL_law_113 : decode cL_law 113 = .ok (.invokevirtual 13, 3) := by decide +kernel
theorem dL_law_116 : decode cL_law 116 = .ok (.aload_n 2, 1) := by decide +kernel
theorem dL_law_117 : decode cL_law 117 = .ok (.aload_n 0, 1) := by decide +kernel
theorem dL_law_118 : decode cL_law 118 = .ok (.iload_n 3, 1) := by decide +kernel
theorem dL_law_119 : decode cL_law 119 = .ok (.iconst 1, 1) := by decide +kernel
theorem dL_law_120 : decode cL_law 120 = .ok (.iadd, 1) := by decide +kernel
theorem dL_law_121 : decode cL_law 121 = .ok (.iaload, 1) := by decide +kernel
theorem dL_law_122 : decode cL_law 122 = .ok (.aload_n 0, 1) := by decide +kernel
theorem dL_law_123 : decode cL_law 123 = .ok (.iload_n 3, 1) := by decide +kernel
theorem dL_law_124 : decode cL_law 124 = .ok (.iconst 2, 1) := by decide +kernel
theorem dL_law_125 : decode cL_law 125 = .ok (.iadd, 1) := by decide +kernel
theorem dL_law_126 : decode cL_law 126 = .ok (.iaload, 1) := by decide +kernel
theorem dL_law_127 : decode cL_law 127 = .ok (.aload_n 0, 1) := by decide +kernel
theorem dL_law_128 : decode cL_law 128 = .ok (.iload_n 3, 1) := by decide +kernel
theorem dL_law_129 : decode cL_law 129 = .ok (.iconst 3, 1) := by decide +kernel
theorem dL_law_130 : decode cL_law 130 = .ok (.iadd, 1) := by decide +kernel
theorem dL_law_131 : decode cL_law 131 = .ok (.iaload, 1) := by decide +kernel
theorem dL_law_132 : decode cL_law 132 = .ok (.aload_n 0, 1) := by decide +kernel
theorem dL_law_133 : decode cL_law 133 = .ok (.iload_n 3, 1) := by decide +kernel
theorem dL_law_134 : decode cL_law 134 = .ok (.iconst 4, 1) := by decide +kernel
theorem dL_law_135 : decode cL_law 135 = .ok (.iadd, 1) := by decide +kernel
theorem dL_law_136 : decode cL_law 136 = .ok (.iaload, 1) := by decide +kernel
theorem dL_law_137 : decode cL_law 137 = .ok (.invokevirtual 17, 3) := by decide +kernel
theorem dL_law_140 : decode cL_law 140 = .ok (.goto 239, 3) := by decide +kernel
theorem dL_law_143 : decode cL_law 143 = .ok (.aload_n 1, 1) := by decide +kernel
theorem dL_law_144 : decode cL_law 144 = .ok (.aload_n 0, 1) := by decide +kernel
theorem dL_law_145 : decode cL_law 145 = .ok (.iload_n 3, 1) := by decide +kernel
theorem dL_law_146 : decode cL_law 146 = .ok (.iconst 1, 1) := by decide +kernel
theorem dL_law_147 : decode cL_law 147 = .ok (.iadd, 1) := by decide +kernel
theorem dL_law_148 : decode cL_law 148 = .ok (.iaload, 1) := by decide +kernel
theorem dL_law_149 : decode cL_law 149 = .ok (.aload_n 0, 1) := by decide +kernel
theorem dL_law_150 : decode cL_law 150 = .ok (.iload_n 3, 1) := by decide +kernel
theorem dL_law_151 : decode cL_law 151 = .ok (.iconst 2, 1) := by decide +kernel
theorem dL_law_152 : decode cL_law 152 = .ok (.iadd, 1) := by decide +kernel
theorem dL_law_153 : decode cL_law 153 = .ok (.iaload, 1) := by decide +kernel
theorem dL_law_154 : decode cL_law 154 = .ok (.aload_n 0, 1) := by decide +kernel
theorem dL_law_155 : decode cL_law 155 = .ok (.iload_n 3, 1) := by decide +kernel
theorem dL_law_156 : decode cL_law 156 = .ok (.iconst 3, 1) := by decide +kernel
theorem dL_law_157 : decode cL_law 157 = .ok (.iadd, 1) := by decide +kernel
theorem dL_law_158 : decode cL_law 158 = .ok (.iaload, 1) := by decide +kernel
theorem dL_law_159 : decode cL_law 159 = .ok (.aload_n 0, 1) := by decide +kernel
theorem dL_law_160 : decode cL_law 160 = .ok (.iload_n 3, 1) := by decide +kernel
theorem dL_law_161 : decode cL_law 161 = .ok (.iconst 4, 1) := by decide +kernel
theorem dL_law_162 : decode cL_law 162 = .ok (.iadd, 1) := by decide +kernel
theorem dL_law_163 : decode cL_law 163 = .ok (.iaload, 1) := by decide +kernel
theorem dL_law_164 : decode cL_law 164 = .ok (.invokevirtual 18, 3) := by decide +kernel
theorem dL_law_167 : decode cL_law 167 = .ok (.aload_n 2, 1) := by decide +kernel
theorem dL_law_168 : decode cL_law 168 = .ok (.aload_n 0, 1) := by decide +kernel
theorem dL_law_169 : decode cL_law 169 = .ok (.iload_n 3, 1) := by decide +kernel
theorem dL_law_170 : decode cL_law 170 = .ok (.iconst 1, 1) := by decide +kernel
theorem dL_law_171 : decode cL_law 171 = .ok (.iadd, 1) := by decide +kernel
theorem dL_law_172 : decode cL_law 172 = .ok (.iaload, 1) := by decide +kernel
theorem dL_law_173 : decode cL_law 173 = .ok (.aload_n 0, 1) := by decide +kernel
theorem dL_law_174 : decode cL_law 174 = .ok (.iload_n 3, 1) := by decide +kernel
theorem dL_law_175 : decode cL_law 175 = .ok (.iconst 2, 1) := by decide +kernel
theorem dL_law_176 : decode cL_law 176 = .ok (.iadd, 1) := by decide +kernel
theorem dL_law_177 : decode cL_law 177 = .ok (.iaload, 1) := by decide +kernel
theorem dL_law_178 : decode cL_law 178 = .ok (.aload_n 0, 1) := by decide +kernel
theorem dL_law_179 : decode cL_law 179 = .ok (.iload_n 3, 1) := by decide +kernel
theorem dL_law_180 : decode cL_law 180 = .ok (.iconst 3, 1) := by decide +kernel
theorem dL_law_181 : decode cL_law 181 = .ok (.iadd, 1) := by decide +kernel
theorem dL_law_182 : decode cL_law 182 = .ok (.iaload, 1) := by decide +kernel
theorem dL_law_183 : decode cL_law 183 = .ok (.aload_n 0, 1) := by decide +kernel
theorem dL_law_184 : decode cL_law 184 = .ok (.iload_n 3, 1) := by decide +kernel
theorem dL_law_185 : decode cL_law 185 = .ok (.iconst 4, 1) := by decide +kernel
theorem dL_law_186 : decode cL_law 186 = .ok (.iadd, 1) := by decide +kernel
theorem dL_law_187 : decode cL_law 187 = .ok (.iaload, 1) := by decide +kernel
theorem dL_law_188 : decode cL_law 188 = .ok (.invokevirtual 21, 3) := by decide +kernel
theorem dL_law_191 : decode cL_law 191 = .ok (.goto 188, 3) := by decide +kernel
theorem dL_law_194 : decode cL_law 194 = .ok (.aload_n 1, 1) := by decide +kernel
theorem dL_law_195 : decode cL_law 195 = .ok (.aload_n 0, 1) := by decide +kernel
theorem dL_law_196 : decode cL_law 196 = .ok (.iload_n 3, 1) := by decide +kernel
theorem dL_law_197 : decode cL_law 197 = .ok (.iconst 1, 1) := by decide +kernel
theorem dL_law_198 : decode cL_law 198 = .ok (.iadd, 1) := by decide +kernel
theorem dL_law_199 : decode cL_law 199 = .ok (.iaload, 1) := by decide +kernel
theorem dL_law_200 : decode cL_law 200 = .ok (.aload_n 0, 1) := by decide +kernel
theorem dL_law_201 : decode cL_law 201 = .ok (.iload_n 3, 1) := by decide +kernel
theorem dL_law_202 : decode cL_law 202 = .ok (.iconst 2, 1) := by decide +kernel
theorem dL_law_203 : decode cL_law 203 = .ok (.iadd, 1) := by decide +kernel
theorem dL_law_204 : decode cL_law 204 = .ok (.iaload, 1) := by decide +kernel
theorem dL_law_205 : decode cL_law 205 = .ok (.aload_n 0, 1) := by decide +kernel
theorem dL_law_206 : decode cL_law 206 = .ok (.iload_n 3, 1) := by decide +kernel
theorem dL_law_207 : decode cL_law 207 = .ok (.iconst 3, 1) := by decide +kernel
theorem dL_law_208 : decode cL_law 208 = .ok (.iadd, 1) := by decide +kernel
theorem dL_law_209 : decode cL_law 209 = .ok (.iaload, 1) := by decide +kernel
theorem dL_law_210 : decode cL_law 210 = .ok (.aload_n 0, 1) := by decide +kernel
theorem dL_law_211 : decode cL_law 211 = .ok (.iload_n 3, 1) := by decide +kernel
theorem dL_law_212 : decode cL_law 212 = .ok (.iconst 4, 1) := by decide +kernel
theorem dL_law_213 : decode cL_law 213 = .ok (.iadd, 1) := by decide +kernel
theorem dL_law_214 : decode cL_law 214 = .ok (.iaload, 1) := by decide +kernel
theorem dL_law_215 : decode cL_law 215 = .ok (.invokevirtual 22, 3) := by decide +kernel
theorem dL_law_218 : decode cL_law 218 = .ok (.aload_n 2, 1) := by decide +kernel
theorem dL_law_219 : decode cL_law 219 = .ok (.aload_n 0, 1) := by decide +kernel
theorem dL_law_220 : decode cL_law 220 = .ok (.iload_n 3, 1) := by decide +kernel
theorem dL_law_221 : decode cL_law 221 = .ok (.iconst 1, 1) := by decide +kernel
theorem dL_law_222 : decode cL_law 222 = .ok (.iadd, 1) := by decide +kernel
theorem dL_law_223 : decode cL_law 223 = .ok (.iaload, 1) := by decide +kernel
theorem dL_law_224 : decode cL_law 224 = .ok (.aload_n 0, 1) := by decide +kernel
theorem dL_law_225 : decode cL_law 225 = .ok (.iload_n 3, 1) := by decide +kernel
theorem dL_law_226 : decode cL_law 226 = .ok (.iconst 2, 1) := by decide +kernel
theorem dL_law_227 : decode cL_law 227 = .ok (.iadd, 1) := by decide +kernel
theorem dL_law_228 : decode cL_law 228 = .ok (.iaload, 1) := by decide +kernel
theorem dL_law_229 : decode cL_law 229 = .ok (.aload_n 0, 1) := by decide +kernel
theorem dL_law_230 : decode cL_law 230 = .ok (.iload_n 3, 1) := by decide +kernel
theorem dL_law_231 : decode cL_law 231 = .ok (.iconst 3, 1) := by decide +kernel
theorem dL_law_232 : decode cL_law 232 = .ok (.iadd, 1) := by decide +kernel
theorem dL_law_233 : decode cL_law 233 = .ok (.iaload, 1) := by decide +kernel
theorem dL_law_234 : decode cL_law 234 = .ok (.aload_n 0, 1) := by decide +kernel
theorem dL_law_235 : decode cL_law 235 = .ok (.iload_n 3, 1) := by decide +kernel
theorem dL_law_236 : decode cL_law 236 = .ok (.iconst 4, 1) := by decide +kernel
theorem dL_law_237 : decode cL_law 237 = .ok (.iadd, 1) := by decide +kernel
theorem dL_law_238 : decode cL_law 238 = .ok (.iaload, 1) := by decide +kernel
theorem dL_law_239 : decode cL_law 239 = .ok (.invokevirtual 25, 3) := by decide +kernel
theorem dL_law_242 : decode cL_law 242 = .ok (.goto 137, 3) := by decide +kernel
theorem dL_law_245 : decode cL_law 245 = .ok (.aload_n 1, 1) := by decide +kernel
theorem dL_law_246 : decode cL_law 246 = .ok (.invokevirtual 26, 3) := by decide +kernel
theorem dL_law_249 : decode cL_law 249 = .ok (.aload_n 2, 1) := by decide +kernel
theorem dL_law_250 : decode cL_law 250 = .ok (.invokevirtual 29, 3) := by decide +kernel
theorem dL_law_253 : decode cL_law 253 = .ok (.goto 126, 3) := by decide +kernel
theorem dL_law_256 : decode cL_law 256 = .ok (.aload_n 1, 1) := by decide +kernel
theorem dL_law_257 : decode cL_law 257 = .ok (.invokevirtual 30, 3) := by decide +kernel
theorem dL_law_260 : decode cL_law 260 = .ok (.aload_n 2, 1) := by decide +kernel
theorem dL_law_261 : decode cL_law 261 = .ok (.invokevirtual 33, 3) := by decide +kernel
theorem dL_law_264 : decode cL_law 264 = .ok (.goto 115, 3) := by decide +kernel
theorem dL_law_267 : decode cL_law 267 = .ok (.aload_n 1, 1) := by decide +kernel
theorem dL_law_268 : decode cL_law 268 = .ok (.invokevirtual 34, 3) := by decide +kernel
theorem dL_law_271 : decode cL_law 271 = .ok (.aload_n 2, 1) := by decide +kernel
theorem dL_law_272 : decode cL_law 272 = .ok (.invokevirtual 37, 3) := by decide +kernel
theorem dL_law_275 : decode cL_law 275 = .ok (.goto 104, 3) := by decide +kernel
theorem dL_law_278 : decode cL_law 278 = .ok (.aload_n 1, 1) := by decide +kernel
theorem dL_law_279 : decode cL_law 279 = .ok (.aload_n 0, 1) := by decide +kernel
theorem dL_law_280 : decode cL_law 280 = .ok (.iload_n 3, 1) := by decide +kernel
theorem dL_law_281 : decode cL_law 281 = .ok (.iconst 1, 1) := by decide +kernel
theorem dL_law_282 : decode cL_law 282 = .ok (.iadd, 1) := by decide +kernel
theorem dL_law_283 : decode cL_law 283 = .ok (.iaload, 1) := by decide +kernel
theorem dL_law_284 : decode cL_law 284 = .ok (.invokevirtual 38, 3) := by decide +kernel
theorem dL_law_287 : decode cL_law 287 = .ok (.aload_n 2, 1) := by decide +kernel
theorem dL_law_288 : decode cL_law 288 = .ok (.aload_n 0, 1) := by decide +kernel
theorem dL_law_289 : decode cL_law 289 = .ok (.iload_n 3, 1) := by decide +kernel
theorem dL_law_290 : decode cL_law 290 = .ok (.iconst 1, 1) := by decide +kernel
theorem dL_law_291 : decode cL_law 291 = .ok (.iadd, 1) := by decide +kernel
theorem dL_law_292 : decode cL_law 292 = .ok (.iaload, 1) := by decide +kernel
theorem dL_law_293 : decode cL_law 293 = .ok (.invokevirtual 42, 3) := by decide +kernel
theorem dL_law_296 : decode cL_law 296 = .ok (.if_icmp .eq 83, 3) := by decide +kernel
theorem dL_law_299 : decode cL_law 299 = .ok (.iconst 0, 1) := by decide +kernel
theorem dL_law_300 : decode cL_law 300 = .ok (.ireturn, 1) := by decide +kernel
theorem dL_law_301 : decode cL_law 301 = .ok (.aload_n 1, 1) := by decide +kernel
theorem dL_law_302 : decode cL_law 302 = .ok (.invokevirtual 43, 3) := by decide +kernel
theorem dL_law_305 : decode cL_law 305 = .ok (.aload_n 2, 1) := by decide +kernel
theorem dL_law_306 : decode cL_law 306 = .ok (.invokevirtual 46, 3) := by decide +kernel
theorem dL_law_309 : decode cL_law 309 = .ok (.goto 70, 3) := by decide +kernel
theorem dL_law_312 : decode cL_law 312 = .ok (.aload_n 1, 1) := by decide +kernel
theorem dL_law_313 : decode cL_law 313 = .ok (.invokevirtual 47, 3) := by decide +kernel
theorem dL_law_316 : decode cL_law 316 = .ok (.aload_n 2, 1) := by decide +kernel
theorem dL_law_317 : decode cL_law 317 = .ok (.invokevirtual 50, 3) := by decide +kernel
theorem dL_law_320 : decode cL_law 320 = .ok (.goto 59, 3) := by decide +kernel
theorem dL_law_323 : decode cL_law 323 = .ok (.aload_n 1, 1) := by decide +kernel
theorem dL_law_324 : decode cL_law 324 = .ok (.aload_n 0, 1) := by decide +kernel
theorem dL_law_325 : decode cL_law 325 = .ok (.iload_n 3, 1) := by decide +kernel
theorem dL_law_326 : decode cL_law 326 = .ok (.iconst 1, 1) := by decide +kernel
theorem dL_law_327 : decode cL_law 327 = .ok (.iadd, 1) := by decide +kernel
theorem dL_law_328 : decode cL_law 328 = .ok (.iaload, 1) := by decide +kernel
theorem dL_law_329 : decode cL_law 329 = .ok (.invokevirtual 51, 3) := by decide +kernel
theorem dL_law_332 : decode cL_law 332 = .ok (.aload_n 2, 1) := by decide +kernel
theorem dL_law_333 : decode cL_law 333 = .ok (.aload_n 0, 1) := by decide +kernel
theorem dL_law_334 : decode cL_law 334 = .ok (.iload_n 3, 1) := by decide +kernel
theorem dL_law_335 : decode cL_law 335 = .ok (.iconst 1, 1) := by decide +kernel
theorem dL_law_336 : decode cL_law 336 = .ok (.iadd, 1) := by decide +kernel
theorem dL_law_337 : decode cL_law 337 = .ok (.iaload, 1) := by decide +kernel
theorem dL_law_338 : decode cL_law 338 = .ok (.invokevirtual 54, 3) := by decide +kernel
theorem dL_law_341 : decode cL_law 341 = .ok (.if_icmp .eq 38, 3) := by decide +kernel
theorem dL_law_344 : decode cL_law 344 = .ok (.iconst 0, 1) := by decide +kernel
theorem dL_law_345 : decode cL_law 345 = .ok (.ireturn, 1) := by decide +kernel
theorem dL_law_346 : decode cL_law 346 = .ok (.aload_n 1, 1) := by decide +kernel
theorem dL_law_347 : decode cL_law 347 = .ok (.aload_n 0, 1) := by decide +kernel
theorem dL_law_348 : decode cL_law 348 = .ok (.iload_n 3, 1) := by decide +kernel
theorem dL_law_349 : decode cL_law 349 = .ok (.iconst 1, 1) := by decide +kernel
theorem dL_law_350 : decode cL_law 350 = .ok (.iadd, 1) := by decide +kernel
theorem dL_law_351 : decode cL_law 351 = .ok (.iaload, 1) := by decide +kernel
theorem dL_law_352 : decode cL_law 352 = .ok (.aload_n 0, 1) := by decide +kernel
theorem dL_law_353 : decode cL_law 353 = .ok (.iload_n 3, 1) := by decide +kernel
theorem dL_law_354 : decode cL_law 354 = .ok (.iconst 2, 1) := by decide +kernel
theorem dL_law_355 : decode cL_law 355 = .ok (.iadd, 1) := by decide +kernel
theorem dL_law_356 : decode cL_law 356 = .ok (.iaload, 1) := by decide +kernel
theorem dL_law_357 : decode cL_law 357 = .ok (.invokevirtual 55, 3) := by decide +kernel
theorem dL_law_360 : decode cL_law 360 = .ok (.aload_n 2, 1) := by decide +kernel
theorem dL_law_361 : decode cL_law 361 = .ok (.aload_n 0, 1) := by decide +kernel
theorem dL_law_362 : decode cL_law 362 = .ok (.iload_n 3, 1) := by decide +kernel
theorem dL_law_363 : decode cL_law 363 = .ok (.iconst 1, 1) := by decide +kernel
theorem dL_law_364 : decode cL_law 364 = .ok (.iadd, 1) := by decide +kernel
theorem dL_law_365 : decode cL_law 365 = .ok (.iaload, 1) := by decide +kernel
theorem dL_law_366 : decode cL_law 366 = .ok (.aload_n 0, 1) := by decide +kernel
theorem dL_law_367 : decode cL_law 367 = .ok (.iload_n 3, 1) := by decide +kernel
theorem dL_law_368 : decode cL_law 368 = .ok (.iconst 2, 1) := by decide +kernel
theorem dL_law_369 : decode cL_law 369 = .ok (.iadd, 1) := by decide +kernel
theorem dL_law_370 : decode cL_law 370 = .ok (.iaload, 1) := by decide +kernel
theorem dL_law_371 : decode cL_law 371 = .ok (.invokevirtual 59, 3) := by decide +kernel
theorem dL_law_374 : decode cL_law 374 = .ok (.if_icmp .eq 5, 3) := by decide +kernel
theorem dL_law_377 : decode cL_law 377 = .ok (.iconst 0, 1) := by decide +kernel
theorem dL_law_378 : decode cL_law 378 = .ok (.ireturn, 1) := by decide +kernel
theorem dL_law_379 : decode cL_law 379 = .ok (.iinc 3 5, 3) := by decide +kernel
theorem dL_law_382 : decode cL_law 382 = .ok (.goto (-364), 3) := by decide +kernel
theorem dL_law_385 : decode cL_law 385 = .ok (.iconst 1, 1) := by decide +kernel
theorem dL_law_386 : decode cL_law 386 = .ok (.ireturn, 1) := by decide +kernel
end
section
/-! BASE: words and bytes, array pictures, rows over naturals, contracts of known worlds (MetW), calls -/
set_option maxRecDepth 100000
def zsl (x : Int32) (n : Nat) : Int32 := x <<< (nI n &&& 31)
def zus (x : Int32) (n : Nat) : Int32 := (x.toUInt32 >>> ((nI n).toUInt32 &&& Int32.toUInt32 31)).toInt32
def zsr (x : Int32) (n : Nat) : Int32 := x >>> (nI n &&& 31)
def zby (w : Int32) (r : Nat) : Nat := w.toBitVec.toNat / 2 ^ (24 - 8 * r) % 256
def zlo (w : Int32) (k : Nat) : Nat := w.toBitVec.toNat % k
theorem zby_lt (w : Int32) (r : Nat) : zby w r < 256 := Nat.mod_lt _ (by decide)
theorem zlo_lt (w : Int32) {k : Nat} (h : 0 < k) : zlo w k < k := Nat.mod_lt _ h
theorem zeqN {x : Int32} {n : Nat} (h : n < 2 ^ 32) (e : x.toBitVec.toNat = n) : x = nI n := by
  apply Int32.toBitVec_inj.mp
  apply BitVec.eq_of_toNat_eq
  rw [pk_tn h]
  exact e
theorem zus_n (w : Int32) {n : Nat} (hn : n < 32) : (zus w n).toBitVec.toNat = w.toBitVec.toNat / 2 ^ n := pk_ushr w (nI n) n ((by decide +kernel : ∀ n, n < 32 → (((nI n).toUInt32 &&& Int32.toUInt32 31).toBitVec % 32).toNat = n) n hn)
theorem zb0 (w : Int32) : zus w 24 = nI (zby w 0) := by
  have h := zus_n w (n := 24) (by decide)
  have hw := w.toBitVec.isLt
  refine zeqN (Nat.lt_of_lt_of_le (zby_lt w 0) (by decide)) ?_
  rw [h]
  unfold zby
  omega
theorem zb1 (w : Int32) : zus w 16 &&& nI 255 = nI (zby w 1) := by
  rw [pk_and _ 8 (by decide), zus_n w (by decide)]
  rfl
theorem zb2 (w : Int32) : zus w 8 &&& nI 255 = nI (zby w 2) := by
  rw [pk_and _ 8 (by decide), zus_n w (by decide)]
  rfl
theorem zb3 (w : Int32) : w &&& nI 255 = nI (zby w 3) := by
  rw [pk_and _ 8 (by decide)]
  unfold zby
  rw [show 2 ^ (24 - 8 * 3) = 1 from rfl, Nat.div_one]
theorem zl1 (w : Int32) : w &&& nI 1 = nI (zlo w 2) := pk_and w 1 (by decide)
theorem zl3 (w : Int32) : w &&& nI 3 = nI (zlo w 4) := pk_and w 2 (by decide)
theorem zl15 (w : Int32) : w &&& nI 15 = nI (zlo w 16) := pk_and w 4 (by decide)
theorem zm3 {a : Nat} (h : a < 2 ^ 32) : nI a &&& nI 3 = nI (a % 4) := pk_andN h 2 (by decide)
theorem zm7 {a : Nat} (h : a < 2 ^ 32) : nI a &&& nI 7 = nI (a % 8) := pk_andN h 3 (by decide)
theorem zinc (a : Nat) : nI a + Int32.ofInt 1 = nI (a + 1) := nI_1 a
theorem zdec (a : Nat) : nI (a + 1) + Int32.ofInt (-1) = nI a := pk_m1 a
theorem zdec0 (a : Nat) : nI a + Int32.ofInt (-1) = nI a - 1 := by
  rw [Int32.sub_eq_add_neg]
  rfl
/-- the first n places hold g, the others f -/
def zfil (f g : Nat → Int32) (n : Nat) : Nat → Int32 := fun j => if j < n then g j else f j
theorem zfil_0 (f g : Nat → Int32) : zfil f g 0 = f := by
  funext j
  simp [zfil]
theorem zfil_s {f g : Nat → Int32} {n : Nat} {x : Int32} (h : x = g n) : upd (zfil f g n) n x = zfil f g (n + 1) := by
  funext j
  unfold upd zfil
  by_cases h1 : j = n
  · subst h1
    simp [h]
  · by_cases h2 : j < n
    · simp [h1, h2, Nat.lt_succ_of_lt h2]
    · have h3 : ¬ j < n + 1 := by omega
      simp [h1, h2, h3]
theorem zfil_lt {f g : Nat → Int32} {n j : Nat} (h : j < n) : zfil f g n j = g j := by simp [zfil, h]
theorem zfil_ge {f g : Nat → Int32} {n j : Nat} (h : n ≤ j) : zfil f g n j = f j := by simp [zfil, Nat.not_lt.mpr h]
theorem zfil_self (f g : Nat → Int32) (n : Nat) : zfil f g n n = f n := zfil_ge (Nat.le_refl n)
/-- the places up to n hold f yet, those behind it g -/
def zfid (f g : Nat → Int32) (n : Nat) : Nat → Int32 := fun j => if j ≤ n then f j else g j
theorem zfid_s {f g : Nat → Int32} {n : Nat} {x : Int32} (h : x = g (n + 1)) : upd (zfid f g (n + 1)) (n + 1) x = zfid f g n := by
  funext j
  unfold upd zfid
  by_cases h1 : j = n + 1
  · subst h1
    have h3 : ¬ n + 1 ≤ n := by omega
    simp [h, h3]
  · by_cases h2 : j ≤ n
    · simp [h1, h2, Nat.le_succ_of_le h2]
    · have h3 : ¬ j ≤ n + 1 := by omega
      simp [h1, h2, h3]
theorem zfid_le {f g : Nat → Int32} {n j : Nat} (h : j ≤ n) : zfid f g n j = f j := by simp [zfid, h]
/-- bytes as ints -/
def zbz (Z : Nat → Nat) : Nat → Int32 := fun j => nI (Z j)
theorem nx_xor (a b : Nat) : nI a ^^^ nI b = nI (a ^^^ b) := by
  apply Int32.toBitVec_inj.1
  show BitVec.ofNat 32 a ^^^ BitVec.ofNat 32 b = BitVec.ofNat 32 (a ^^^ b)
  apply BitVec.eq_of_getLsbD_eq
  intro i hi
  simp [hi]
section ZR
variable {p : Program} {l : Launch} {e : Env} {R : Room} {s : State} {m : MethodId} {args : Array Value} {below : List Frame} {meth : Method} {c : Code} {H : Heap} {locs : List Loc} {cells slots : Nat} {Q : State → Prop}
variable {cc : ByteArray} {pc : Nat} {ls : Array Slot} {rest : List Value}
theorem zr_iadd (hx : p.tables.exec = Jvm.exec) (hb : c.code = cc) {x y v : Int32} (hd : decode cc pc = .ok (.iadd, 1)) (h : x + y = v) (k : W p l e R s m args below meth c H locs cells slots Q (F0 m (pc + 1) ls (.int v :: rest))) : W p l e R s m args below meth c H locs cells slots Q (F0 m pc ls (.int y :: .int x :: rest)) := by
  subst h
  exact lv_iadd hx hb hd k
theorem zr_isub (hx : p.tables.exec = Jvm.exec) (hb : c.code = cc) {x y v : Int32} (hd : decode cc pc = .ok (.isub, 1)) (h : x - y = v) (k : W p l e R s m args below meth c H locs cells slots Q (F0 m (pc + 1) ls (.int v :: rest))) : W p l e R s m args below meth c H locs cells slots Q (F0 m pc ls (.int y :: .int x :: rest)) := by
  subst h
  exact lv_isub hx hb hd k
theorem zr_imul (hx : p.tables.exec = Jvm.exec) (hb : c.code = cc) {x y v : Int32} (hd : decode cc pc = .ok (.imul, 1)) (h : x * y = v) (k : W p l e R s m args below meth c H locs cells slots Q (F0 m (pc + 1) ls (.int v :: rest))) : W p l e R s m args below meth c H locs cells slots Q (F0 m pc ls (.int y :: .int x :: rest)) := by
  subst h
  exact lv_imul hx hb hd k
theorem zr_iand (hx : p.tables.exec = Jvm.exec) (hb : c.code = cc) {x y v : Int32} (hd : decode cc pc = .ok (.iand, 1)) (h : x &&& y = v) (k : W p l e R s m args below meth c H locs cells slots Q (F0 m (pc + 1) ls (.int v :: rest))) : W p l e R s m args below meth c H locs cells slots Q (F0 m pc ls (.int y :: .int x :: rest)) := by
  subst h
  exact lv_iand hx hb hd k
theorem zr_ior (hx : p.tables.exec = Jvm.exec) (hb : c.code = cc) {x y v : Int32} (hd : decode cc pc = .ok (.ior, 1)) (h : x ||| y = v) (k : W p l e R s m args below meth c H locs cells slots Q (F0 m (pc + 1) ls (.int v :: rest))) : W p l e R s m args below meth c H locs cells slots Q (F0 m pc ls (.int y :: .int x :: rest)) := by
  subst h
  exact lv_ior hx hb hd k
theorem zr_ixor (hx : p.tables.exec = Jvm.exec) (hb : c.code = cc) {x y v : Int32} (hd : decode cc pc = .ok (.ixor, 1)) (h : x ^^^ y = v) (k : W p l e R s m args below meth c H locs cells slots Q (F0 m (pc + 1) ls (.int v :: rest))) : W p l e R s m args below meth c H locs cells slots Q (F0 m pc ls (.int y :: .int x :: rest)) := by
  subst h
  exact lv_ixor hx hb hd k
theorem zr_ishl (hx : p.tables.exec = Jvm.exec) (hb : c.code = cc) {x v : Int32} {n : Nat} (hd : decode cc pc = .ok (.ishl, 1)) (h : zsl x n = v) (k : W p l e R s m args below meth c H locs cells slots Q (F0 m (pc + 1) ls (.int v :: rest))) : W p l e R s m args below meth c H locs cells slots Q (F0 m pc ls (.int (nI n) :: .int x :: rest)) := by
  subst h
  exact lv_ishl hx hb hd k
theorem zr_ishr (hx : p.tables.exec = Jvm.exec) (hb : c.code = cc) {x v : Int32} {n : Nat} (hd : decode cc pc = .ok (.ishr, 1)) (h : zsr x n = v) (k : W p l e R s m args below meth c H locs cells slots Q (F0 m (pc + 1) ls (.int v :: rest))) : W p l e R s m args below meth c H locs cells slots Q (F0 m pc ls (.int (nI n) :: .int x :: rest)) := by
  subst h
  exact lv_ishr hx hb hd k
theorem zr_iushr (hx : p.tables.exec = Jvm.exec) (hb : c.code = cc) {x v : Int32} {n : Nat} (hd : decode cc pc = .ok (.iushr, 1)) (h : zus x n = v) (k : W p l e R s m args below meth c H locs cells slots Q (F0 m (pc + 1) ls (.int v :: rest))) : W p l e R s m args below meth c H locs cells slots Q (F0 m pc ls (.int (nI n) :: .int x :: rest)) := lv_iushr hx hb hd h k
theorem zr_idiv (hx : p.tables.exec = Jvm.exec) (hb : c.code = cc) {a d : Nat} (hd : decode cc pc = .ok (.idiv, 1)) (ha : a < 2 ^ 31) (h0 : 0 < d) (h1 : d < 2 ^ 31) (k : W p l e R s m args below meth c H locs cells slots Q (F0 m (pc + 1) ls (.int (nI (a / d)) :: rest))) : W p l e R s m args below meth c H locs cells slots Q (F0 m pc ls (.int (nI d) :: .int (nI a) :: rest)) := by
  refine lv_idiv hx hb hd (nI_ne0 h0 h1) ?_
  rw [pk_div ha h0 h1]
  exact k
theorem zr_irem (hx : p.tables.exec = Jvm.exec) (hb : c.code = cc) {a d : Nat} (hd : decode cc pc = .ok (.irem, 1)) (ha : a < 2 ^ 31) (h0 : 0 < d) (h1 : d < 2 ^ 31) (k : W p l e R s m args below meth c H locs cells slots Q (F0 m (pc + 1) ls (.int (nI (a % d)) :: rest))) : W p l e R s m args below meth c H locs cells slots Q (F0 m pc ls (.int (nI d) :: .int (nI a) :: rest)) := by
  refine lv_irem hx hb hd (nI_ne0 h0 h1) ?_
  rw [pk_rem ha h0 h1]
  exact k
theorem zr_get (hx : p.tables.exec = Jvm.exec) (hb : c.code = cc) {D : va_G} {cl : List vw_C} {tys : List (ClassId × FieldType)} {ws : va_W} {a : Nat} {C : String} {T : u_T} {N ci index : Nat} (hts : ∀ w ∈ lw_all, w.before args s = true) (hin : ∀ w ∈ u_ws C T N, w ∈ lw_all) (hown : s.vm.findClass C = some m.cls) (hK : va_K D cl tys s) (hP : va_P D cl ws H) (q0 : Nat) {fs : List Value} (he : ws[q0]? = some (a, .inr (ci, fs))) (hc : cl[ci]? = some (C, T, N)) (k : Nat) (hk : k < N) (hlink : Cond.fieldLink C index (T k).1 (T k).2.1 (T k).2.2.1 ∈ lw_all) {v : Value} (hv : fs[k]? = some v) (hd : decode cc pc = .ok (.getfield index, 3))
    (kk : W p l e R s m args below meth c H locs cells slots Q (F0 m (pc + 3) ls (v :: rest))) : W p l e R s m args below meth c H locs cells slots Q (F0 m pc ls (.ref a :: rest)) :=
  va_get hx hb hts hin hown hK hP q0 he hc k hk (hts _ hlink) (fun _ h9 => h9) hv hd kk
theorem zr_iald (hx : p.tables.exec = Jvm.exec) (hb : c.code = cc) {D : va_G} {cl : List vw_C} {tys : List (ClassId × FieldType)} {ws : va_W} {a : Nat} (hK : va_K D cl tys s) (hP : va_P D cl ws H) (q0 t0 : Nat) {cA : ClassId} {n : Nat} {f : Nat → Int32} (ha : ws[q0]? = some (a, .inl (cA, n, .inl f))) (ht : tys[t0]? = some (cA, .int)) {i v : Int32} (k : Nat) (hi : i = nI k) (hk : k < n) (hn : n < 2 ^ 31) (hv : f k = v) (hd : decode cc pc = .ok (.iaload, 1))
    (kk : W p l e R s m args below meth c H locs cells slots Q (F0 m (pc + 1) ls (.int v :: rest))) : W p l e R s m args below meth c H locs cells slots Q (F0 m pc ls (.int i :: .ref a :: rest)) := by
  subst hi
  subst hv
  refine va_iald hx hb hK hP q0 t0 ha ht (vp_in_nI hk hn) hd ?_
  rw [nI_clamp (Nat.lt_trans hk hn)]
  exact kk
theorem zD {A : Nat → Prop} {w w' : va_W} (h : va_D A w) (e : w.map Prod.fst = w'.map Prod.fst) : va_D A w' := by
  have key : ∀ (k : Nat) (q : Nat × va_E), w'[k]? = some q → ∃ q0, w[k]? = some q0 ∧ q0.1 = q.1 := by
    intro k q hk
    have h1 : (w'.map Prod.fst)[k]? = some q.1 := by rw [List.getElem?_map, hk]; rfl
    rw [← e, List.getElem?_map] at h1
    cases hq : w[k]? with
    | none => rw [hq] at h1; cases h1
    | some q0 => rw [hq] at h1; exact ⟨q0, rfl, Option.some.inj h1⟩
  refine ⟨fun i j p q hi hj hpq => ?_, fun k q hk => ?_⟩
  · obtain ⟨p0, h1, e1⟩ := key i p hi
    obtain ⟨q0, h2, e2⟩ := key j q hj
    exact h.1 i j p0 q0 h1 h2 (by rw [e1, e2, hpq])
  · obtain ⟨q0, h1, e1⟩ := key k q hk
    rw [← e1]
    exact h.2 k q0 h1
theorem zr_iast (hx : p.tables.exec = Jvm.exec) (hb : c.code = cc) {D : va_G} {cl : List vw_C} {tys : List (ClassId × FieldType)} {ws w0 : va_W} {a : Nat} {A : Nat → Prop} {H0 : Heap} (hK : va_K D cl tys s) (hP : va_P D cl ws H) (hD : va_D A w0) (hw : w0.map Prod.fst = ws.map Prod.fst) (hS : va_S A H0 H locs) (q0 t0 : Nat) {cA : ClassId} {n : Nat} {f f' : Nat → Int32} (ha : ws[q0]? = some (a, .inl (cA, n, .inl f))) (ht : tys[t0]? = some (cA, .int)) {i x : Int32} (k : Nat) (hi : i = nI k) (hk : k < n) (hn : n < 2 ^ 31) (hu : upd f k x = f') (hd : decode cc pc = .ok (.iastore, 1))
    (kk : ∀ (H1 : Heap) (locs1 : List Loc), va_P D cl (ws.set q0 (a, .inl (cA, n, .inl f'))) H1 → va_S A H0 H1 locs1 → W p l e R s m args below meth c H1 locs1 cells slots Q (F0 m (pc + 1) ls rest)) : W p l e R s m args below meth c H locs cells slots Q (F0 m pc ls (.int x :: .int i :: .ref a :: rest)) := by
  subst hi
  subst hu
  refine va_iast hx hb hK hP (zD hD hw) hS q0 t0 ha ht (vp_in_nI hk hn) hd fun H1 locs1 h1 _ h3 => ?_
  rw [nI_clamp (Nat.lt_trans hk hn)] at h1
  exact kk H1 locs1 h1 h3
/-! branches that are known -/
theorem zr_ge_t (hx : p.tables.exec = Jvm.exec) (hb : c.code = cc) {a b : Nat} {off : Int} {tgt : Nat} (hd : decode cc pc = .ok (.if_icmp .ge off, 3)) (ht : (pc : Int) + off = (tgt : Int)) (h : b ≤ a) (ha : a < 2 ^ 31) (k : W p l e R s m args below meth c H locs cells slots Q (F0 m tgt ls rest)) : W p l e R s m args below meth c H locs cells slots Q (F0 m pc ls (.int (nI b) :: .int (nI a) :: rest)) := lv_icmp_ge hx hb hd ht (fun _ => k) (fun q => absurd (nI_le h ha) q)
theorem zr_ge_f (hx : p.tables.exec = Jvm.exec) (hb : c.code = cc) {a b : Nat} {off : Int} (tgt : Nat) (hd : decode cc pc = .ok (.if_icmp .ge off, 3)) (ht : (pc : Int) + off = (tgt : Int)) (h : a < b) (ha : b < 2 ^ 31) (k : W p l e R s m args below meth c H locs cells slots Q (F0 m (pc + 3) ls rest)) : W p l e R s m args below meth c H locs cells slots Q (F0 m pc ls (.int (nI b) :: .int (nI a) :: rest)) := lv_icmp_ge hx hb hd ht (fun q => absurd q (nI_ge h ha)) (fun _ => k)
theorem zr_gt_t (hx : p.tables.exec = Jvm.exec) (hb : c.code = cc) {a b : Nat} {off : Int} {tgt : Nat} (hd : decode cc pc = .ok (.if_icmp .gt off, 3)) (ht : (pc : Int) + off = (tgt : Int)) (h : b < a) (ha : a < 2 ^ 31) (k : W p l e R s m args below meth c H locs cells slots Q (F0 m tgt ls rest)) : W p l e R s m args below meth c H locs cells slots Q (F0 m pc ls (.int (nI b) :: .int (nI a) :: rest)) := lv_icmp_gt hx hb hd ht (fun _ => k) (fun q => absurd (nI_lt h ha) q)
theorem zr_gt_f (hx : p.tables.exec = Jvm.exec) (hb : c.code = cc) {a b : Nat} {off : Int} (tgt : Nat) (hd : decode cc pc = .ok (.if_icmp .gt off, 3)) (ht : (pc : Int) + off = (tgt : Int)) (h : a ≤ b) (ha : b < 2 ^ 31) (k : W p l e R s m args below meth c H locs cells slots Q (F0 m (pc + 3) ls rest)) : W p l e R s m args below meth c H locs cells slots Q (F0 m pc ls (.int (nI b) :: .int (nI a) :: rest)) := lv_icmp_gt hx hb hd ht (fun q => absurd q (nI_nlt h ha)) (fun _ => k)
theorem zr_lt_t (hx : p.tables.exec = Jvm.exec) (hb : c.code = cc) {a b : Nat} {off : Int} {tgt : Nat} (hd : decode cc pc = .ok (.if_icmp .lt off, 3)) (ht : (pc : Int) + off = (tgt : Int)) (h : a < b) (ha : b < 2 ^ 31) (k : W p l e R s m args below meth c H locs cells slots Q (F0 m tgt ls rest)) : W p l e R s m args below meth c H locs cells slots Q (F0 m pc ls (.int (nI b) :: .int (nI a) :: rest)) := lv_icmp_lt hx hb hd ht (fun _ => k) (fun q => absurd (nI_lt h ha) q)
theorem zr_lt_f (hx : p.tables.exec = Jvm.exec) (hb : c.code = cc) {a b : Nat} {off : Int} (tgt : Nat) (hd : decode cc pc = .ok (.if_icmp .lt off, 3)) (ht : (pc : Int) + off = (tgt : Int)) (h : b ≤ a) (ha : a < 2 ^ 31) (k : W p l e R s m args below meth c H locs cells slots Q (F0 m (pc + 3) ls rest)) : W p l e R s m args below meth c H locs cells slots Q (F0 m pc ls (.int (nI b) :: .int (nI a) :: rest)) := lv_icmp_lt hx hb hd ht (fun q => absurd q (nI_nlt h ha)) (fun _ => k)
theorem zr_ifle_t (hx : p.tables.exec = Jvm.exec) (hb : c.code = cc) {off : Int} {tgt : Nat} (hd : decode cc pc = .ok (.ifCond .le off, 3)) (ht : (pc : Int) + off = (tgt : Int)) (k : W p l e R s m args below meth c H locs cells slots Q (F0 m tgt ls rest)) : W p l e R s m args below meth c H locs cells slots Q (F0 m pc ls (.int (nI 0) :: rest)) := lv_if_le hx hb hd ht (fun _ => k) (fun q => absurd (by decide) q)
theorem zr_ifle_f (hx : p.tables.exec = Jvm.exec) (hb : c.code = cc) {a : Nat} {off : Int} (tgt : Nat) (hd : decode cc pc = .ok (.ifCond .le off, 3)) (ht : (pc : Int) + off = (tgt : Int)) (h : 0 < a) (ha : a < 2 ^ 31) (k : W p l e R s m args below meth c H locs cells slots Q (F0 m (pc + 3) ls rest)) : W p l e R s m args below meth c H locs cells slots Q (F0 m pc ls (.int (nI a) :: rest)) := lv_if_le hx hb hd ht (fun q => absurd q (nI_nle h ha)) (fun _ => k)
theorem zr_iflt_t (hx : p.tables.exec = Jvm.exec) (hb : c.code = cc) {off : Int} {tgt : Nat} (hd : decode cc pc = .ok (.ifCond .lt off, 3)) (ht : (pc : Int) + off = (tgt : Int)) (k : W p l e R s m args below meth c H locs cells slots Q (F0 m tgt ls rest)) : W p l e R s m args below meth c H locs cells slots Q (F0 m pc ls (.int (nI 0 - 1) :: rest)) := lv_if_lt hx hb hd ht (fun _ => k) (fun q => absurd (by decide) q)
theorem zr_iflt_f (hx : p.tables.exec = Jvm.exec) (hb : c.code = cc) {a : Nat} {off : Int} (tgt : Nat) (hd : decode cc pc = .ok (.ifCond .lt off, 3)) (ht : (pc : Int) + off = (tgt : Int)) (ha : a < 2 ^ 31) (k : W p l e R s m args below meth c H locs cells slots Q (F0 m (pc + 3) ls rest)) : W p l e R s m args below meth c H locs cells slots Q (F0 m pc ls (.int (nI a) :: rest)) := lv_if_lt hx hb hd ht (fun q => absurd q (nI_pos ha)) (fun _ => k)
end ZR
/-! pictures: a cell's contents matter below its length alone -/
theorem zcell {cA : ClassId} {n : Nat} {f g : Nat → Int32} (h : ∀ j, j < n → f j = g j) : vp_cell cA (n, .inl f) = vp_cell cA (n, .inl g) := by
  rw [vp_cell_i, vp_cell_i]
  unfold arrV
  congr 1
  apply Array.ext
  · simp
  · intro i h1 h2
    simp at h1 h2
    simp [h i h1]
theorem zP {D : va_G} {cl : List vw_C} {ws : va_W} {H : Heap} (hP : va_P D cl ws H) (q0 : Nat) {a : Nat} {cA : ClassId} {n : Nat} {f g : Nat → Int32} (ha : ws[q0]? = some (a, .inl (cA, n, .inl f))) (h : ∀ j, j < n → f j = g j) : va_P D cl (ws.set q0 (a, .inl (cA, n, .inl g))) H := by
  have hl := (List.getElem?_eq_some_iff.mp ha).1
  intro k q hk
  by_cases hkp : k = q0
  · subst hkp
    rw [List.getElem?_set_self hl] at hk
    cases hk
    have h1 : H[a]? = some (vp_cell cA (n, .inl f)) := hP k _ ha
    show H[a]? = some (vp_cell cA (n, .inl g))
    rw [h1, zcell h]
  · rw [List.getElem?_set_ne (Ne.symm hkp)] at hk
    exact hP k q hk
/-! ===== contracts: from the world w with arguments av, to the world w' with answer r ===== -/
abbrev Cl : List vw_C := [(RX0, TX0, 12), (RX1, TX1, 9)]
abbrev zroom (d : Nat) : Room := { frames := d, cells := 0, slots := 0, locals := 40 * d }
def ZQ (D : va_G) (cA : ClassId) (w' : va_W) (r : Option Int32) (A : Nat → Prop) : Array Value → State → Outcome → State → Prop := fun _ st oc t => (oc = .returned (r.map Value.int) ∧ va_P D Cl w' t.heap ∧ va_K D Cl [(cA, .int)] t) ∧ va_F A st t
def MetW (l : Launch) (D : va_G) (cA : ClassId) (y : MethodName) (wl : List Cond) (rm : Room) (av : List Value) (w w' : va_W) (r : Option Int32) : Prop :=
  ∀ sz : Nat, Met l y wl rm (va_Pc av (fun U => U.heap.size = sz ∧ va_P D Cl w U.heap ∧ va_K D Cl [(cA, .int)] U ∧ va_D (fun _ => True) w)) (ZQ D cA w' r (va_A w sz)) 0 0 (va_A w sz)
theorem zr_startV {l : Launch} {D : va_G} {cA : ClassId} {y : MethodName} {cc : ByteArray} {maxL : Nat} {rm : Room} {av : List Value} {w w' : va_W} (own : String) (hown : y.cls = own) (hy : plainName y.cls = true) (hlen : (lg_sl av).length ≤ maxL)
    (body : ∀ (p : Program) (e : Env) (s : State) (m : MethodId) (below : List Frame) (meth : Method) (c : Code) (A : Nat → Prop) (ls : Array Slot) (Q : State → Prop), p.tables.exec = Jvm.exec → c.code = cc → c.maxLocals = maxL → s.vm.findClass own = some m.cls → (∀ w ∈ lw_all, w.before av.toArray s = true) → va_K D Cl [(cA, .int)] s → va_P D Cl w s.heap → va_D A w → (∀ q, s.heap.size ≤ q → A q) → va_S A s.heap s.heap [] →
      (∀ (H : Heap) (locs : List Loc) (pc : Nat) (ls : Array Slot), va_P D Cl w' H → va_S A s.heap H locs → decode cc pc = .ok (.return_, 1) → W p l e rm s m av.toArray below meth c H locs 0 0 Q (F0 m pc ls [])) → lv_has ls maxL (lv_args 0 av) → W p l e rm s m av.toArray below meth c s.heap [] 0 0 Q (F0 m 0 ls [])) : MetW l D cA y (ws_ y cc maxL none) rm av w w' none := by
  intro sz
  refine Met.ofW (cc := cc) (maxL := maxL) (ret := none) hy rfl ?_
  intro p e s m args below meth c s₁ B hml hv
  obtain ⟨rfl, hsz, hP, hK, hD0⟩ := hv
  have hts := atoms_spec (ws := ws_ y cc maxL none) B.pre
  have hts : ∀ w ∈ lw_all, w.before _ s = true := fun w h => hts w (List.mem_cons_of_mem _ h)
  have ho : s.vm.findClass own = some m.cls := by rw [← hown]; exact findClass_of_methodNamed B.named
  subst hsz
  have hD := hD0.self (sz := s.heap.size)
  generalize hAe : va_A w s.heap.size = A at hD ⊢
  have hA : ∀ q : Nat, s.heap.size ≤ q → A q := fun q h => by rw [← hAe]; exact Or.inr h
  have hl := lv_entry av (n := maxL) hlen
  rw [lg_entry_eq]
  generalize (lg_sl av ++ List.replicate (maxL - (lg_sl av).length) Slot.unset).toArray = ls at hl ⊢
  have hx := B.exec
  have hb := B.bytes
  have hr := B.returns
  have hlocks := B.notSynchronized
  refine body p e s m below meth c A ls _ hx hb hml ho hts hK hP hD hA va_S.rf ?_ hl
  intro H locs pc ls hP' hS hd
  exact W.vret hx hb hr (fun t ht hW => ⟨⟨rfl, by rw [ht]; exact hP', va_K.moved hW.alike hK⟩, hS.F ht⟩) hS.2.2 hd
theorem zr_startI {l : Launch} {D : va_G} {cA : ClassId} {y : MethodName} {cc : ByteArray} {maxL : Nat} {rm : Room} {av : List Value} {w w' : va_W} {r : Int32} (own : String) (hown : y.cls = own) (hy : plainName y.cls = true) (hlen : (lg_sl av).length ≤ maxL)
    (body : ∀ (p : Program) (e : Env) (s : State) (m : MethodId) (below : List Frame) (meth : Method) (c : Code) (A : Nat → Prop) (ls : Array Slot) (Q : State → Prop), p.tables.exec = Jvm.exec → c.code = cc → c.maxLocals = maxL → s.vm.findClass own = some m.cls → (∀ w ∈ lw_all, w.before av.toArray s = true) → va_K D Cl [(cA, .int)] s → va_P D Cl w s.heap → va_D A w → (∀ q, s.heap.size ≤ q → A q) → va_S A s.heap s.heap [] →
      (∀ (v : Int32) (H : Heap) (locs : List Loc) (pc : Nat) (ls : Array Slot), v = r → va_P D Cl w' H → va_S A s.heap H locs → decode cc pc = .ok (.ireturn, 1) → W p l e rm s m av.toArray below meth c H locs 0 0 Q (F0 m pc ls [.int v])) → lv_has ls maxL (lv_args 0 av) → W p l e rm s m av.toArray below meth c s.heap [] 0 0 Q (F0 m 0 ls [])) : MetW l D cA y (ws_ y cc maxL (some .int)) rm av w w' (some r) := by
  intro sz
  refine Met.ofW (cc := cc) (maxL := maxL) (ret := some .int) hy rfl ?_
  intro p e s m args below meth c s₁ B hml hv
  obtain ⟨rfl, hsz, hP, hK, hD0⟩ := hv
  have hts := atoms_spec (ws := ws_ y cc maxL (some .int)) B.pre
  have hts : ∀ w ∈ lw_all, w.before _ s = true := fun w h => hts w (List.mem_cons_of_mem _ h)
  have ho : s.vm.findClass own = some m.cls := by rw [← hown]; exact findClass_of_methodNamed B.named
  subst hsz
  have hD := hD0.self (sz := s.heap.size)
  generalize hAe : va_A w s.heap.size = A at hD ⊢
  have hA : ∀ q : Nat, s.heap.size ≤ q → A q := fun q h => by rw [← hAe]; exact Or.inr h
  have hl := lv_entry av (n := maxL) hlen
  rw [lg_entry_eq]
  generalize (lg_sl av ++ List.replicate (maxL - (lg_sl av).length) Slot.unset).toArray = ls at hl ⊢
  have hx := B.exec
  have hb := B.bytes
  have hr := B.returns
  have hlocks := B.notSynchronized
  refine body p e s m below meth c A ls _ hx hb hml ho hts hK hP hD hA va_S.rf ?_ hl
  intro v H locs pc ls hv hP' hS hd
  subst hv
  exact W.iret (v := v) hx hb hr (fun t ht hW => ⟨⟨rfl, by rw [ht]; exact hP', va_K.moved hW.alike hK⟩, hS.F ht⟩) hS.2.2 hd
section ZC
variable {p : Program} {l : Launch} {e : Env} {R : Room} {s : State} {m : MethodId} {args : Array Value} {below : List Frame} {meth : Method} {c : Code} {H : Heap} {locs : List Loc} {cells slots : Nat} {Q : State → Prop}
variable {cc : ByteArray} {pc nL index n maxL : Nat} {ls : Array Slot} {rest st0 As : List Value} {D : va_G} {cA : ClassId} {w1 w1' w2 wt wt' w0 : va_W} {A : Nat → Prop} {H0 : Heap} {a : Array Value} {b : Nat}
variable {y : MethodName} {bytes : ByteArray} {ret : Option FieldType} {rm : Room} {own C : String}
theorem zr_run {r : Option Int32} (hr : va_Run p l e R s m args below meth c H locs cells slots 0 0 (F0 m pc ls st0) rest (ZQ D cA w1' r (va_A w1 H.size) a) (va_A w1 H.size)) (hP : va_P D Cl (w1 ++ w2) H) (hD : va_D A (w1 ++ w2)) (hS : va_S A H0 H locs) (hA : ∀ q, H0.size ≤ q → A q)
    (kk : ∀ (H1 : Heap) (locs1 : List Loc), va_P D Cl (w1' ++ w2) H1 → va_S A H0 H1 locs1 → W p l e R s m args below meth c H1 locs1 cells slots Q (F0 m (pc + 3) ls ((r.map Value.int).toList ++ rest))) : W p l e R s m args below meth c H locs cells slots Q (F0 m pc ls st0) := by
  have hin : ∀ (k : Nat) (q : Nat × va_E), w1[k]? = some q → (w1 ++ w2)[k]? = some q := fun k q h => by
    rw [List.getElem?_append_left (List.getElem?_eq_some_iff.mp h).1]
    exact h
  have hf : ∀ q, va_A w1 H.size q → A q := by
    intro q h
    rcases h with ⟨k, e, h⟩ | h
    · exact hD.2 k (q, e) (hin k (q, e) h)
    · exact hA q (Nat.le_trans hS.1 h)
  have hrest : ∀ (k : Nat) (q : Nat × va_E), w2[k]? = some q → q.1 < H.size ∧ ¬ va_A w1 H.size q.1 := by
    intro k q h
    have h2 : (w1 ++ w2)[w1.length + k]? = some q := by
      rw [List.getElem?_append_right (by omega), Nat.add_sub_cancel_left]
      exact h
    have hlt := (hP _ q h2).lt
    refine ⟨hlt, fun hc => ?_⟩
    rcases hc with ⟨j, e, hj⟩ | hc
    · have h3 := hD.1 (w1.length + k) j q (q.1, e) h2 (hin j _ hj) rfl
      have hl := (List.getElem?_eq_some_iff.mp hj).1
      omega
    · omega
  intro T hT X
  obtain ⟨v, st₀, t, T', L, h0, X', hL, e1, e2, ⟨⟨hv, hP1, hK1⟩, hz, hk⟩, st⟩ := hr T hT X
  cases hv
  rw [h0] at hz hk
  obtain ⟨t2, a1, b1⟩ := kk T'.heap (locs ++ L) (by
      rw [e1]
      exact va_P.app hP1 (fun k q h => (hP (w1.length + k) q (by rw [List.getElem?_append_right (by omega), Nat.add_sub_cancel_left]; exact h)).kept (hk q.1 (hrest k q h).1 (hrest k q h).2)))
    ⟨Nat.le_trans hS.1 (by rw [e1]; exact hz), fun q h1 h2 => by rw [e1, hk q (Nat.lt_of_lt_of_le h1 hS.1) (fun z => h2 (hf q z))]; exact hS.2.1 q h1 h2, fun q hq => by
      rcases List.mem_append.mp hq with h | h
      · exact hS.2.2 q h
      · exact hf _ (hL q h)⟩ T' rfl X'
  exact ⟨t2, st t2 a1, b1⟩
theorem zr_blind {w : va_W} {av : List Value} {sz : Nat} : FrameBlind (va_Pc av (fun U => U.heap.size = sz ∧ va_P D Cl w U.heap ∧ va_K D Cl [(cA, .int)] U ∧ va_D (fun _ => True) w)) := fun a U g mk q => by
  obtain ⟨q0, q1, qP, qK, qD⟩ := q
  exact ⟨q0, q1, qP, va_K.moved (u := U) (U := U.calling g mk a) (Vm.Alike.refl U.vm) qK, qD⟩
theorem zP1 {w1 w2 : va_W} (hP : va_P D Cl (w1 ++ w2) H) : va_P D Cl w1 H := fun k q h => hP k q (by rw [List.getElem?_append_left (List.getElem?_eq_some_iff.mp h).1]; exact h)
theorem zD1 {w1 w2 : va_W} (hD : va_D A (w1 ++ w2)) : va_D (fun _ => True) w1 := by
  have key : ∀ (k : Nat) (q : Nat × va_E), w1[k]? = some q → (w1 ++ w2)[k]? = some q := fun k q h => by
    rw [List.getElem?_append_left (List.getElem?_eq_some_iff.mp h).1]
    exact h
  exact ⟨fun i j p q hi hj hpq => hD.1 i j p q (key i p hi) (key j q hj) hpq, fun _ _ _ => trivial⟩
/-- a call of a method through an object, an int comes back -/
theorem zr_callVi {r : Int32} (S : CallFix p m c cc nL s args lw_all own) (hM : MetW l D cA y (ws_ y bytes maxL ret) rm (.ref b :: As) w1 w1' (some r)) (cw : CallW R s args own C index y bytes maxL ret (ws_ y bytes maxL ret) rm 0 0 n) (w2 : va_W) (hK : va_K D Cl [(cA, .int)] s) (hP : va_P D Cl (w1 ++ w2) H) (hD : va_D A w0) (hw : w0.map Prod.fst = (w1 ++ w2).map Prod.fst) (hS : va_S A H0 H locs) (hA : ∀ q, H0.size ≤ q → A q) {ci q0 : Nat} {q : vw_C} {fs : List Value} (hc : Cl[ci]? = some q) (hq : q.1 = C) (he : w1[q0]? = some (b, .inr (ci, fs))) (hn : As.length = n) (hsize : ls.size = nL) (hst : st0 = As.reverse ++ .ref b :: rest) (hW : (rest.map fun v => v.category).sum ≤ 8) (hd : decode cc pc = .ok (.invokevirtual index, 3)) (hf : cells ≤ R.cells ∧ slots ≤ R.slots)
    (kk : ∀ (H1 : Heap) (locs1 : List Loc), va_P D Cl (w1' ++ w2) H1 → va_S A H0 H1 locs1 → W p l e R s m args below meth c H1 locs1 cells slots Q (F0 m (pc + 3) ls (.int r :: rest))) : W p l e R s m args below meth c H locs cells slots Q (F0 m pc ls st0) := by
  subst hq
  exact zr_run (va_runV S (hM H.size) cw ⟨zr_blind, va_recv hK (zP1 hP) hc he, fun U hU hWm => ⟨rfl, by rw [hU], by rw [hU]; exact zP1 hP, va_K.moved hWm.alike hK, zD1 (zD hD hw)⟩⟩ rfl hn hsize hst (lv_room hW) hd hf) hP (zD hD hw) hS hA kk
/-- .. nothing comes back -/
theorem zr_callVv (S : CallFix p m c cc nL s args lw_all own) (hM : MetW l D cA y (ws_ y bytes maxL ret) rm (.ref b :: As) w1 w1' none) (cw : CallW R s args own C index y bytes maxL ret (ws_ y bytes maxL ret) rm 0 0 n) (w2 : va_W) (hK : va_K D Cl [(cA, .int)] s) (hP : va_P D Cl (w1 ++ w2) H) (hD : va_D A w0) (hw : w0.map Prod.fst = (w1 ++ w2).map Prod.fst) (hS : va_S A H0 H locs) (hA : ∀ q, H0.size ≤ q → A q) {ci q0 : Nat} {q : vw_C} {fs : List Value} (hc : Cl[ci]? = some q) (hq : q.1 = C) (he : w1[q0]? = some (b, .inr (ci, fs))) (hn : As.length = n) (hsize : ls.size = nL) (hst : st0 = As.reverse ++ .ref b :: rest) (hW : (rest.map fun v => v.category).sum ≤ 8) (hd : decode cc pc = .ok (.invokevirtual index, 3)) (hf : cells ≤ R.cells ∧ slots ≤ R.slots)
    (kk : ∀ (H1 : Heap) (locs1 : List Loc), va_P D Cl (w1' ++ w2) H1 → va_S A H0 H1 locs1 → W p l e R s m args below meth c H1 locs1 cells slots Q (F0 m (pc + 3) ls rest)) : W p l e R s m args below meth c H locs cells slots Q (F0 m pc ls st0) := by
  subst hq
  exact zr_run (va_runV S (hM H.size) cw ⟨zr_blind, va_recv hK (zP1 hP) hc he, fun U hU hWm => ⟨rfl, by rw [hU], by rw [hU]; exact zP1 hP, va_K.moved hWm.alike hK, zD1 (zD hD hw)⟩⟩ rfl hn hsize hst (lv_room hW) hd hf) hP (zD hD hw) hS hA kk
/-- a static call, that touches nothing: an int comes back -/
theorem zr_callS {r : Int32} (S : CallFix p m c cc nL s args lw_all own) (hM : MetW l D cA y (ws_ y bytes maxL ret) rm As [] [] (some r)) (cw : CallB R s args own index y bytes maxL ret (ws_ y bytes maxL ret) rm 0 0 n ∧ (Cond.static y).before args s = true) (hK : va_K D Cl [(cA, .int)] s) (hP : va_P D Cl w2 H) (hD : va_D A w0) (hw : w0.map Prod.fst = w2.map Prod.fst) (hS : va_S A H0 H locs) (hA : ∀ q, H0.size ≤ q → A q) (hn : As.length = n) (hsize : ls.size = nL) (hst : st0 = As.reverse ++ rest) (hW : (rest.map fun v => v.category).sum ≤ 8) (hd : decode cc pc = .ok (.invokestatic index, 3)) (hf : cells ≤ R.cells ∧ slots ≤ R.slots)
    (kk : ∀ (H1 : Heap) (locs1 : List Loc), va_P D Cl w2 H1 → va_S A H0 H1 locs1 → W p l e R s m args below meth c H1 locs1 cells slots Q (F0 m (pc + 3) ls (.int r :: rest))) : W p l e R s m args below meth c H locs cells slots Q (F0 m pc ls st0) := by
  have hP0 : va_P D Cl ([] : va_W) H := fun k q h => by simp at h
  have hD0 : va_D (fun _ => True) ([] : va_W) := ⟨fun i j p q h => by simp at h, fun k q h => by simp at h⟩
  exact zr_run (w1 := []) (w1' := []) (w2 := w2) (va_runS S (hM H.size) cw ⟨zr_blind, fun U hU hWm => ⟨rfl, by rw [hU], by rw [hU]; exact hP0, va_K.moved hWm.alike hK, hD0⟩⟩ rfl hn hsize hst (lv_room hW) hd hf) hP (zD hD hw) hS hA kk
end ZC
end
section
/-! WHAT THE METHODS COMPUTE, close to the code; the worlds of both classes -/
set_option maxRecDepth 100000
abbrev XG (cA : ClassId) (h : Nat) (ad : Nat → Nat) (sub res fwd bwd rk tk pre sum st fr mul fal : Nat → Int32) : va_W := [(h, .inr (0, [.ref (ad 0), .ref (ad 1), .ref (ad 2), .ref (ad 3), .ref (ad 4), .ref (ad 5), .ref (ad 6), .ref (ad 7), .ref (ad 8), .ref (ad 9), .ref (ad 10), .ref (ad 11)])), (ad 0, .inl (cA, 256, .inl sub)), (ad 1, .inl (cA, 256, .inl res)), (ad 2, .inl (cA, 256, .inl fwd)), (ad 3, .inl (cA, 256, .inl bwd)), (ad 4, .inl (cA, 44, .inl rk)), (ad 5, .inl (cA, 44, .inl tk)), (ad 6, .inl (cA, 4, .inl pre)), (ad 7, .inl (cA, 4, .inl sum)), (ad 8, .inl (cA, 4, .inl st)), (ad 9, .inl (cA, 4, .inl fr)), (ad 10, .inl (cA, 64, .inl mul)), (ad 11, .inl (cA, 16, .inl fal))]
abbrev YG (cA : ClassId) (h : Nat) (ad : Nat → Nat) (sub ks pre hs sq sh se mo pr : Nat → Int32) : va_W := [(h, .inr (1, [.ref (ad 0), .ref (ad 1), .ref (ad 2), .ref (ad 3), .ref (ad 4), .ref (ad 5), .ref (ad 6), .ref (ad 7), .ref (ad 8)])), (ad 0, .inl (cA, 256, .inl sub)), (ad 1, .inl (cA, 44, .inl ks)), (ad 2, .inl (cA, 4, .inl pre)), (ad 3, .inl (cA, 4, .inl hs)), (ad 4, .inl (cA, 16, .inl sq)), (ad 5, .inl (cA, 16, .inl sh)), (ad 6, .inl (cA, 4, .inl se)), (ad 7, .inl (cA, 4, .inl mo)), (ad 8, .inl (cA, 4, .inl pr))]
/-! the tables of bytes -/
def zSBn : Nat := 0x16bb54b00f2d99416842e6bf0d89a18cdf2855cee9871e9b948ed9691198f8e19e1dc186b95735610ef6034866b53e708a8bbd4b1f74dde8c6b4a61c2e2578ba08ae7a65eaf4566ca94ed58d6d37c8e779e4959162acd3c25c2406490a3a32e0db0b5ede14b8ee4688902a22dc4f816073195d643d7ea7c41744975fec130ccdd2f3ff1021dab6bcf5389d928f40a351a89f3c507f02f94585334d43fbaaefd0cf584c4a39becb6a5bb1fc20ed00d153842fe329b3d63b52a05a6e1b1a2c830975b227ebe28012079a059618c323c7041531d871f1e5a534ccf73f362693fdb7c072a49cafa2d4adf04759fa7dc982ca76abd7fe2b670130c56f6bf27b777c63
def zRSn : Nat := 0x7d0c2155631469e126d677ba7e042b17619953833cbbebc8b0f52aae4d3be0a0ef9cc9939f7ae52d0d4ab519a97f51605fec8027591012b131c7078833a8dd1ff45acd78fec0db9a2079d2c64b3e56fc1bbe18aa0e62b76f89c5291d711af1476edf751ce837f9e28535ade72274ac9673e6b4f0cecff297eadc674f4111913a6b8a130103bdafc1020f3fca8f1e2cd00645b3b80558e4f70ad3bc8c00abd890849d8da75746155edab9edfd5048706c92b6655dcc5ca4d41698688664f6f87225d18b6d49a25b76b224d92866a12e084ec3fa420b954cee3d23c2a632947b54cbe9dec444438e3487ff2f9b8239e37cfbd7f3819ea340bf38a53630d56a0952
def zINn : Nat := 0x1c411acda07d9cdd8c0346683438235bb31e505de3d74e08adcf0ec6ebd60db16b90f89dd5c48b94eae2dbc563ae077ae6acfc1b045327a90fe4d4daa32f280b5786bcbd3d768ea571787511ef1fe00c62d2e7ce4a12c8264865b88fc32e7cfb9a89dcf9889f142a72848ad86d326adea4b902f7d9959e9b56be7396807f7e838281faa106d070b63cbab5108597b7793b219333df9147f44336a649d3af5e161761ec51f0223e18bf87244cca055ced09e9255413ab64a769f5312d6737fe1d1959bb776f2035f2426639f36c92452cc2a2443015980ac1c9a84d55f15a6e3ab2ee40ffccfd3f585f602b994baab474c7e5e1b0c0294fe8d17b52cbf68d0100
def zLGn : Nat := 0x770f7c0808c630d18fe31c5deed4a67a5e3997726b87cb4892e2023d9921144abd3f2565d9e2a14476da2413c843953d15b3f37cdcf95bcfcdcbe619087b2979d2955aa6ca1523b86b160fb5a3ebbccb77b76a42d1f43d8ec49c4176ff60c7fa051a99cb05fcb59f50b16eb7a75d72ce8ade6e7d5e9ae4f74d6eaf450a858af57a773f3e5acd44eca5e9f9b150a792bba3d85fa54286b3a421eb6a3c3486e7e1091882298e225b3628b06bf30fddd6638834640f1d25c1394ced036bddb8f968eda93354582f01224e10f21058a2f657809c99a72a6e44d6a27b9f9b51dc27dc11c69f8c808714cef818d340ee0046403dfee33681bc74bc61a023201190000
def zSB (j : Nat) : Nat := zSBn / 2 ^ (8 * j) % 256
def zRS (j : Nat) : Nat := zRSn / 2 ^ (8 * j) % 256
def zIN (j : Nat) : Nat := zINn / 2 ^ (8 * j) % 256
def zLG (j : Nat) : Nat := zLGn / 2 ^ (8 * j) % 256
theorem zSB_lt (j : Nat) : zSB j < 256 := Nat.mod_lt _ (by decide)
theorem zRS_lt (j : Nat) : zRS j < 256 := Nat.mod_lt _ (by decide)
theorem zIN_lt (j : Nat) : zIN j < 256 := Nat.mod_lt _ (by decide)
/-! BlockSealer -/
def ztw (x : Int32) : Int32 := if nI 128 ≤ x then (nI 2 * x) ^^^ nI 283 else nI 2 * x
def ztk : Nat → Int32 → Int32
  | 0, x => x
  | k + 1, x => ztw (ztk k x)
def zti (x : Int32) : Int32 := ((((ztk 1 x ^^^ ztk 2 x) ^^^ ztk 4 x) ^^^ ztk 5 x) ^^^ ztk 6 x) ^^^ ztk 7 x
def zss (v : Int32) : Int32 := ((((v * nI 257 ^^^ zsr (v * nI 257) 4) ^^^ zsr (v * nI 257) 5) ^^^ zsr (v * nI 257) 6) ^^^ zsr (v * nI 257) 7) ^^^ nI 99
def ztN (n : Nat) : Nat := if n < 128 then 2 * n else (2 * n) ^^^ 283
def zpw : Nat → Nat
  | 0 => 1
  | k + 1 => zpw k ^^^ ztN (zpw k)
def ziv : Nat → Int32
  | 0 => nI 1
  | k + 1 => zti (ziv k)
def zbs (f : Nat → Int32) : Nat → Nat → Int32
  | 0 => f
  | k + 1 => upd (zbs f k) (zpw k) (nI (zby (zss (ziv k)) 3))
def zbr (f : Nat → Int32) : Nat → Nat → Int32
  | 0 => f
  | k + 1 => upd (zbr f k) (zby (zss (ziv k)) 3) (nI (zpw k))
def zmF (s : Int32) : Int32 := ((zsl (ztw s) 24 ||| zsl s 16) ||| zsl s 8) ||| (ztw s ^^^ s)
def zmB (r : Int32) : Int32 := ((zsl ((ztw (ztw (ztw r)) ^^^ ztw (ztw r)) ^^^ ztw r) 24 ||| zsl (ztw (ztw (ztw r)) ^^^ r) 16) ||| zsl ((ztw (ztw (ztw r)) ^^^ ztw (ztw r)) ^^^ r) 8) ||| ((ztw (ztw (ztw r)) ^^^ ztw r) ^^^ r)
def zfb (b : Nat) : Nat → Int32
  | 0 => nI 0
  | k + 1 => zus (zfb b k) 1 ^^^ (if nI (zlo (zus (nI b) k) 2) = 0 then nI 0 else (-520093696 : Int32))
def zSub : Nat → Int32 := fun j => nI (zSB j)
def zRes : Nat → Int32 := fun j => nI (zRS j)
def zFwd : Nat → Int32 := fun j => zmF (zSub j)
def zBwd : Nat → Int32 := fun j => zmB (zRes j)
def zFal : Nat → Int32 := fun b => zfb b 4
def zrr (w : Int32) (n : Nat) : Int32 := zus w n ||| zsl w (32 - n)
def zsw (w : Int32) : Int32 := ((zsl (nI (zSB (zby w 0))) 24 ||| zsl (nI (zSB (zby w 1))) 16) ||| zsl (nI (zSB (zby w 2))) 8) ||| nI (zSB (zby w 3))
def zrt (t : Int32) : Int32 := zsl t 8 ||| nI (zby t 0)
/-- the key schedule: round keys and the constant after n steps -/
def zkx (S T : Int32 → Int32) (f : Nat → Int32) : Nat → (Nat → Int32) × Int32
  | 0 => (f, nI 1)
  | n + 1 => if nI ((n + 4) % 4) = 0 then (upd (zkx S T f n).1 (n + 4) ((zkx S T f n).1 n ^^^ (S (zrt ((zkx S T f n).1 (n + 3))) ^^^ zsl (zkx S T f n).2 24)), T (zkx S T f n).2)
    else (upd (zkx S T f n).1 (n + 4) ((zkx S T f n).1 n ^^^ (zkx S T f n).1 (n + 3)), (zkx S T f n).2)
def zk4 (f : Nat → Int32) (a b c d : Int32) : Nat → Int32 := upd (upd (upd (upd f 0 a) 1 b) 2 c) 3 d
def ztx (w : Int32) : Int32 := ((zBwd (zSB (zby w 0)) ^^^ zrr (zBwd (zSB (zby w 1))) 8) ^^^ zrr (zBwd (zSB (zby w 2))) 16) ^^^ zrr (zBwd (zSB (zby w 3))) 24
def zTK (rk : Nat → Int32) : Nat → Int32 := fun i => if i < 4 ∨ 40 ≤ i then rk i else ztx (rk i)
def zfc (st : Nat → Int32) (c : Nat) : Int32 := ((zFwd (zby (st c) 0) ^^^ zrr (zFwd (zby (st ((c + 1) % 4)) 1)) 8) ^^^ zrr (zFwd (zby (st ((c + 2) % 4)) 2)) 16) ^^^ zrr (zFwd (zby (st ((c + 3) % 4)) 3)) 24
def zrf (rk st : Nat → Int32) : Nat → Nat → Int32
  | 0 => fun j => st j ^^^ rk j
  | n + 1 => fun c => zfc (zrf rk st n) c ^^^ rk (4 * (n + 1) + c)
def zlc (st : Nat → Int32) (c : Nat) : Int32 := (zsl (nI (zSB (zby (st c) 0))) 24 ||| zsl (nI (zSB (zby (st ((c + 1) % 4)) 1))) 16) ||| (zsl (nI (zSB (zby (st ((c + 2) % 4)) 2))) 8 ||| nI (zSB (zby (st ((c + 3) % 4)) 3)))
def zen (rk st : Nat → Int32) : Nat → Int32 := fun c => zlc (zrf rk st 9) c ^^^ rk (40 + c)
def zbc (st : Nat → Int32) (c : Nat) : Int32 := ((zBwd (zby (st c) 0) ^^^ zrr (zBwd (zby (st ((c + 3) % 4)) 1)) 8) ^^^ zrr (zBwd (zby (st ((c + 2) % 4)) 2)) 16) ^^^ zrr (zBwd (zby (st ((c + 1) % 4)) 3)) 24
def zrb (tk st : Nat → Int32) : Nat → Nat → Int32
  | 0 => fun j => st j ^^^ tk (40 + j)
  | n + 1 => fun c => zbc (zrb tk st n) c ^^^ tk (4 * (9 - n) + c)
def zlb (st : Nat → Int32) (c : Nat) : Int32 := (zsl (zRes (zby (st c) 0)) 24 ||| zsl (zRes (zby (st ((c + 3) % 4)) 1)) 16) ||| (zsl (zRes (zby (st ((c + 2) % 4)) 2)) 8 ||| zRes (zby (st ((c + 1) % 4)) 3))
def zde (tk st : Nat → Int32) : Nat → Int32 := fun c => zlb (zrb tk st 9) c ^^^ tk c
/-- the block moved by four bits, by one bit -/
def zms (s : Nat → Int32) : Nat → Int32 := fun c => if c = 0 then zus (s 0) 4 ^^^ zFal (zlo (s 3) 16) else zus (s c) 4 ||| zsl (s (c - 1)) 28
def zmo (s : Nat → Int32) : Nat → Int32 := fun c => if c = 0 then zus (s 0) 1 ^^^ (if nI (zlo (s 3) 2) = 0 then nI 0 else (-520093696 : Int32)) else zus (s c) 1 ||| zsl (s (c - 1)) 31
def znb (X : Nat → Int32) (k : Nat) : Nat := zlo (zus (X (k / 8)) (28 - 4 * (k % 8))) 16
def zab (mul X : Nat → Int32) : Nat → Nat → Int32
  | 0 => fun _ => nI 0
  | n + 1 => fun c => zms (zab mul X n) c ^^^ mul (4 * znb X (31 - n) + c)
def zpd : Nat → Int32
  | 0 => nI 0 - 1
  | i + 1 => nI i
def zpm (m : Nat → Int32) (b : Nat) (s : Nat → Int32) (i : Nat) : Nat → Int32 := fun j => if 4 * b ≤ j ∧ j < 4 * b + i then s (j - 4 * b) else m j
def zlw (b : Nat) : Nat := if b % 2 = 1 then 1 else if b % 4 = 2 then 2 else if b % 8 = 4 then 4 else 8
def zcb (m : Nat → Int32) : Nat → Nat → Int32
  | 0 => m
  | i + 1 => if nI (zlw (i + 3)) = nI (i + 3) then zcb m i else zpm (zcb m i) (i + 3) (fun c => zcb m i (4 * zlw (i + 3) + c) ^^^ zcb m i (4 * (i + 3 - zlw (i + 3)) + c)) 4
def zH (rk : Nat → Int32) : Nat → Int32 := zen rk (fun _ => nI 0)
def zmm (rk mul : Nat → Int32) : Nat → Int32 := zcb (zpm (zpm (zpm (zpm (zfil mul (fun _ => nI 0) 4) 8 (zH rk) 4) 4 (zmo (zH rk)) 4) 2 (zmo (zmo (zH rk))) 4) 1 (zmo (zmo (zmo (zH rk)))) 4) 13
def zrq (q : Int32) : Nat := (q.toInt % 11).toNat
/-! BlockSealerModel -/
def ztm (x : Int32) : Int32 := if nI 2 * x ≤ nI 255 then nI 2 * x else (nI 2 * x) ^^^ nI 283
def ztr (x y : Int32) : Nat → Int32 × Int32
  | 0 => (nI 0, x)
  | k + 1 => (if nI (zlo (zsr y k) 2) = nI 1 then (ztr x y k).1 ^^^ (ztr x y k).2 else (ztr x y k).1, ztm (ztr x y k).2)
def ztimes (x y : Int32) : Int32 := (ztr x y 8).1
def zsrch (P : Nat → Bool) : Nat → Nat → Nat
  | 0, _ => 0
  | n + 1, y => if P y = true then y else zsrch P n (y + 1)
def zinv (x : Int32) : Nat := zsrch (fun y => decide (ztimes x (nI y) = nI 1)) 255 1
def zbit (v : Int32) (k : Nat) : Int32 := ((((zsr v k ^^^ zsr v ((k + 4) % 8)) ^^^ zsr v ((k + 5) % 8)) ^^^ zsr v ((k + 6) % 8)) ^^^ zsr v ((k + 7) % 8)) ^^^ zsr (nI 99) k
def zsp (v : Int32) : Nat → Int32
  | 0 => nI 0
  | k + 1 => zsp v k ||| zsl (nI (zlo (zbit v k) 2)) k
def zsb (w : Int32) : Nat → Int32
  | 0 => nI 0
  | k + 1 => zsl (zsb w k) 8 ||| nI (zSB (zby w k))
def zor (x : Int32) : Nat := zsrch (fun j => decide (nI (zSB j) = x)) 256 0
/-- steps on the sixteen bytes -/
def zak (ks : Nat → Int32) (q : Nat) (Z : Nat → Nat) : Nat → Nat := fun j => Z j ^^^ zby (ks (4 * q + j / 4)) (j % 4)
def zrp (Z : Nat → Nat) : Nat → Nat := fun j => zSB (Z j)
def zrs (Z : Nat → Nat) : Nat → Nat := fun j => zRS (Z j)
def zsh (Z : Nat → Nat) : Nat → Nat := fun j => Z ((j % 4 + 4 * (j / 4 + j % 4)) % 16)
def zmx (Z : Nat → Nat) : Nat → Nat := fun j => ((ztN (Z j) ^^^ (ztN (Z (j / 4 * 4 + (j + 1) % 4)) ^^^ Z (j / 4 * 4 + (j + 1) % 4))) ^^^ Z (j / 4 * 4 + (j + 2) % 4)) ^^^ Z (j / 4 * 4 + (j + 3) % 4)
def zly (w : Nat → Int32) : Nat → Nat := fun j => zby (w (j / 4)) (j % 4)
def zjn (Z : Nat → Nat) (c : Nat) : Int32 := ((zsl (nI (Z (4 * c))) 24 ||| zsl (nI (Z (4 * c + 1))) 16) ||| zsl (nI (Z (4 * c + 2))) 8) ||| nI (Z (4 * c + 3))
def zrd (ks : Nat → Int32) (Z : Nat → Nat) : Nat → Nat → Nat
  | 0 => zak ks 0 Z
  | n + 1 => zak ks (n + 1) (zmx (zsh (zrp (zrd ks Z n))))
/-- the last round's bytes before its key -/
def zrl (ks : Nat → Int32) (Z : Nat → Nat) : Nat → Nat := zsh (zrp (zrd ks Z 9))
def zre (ks : Nat → Int32) (Z : Nat → Nat) : Nat → Nat := zak ks 10 (zrl ks Z)
def zmx3 (Z : Nat → Nat) : Nat → Nat := zmx (zmx (zmx Z))
def zsh3 (Z : Nat → Nat) : Nat → Nat := zsh (zsh (zsh Z))
/-- backwards: bytes before restoreAll in the n-th round, and behind it -/
def zbk (ks : Nat → Int32) (Z : Nat → Nat) : Nat → Nat → Nat
  | 0 => zsh3 (zak ks 10 Z)
  | n + 1 => zsh3 (zmx3 (zak ks (9 - n) (zrs (zbk ks Z n))))
def zrx (ks : Nat → Int32) (Z : Nat → Nat) : Nat → Nat := zak ks 0 (zrs (zbk ks Z 9))
/-- the hash of the model: what is moved, and the product, after i bits -/
def zmv (s : Nat → Int32) : Nat → Nat → Int32
  | 0 => s
  | n + 1 => zmo (zmv s n)
def zpt (X s : Nat → Int32) : Nat → Nat → Int32
  | 0 => fun _ => nI 0
  | i + 1 => fun c => if nI (zlo (zsr (X (i / 32)) (31 - i % 32)) 2) = nI 1 then zpt X s i c ^^^ zmv s i c else zpt X s i c
end
section
/-! FACTS that the walks use -/
set_option maxRecDepth 100000
theorem ztN_lt : ∀ n, n < 256 → ztN n < 256 := by decide +kernel
theorem zxt_lt : ∀ n, n < 256 → n ^^^ ztN n < 256 := by decide +kernel
theorem ztw_n : ∀ n, n < 256 → ztw (nI n) = nI (ztN n) := by decide +kernel
theorem ztm_n : ∀ n, n < 256 → ztm (nI n) = nI (ztN n) := by decide +kernel
theorem zpw_lt (k : Nat) : zpw k < 256 := by
  induction k with
  | zero => decide
  | succ k ih => exact zxt_lt _ ih
theorem zpw_s (k : Nat) : nI (zpw k) ^^^ ztw (nI (zpw k)) = nI (zpw (k + 1)) := by
  rw [ztw_n _ (zpw_lt k), nx_xor]
  rfl
theorem zfb_t {b k : Nat} (h : nI (zlo (zus (nI b) k) 2) = 0) : zus (zfb b k) 1 ^^^ nI 0 = zfb b (k + 1) := by
  show _ = zus (zfb b k) 1 ^^^ (if nI (zlo (zus (nI b) k) 2) = 0 then nI 0 else (-520093696 : Int32))
  rw [if_pos h]
theorem zfb_f {b k : Nat} (h : ¬ nI (zlo (zus (nI b) k) 2) = 0) : zus (zfb b k) 1 ^^^ (-520093696 : Int32) = zfb b (k + 1) := by
  show _ = zus (zfb b k) 1 ^^^ (if nI (zlo (zus (nI b) k) 2) = 0 then nI 0 else (-520093696 : Int32))
  rw [if_neg h]
theorem zkx_t {S T : Int32 → Int32} {f : Nat → Int32} {n : Nat} (h : nI ((n + 4) % 4) = 0) : zkx S T f (n + 1) = (upd (zkx S T f n).1 (n + 4) ((zkx S T f n).1 n ^^^ (S (zrt ((zkx S T f n).1 (n + 3))) ^^^ zsl (zkx S T f n).2 24)), T (zkx S T f n).2) := by
  show (if _ then _ else _) = _
  rw [if_pos h]
theorem zkx_f {S T : Int32 → Int32} {f : Nat → Int32} {n : Nat} (h : ¬ nI ((n + 4) % 4) = 0) : zkx S T f (n + 1) = (upd (zkx S T f n).1 (n + 4) ((zkx S T f n).1 n ^^^ (zkx S T f n).1 (n + 3)), (zkx S T f n).2) := by
  show (if _ then _ else _) = _
  rw [if_neg h]
theorem zrb_s {tk st : Nat → Int32} {i : Nat} (h : i + 1 ≤ 9) : zrb tk st (9 - i) = fun c => zbc (zrb tk st (9 - (i + 1))) c ^^^ tk (4 * (i + 1) + c) := by
  obtain ⟨n, hn⟩ : ∃ n, 9 - i = n + 1 := ⟨8 - i, by omega⟩
  rw [hn, show 9 - (i + 1) = n by omega]
  funext c
  show zbc (zrb tk st n) c ^^^ tk (4 * (9 - n) + c) = _
  rw [show 9 - n = i + 1 by omega]
theorem zab_s {mul X : Nat → Int32} {i : Nat} (h : i + 1 ≤ 32) : zab mul X (32 - i) = fun c => zms (zab mul X (32 - (i + 1))) c ^^^ mul (4 * znb X i + c) := by
  obtain ⟨n, hn⟩ : ∃ n, 32 - i = n + 1 := ⟨31 - i, by omega⟩
  rw [hn, show 32 - (i + 1) = n by omega]
  funext c
  show zms (zab mul X n) c ^^^ mul (4 * znb X (31 - n) + c) = _
  rw [show 31 - n = i by omega]
theorem zpd_dec (n : Nat) : nI n + Int32.ofInt (-1) = zpd n := by
  cases n with
  | zero => decide
  | succ n => exact zdec n
theorem zpm_0 (m : Nat → Int32) (b : Nat) (s : Nat → Int32) : zpm m b s 0 = m := by
  funext j
  unfold zpm
  rw [if_neg (by omega)]
theorem zpm_s {m : Nat → Int32} {b : Nat} {s : Nat → Int32} {i : Nat} {x : Int32} (h : x = s i) : upd (zpm m b s i) (4 * b + i) x = zpm m b s (i + 1) := by
  funext j
  unfold upd zpm
  by_cases h1 : j = 4 * b + i
  · subst h1
    rw [if_pos rfl, if_pos (by omega), h]
    congr 1
    omega
  · rw [if_neg h1]
    by_cases h2 : 4 * b ≤ j ∧ j < 4 * b + i
    · rw [if_pos h2, if_pos (by omega)]
    · rw [if_neg h2, if_neg (by omega)]
theorem zpm_out {m : Nat → Int32} {b : Nat} {s : Nat → Int32} {i j : Nat} (h : j < 4 * b) : zpm m b s i j = m j := by
  unfold zpm
  rw [if_neg (by omega)]
theorem zlw_n : ∀ b, b < 16 → 0 < b → nI b &&& (-(nI b)) = nI (zlw b) ∧ zlw b ≤ b ∧ 0 < zlw b := by decide +kernel
theorem zs3 {n : Nat} (h : n < 2 ^ 31) : zsr (nI n) 3 = nI (n / 8) := pk_shrN h (nI 3 &&& 31) 3 (by decide)
theorem zrq_lt (q : Int32) : zrq q < 11 := by
  unfold zrq
  omega
theorem zrq_t {q : Int32} (h : 0 ≤ q - q / nI 11 * nI 11) : q - q / nI 11 * nI 11 = nI (zrq q) := by
  have h11 : (nI 11).toInt = 11 := by decide
  have hr := rem_toInt q (nI 11)
  rw [h11] at hr
  have hb := tmod_bounds (a := q.toInt) (M := 11) (by decide)
  have hd := Int.tmod_add_mul_tdiv q.toInt 11
  have h0 : (0 : Int) ≤ (q - q / nI 11 * nI 11).toInt := Int32.le_iff_toInt_le.mp h
  apply Int32.toInt_inj.mp
  rw [nI_toInt (Nat.lt_trans (zrq_lt q) (by decide)), hr]
  unfold zrq
  omega
theorem zrq_f {q : Int32} (h : ¬ 0 ≤ q - q / nI 11 * nI 11) : (q - q / nI 11 * nI 11) + Int32.ofInt 11 = nI (zrq q) := by
  have h11 : (nI 11).toInt = 11 := by decide
  have h11' : (Int32.ofInt 11).toInt = 11 := by decide
  have hr := rem_toInt q (nI 11)
  rw [h11] at hr
  have hb := tmod_bounds (a := q.toInt) (M := 11) (by decide)
  have hd := Int.tmod_add_mul_tdiv q.toInt 11
  have h0 : ¬ (0 : Int) ≤ (q - q / nI 11 * nI 11).toInt := fun z => h (Int32.le_iff_toInt_le.mpr z)
  apply Int32.toInt_inj.mp
  rw [Int32.toInt_add, nI_toInt (Nat.lt_trans (zrq_lt q) (by decide)), hr, h11']
  rw [hr] at h0
  have e : (Int.bmod (q.toInt.tmod 11 + 11) (2 ^ 32)) = q.toInt.tmod 11 + 11 := Int.bmod_eq_of_le (by omega) (by omega)
  rw [e]
  unfold zrq
  omega
end
section
/-! FACTS for the walks of the reference -/
set_option maxRecDepth 100000
/-! the low bits of an arithmetic shift -/
def bt (x : Int32) (i : Nat) : Bool := x.toBitVec.getLsbD i
theorem b_ext {x y : Int32} (h : ∀ i, i < 32 → bt x i = bt y i) : x = y := Int32.toBitVec_inj.mp (BitVec.eq_of_getLsbD_eq (fun i hi => h i hi))
theorem b_or (x y : Int32) (i : Nat) : bt (x ||| y) i = (bt x i || bt y i) := by unfold bt; rw [Int32.toBitVec_or, BitVec.getLsbD_or]
theorem b_and (x y : Int32) (i : Nat) : bt (x &&& y) i = (bt x i && bt y i) := by unfold bt; rw [Int32.toBitVec_and, BitVec.getLsbD_and]
theorem b_xor (x y : Int32) (i : Nat) : bt (x ^^^ y) i = (bt x i ^^ bt y i) := by unfold bt; rw [Int32.toBitVec_xor, BitVec.getLsbD_xor]
theorem b_big {x : Int32} {i : Nat} (h : 32 ≤ i) : bt x i = false := BitVec.getLsbD_of_ge _ _ h
theorem b_0 (i : Nat) : bt 0 i = false := BitVec.getLsbD_zero
theorem s_l : ∀ n, n < 32 → ((nI n &&& 31).toBitVec.smod 32).toNat = n := by decide +kernel
theorem s_u : ∀ n, n < 32 → (((nI n).toUInt32 &&& Int32.toUInt32 31).toBitVec % 32).toNat = n := by decide +kernel
theorem b_shl (n : Nat) (hn : n < 32) (x : Int32) {i : Nat} (hi : i < 32) : bt (zsl x n) i = (decide (n ≤ i) && bt x (i - n)) := by
  unfold bt zsl
  rw [Int32.toBitVec_shiftLeft]
  show (x.toBitVec <<< ((nI n &&& 31).toBitVec.smod 32).toNat).getLsbD i = _
  rw [s_l n hn, BitVec.getLsbD_shiftLeft]
  rcases Nat.lt_or_ge i n with h | h
  · simp [h, Nat.not_le.mpr h]
  · simp [hi, h, Nat.not_lt.mpr h]
theorem b_ushr (n : Nat) (hn : n < 32) (x : Int32) (i : Nat) : bt (zus x n) i = bt x (n + i) := by
  show (x.toUInt32 >>> ((nI n).toUInt32 &&& Int32.toUInt32 31)).toBitVec.getLsbD i = x.toUInt32.toBitVec.getLsbD (n + i)
  rw [UInt32.toBitVec_shiftRight]
  show (x.toUInt32.toBitVec >>> (((nI n).toUInt32 &&& Int32.toUInt32 31).toBitVec % 32).toNat).getLsbD i = _
  rw [s_u n hn, BitVec.getLsbD_ushiftRight]
theorem b_sshr (n : Nat) (hn : n < 32) (x : Int32) {i : Nat} (hi : i < 32) : bt (zsr x n) i = if n + i < 32 then bt x (n + i) else bt x 31 := by
  unfold bt zsr
  rw [Int32.toBitVec_shiftRight]
  show (x.toBitVec.sshiftRight ((nI n &&& 31).toBitVec.smod 32).toNat).getLsbD i = _
  rw [s_l n hn, BitVec.getLsbD_sshiftRight, BitVec.msb_eq_getLsbD_last]
  simp [hi]
theorem b_nI (n i : Nat) : bt (nI n) i = (decide (i < 32) && n.testBit i) := by
  show (BitVec.ofNat 32 n).getLsbD i = _
  rw [BitVec.getLsbD_ofNat]
theorem b_w (w : Int32) (i : Nat) : w.toBitVec.toNat.testBit i = bt w i := rfl
theorem zby_bit (w : Int32) (r i : Nat) : (zby w r).testBit i = (decide (i < 8) && bt w (24 - 8 * r + i)) := by
  unfold zby
  rw [show 256 = 2 ^ 8 from rfl, Nat.testBit_mod_two_pow, Nat.testBit_div_two_pow, b_w, Nat.add_comm i]
theorem zlo_bit (w : Int32) (k i : Nat) : (zlo w (2 ^ k)).testBit i = (decide (i < k) && bt w i) := by
  unfold zlo
  rw [Nat.testBit_mod_two_pow, b_w]
theorem b_255 (i : Nat) : bt (nI 255) i = decide (i < 8) := by
  rcases Nat.lt_or_ge i 32 with h | h
  · exact (by decide +kernel : ∀ i, i < 32 → bt (nI 255) i = decide (i < 8)) i h
  · rw [b_big h, decide_eq_false (by omega)]
theorem zsrb (w : Int32) {i : Nat} (h : i < 4) : zsr w (24 - 8 * i) &&& nI 255 = nI (zby w i) := by
  apply b_ext
  intro j hj
  rw [b_and, b_255, b_sshr _ (by omega) _ hj, b_nI, zby_bit]
  by_cases h8 : j < 8
  · have h32 : 24 - 8 * i + j < 32 := by omega
    simp [h8, hj, h32]
  · simp [h8]
/-! multiplication of bytes -/
def ztrN (x y : Nat) : Nat → Nat × Nat
  | 0 => (0, x)
  | k + 1 => (if y / 2 ^ k % 2 = 1 then (ztrN x y k).1 ^^^ (ztrN x y k).2 else (ztrN x y k).1, ztN (ztrN x y k).2)
theorem zxor_lt {a b : Nat} (ha : a < 256) (hb : b < 256) : a ^^^ b < 256 := Nat.xor_lt_two_pow (n := 8) ha hb
theorem ztrN_lt (x y : Nat) (hx : x < 256) (k : Nat) : (ztrN x y k).1 < 256 ∧ (ztrN x y k).2 < 256 := by
  induction k with
  | zero => exact ⟨by show 0 < 256; decide, hx⟩
  | succ k ih =>
    refine ⟨?_, ztN_lt _ ih.2⟩
    show (if _ then _ else _) < 256
    split
    · exact zxor_lt ih.1 ih.2
    · exact ih.1
theorem zsr_n {y k : Nat} (hy : y < 256) (hk : k < 8) : zlo (zsr (nI y) k) 2 = y / 2 ^ k % 2 := by
  unfold zlo zsr
  rw [pk_shrN (by omega) (nI k &&& 31) k (s_l k (by omega)), pk_tn (Nat.lt_of_le_of_lt (Nat.div_le_self _ _) (by omega))]
theorem ztr_n (x y : Nat) (hx : x < 256) (hy : y < 256) (k : Nat) (hk : k ≤ 8) : ztr (nI x) (nI y) k = (nI (ztrN x y k).1, nI (ztrN x y k).2) := by
  induction k with
  | zero => rfl
  | succ k ih =>
    have ih := ih (by omega)
    obtain ⟨l1, l2⟩ := ztrN_lt x y hx k
    show (if nI (zlo (zsr (nI y) k) 2) = nI 1 then (ztr (nI x) (nI y) k).1 ^^^ (ztr (nI x) (nI y) k).2 else (ztr (nI x) (nI y) k).1, ztm (ztr (nI x) (nI y) k).2) = (nI (if y / 2 ^ k % 2 = 1 then _ else _), nI (ztN _))
    rw [ih, zsr_n hy (by omega), ztm_n _ l2, nx_xor]
    have hb : y / 2 ^ k % 2 < 2 := Nat.mod_lt _ (by decide)
    by_cases h : y / 2 ^ k % 2 = 1
    · rw [if_pos h, if_pos (by rw [h])]
    · rw [if_neg h, if_neg (fun z => h ((nI_eq (by omega) (by decide)).mp z))]
def ztmN (x y : Nat) : Nat := (ztrN x y 8).1
theorem ztimes_n {x y : Nat} (hx : x < 256) (hy : y < 256) : ztimes (nI x) (nI y) = nI (ztmN x y) := by
  unfold ztimes
  rw [ztr_n x y hx hy 8 (Nat.le_refl _)]
  rfl
theorem ztmN_lt {x : Nat} (y : Nat) (hx : x < 256) : ztmN x y < 256 := (ztrN_lt x y hx 8).1
theorem ztmN_2 : ∀ n, n < 256 → ztmN 2 n = ztN n := by decide +kernel
theorem ztmN_3 : ∀ n, n < 256 → ztmN 3 n = ztN n ^^^ n := by decide +kernel
theorem ztimes_2 {n : Nat} (h : n < 256) : ztimes (nI 2) (nI n) = nI (ztN n) := by rw [ztimes_n (by decide) h, ztmN_2 n h]
theorem ztimes_3 {n : Nat} (h : n < 256) : ztimes (nI 3) (nI n) = nI (ztN n ^^^ n) := by rw [ztimes_n (by decide) h, ztmN_3 n h]
/-! searching -/
theorem zsrch_hit {P : Nat → Bool} {n y z : Nat} (h : P y = true) (e : zsrch P (n + 1) y = z) : y = z := by
  rw [← e]
  show y = if P y = true then y else _
  rw [if_pos h]
theorem zsrch_miss {P : Nat → Bool} {n y z : Nat} (h : ¬ P y = true) (e : zsrch P (n + 1) y = z) : zsrch P n (y + 1) = z := by
  rw [← e]
  show _ = if P y = true then y else _
  rw [if_neg h]
/-- the only place that hits is found -/
theorem zsrch_at {P : Nat → Bool} {z : Nat} (hz : P z = true) (hu : ∀ y, y < z → ¬ P y = true) : ∀ n y, y ≤ z → z < y + n → zsrch P n y = z := by
  intro n
  induction n with
  | zero => intro y h1 h2; omega
  | succ n ih =>
    intro y h1 h2
    show (if P y = true then y else zsrch P n (y + 1)) = z
    by_cases h : y = z
    · rw [h, if_pos hz]
    · rw [if_neg (hu y (by omega))]
      exact ih (y + 1) (by omega) (by omega)
theorem zsrch_no {P : Nat → Bool} : ∀ n y, (∀ z, y ≤ z → z < y + n → ¬ P z = true) → zsrch P n y = 0 := by
  intro n
  induction n with
  | zero => intro y _; rfl
  | succ n ih =>
    intro y h
    show (if P y = true then y else zsrch P n (y + 1)) = 0
    rw [if_neg (h y (by omega) (by omega))]
    exact ih (y + 1) (fun z h1 h2 => h z (by omega) (by omega))
theorem zRS_SB : ∀ p, p < 256 → zRS (zSB p) = p := by decide +kernel
theorem zSB_RS : ∀ p, p < 256 → zSB (zRS p) = p := by decide +kernel
theorem zor_n {n : Nat} (h : n < 256) : zor (nI n) = zRS n := by
  have hP : ∀ j, (fun j => decide (nI (zSB j) = nI n)) j = true ↔ zSB j = n := by
    intro j
    have := zSB_lt j
    rw [decide_eq_true_iff, nI_eq (by omega) (by omega)]
  refine zsrch_at ((hP _).mpr (zSB_RS n h)) (fun y hy z => ?_) 256 0 (Nat.zero_le _) (by have := zRS_lt n; omega)
  have e := (hP y).mp z
  have hr := zRS_lt n
  have hy2 : y < 256 := by omega
  rw [← e, zRS_SB y hy2] at hy
  omega
/-! the sixteen bytes stay bytes -/
def zB (Z : Nat → Nat) : Prop := ∀ j, j < 16 → Z j < 256
theorem zB_ak {ks : Nat → Int32} {q : Nat} {Z : Nat → Nat} (h : zB Z) : zB (zak ks q Z) := fun j hj => zxor_lt (h j hj) (zby_lt _ _)
theorem zB_rp {Z : Nat → Nat} : zB (zrp Z) := fun j _ => zSB_lt _
theorem zB_rs {Z : Nat → Nat} : zB (zrs Z) := fun j _ => zRS_lt _
theorem zB_sh {Z : Nat → Nat} (h : zB Z) : zB (zsh Z) := fun j _ => h _ (Nat.mod_lt _ (by decide))
theorem zB_mx {Z : Nat → Nat} (h : zB Z) : zB (zmx Z) := fun j hj => zxor_lt (zxor_lt (zxor_lt (ztN_lt _ (h j hj)) (zxor_lt (ztN_lt _ (h _ (by omega))) (h _ (by omega)))) (h _ (by omega))) (h _ (by omega))
theorem zB_ly {w : Nat → Int32} : zB (zly w) := fun j _ => zby_lt _ _
theorem zB_rd {ks : Nat → Int32} {Z : Nat → Nat} (h : zB Z) (n : Nat) : zB (zrd ks Z n) := by
  cases n with
  | zero => exact zB_ak h
  | succ n => exact zB_ak (zB_mx (zB_sh zB_rp))
theorem zB_rl {ks : Nat → Int32} {Z : Nat → Nat} : zB (zrl ks Z) := zB_sh zB_rp
theorem zB_re {ks : Nat → Int32} {Z : Nat → Nat} : zB (zre ks Z) := zB_ak zB_rl
theorem zB_bk {ks : Nat → Int32} {Z : Nat → Nat} (h : zB Z) (n : Nat) : zB (zbk ks Z n) := by
  cases n with
  | zero => exact zB_sh (zB_sh (zB_sh (zB_ak h)))
  | succ n => exact zB_sh (zB_sh (zB_sh (zB_mx (zB_mx (zB_mx (zB_ak zB_rs))))))
theorem zB_rx {ks : Nat → Int32} {Z : Nat → Nat} : zB (zrx ks Z) := zB_ak zB_rs
theorem zbk_s {ks : Nat → Int32} {Z : Nat → Nat} {k : Nat} (h : k + 1 ≤ 9) : zbk ks Z (9 - k) = zsh (zsh (zsh (zmx (zmx (zmx (zak ks (k + 1) (zrs (zbk ks Z (9 - (k + 1))))))))))  := by
  obtain ⟨n, hn⟩ : ∃ n, 9 - k = n + 1 := ⟨8 - k, by omega⟩
  rw [hn, show 9 - (k + 1) = n by omega]
  show zsh3 (zmx3 (zak ks (9 - n) (zrs (zbk ks Z n)))) = _
  rw [show 9 - n = k + 1 by omega]
  rfl
/-! laying a block -/
def zw4 (a b c d : Int32) : Nat → Int32 := fun i => if i = 0 then a else if i = 1 then b else if i = 2 then c else d
def zl4 (f : Nat → Int32) (w : Nat → Int32) (j : Nat) : Nat → Int32 := fun i => if i < 16 ∧ i % 4 < j then nI (zly w i) else f i
theorem zl4_0 (f w : Nat → Int32) : zl4 f w 0 = f := by
  funext i
  unfold zl4
  rw [if_neg (by omega)]
theorem zl4_s {f : Nat → Int32} {a b c d : Int32} {j : Nat} (hj : j < 4) : upd (upd (upd (upd (zl4 f (zw4 a b c d) j) j (nI (zby a j))) (4 + j) (nI (zby b j))) (8 + j) (nI (zby c j))) (12 + j) (nI (zby d j)) = zl4 f (zw4 a b c d) (j + 1) := by
  funext i
  unfold upd zl4 zly
  by_cases h3 : i = 12 + j
  · subst h3
    rw [if_pos rfl, if_pos (by omega), show (12 + j) / 4 = 3 by omega, show (12 + j) % 4 = j by omega]
    rfl
  · rw [if_neg h3]
    by_cases h2 : i = 8 + j
    · subst h2
      rw [if_pos rfl, if_pos (by omega), show (8 + j) / 4 = 2 by omega, show (8 + j) % 4 = j by omega]
      rfl
    · rw [if_neg h2]
      by_cases h1 : i = 4 + j
      · subst h1
        rw [if_pos rfl, if_pos (by omega), show (4 + j) / 4 = 1 by omega, show (4 + j) % 4 = j by omega]
        rfl
      · rw [if_neg h1]
        by_cases h0 : i = j
        · subst h0
          rw [if_pos rfl, if_pos (by omega), show i / 4 = 0 by omega, show i % 4 = i by omega]
          rfl
        · rw [if_neg h0]
          by_cases h : i < 16 ∧ i % 4 < j
          · rw [if_pos h, if_pos (by omega)]
          · rw [if_neg h, if_neg (by omega)]
theorem zl4_end {f w : Nat → Int32} {i : Nat} (h : i < 16) : zl4 f w 4 i = zbz (zly w) i := by
  unfold zl4
  rw [if_pos (by omega)]
  rfl
theorem zly_w {p : Nat → Int32} {j : Nat} (h : j < 16) : zbz (zly (zw4 (p 0) (p 1) (p 2) (p 3))) j = zbz (zly p) j := by
  unfold zbz zly
  have h4 : j / 4 = 0 ∨ j / 4 = 1 ∨ j / 4 = 2 ∨ j / 4 = 3 := by omega
  rcases h4 with e | e | e | e <;> rw [e] <;> rfl
theorem zly_0 {x : Int32} {j : Nat} : zbz (zly (zw4 x x x x)) j = zbz (zly (fun _ => x)) j := by
  unfold zbz zly zw4
  split
  · rfl
  · split
    · rfl
    · split <;> rfl
/-! moving by one bit, as the reference does -/
theorem zlo_2 (w : Int32) : zlo w 2 = 0 ∨ zlo w 2 = 1 := by
  have := zlo_lt w (k := 2) (by decide)
  omega
theorem zx0 (x : Int32) : x ^^^ nI 0 = x := by
  apply b_ext
  intro i hi
  rw [b_xor, show nI 0 = 0 from rfl, b_0, Bool.xor_false]
theorem zmb_f {s : Nat → Int32} (h : ¬ nI (zlo (s 3) 2) = nI 1) {j : Nat} : upd (zfid s (zmo s) 0) 0 (zus (s 0) 1) j = zmo s j := by
  have h0 : nI (zlo (s 3) 2) = 0 := by
    rcases zlo_2 (s 3) with e | e
    · rw [e]; rfl
    · exact absurd (by rw [e]) h
  unfold upd zfid
  by_cases h1 : j = 0
  · subst h1
    show zus (s 0) 1 = zus (s 0) 1 ^^^ (if nI (zlo (s 3) 2) = 0 then nI 0 else (-520093696 : Int32))
    rw [if_pos h0, zx0]
  · rw [if_neg h1, if_neg (by omega)]
theorem zmb_t {s : Nat → Int32} (h : nI (zlo (s 3) 2) = nI 1) {j : Nat} : upd (upd (zfid s (zmo s) 0) 0 (zus (s 0) 1)) 0 (zus (s 0) 1 ^^^ (-520093696 : Int32)) j = zmo s j := by
  have h0 : ¬ nI (zlo (s 3) 2) = 0 := by rw [h]; decide
  unfold upd zfid
  by_cases h1 : j = 0
  · subst h1
    show zus (s 0) 1 ^^^ (-520093696 : Int32) = zus (s 0) 1 ^^^ (if nI (zlo (s 3) 2) = 0 then nI 0 else (-520093696 : Int32))
    rw [if_neg h0]
  · rw [if_neg h1, if_neg h1, if_neg (by omega)]
theorem zfil_skip {f g : Nat → Int32} {n : Nat} (h : g n = f n) : zfil f g n = zfil f g (n + 1) := by
  funext j
  unfold zfil
  by_cases h1 : j < n
  · rw [if_pos h1, if_pos (by omega)]
  · rw [if_neg h1]
    by_cases h2 : j = n
    · subst h2
      rw [if_pos (by omega), h]
    · rw [if_neg (by omega)]
end
section
/-! the inverse of a byte: what the search finds -/
set_option maxRecDepth 100000
def zck (x : Nat) : Nat → Bool
  | 0 => true
  | y + 1 => !(Nat.beq (ztmN x y) 1) && zck x y
def zckR (lo : Nat) : Nat → Bool
  | 0 => true
  | n + 1 => zck (lo + n) (zIN (lo + n)) && zckR lo n
theorem zckR_0 : zckR 0 16 = true := by decide +kernel
theorem zckR_1 : zckR 16 16 = true := by decide +kernel
theorem zckR_2 : zckR 32 16 = true := by decide +kernel
theorem zckR_3 : zckR 48 16 = true := by decide +kernel
theorem zckR_4 : zckR 64 16 = true := by decide +kernel
theorem zckR_5 : zckR 80 16 = true := by decide +kernel
theorem zckR_6 : zckR 96 16 = true := by decide +kernel
theorem zckR_7 : zckR 112 16 = true := by decide +kernel
theorem zckR_8 : zckR 128 16 = true := by decide +kernel
theorem zckR_9 : zckR 144 16 = true := by decide +kernel
theorem zckR_10 : zckR 160 16 = true := by decide +kernel
theorem zckR_11 : zckR 176 16 = true := by decide +kernel
theorem zckR_12 : zckR 192 16 = true := by decide +kernel
theorem zckR_13 : zckR 208 16 = true := by decide +kernel
theorem zckR_14 : zckR 224 16 = true := by decide +kernel
theorem zckR_15 : zckR 240 16 = true := by decide +kernel
theorem zck_spec {x : Nat} : ∀ n, zck x n = true → ∀ y, y < n → ztmN x y ≠ 1 := by
  intro n
  induction n with
  | zero => intro _ y h; omega
  | succ n ih =>
    intro h y hy e
    have h : (!(Nat.beq (ztmN x n) 1) && zck x n) = true := h
    rw [Bool.and_eq_true] at h
    by_cases hn : y = n
    · subst hn
      have h1 := h.1
      rw [e] at h1
      cases h1
    · exact ih h.2 y (by omega) e
theorem zckR_spec {lo : Nat} : ∀ n, zckR lo n = true → ∀ b, b < n → zck (lo + b) (zIN (lo + b)) = true := by
  intro n
  induction n with
  | zero => intro _ x h; omega
  | succ n ih =>
    intro h b hb
    have h : (zck (lo + n) (zIN (lo + n)) && zckR lo n) = true := h
    rw [Bool.and_eq_true] at h
    by_cases hn : b = n
    · subst hn
      exact h.1
    · exact ih h.2 b (by omega)
theorem zckA_ok {x : Nat} (hx : x < 256) : zck x (zIN x) = true := by
  have h : x / 16 = 0 ∨ x / 16 = 1 ∨ x / 16 = 2 ∨ x / 16 = 3 ∨ x / 16 = 4 ∨ x / 16 = 5 ∨ x / 16 = 6 ∨ x / 16 = 7 ∨ x / 16 = 8 ∨ x / 16 = 9 ∨ x / 16 = 10 ∨ x / 16 = 11 ∨ x / 16 = 12 ∨ x / 16 = 13 ∨ x / 16 = 14 ∨ x / 16 = 15 := by omega
  rcases h with h | h | h | h | h | h | h | h | h | h | h | h | h | h | h | h
  · have e := zckR_spec 16 zckR_0 (x - 0) (by omega)
    rw [show 0 + (x - 0) = x by omega] at e
    exact e
  · have e := zckR_spec 16 zckR_1 (x - 16) (by omega)
    rw [show 16 + (x - 16) = x by omega] at e
    exact e
  · have e := zckR_spec 16 zckR_2 (x - 32) (by omega)
    rw [show 32 + (x - 32) = x by omega] at e
    exact e
  · have e := zckR_spec 16 zckR_3 (x - 48) (by omega)
    rw [show 48 + (x - 48) = x by omega] at e
    exact e
  · have e := zckR_spec 16 zckR_4 (x - 64) (by omega)
    rw [show 64 + (x - 64) = x by omega] at e
    exact e
  · have e := zckR_spec 16 zckR_5 (x - 80) (by omega)
    rw [show 80 + (x - 80) = x by omega] at e
    exact e
  · have e := zckR_spec 16 zckR_6 (x - 96) (by omega)
    rw [show 96 + (x - 96) = x by omega] at e
    exact e
  · have e := zckR_spec 16 zckR_7 (x - 112) (by omega)
    rw [show 112 + (x - 112) = x by omega] at e
    exact e
  · have e := zckR_spec 16 zckR_8 (x - 128) (by omega)
    rw [show 128 + (x - 128) = x by omega] at e
    exact e
  · have e := zckR_spec 16 zckR_9 (x - 144) (by omega)
    rw [show 144 + (x - 144) = x by omega] at e
    exact e
  · have e := zckR_spec 16 zckR_10 (x - 160) (by omega)
    rw [show 160 + (x - 160) = x by omega] at e
    exact e
  · have e := zckR_spec 16 zckR_11 (x - 176) (by omega)
    rw [show 176 + (x - 176) = x by omega] at e
    exact e
  · have e := zckR_spec 16 zckR_12 (x - 192) (by omega)
    rw [show 192 + (x - 192) = x by omega] at e
    exact e
  · have e := zckR_spec 16 zckR_13 (x - 208) (by omega)
    rw [show 208 + (x - 208) = x by omega] at e
    exact e
  · have e := zckR_spec 16 zckR_14 (x - 224) (by omega)
    rw [show 224 + (x - 224) = x by omega] at e
    exact e
  · have e := zckR_spec 16 zckR_15 (x - 240) (by omega)
    rw [show 240 + (x - 240) = x by omega] at e
    exact e
theorem ztmN_in : ∀ x, x < 256 → x ≠ 0 → ztmN x (zIN x) = 1 ∧ zIN x ≠ 0 := by decide +kernel
theorem ztmN_0 (y : Nat) : ztmN 0 y = 0 := by
  have h : ∀ k, ztrN 0 y k = (0, 0) := by
    intro k
    induction k with
    | zero => rfl
    | succ k ih =>
      show (if y / 2 ^ k % 2 = 1 then (ztrN 0 y k).1 ^^^ (ztrN 0 y k).2 else (ztrN 0 y k).1, ztN (ztrN 0 y k).2) = (0, 0)
      rw [ih]
      simp [ztN]
  show (ztrN 0 y 8).1 = 0
  rw [h]
theorem zinv_n {x : Nat} (hx : x < 256) : zinv (nI x) = zIN x := by
  have hP : ∀ y, y < 256 → ((fun y => decide (ztimes (nI x) (nI y) = nI 1)) y = true ↔ ztmN x y = 1) := by
    intro y hy
    have := ztmN_lt y hx
    rw [decide_eq_true_iff, ztimes_n hx hy, nI_eq (by omega) (by decide)]
  by_cases h0 : x = 0
  · subst h0
    have : zIN 0 = 0 := by decide +kernel
    rw [this]
    refine zsrch_no 255 1 (fun z h1 h2 hz => ?_)
    have := (hP z (by omega)).mp hz
    rw [ztmN_0] at this
    omega
  · obtain ⟨e1, e2⟩ := ztmN_in x hx h0
    have hl := zIN_lt x
    refine zsrch_at ((hP _ hl).mpr e1) (fun y hy hz => ?_) 255 1 (by omega) (by omega)
    exact zck_spec (zIN x) (zckA_ok hx) y hy ((hP y (by omega)).mp hz)
theorem zsp_n : ∀ x, x < 256 → zsp (nI (zIN x)) 8 = nI (zSB x) := by decide +kernel
end
section
set_option maxRecDepth 100000
set_option maxHeartbeats 4000000 in
/-- BlockSealer.twice (int) -/
theorem mX_twice (l : Launch) (D : va_G) (cA : ClassId) (x : Int32) : MetW l D cA yX0_twice (ws_ yX0_twice cX0_twice 1 (some .int)) (zroom 0) ([.int x] : List Value) [] [] (some (ztw x)) := by
  refine zr_startI RX0 rfl (by decide) (Nat.le_of_ble_eq_true rfl) ?_
  intro p e s m below meth c A ls Q hx hb hml hown hts hK hP hD hA hS hret hl
  have hl : lv_has ls 1 [(0, .int x)] := hl
  generalize hH : s.heap = H at hP
  have hS : va_S A s.heap H [] := by rw [← hH]; exact hS
  generalize hlo : ([] : List Loc) = locs at hS ⊢
  refine lv_iload_n hx hb dX0_twice_0 rfl (lv_at hl 0 rfl) ?_
  refine lv_sipush (v := nI 128) hx hb dX0_twice_1 (by decide) ?_
  refine lv_icmp_ge (tgt := 13) hx hb dX0_twice_4 (by decide) (fun hc => ?_) (fun hc => ?_)
  · skip
    refine lv_iconst (v := nI 2) hx hb dX0_twice_13 (by decide) ?_
    refine lv_iload_n hx hb dX0_twice_14 rfl (lv_at hl 0 rfl) ?_
    refine zr_imul (v := (nI 2) * x) hx hb dX0_twice_15 rfl ?_
    refine lv_sipush (v := nI 283) hx hb dX0_twice_16 (by decide) ?_
    refine zr_ixor (v := ((nI 2) * x) ^^^ (nI 283)) hx hb dX0_twice_19 rfl ?_
    exact hret _ H locs _ ls (by unfold ztw; rw [if_pos hc]) hP hS dX0_twice_20
  · skip
    refine lv_iconst (v := nI 2) hx hb dX0_twice_7 (by decide) ?_
    refine lv_iload_n hx hb dX0_twice_8 rfl (lv_at hl 0 rfl) ?_
    refine zr_imul (v := (nI 2) * x) hx hb dX0_twice_9 rfl ?_
    refine lv_goto (tgt := 20) hx hb dX0_twice_10 (by decide) ?_
    exact hret _ H locs _ ls (by unfold ztw; rw [if_neg hc]) hP hS dX0_twice_20
set_option maxHeartbeats 4000000 in
/-- BlockSealer.turnRight  -/
theorem mX_turnRight (l : Launch) (D : va_G) (cA : ClassId) (w : Int32) (n : Nat) (hn : n < 32) : MetW l D cA yX0_turnRight (ws_ yX0_turnRight cX0_turnRight 2 (some .int)) (zroom 0) ([.int w, .int (nI n)] : List Value) [] [] (some (zrr w n)) := by
  refine zr_startI RX0 rfl (by decide) (Nat.le_of_ble_eq_true rfl) ?_
  intro p e s m below meth c A ls Q hx hb hml hown hts hK hP hD hA hS hret hl
  have hl : lv_has ls 2 [(0, .int w), (1, .int (nI n))] := hl
  generalize hH : s.heap = H at hP
  have hS : va_S A s.heap H [] := by rw [← hH]; exact hS
  generalize hlo : ([] : List Loc) = locs at hS ⊢
  refine lv_iload_n hx hb dX0_turnRight_0 rfl (lv_at hl 0 rfl) ?_
  refine lv_iload_n hx hb dX0_turnRight_1 rfl (lv_at hl 1 rfl) ?_
  refine zr_iushr (v := zus w n) hx hb dX0_turnRight_2 rfl ?_
  refine lv_iload_n hx hb dX0_turnRight_3 rfl (lv_at hl 0 rfl) ?_
  refine lv_bipush (v := nI 32) hx hb dX0_turnRight_4 (by decide) ?_
  refine lv_iload_n hx hb dX0_turnRight_6 rfl (lv_at hl 1 rfl) ?_
  refine zr_isub (v := nI (32 - n)) hx hb dX0_turnRight_7 (pk_sub (by omega)) ?_
  refine zr_ishl (v := zsl w (32 - n)) hx hb dX0_turnRight_8 rfl ?_
  refine zr_ior (v := (zus w n) ||| (zsl w (32 - n))) hx hb dX0_turnRight_9 rfl ?_
  exact hret _ H locs _ ls rfl hP hS dX0_turnRight_10
set_option maxHeartbeats 4000000 in
/-- BlockSealer.timesInverseOfThree  -/
theorem mX_timesInverseOfThree (l : Launch) (D : va_G) (cA : ClassId) (x : Int32) : MetW l D cA yX0_timesInverseOfThree (ws_ yX0_timesInverseOfThree cX0_timesInverseOfThree 8 (some .int)) (zroom 1) ([.int x] : List Value) [] [] (some (zti x)) := by
  refine zr_startI RX0 rfl (by decide) (Nat.le_of_ble_eq_true rfl) ?_
  intro p e s m below meth c A ls Q hx hb hml hown hts hK hP hD hA hS hret hl
  have hl : lv_has ls 8 [(0, .int x)] := hl
  generalize hH : s.heap = H at hP
  have hS : va_S A s.heap H [] := by rw [← hH]; exact hS
  generalize hlo : ([] : List Loc) = locs at hS ⊢
  refine lv_iload_n hx hb dX0_timesInverseOfThree_0 rfl (lv_at hl 0 rfl) ?_
  refine zr_callS (rest := []) ⟨hx, hb, hml, hown, hts⟩ (mX_twice l D cA x) (va_cwS 1 hts (lw_S q48 q49 q30 q50) rfl rfl rfl (by decide +kernel) ⟨Nat.le_of_ble_eq_true rfl, Nat.le_of_ble_eq_true rfl⟩) hK hP hD rfl hS hA rfl hl.1 rfl (Nat.le_of_ble_eq_true rfl) dX0_timesInverseOfThree_1 ⟨Nat.zero_le _, Nat.zero_le _⟩ (fun H locs hP hS => ?_)
  refine lv_istore_n (lv' := [(1, .int (ztw x)), (0, .int x)]) hx hb dX0_timesInverseOfThree_4 rfl hl (by decide) rfl (fun ls hl => ?_)
  refine lv_iload_n hx hb dX0_timesInverseOfThree_5 rfl (lv_at hl 0 rfl) ?_
  refine zr_callS (rest := []) ⟨hx, hb, hml, hown, hts⟩ (mX_twice l D cA (ztw x)) (va_cwS 1 hts (lw_S q48 q49 q30 q50) rfl rfl rfl (by decide +kernel) ⟨Nat.le_of_ble_eq_true rfl, Nat.le_of_ble_eq_true rfl⟩) hK hP hD rfl hS hA rfl hl.1 rfl (Nat.le_of_ble_eq_true rfl) dX0_timesInverseOfThree_6 ⟨Nat.zero_le _, Nat.zero_le _⟩ (fun H locs hP hS => ?_)
  refine lv_istore_n (lv' := [(2, .int (ztw (ztw x))), (1, .int (ztw x)), (0, .int x)]) hx hb dX0_timesInverseOfThree_9 rfl hl (by decide) rfl (fun ls hl => ?_)
  refine lv_iload_n hx hb dX0_timesInverseOfThree_10 rfl (lv_at hl 0 rfl) ?_
  refine zr_callS (rest := []) ⟨hx, hb, hml, hown, hts⟩ (mX_twice l D cA (ztw (ztw x))) (va_cwS 1 hts (lw_S q48 q49 q30 q50) rfl rfl rfl (by decide +kernel) ⟨Nat.le_of_ble_eq_true rfl, Nat.le_of_ble_eq_true rfl⟩) hK hP hD rfl hS hA rfl hl.1 rfl (Nat.le_of_ble_eq_true rfl) dX0_timesInverseOfThree_11 ⟨Nat.zero_le _, Nat.zero_le _⟩ (fun H locs hP hS => ?_)
  refine lv_istore_n (lv' := [(3, .int (ztw (ztw (ztw x)))), (2, .int (ztw (ztw x))), (1, .int (ztw x)), (0, .int x)]) hx hb dX0_timesInverseOfThree_14 rfl hl (by decide) rfl (fun ls hl => ?_)
  refine lv_iload_n hx hb dX0_timesInverseOfThree_15 rfl (lv_at hl 0 rfl) ?_
  refine zr_callS (rest := []) ⟨hx, hb, hml, hown, hts⟩ (mX_twice l D cA (ztw (ztw (ztw x)))) (va_cwS 1 hts (lw_S q48 q49 q30 q50) rfl rfl rfl (by decide +kernel) ⟨Nat.le_of_ble_eq_true rfl, Nat.le_of_ble_eq_true rfl⟩) hK hP hD rfl hS hA rfl hl.1 rfl (Nat.le_of_ble_eq_true rfl) dX0_timesInverseOfThree_16 ⟨Nat.zero_le _, Nat.zero_le _⟩ (fun H locs hP hS => ?_)
  refine lv_istore (lv' := [(4, .int (ztw (ztw (ztw (ztw x))))), (3, .int (ztw (ztw (ztw x)))), (2, .int (ztw (ztw x))), (1, .int (ztw x)), (0, .int x)]) hx hb dX0_timesInverseOfThree_19 hl (by decide) rfl (fun ls hl => ?_)
  refine lv_iload hx hb dX0_timesInverseOfThree_21 (lv_at hl 0 rfl) ?_
  refine zr_callS (rest := []) ⟨hx, hb, hml, hown, hts⟩ (mX_twice l D cA (ztw (ztw (ztw (ztw x))))) (va_cwS 1 hts (lw_S q48 q49 q30 q50) rfl rfl rfl (by decide +kernel) ⟨Nat.le_of_ble_eq_true rfl, Nat.le_of_ble_eq_true rfl⟩) hK hP hD rfl hS hA rfl hl.1 rfl (Nat.le_of_ble_eq_true rfl) dX0_timesInverseOfThree_23 ⟨Nat.zero_le _, Nat.zero_le _⟩ (fun H locs hP hS => ?_)
  refine lv_istore (lv' := [(5, .int (ztw (ztw (ztw (ztw (ztw x)))))), (4, .int (ztw (ztw (ztw (ztw x))))), (3, .int (ztw (ztw (ztw x)))), (2, .int (ztw (ztw x))), (1, .int (ztw x)), (0, .int x)]) hx hb dX0_timesInverseOfThree_26 hl (by decide) rfl (fun ls hl => ?_)
  refine lv_iload hx hb dX0_timesInverseOfThree_28 (lv_at hl 0 rfl) ?_
  refine zr_callS (rest := []) ⟨hx, hb, hml, hown, hts⟩ (mX_twice l D cA (ztw (ztw (ztw (ztw (ztw x)))))) (va_cwS 1 hts (lw_S q48 q49 q30 q50) rfl rfl rfl (by decide +kernel) ⟨Nat.le_of_ble_eq_true rfl, Nat.le_of_ble_eq_true rfl⟩) hK hP hD rfl hS hA rfl hl.1 rfl (Nat.le_of_ble_eq_true rfl) dX0_timesInverseOfThree_30 ⟨Nat.zero_le _, Nat.zero_le _⟩ (fun H locs hP hS => ?_)
  refine lv_istore (lv' := [(6, .int (ztw (ztw (ztw (ztw (ztw (ztw x))))))), (5, .int (ztw (ztw (ztw (ztw (ztw x)))))), (4, .int (ztw (ztw (ztw (ztw x))))), (3, .int (ztw (ztw (ztw x)))), (2, .int (ztw (ztw x))), (1, .int (ztw x)), (0, .int x)]) hx hb dX0_timesInverseOfThree_33 hl (by decide) rfl (fun ls hl => ?_)
  refine lv_iload hx hb dX0_timesInverseOfThree_35 (lv_at hl 0 rfl) ?_
  refine zr_callS (rest := []) ⟨hx, hb, hml, hown, hts⟩ (mX_twice l D cA (ztw (ztw (ztw (ztw (ztw (ztw x))))))) (va_cwS 1 hts (lw_S q48 q49 q30 q50) rfl rfl rfl (by decide +kernel) ⟨Nat.le_of_ble_eq_true rfl, Nat.le_of_ble_eq_true rfl⟩) hK hP hD rfl hS hA rfl hl.1 rfl (Nat.le_of_ble_eq_true rfl) dX0_timesInverseOfThree_37 ⟨Nat.zero_le _, Nat.zero_le _⟩ (fun H locs hP hS => ?_)
  refine lv_istore (lv' := [(7, .int (ztw (ztw (ztw (ztw (ztw (ztw (ztw x)))))))), (6, .int (ztw (ztw (ztw (ztw (ztw (ztw x))))))), (5, .int (ztw (ztw (ztw (ztw (ztw x)))))), (4, .int (ztw (ztw (ztw (ztw x))))), (3, .int (ztw (ztw (ztw x)))), (2, .int (ztw (ztw x))), (1, .int (ztw x)), (0, .int x)]) hx hb dX0_timesInverseOfThree_40 hl (by decide) rfl (fun ls hl => ?_)
  refine lv_iload_n hx hb dX0_timesInverseOfThree_42 rfl (lv_at hl 6 rfl) ?_
  refine lv_iload_n hx hb dX0_timesInverseOfThree_43 rfl (lv_at hl 5 rfl) ?_
  refine zr_ixor (v := (ztw x) ^^^ (ztw (ztw x))) hx hb dX0_timesInverseOfThree_44 rfl ?_
  refine lv_iload hx hb dX0_timesInverseOfThree_45 (lv_at hl 3 rfl) ?_
  refine zr_ixor (v := ((ztw x) ^^^ (ztw (ztw x))) ^^^ (ztw (ztw (ztw (ztw x))))) hx hb dX0_timesInverseOfThree_47 rfl ?_
  refine lv_iload hx hb dX0_timesInverseOfThree_48 (lv_at hl 2 rfl) ?_
  refine zr_ixor (v := (((ztw x) ^^^ (ztw (ztw x))) ^^^ (ztw (ztw (ztw (ztw x))))) ^^^ (ztw (ztw (ztw (ztw (ztw x)))))) hx hb dX0_timesInverseOfThree_50 rfl ?_
  refine lv_iload hx hb dX0_timesInverseOfThree_51 (lv_at hl 1 rfl) ?_
  refine zr_ixor (v := ((((ztw x) ^^^ (ztw (ztw x))) ^^^ (ztw (ztw (ztw (ztw x))))) ^^^ (ztw (ztw (ztw (ztw (ztw x)))))) ^^^ (ztw (ztw (ztw (ztw (ztw (ztw x))))))) hx hb dX0_timesInverseOfThree_53 rfl ?_
  refine lv_iload hx hb dX0_timesInverseOfThree_54 (lv_at hl 0 rfl) ?_
  refine zr_ixor (v := (((((ztw x) ^^^ (ztw (ztw x))) ^^^ (ztw (ztw (ztw (ztw x))))) ^^^ (ztw (ztw (ztw (ztw (ztw x)))))) ^^^ (ztw (ztw (ztw (ztw (ztw (ztw x))))))) ^^^ (ztw (ztw (ztw (ztw (ztw (ztw (ztw x)))))))) hx hb dX0_timesInverseOfThree_56 rfl ?_
  exact hret _ H locs _ ls rfl hP hS dX0_timesInverseOfThree_57
set_option maxHeartbeats 4000000 in
/-- BlockSealer.setSubstitution  -/
theorem mX_setSubstitution (l : Launch) (D : va_G) (cA : ClassId) (h : Nat) (ad : Nat → Nat) (sub res fwd bwd rk tk pre sum st fr mul fal : Nat → Int32) (n : Nat) (hn : n < 256) (v : Int32) : MetW l D cA yX0_setSubstitution (ws_ yX0_setSubstitution cX0_setSubstitution 5 none) (zroom 0) ([.ref h, .int (nI n), .int v] : List Value) (XG cA h ad sub res fwd bwd rk tk pre sum st fr mul fal) (XG cA h ad (upd sub n (nI (zby (zss v) 3))) (upd res (zby (zss v) 3) (nI n)) fwd bwd rk tk pre sum st fr mul fal) none := by
  refine zr_startV RX0 rfl (by decide) (Nat.le_of_ble_eq_true rfl) ?_
  intro p e s m below meth c A ls Q hx hb hml hown hts hK hP hD hA hS hret hl
  have hl : lv_has ls 5 [(0, .ref h), (1, .int (nI n)), (2, .int v)] := hl
  generalize hH : s.heap = H at hP
  have hS : va_S A s.heap H [] := by rw [← hH]; exact hS
  generalize hlo : ([] : List Loc) = locs at hS ⊢
  refine lv_iload_n hx hb dX0_setSubstitution_0 rfl (lv_at hl 2 rfl) ?_
  refine lv_sipush (v := nI 257) hx hb dX0_setSubstitution_1 (by decide) ?_
  refine zr_imul (v := v * (nI 257)) hx hb dX0_setSubstitution_4 rfl ?_
  refine lv_istore_n (lv' := [(3, .int (v * (nI 257))), (0, .ref h), (1, .int (nI n)), (2, .int v)]) hx hb dX0_setSubstitution_5 rfl hl (by decide) rfl (fun ls hl => ?_)
  refine lv_iload_n hx hb dX0_setSubstitution_6 rfl (lv_at hl 0 rfl) ?_
  refine lv_iload_n hx hb dX0_setSubstitution_7 rfl (lv_at hl 0 rfl) ?_
  refine lv_iconst (v := nI 4) hx hb dX0_setSubstitution_8 (by decide) ?_
  refine zr_ishr (v := zsr (v * (nI 257)) 4) hx hb dX0_setSubstitution_9 rfl ?_
  refine zr_ixor (v := (v * (nI 257)) ^^^ (zsr (v * (nI 257)) 4)) hx hb dX0_setSubstitution_10 rfl ?_
  refine lv_iload_n hx hb dX0_setSubstitution_11 rfl (lv_at hl 0 rfl) ?_
  refine lv_iconst (v := nI 5) hx hb dX0_setSubstitution_12 (by decide) ?_
  refine zr_ishr (v := zsr (v * (nI 257)) 5) hx hb dX0_setSubstitution_13 rfl ?_
  refine zr_ixor (v := ((v * (nI 257)) ^^^ (zsr (v * (nI 257)) 4)) ^^^ (zsr (v * (nI 257)) 5)) hx hb dX0_setSubstitution_14 rfl ?_
  refine lv_iload_n hx hb dX0_setSubstitution_15 rfl (lv_at hl 0 rfl) ?_
  refine lv_bipush (v := nI 6) hx hb dX0_setSubstitution_16 (by decide) ?_
  refine zr_ishr (v := zsr (v * (nI 257)) 6) hx hb dX0_setSubstitution_18 rfl ?_
  refine zr_ixor (v := (((v * (nI 257)) ^^^ (zsr (v * (nI 257)) 4)) ^^^ (zsr (v * (nI 257)) 5)) ^^^ (zsr (v * (nI 257)) 6)) hx hb dX0_setSubstitution_19 rfl ?_
  refine lv_iload_n hx hb dX0_setSubstitution_20 rfl (lv_at hl 0 rfl) ?_
  refine lv_bipush (v := nI 7) hx hb dX0_setSubstitution_21 (by decide) ?_
  refine zr_ishr (v := zsr (v * (nI 257)) 7) hx hb dX0_setSubstitution_23 rfl ?_
  refine zr_ixor (v := ((((v * (nI 257)) ^^^ (zsr (v * (nI 257)) 4)) ^^^ (zsr (v * (nI 257)) 5)) ^^^ (zsr (v * (nI 257)) 6)) ^^^ (zsr (v * (nI 257)) 7)) hx hb dX0_setSubstitution_24 rfl ?_
  refine lv_bipush (v := nI 99) hx hb dX0_setSubstitution_25 (by decide) ?_
  refine zr_ixor (v := (((((v * (nI 257)) ^^^ (zsr (v * (nI 257)) 4)) ^^^ (zsr (v * (nI 257)) 5)) ^^^ (zsr (v * (nI 257)) 6)) ^^^ (zsr (v * (nI 257)) 7)) ^^^ (nI 99)) hx hb dX0_setSubstitution_27 rfl ?_
  refine lv_sipush (v := nI 255) hx hb dX0_setSubstitution_28 (by decide) ?_
  refine zr_iand (v := nI (zby (zss v) 3)) hx hb dX0_setSubstitution_31 (zb3 _) ?_
  refine lv_istore (lv' := [(4, .int (nI (zby (zss v) 3))), (3, .int (v * (nI 257))), (0, .ref h), (1, .int (nI n)), (2, .int v)]) hx hb dX0_setSubstitution_32 hl (by decide) rfl (fun ls hl => ?_)
  refine lv_aload_n hx hb dX0_setSubstitution_34 rfl (lv_at hl 2 rfl) ?_
  refine zr_get (T := TX0) (N := 12) hx hb hts in_X0 hown hK hP 0 rfl rfl 0 (by decide) q98 rfl dX0_setSubstitution_35 ?_
  refine lv_iload_n hx hb dX0_setSubstitution_38 rfl (lv_at hl 3 rfl) ?_
  refine lv_iload hx hb dX0_setSubstitution_39 (lv_at hl 0 rfl) ?_
  refine zr_iast (f' := upd sub n (nI (zby (zss v) 3))) hx hb hK hP hD rfl hS 1 0 rfl rfl n rfl (by omega) (by decide) rfl dX0_setSubstitution_41 (fun H locs hP hS => ?_)
  have hP : va_P D Cl (XG cA h ad (upd sub n (nI (zby (zss v) 3))) res fwd bwd rk tk pre sum st fr mul fal) H := hP
  refine lv_aload_n hx hb dX0_setSubstitution_42 rfl (lv_at hl 2 rfl) ?_
  refine zr_get (T := TX0) (N := 12) hx hb hts in_X0 hown hK hP 0 rfl rfl 1 (by decide) q99 rfl dX0_setSubstitution_43 ?_
  refine lv_iload hx hb dX0_setSubstitution_46 (lv_at hl 0 rfl) ?_
  refine lv_iload_n hx hb dX0_setSubstitution_48 rfl (lv_at hl 3 rfl) ?_
  refine zr_iast (f' := upd res (zby (zss v) 3) (nI n)) hx hb hK hP hD rfl hS 2 0 rfl rfl (zby (zss v) 3) rfl (zby_lt _ _) (by decide) rfl dX0_setSubstitution_49 (fun H locs hP hS => ?_)
  have hP : va_P D Cl (XG cA h ad (upd sub n (nI (zby (zss v) 3))) (upd res (zby (zss v) 3) (nI n)) fwd bwd rk tk pre sum st fr mul fal) H := hP
  exact hret H locs _ ls hP hS dX0_setSubstitution_50
set_option maxHeartbeats 4000000 in
/-- BlockSealer.takePresent  -/
theorem mX_takePresent (l : Launch) (D : va_G) (cA : ClassId) (h : Nat) (ad : Nat → Nat) (rk tk pre sum st fr mul : Nat → Int32) : MetW l D cA yX0_takePresent (ws_ yX0_takePresent cX0_takePresent 2 none) (zroom 0) ([.ref h] : List Value) (XG cA h ad zSub zRes zFwd zBwd rk tk pre sum st fr mul zFal) (XG cA h ad zSub zRes zFwd zBwd rk tk pre sum pre fr mul zFal) none := by
  refine zr_startV RX0 rfl (by decide) (Nat.le_of_ble_eq_true rfl) ?_
  intro p e s m below meth c A ls Q hx hb hml hown hts hK hP hD hA hS hret hl
  have hl : lv_has ls 2 [(0, .ref h)] := hl
  generalize hH : s.heap = H at hP
  have hS : va_S A s.heap H [] := by rw [← hH]; exact hS
  generalize hlo : ([] : List Loc) = locs at hS ⊢
  refine lv_iconst (v := nI 0) hx hb dX0_takePresent_0 (by decide) ?_
  refine lv_istore_n (lv' := [(1, .int (nI 0)), (0, .ref h)]) hx hb dX0_takePresent_1 rfl hl (by decide) rfl (fun ls hl => ?_)
  have L1 : ∀ (nL1 i : Nat), i + nL1 = 4 → ∀ (H : Heap) (locs : List Loc) (ls : Array Slot), va_P D Cl (XG cA h ad zSub zRes zFwd zBwd rk tk pre sum (zfil st pre i) fr mul zFal) H → va_S A s.heap H locs → lv_has ls 2 [(1, .int (nI i)), (0, .ref h)] → W p l e (zroom 0) s m ([.ref h] : List Value).toArray below meth c H locs 0 0 Q (F0 m 2 ls []) := by
    intro nL1
    induction nL1 with
    | zero =>
      intro i hL1 H locs ls hP hS hl
      obtain rfl : i = 4 := by omega
      refine lv_iload_n hx hb dX0_takePresent_2 rfl (lv_at hl 0 rfl) ?_
      refine lv_iconst (v := nI 4) hx hb dX0_takePresent_3 (by decide) ?_
      refine zr_ge_t (tgt := 25) hx hb dX0_takePresent_4 (by decide) (by omega) (by omega) ?_
      have hP := zP (g := pre) hP 9 rfl (fun j hj => zfil_lt hj)
      have hP : va_P D Cl (XG cA h ad zSub zRes zFwd zBwd rk tk pre sum pre fr mul zFal) H := hP
      exact hret H locs _ ls hP hS dX0_takePresent_25
    | succ nL1 ihL1 =>
      intro i hL1 H locs ls hP hS hl
      have hltL1 : i < 4 := by omega
      refine lv_iload_n hx hb dX0_takePresent_2 rfl (lv_at hl 0 rfl) ?_
      refine lv_iconst (v := nI 4) hx hb dX0_takePresent_3 (by decide) ?_
      refine zr_ge_f (tgt := 25) hx hb dX0_takePresent_4 (by decide) (by omega) (by omega) ?_
      refine lv_aload_n hx hb dX0_takePresent_7 rfl (lv_at hl 1 rfl) ?_
      refine zr_get (T := TX0) (N := 12) hx hb hts in_X0 hown hK hP 0 rfl rfl 8 (by decide) q106 rfl dX0_takePresent_8 ?_
      refine lv_iload_n hx hb dX0_takePresent_11 rfl (lv_at hl 0 rfl) ?_
      refine lv_aload_n hx hb dX0_takePresent_12 rfl (lv_at hl 1 rfl) ?_
      refine zr_get (T := TX0) (N := 12) hx hb hts in_X0 hown hK hP 0 rfl rfl 6 (by decide) q104 rfl dX0_takePresent_13 ?_
      refine lv_iload_n hx hb dX0_takePresent_16 rfl (lv_at hl 0 rfl) ?_
      refine zr_iald (v := pre i) hx hb hK hP 7 0 rfl rfl i rfl (by omega) (by decide) rfl dX0_takePresent_17 ?_
      refine zr_iast (f' := zfil st pre (i + 1)) hx hb hK hP hD rfl hS 9 0 rfl rfl i rfl (by omega) (by decide) (zfil_s rfl) dX0_takePresent_18 (fun H locs hP hS => ?_)
      have hP : va_P D Cl (XG cA h ad zSub zRes zFwd zBwd rk tk pre sum (zfil st pre (i + 1)) fr mul zFal) H := hP
      refine lv_iinc (v := nI (i + 1)) (lv' := [(1, .int (nI (i + 1))), (0, .ref h)]) hx hb dX0_takePresent_19 hl (k := 0) rfl (zinc _) (by decide) rfl (fun ls hl => ?_)
      refine lv_goto (tgt := 2) hx hb dX0_takePresent_22 (by decide) ?_
      exact ihL1 (i + 1) (by omega) H locs ls hP hS (lv_sub hl [0, 1] rfl)
  exact L1 4 0 (by omega) H locs ls (by rw [zfil_0]; exact hP) hS (lv_sub hl [0, 1] rfl)
set_option maxHeartbeats 4000000 in
/-- BlockSealer.givePresent  -/
theorem mX_givePresent (l : Launch) (D : va_G) (cA : ClassId) (h : Nat) (ad : Nat → Nat) (rk tk pre sum st fr mul : Nat → Int32) : MetW l D cA yX0_givePresent (ws_ yX0_givePresent cX0_givePresent 2 none) (zroom 0) ([.ref h] : List Value) (XG cA h ad zSub zRes zFwd zBwd rk tk pre sum st fr mul zFal) (XG cA h ad zSub zRes zFwd zBwd rk tk st sum st fr mul zFal) none := by
  refine zr_startV RX0 rfl (by decide) (Nat.le_of_ble_eq_true rfl) ?_
  intro p e s m below meth c A ls Q hx hb hml hown hts hK hP hD hA hS hret hl
  have hl : lv_has ls 2 [(0, .ref h)] := hl
  generalize hH : s.heap = H at hP
  have hS : va_S A s.heap H [] := by rw [← hH]; exact hS
  generalize hlo : ([] : List Loc) = locs at hS ⊢
  refine lv_iconst (v := nI 0) hx hb dX0_givePresent_0 (by decide) ?_
  refine lv_istore_n (lv' := [(1, .int (nI 0)), (0, .ref h)]) hx hb dX0_givePresent_1 rfl hl (by decide) rfl (fun ls hl => ?_)
  have L1 : ∀ (nL1 i : Nat), i + nL1 = 4 → ∀ (H : Heap) (locs : List Loc) (ls : Array Slot), va_P D Cl (XG cA h ad zSub zRes zFwd zBwd rk tk (zfil pre st i) sum st fr mul zFal) H → va_S A s.heap H locs → lv_has ls 2 [(1, .int (nI i)), (0, .ref h)] → W p l e (zroom 0) s m ([.ref h] : List Value).toArray below meth c H locs 0 0 Q (F0 m 2 ls []) := by
    intro nL1
    induction nL1 with
    | zero =>
      intro i hL1 H locs ls hP hS hl
      obtain rfl : i = 4 := by omega
      refine lv_iload_n hx hb dX0_givePresent_2 rfl (lv_at hl 0 rfl) ?_
      refine lv_iconst (v := nI 4) hx hb dX0_givePresent_3 (by decide) ?_
      refine zr_ge_t (tgt := 25) hx hb dX0_givePresent_4 (by decide) (by omega) (by omega) ?_
      have hP := zP (g := st) hP 7 rfl (fun j hj => zfil_lt hj)
      have hP : va_P D Cl (XG cA h ad zSub zRes zFwd zBwd rk tk st sum st fr mul zFal) H := hP
      exact hret H locs _ ls hP hS dX0_givePresent_25
    | succ nL1 ihL1 =>
      intro i hL1 H locs ls hP hS hl
      have hltL1 : i < 4 := by omega
      refine lv_iload_n hx hb dX0_givePresent_2 rfl (lv_at hl 0 rfl) ?_
      refine lv_iconst (v := nI 4) hx hb dX0_givePresent_3 (by decide) ?_
      refine zr_ge_f (tgt := 25) hx hb dX0_givePresent_4 (by decide) (by omega) (by omega) ?_
      refine lv_aload_n hx hb dX0_givePresent_7 rfl (lv_at hl 1 rfl) ?_
      refine zr_get (T := TX0) (N := 12) hx hb hts in_X0 hown hK hP 0 rfl rfl 6 (by decide) q104 rfl dX0_givePresent_8 ?_
      refine lv_iload_n hx hb dX0_givePresent_11 rfl (lv_at hl 0 rfl) ?_
      refine lv_aload_n hx hb dX0_givePresent_12 rfl (lv_at hl 1 rfl) ?_
      refine zr_get (T := TX0) (N := 12) hx hb hts in_X0 hown hK hP 0 rfl rfl 8 (by decide) q106 rfl dX0_givePresent_13 ?_
      refine lv_iload_n hx hb dX0_givePresent_16 rfl (lv_at hl 0 rfl) ?_
      refine zr_iald (v := st i) hx hb hK hP 9 0 rfl rfl i rfl (by omega) (by decide) rfl dX0_givePresent_17 ?_
      refine zr_iast (f' := zfil pre st (i + 1)) hx hb hK hP hD rfl hS 7 0 rfl rfl i rfl (by omega) (by decide) (zfil_s rfl) dX0_givePresent_18 (fun H locs hP hS => ?_)
      have hP : va_P D Cl (XG cA h ad zSub zRes zFwd zBwd rk tk (zfil pre st (i + 1)) sum st fr mul zFal) H := hP
      refine lv_iinc (v := nI (i + 1)) (lv' := [(1, .int (nI (i + 1))), (0, .ref h)]) hx hb dX0_givePresent_19 hl (k := 0) rfl (zinc _) (by decide) rfl (fun ls hl => ?_)
      refine lv_goto (tgt := 2) hx hb dX0_givePresent_22 (by decide) ?_
      exact ihL1 (i + 1) (by omega) H locs ls hP hS (lv_sub hl [0, 1] rfl)
  exact L1 4 0 (by omega) H locs ls (by rw [zfil_0]; exact hP) hS (lv_sub hl [0, 1] rfl)
set_option maxHeartbeats 4000000 in
/-- BlockSealer.keepFresh  -/
theorem mX_keepFresh (l : Launch) (D : va_G) (cA : ClassId) (h : Nat) (ad : Nat → Nat) (rk tk pre sum st fr mul : Nat → Int32) : MetW l D cA yX0_keepFresh (ws_ yX0_keepFresh cX0_keepFresh 2 none) (zroom 0) ([.ref h] : List Value) (XG cA h ad zSub zRes zFwd zBwd rk tk pre sum st fr mul zFal) (XG cA h ad zSub zRes zFwd zBwd rk tk pre sum fr fr mul zFal) none := by
  refine zr_startV RX0 rfl (by decide) (Nat.le_of_ble_eq_true rfl) ?_
  intro p e s m below meth c A ls Q hx hb hml hown hts hK hP hD hA hS hret hl
  have hl : lv_has ls 2 [(0, .ref h)] := hl
  generalize hH : s.heap = H at hP
  have hS : va_S A s.heap H [] := by rw [← hH]; exact hS
  generalize hlo : ([] : List Loc) = locs at hS ⊢
  refine lv_iconst (v := nI 0) hx hb dX0_keepFresh_0 (by decide) ?_
  refine lv_istore_n (lv' := [(1, .int (nI 0)), (0, .ref h)]) hx hb dX0_keepFresh_1 rfl hl (by decide) rfl (fun ls hl => ?_)
  have L1 : ∀ (nL1 i : Nat), i + nL1 = 4 → ∀ (H : Heap) (locs : List Loc) (ls : Array Slot), va_P D Cl (XG cA h ad zSub zRes zFwd zBwd rk tk pre sum (zfil st fr i) fr mul zFal) H → va_S A s.heap H locs → lv_has ls 2 [(1, .int (nI i)), (0, .ref h)] → W p l e (zroom 0) s m ([.ref h] : List Value).toArray below meth c H locs 0 0 Q (F0 m 2 ls []) := by
    intro nL1
    induction nL1 with
    | zero =>
      intro i hL1 H locs ls hP hS hl
      obtain rfl : i = 4 := by omega
      refine lv_iload_n hx hb dX0_keepFresh_2 rfl (lv_at hl 0 rfl) ?_
      refine lv_iconst (v := nI 4) hx hb dX0_keepFresh_3 (by decide) ?_
      refine zr_ge_t (tgt := 25) hx hb dX0_keepFresh_4 (by decide) (by omega) (by omega) ?_
      have hP := zP (g := fr) hP 9 rfl (fun j hj => zfil_lt hj)
      have hP : va_P D Cl (XG cA h ad zSub zRes zFwd zBwd rk tk pre sum fr fr mul zFal) H := hP
      exact hret H locs _ ls hP hS dX0_keepFresh_25
    | succ nL1 ihL1 =>
      intro i hL1 H locs ls hP hS hl
      have hltL1 : i < 4 := by omega
      refine lv_iload_n hx hb dX0_keepFresh_2 rfl (lv_at hl 0 rfl) ?_
      refine lv_iconst (v := nI 4) hx hb dX0_keepFresh_3 (by decide) ?_
      refine zr_ge_f (tgt := 25) hx hb dX0_keepFresh_4 (by decide) (by omega) (by omega) ?_
      refine lv_aload_n hx hb dX0_keepFresh_7 rfl (lv_at hl 1 rfl) ?_
      refine zr_get (T := TX0) (N := 12) hx hb hts in_X0 hown hK hP 0 rfl rfl 8 (by decide) q106 rfl dX0_keepFresh_8 ?_
      refine lv_iload_n hx hb dX0_keepFresh_11 rfl (lv_at hl 0 rfl) ?_
      refine lv_aload_n hx hb dX0_keepFresh_12 rfl (lv_at hl 1 rfl) ?_
      refine zr_get (T := TX0) (N := 12) hx hb hts in_X0 hown hK hP 0 rfl rfl 9 (by decide) q107 rfl dX0_keepFresh_13 ?_
      refine lv_iload_n hx hb dX0_keepFresh_16 rfl (lv_at hl 0 rfl) ?_
      refine zr_iald (v := fr i) hx hb hK hP 10 0 rfl rfl i rfl (by omega) (by decide) rfl dX0_keepFresh_17 ?_
      refine zr_iast (f' := zfil st fr (i + 1)) hx hb hK hP hD rfl hS 9 0 rfl rfl i rfl (by omega) (by decide) (zfil_s rfl) dX0_keepFresh_18 (fun H locs hP hS => ?_)
      have hP : va_P D Cl (XG cA h ad zSub zRes zFwd zBwd rk tk pre sum (zfil st fr (i + 1)) fr mul zFal) H := hP
      refine lv_iinc (v := nI (i + 1)) (lv' := [(1, .int (nI (i + 1))), (0, .ref h)]) hx hb dX0_keepFresh_19 hl (k := 0) rfl (zinc _) (by decide) rfl (fun ls hl => ?_)
      refine lv_goto (tgt := 2) hx hb dX0_keepFresh_22 (by decide) ?_
      exact ihL1 (i + 1) (by omega) H locs ls hP hS (lv_sub hl [0, 1] rfl)
  exact L1 4 0 (by omega) H locs ls (by rw [zfil_0]; exact hP) hS (lv_sub hl [0, 1] rfl)
end
section
set_option maxRecDepth 100000
set_option maxHeartbeats 4000000 in
/-- BlockSealer.substituteWord  -/
theorem mX_substituteWord (l : Launch) (D : va_G) (cA : ClassId) (h : Nat) (ad : Nat → Nat) (rk tk pre sum st fr mul : Nat → Int32) (w : Int32) : MetW l D cA yX0_substituteWord (ws_ yX0_substituteWord cX0_substituteWord 3 (some .int)) (zroom 0) ([.ref h, .int w] : List Value) (XG cA h ad zSub zRes zFwd zBwd rk tk pre sum st fr mul zFal) (XG cA h ad zSub zRes zFwd zBwd rk tk pre sum st fr mul zFal) (some (zsw w)) := by
  refine zr_startI RX0 rfl (by decide) (Nat.le_of_ble_eq_true rfl) ?_
  intro p e s m below meth c A ls Q hx hb hml hown hts hK hP hD hA hS hret hl
  have hl : lv_has ls 3 [(0, .ref h), (1, .int w)] := hl
  generalize hH : s.heap = H at hP
  have hS : va_S A s.heap H [] := by rw [← hH]; exact hS
  generalize hlo : ([] : List Loc) = locs at hS ⊢
  refine lv_aload_n hx hb dX0_substituteWord_0 rfl (lv_at hl 0 rfl) ?_
  refine zr_get (T := TX0) (N := 12) hx hb hts in_X0 hown hK hP 0 rfl rfl 0 (by decide) q98 rfl dX0_substituteWord_1 ?_
  refine lv_iload_n hx hb dX0_substituteWord_4 rfl (lv_at hl 1 rfl) ?_
  refine lv_bipush (v := nI 24) hx hb dX0_substituteWord_5 (by decide) ?_
  refine zr_iushr (v := nI (zby w 0)) hx hb dX0_substituteWord_7 (zb0 _) ?_
  refine zr_iald (v := nI (zSB (zby w 0))) hx hb hK hP 1 0 rfl rfl (zby w 0) rfl (zby_lt _ _) (by decide) rfl dX0_substituteWord_8 ?_
  refine lv_bipush (v := nI 24) hx hb dX0_substituteWord_9 (by decide) ?_
  refine zr_ishl (v := zsl (nI (zSB (zby w 0))) 24) hx hb dX0_substituteWord_11 rfl ?_
  refine lv_aload_n hx hb dX0_substituteWord_12 rfl (lv_at hl 0 rfl) ?_
  refine zr_get (T := TX0) (N := 12) hx hb hts in_X0 hown hK hP 0 rfl rfl 0 (by decide) q98 rfl dX0_substituteWord_13 ?_
  refine lv_iload_n hx hb dX0_substituteWord_16 rfl (lv_at hl 1 rfl) ?_
  refine lv_bipush (v := nI 16) hx hb dX0_substituteWord_17 (by decide) ?_
  refine zr_iushr (v := zus w 16) hx hb dX0_substituteWord_19 rfl ?_
  refine lv_sipush (v := nI 255) hx hb dX0_substituteWord_20 (by decide) ?_
  refine zr_iand (v := nI (zby w 1)) hx hb dX0_substituteWord_23 (zb1 _) ?_
  refine zr_iald (v := nI (zSB (zby w 1))) hx hb hK hP 1 0 rfl rfl (zby w 1) rfl (zby_lt _ _) (by decide) rfl dX0_substituteWord_24 ?_
  refine lv_bipush (v := nI 16) hx hb dX0_substituteWord_25 (by decide) ?_
  refine zr_ishl (v := zsl (nI (zSB (zby w 1))) 16) hx hb dX0_substituteWord_27 rfl ?_
  refine zr_ior (v := (zsl (nI (zSB (zby w 0))) 24) ||| (zsl (nI (zSB (zby w 1))) 16)) hx hb dX0_substituteWord_28 rfl ?_
  refine lv_istore_n (lv' := [(2, .int ((zsl (nI (zSB (zby w 0))) 24) ||| (zsl (nI (zSB (zby w 1))) 16))), (0, .ref h), (1, .int w)]) hx hb dX0_substituteWord_29 rfl hl (by decide) rfl (fun ls hl => ?_)
  refine lv_iload_n hx hb dX0_substituteWord_30 rfl (lv_at hl 0 rfl) ?_
  refine lv_aload_n hx hb dX0_substituteWord_31 rfl (lv_at hl 1 rfl) ?_
  refine zr_get (T := TX0) (N := 12) hx hb hts in_X0 hown hK hP 0 rfl rfl 0 (by decide) q98 rfl dX0_substituteWord_32 ?_
  refine lv_iload_n hx hb dX0_substituteWord_35 rfl (lv_at hl 2 rfl) ?_
  refine lv_bipush (v := nI 8) hx hb dX0_substituteWord_36 (by decide) ?_
  refine zr_iushr (v := zus w 8) hx hb dX0_substituteWord_38 rfl ?_
  refine lv_sipush (v := nI 255) hx hb dX0_substituteWord_39 (by decide) ?_
  refine zr_iand (v := nI (zby w 2)) hx hb dX0_substituteWord_42 (zb2 _) ?_
  refine zr_iald (v := nI (zSB (zby w 2))) hx hb hK hP 1 0 rfl rfl (zby w 2) rfl (zby_lt _ _) (by decide) rfl dX0_substituteWord_43 ?_
  refine lv_bipush (v := nI 8) hx hb dX0_substituteWord_44 (by decide) ?_
  refine zr_ishl (v := zsl (nI (zSB (zby w 2))) 8) hx hb dX0_substituteWord_46 rfl ?_
  refine zr_ior (v := ((zsl (nI (zSB (zby w 0))) 24) ||| (zsl (nI (zSB (zby w 1))) 16)) ||| (zsl (nI (zSB (zby w 2))) 8)) hx hb dX0_substituteWord_47 rfl ?_
  refine lv_aload_n hx hb dX0_substituteWord_48 rfl (lv_at hl 1 rfl) ?_
  refine zr_get (T := TX0) (N := 12) hx hb hts in_X0 hown hK hP 0 rfl rfl 0 (by decide) q98 rfl dX0_substituteWord_49 ?_
  refine lv_iload_n hx hb dX0_substituteWord_52 rfl (lv_at hl 2 rfl) ?_
  refine lv_sipush (v := nI 255) hx hb dX0_substituteWord_53 (by decide) ?_
  refine zr_iand (v := nI (zby w 3)) hx hb dX0_substituteWord_56 (zb3 _) ?_
  refine zr_iald (v := nI (zSB (zby w 3))) hx hb hK hP 1 0 rfl rfl (zby w 3) rfl (zby_lt _ _) (by decide) rfl dX0_substituteWord_57 ?_
  refine zr_ior (v := (((zsl (nI (zSB (zby w 0))) 24) ||| (zsl (nI (zSB (zby w 1))) 16)) ||| (zsl (nI (zSB (zby w 2))) 8)) ||| (nI (zSB (zby w 3)))) hx hb dX0_substituteWord_58 rfl ?_
  exact hret _ H locs _ ls rfl hP hS dX0_substituteWord_59
set_option maxHeartbeats 4000000 in
/-- BlockSealer.turnMixing  -/
theorem mX_turnMixing (l : Launch) (D : va_G) (cA : ClassId) (h : Nat) (ad : Nat → Nat) (rk tk pre sum st fr mul : Nat → Int32) (w : Int32) : MetW l D cA yX0_turnMixing (ws_ yX0_turnMixing cX0_turnMixing 6 (some .int)) (zroom 1) ([.ref h, .int w] : List Value) (XG cA h ad zSub zRes zFwd zBwd rk tk pre sum st fr mul zFal) (XG cA h ad zSub zRes zFwd zBwd rk tk pre sum st fr mul zFal) (some (ztx w)) := by
  refine zr_startI RX0 rfl (by decide) (Nat.le_of_ble_eq_true rfl) ?_
  intro p e s m below meth c A ls Q hx hb hml hown hts hK hP hD hA hS hret hl
  have hl : lv_has ls 6 [(0, .ref h), (1, .int w)] := hl
  generalize hH : s.heap = H at hP
  have hS : va_S A s.heap H [] := by rw [← hH]; exact hS
  generalize hlo : ([] : List Loc) = locs at hS ⊢
  refine lv_aload_n hx hb dX0_turnMixing_0 rfl (lv_at hl 0 rfl) ?_
  refine zr_get (T := TX0) (N := 12) hx hb hts in_X0 hown hK hP 0 rfl rfl 3 (by decide) q101 rfl dX0_turnMixing_1 ?_
  refine lv_aload_n hx hb dX0_turnMixing_4 rfl (lv_at hl 0 rfl) ?_
  refine zr_get (T := TX0) (N := 12) hx hb hts in_X0 hown hK hP 0 rfl rfl 0 (by decide) q98 rfl dX0_turnMixing_5 ?_
  refine lv_iload_n hx hb dX0_turnMixing_8 rfl (lv_at hl 1 rfl) ?_
  refine lv_bipush (v := nI 24) hx hb dX0_turnMixing_9 (by decide) ?_
  refine zr_iushr (v := nI (zby w 0)) hx hb dX0_turnMixing_11 (zb0 _) ?_
  refine zr_iald (v := nI (zSB (zby w 0))) hx hb hK hP 1 0 rfl rfl (zby w 0) rfl (zby_lt _ _) (by decide) rfl dX0_turnMixing_12 ?_
  refine zr_iald (v := zBwd (zSB (zby w 0))) hx hb hK hP 4 0 rfl rfl (zSB (zby w 0)) rfl (zSB_lt _) (by decide) rfl dX0_turnMixing_13 ?_
  refine lv_istore_n (lv' := [(2, .int (zBwd (zSB (zby w 0)))), (0, .ref h), (1, .int w)]) hx hb dX0_turnMixing_14 rfl hl (by decide) rfl (fun ls hl => ?_)
  refine lv_aload_n hx hb dX0_turnMixing_15 rfl (lv_at hl 1 rfl) ?_
  refine zr_get (T := TX0) (N := 12) hx hb hts in_X0 hown hK hP 0 rfl rfl 3 (by decide) q101 rfl dX0_turnMixing_16 ?_
  refine lv_aload_n hx hb dX0_turnMixing_19 rfl (lv_at hl 1 rfl) ?_
  refine zr_get (T := TX0) (N := 12) hx hb hts in_X0 hown hK hP 0 rfl rfl 0 (by decide) q98 rfl dX0_turnMixing_20 ?_
  refine lv_iload_n hx hb dX0_turnMixing_23 rfl (lv_at hl 2 rfl) ?_
  refine lv_bipush (v := nI 16) hx hb dX0_turnMixing_24 (by decide) ?_
  refine zr_iushr (v := zus w 16) hx hb dX0_turnMixing_26 rfl ?_
  refine lv_sipush (v := nI 255) hx hb dX0_turnMixing_27 (by decide) ?_
  refine zr_iand (v := nI (zby w 1)) hx hb dX0_turnMixing_30 (zb1 _) ?_
  refine zr_iald (v := nI (zSB (zby w 1))) hx hb hK hP 1 0 rfl rfl (zby w 1) rfl (zby_lt _ _) (by decide) rfl dX0_turnMixing_31 ?_
  refine zr_iald (v := zBwd (zSB (zby w 1))) hx hb hK hP 4 0 rfl rfl (zSB (zby w 1)) rfl (zSB_lt _) (by decide) rfl dX0_turnMixing_32 ?_
  refine lv_istore_n (lv' := [(3, .int (zBwd (zSB (zby w 1)))), (2, .int (zBwd (zSB (zby w 0)))), (0, .ref h), (1, .int w)]) hx hb dX0_turnMixing_33 rfl hl (by decide) rfl (fun ls hl => ?_)
  refine lv_aload_n hx hb dX0_turnMixing_34 rfl (lv_at hl 2 rfl) ?_
  refine zr_get (T := TX0) (N := 12) hx hb hts in_X0 hown hK hP 0 rfl rfl 3 (by decide) q101 rfl dX0_turnMixing_35 ?_
  refine lv_aload_n hx hb dX0_turnMixing_38 rfl (lv_at hl 2 rfl) ?_
  refine zr_get (T := TX0) (N := 12) hx hb hts in_X0 hown hK hP 0 rfl rfl 0 (by decide) q98 rfl dX0_turnMixing_39 ?_
  refine lv_iload_n hx hb dX0_turnMixing_42 rfl (lv_at hl 3 rfl) ?_
  refine lv_bipush (v := nI 8) hx hb dX0_turnMixing_43 (by decide) ?_
  refine zr_iushr (v := zus w 8) hx hb dX0_turnMixing_45 rfl ?_
  refine lv_sipush (v := nI 255) hx hb dX0_turnMixing_46 (by decide) ?_
  refine zr_iand (v := nI (zby w 2)) hx hb dX0_turnMixing_49 (zb2 _) ?_
  refine zr_iald (v := nI (zSB (zby w 2))) hx hb hK hP 1 0 rfl rfl (zby w 2) rfl (zby_lt _ _) (by decide) rfl dX0_turnMixing_50 ?_
  refine zr_iald (v := zBwd (zSB (zby w 2))) hx hb hK hP 4 0 rfl rfl (zSB (zby w 2)) rfl (zSB_lt _) (by decide) rfl dX0_turnMixing_51 ?_
  refine lv_istore (lv' := [(4, .int (zBwd (zSB (zby w 2)))), (3, .int (zBwd (zSB (zby w 1)))), (2, .int (zBwd (zSB (zby w 0)))), (0, .ref h), (1, .int w)]) hx hb dX0_turnMixing_52 hl (by decide) rfl (fun ls hl => ?_)
  refine lv_aload_n hx hb dX0_turnMixing_54 rfl (lv_at hl 3 rfl) ?_
  refine zr_get (T := TX0) (N := 12) hx hb hts in_X0 hown hK hP 0 rfl rfl 3 (by decide) q101 rfl dX0_turnMixing_55 ?_
  refine lv_aload_n hx hb dX0_turnMixing_58 rfl (lv_at hl 3 rfl) ?_
  refine zr_get (T := TX0) (N := 12) hx hb hts in_X0 hown hK hP 0 rfl rfl 0 (by decide) q98 rfl dX0_turnMixing_59 ?_
  refine lv_iload_n hx hb dX0_turnMixing_62 rfl (lv_at hl 4 rfl) ?_
  refine lv_sipush (v := nI 255) hx hb dX0_turnMixing_63 (by decide) ?_
  refine zr_iand (v := nI (zby w 3)) hx hb dX0_turnMixing_66 (zb3 _) ?_
  refine zr_iald (v := nI (zSB (zby w 3))) hx hb hK hP 1 0 rfl rfl (zby w 3) rfl (zby_lt _ _) (by decide) rfl dX0_turnMixing_67 ?_
  refine zr_iald (v := zBwd (zSB (zby w 3))) hx hb hK hP 4 0 rfl rfl (zSB (zby w 3)) rfl (zSB_lt _) (by decide) rfl dX0_turnMixing_68 ?_
  refine lv_istore (lv' := [(5, .int (zBwd (zSB (zby w 3)))), (4, .int (zBwd (zSB (zby w 2)))), (3, .int (zBwd (zSB (zby w 1)))), (2, .int (zBwd (zSB (zby w 0)))), (0, .ref h), (1, .int w)]) hx hb dX0_turnMixing_69 hl (by decide) rfl (fun ls hl => ?_)
  refine lv_iload_n hx hb dX0_turnMixing_71 rfl (lv_at hl 3 rfl) ?_
  refine lv_iload_n hx hb dX0_turnMixing_72 rfl (lv_at hl 2 rfl) ?_
  refine lv_bipush (v := nI 8) hx hb dX0_turnMixing_73 (by decide) ?_
  refine zr_callS (rest := [.int (zBwd (zSB (zby w 0)))]) ⟨hx, hb, hml, hown, hts⟩ (mX_turnRight l D cA (zBwd (zSB (zby w 1))) 8 (by decide)) (va_cwS 2 hts (lw_S q75 q76 q30 q77) rfl rfl rfl (by decide +kernel) ⟨Nat.le_of_ble_eq_true rfl, Nat.le_of_ble_eq_true rfl⟩) hK hP hD rfl hS hA rfl hl.1 rfl (Nat.le_of_ble_eq_true rfl) dX0_turnMixing_75 ⟨Nat.zero_le _, Nat.zero_le _⟩ (fun H locs hP hS => ?_)
  refine zr_ixor (v := (zBwd (zSB (zby w 0))) ^^^ (zrr (zBwd (zSB (zby w 1))) 8)) hx hb dX0_turnMixing_78 rfl ?_
  refine lv_iload hx hb dX0_turnMixing_79 (lv_at hl 1 rfl) ?_
  refine lv_bipush (v := nI 16) hx hb dX0_turnMixing_81 (by decide) ?_
  refine zr_callS (rest := [.int ((zBwd (zSB (zby w 0))) ^^^ (zrr (zBwd (zSB (zby w 1))) 8))]) ⟨hx, hb, hml, hown, hts⟩ (mX_turnRight l D cA (zBwd (zSB (zby w 2))) 16 (by decide)) (va_cwS 2 hts (lw_S q75 q76 q30 q77) rfl rfl rfl (by decide +kernel) ⟨Nat.le_of_ble_eq_true rfl, Nat.le_of_ble_eq_true rfl⟩) hK hP hD rfl hS hA rfl hl.1 rfl (Nat.le_of_ble_eq_true rfl) dX0_turnMixing_83 ⟨Nat.zero_le _, Nat.zero_le _⟩ (fun H locs hP hS => ?_)
  refine zr_ixor (v := ((zBwd (zSB (zby w 0))) ^^^ (zrr (zBwd (zSB (zby w 1))) 8)) ^^^ (zrr (zBwd (zSB (zby w 2))) 16)) hx hb dX0_turnMixing_86 rfl ?_
  refine lv_iload hx hb dX0_turnMixing_87 (lv_at hl 0 rfl) ?_
  refine lv_bipush (v := nI 24) hx hb dX0_turnMixing_89 (by decide) ?_
  refine zr_callS (rest := [.int (((zBwd (zSB (zby w 0))) ^^^ (zrr (zBwd (zSB (zby w 1))) 8)) ^^^ (zrr (zBwd (zSB (zby w 2))) 16))]) ⟨hx, hb, hml, hown, hts⟩ (mX_turnRight l D cA (zBwd (zSB (zby w 3))) 24 (by decide)) (va_cwS 2 hts (lw_S q75 q76 q30 q77) rfl rfl rfl (by decide +kernel) ⟨Nat.le_of_ble_eq_true rfl, Nat.le_of_ble_eq_true rfl⟩) hK hP hD rfl hS hA rfl hl.1 rfl (Nat.le_of_ble_eq_true rfl) dX0_turnMixing_91 ⟨Nat.zero_le _, Nat.zero_le _⟩ (fun H locs hP hS => ?_)
  refine zr_ixor (v := (((zBwd (zSB (zby w 0))) ^^^ (zrr (zBwd (zSB (zby w 1))) 8)) ^^^ (zrr (zBwd (zSB (zby w 2))) 16)) ^^^ (zrr (zBwd (zSB (zby w 3))) 24)) hx hb dX0_turnMixing_94 rfl ?_
  exact hret _ H locs _ ls rfl hP hS dX0_turnMixing_95
set_option maxHeartbeats 4000000 in
/-- BlockSealer.forwardColumn  -/
theorem mX_forwardColumn (l : Launch) (D : va_G) (cA : ClassId) (h : Nat) (ad : Nat → Nat) (rk tk pre sum st fr mul : Nat → Int32) (k : Nat) (hk : k < 4) : MetW l D cA yX0_forwardColumn (ws_ yX0_forwardColumn cX0_forwardColumn 6 (some .int)) (zroom 1) ([.ref h, .int (nI k)] : List Value) (XG cA h ad zSub zRes zFwd zBwd rk tk pre sum st fr mul zFal) (XG cA h ad zSub zRes zFwd zBwd rk tk pre sum st fr mul zFal) (some (zfc st k)) := by
  refine zr_startI RX0 rfl (by decide) (Nat.le_of_ble_eq_true rfl) ?_
  intro p e s m below meth c A ls Q hx hb hml hown hts hK hP hD hA hS hret hl
  have hl : lv_has ls 6 [(0, .ref h), (1, .int (nI k))] := hl
  generalize hH : s.heap = H at hP
  have hS : va_S A s.heap H [] := by rw [← hH]; exact hS
  generalize hlo : ([] : List Loc) = locs at hS ⊢
  refine lv_aload_n hx hb dX0_forwardColumn_0 rfl (lv_at hl 0 rfl) ?_
  refine zr_get (T := TX0) (N := 12) hx hb hts in_X0 hown hK hP 0 rfl rfl 2 (by decide) q100 rfl dX0_forwardColumn_1 ?_
  refine lv_aload_n hx hb dX0_forwardColumn_4 rfl (lv_at hl 0 rfl) ?_
  refine zr_get (T := TX0) (N := 12) hx hb hts in_X0 hown hK hP 0 rfl rfl 8 (by decide) q106 rfl dX0_forwardColumn_5 ?_
  refine lv_iload_n hx hb dX0_forwardColumn_8 rfl (lv_at hl 1 rfl) ?_
  refine zr_iald (v := st k) hx hb hK hP 9 0 rfl rfl k rfl (by omega) (by decide) rfl dX0_forwardColumn_9 ?_
  refine lv_bipush (v := nI 24) hx hb dX0_forwardColumn_10 (by decide) ?_
  refine zr_iushr (v := nI (zby (st k) 0)) hx hb dX0_forwardColumn_12 (zb0 _) ?_
  refine zr_iald (v := zFwd (zby (st k) 0)) hx hb hK hP 3 0 rfl rfl (zby (st k) 0) rfl (zby_lt _ _) (by decide) rfl dX0_forwardColumn_13 ?_
  refine lv_istore_n (lv' := [(2, .int (zFwd (zby (st k) 0))), (0, .ref h), (1, .int (nI k))]) hx hb dX0_forwardColumn_14 rfl hl (by decide) rfl (fun ls hl => ?_)
  refine lv_aload_n hx hb dX0_forwardColumn_15 rfl (lv_at hl 1 rfl) ?_
  refine zr_get (T := TX0) (N := 12) hx hb hts in_X0 hown hK hP 0 rfl rfl 2 (by decide) q100 rfl dX0_forwardColumn_16 ?_
  refine lv_aload_n hx hb dX0_forwardColumn_19 rfl (lv_at hl 1 rfl) ?_
  refine zr_get (T := TX0) (N := 12) hx hb hts in_X0 hown hK hP 0 rfl rfl 8 (by decide) q106 rfl dX0_forwardColumn_20 ?_
  refine lv_iload_n hx hb dX0_forwardColumn_23 rfl (lv_at hl 2 rfl) ?_
  refine lv_iconst (v := nI 1) hx hb dX0_forwardColumn_24 (by decide) ?_
  refine zr_iadd (v := nI (k + 1)) hx hb dX0_forwardColumn_25 (nI_add _ _) ?_
  refine lv_iconst (v := nI 3) hx hb dX0_forwardColumn_26 (by decide) ?_
  refine zr_iand (v := nI ((k + 1) % 4)) hx hb dX0_forwardColumn_27 (zm3 (by omega)) ?_
  refine zr_iald (v := st ((k + 1) % 4)) hx hb hK hP 9 0 rfl rfl ((k + 1) % 4) rfl (by omega) (by decide) rfl dX0_forwardColumn_28 ?_
  refine lv_bipush (v := nI 16) hx hb dX0_forwardColumn_29 (by decide) ?_
  refine zr_iushr (v := zus (st ((k + 1) % 4)) 16) hx hb dX0_forwardColumn_31 rfl ?_
  refine lv_sipush (v := nI 255) hx hb dX0_forwardColumn_32 (by decide) ?_
  refine zr_iand (v := nI (zby (st ((k + 1) % 4)) 1)) hx hb dX0_forwardColumn_35 (zb1 _) ?_
  refine zr_iald (v := zFwd (zby (st ((k + 1) % 4)) 1)) hx hb hK hP 3 0 rfl rfl (zby (st ((k + 1) % 4)) 1) rfl (zby_lt _ _) (by decide) rfl dX0_forwardColumn_36 ?_
  refine lv_istore_n (lv' := [(3, .int (zFwd (zby (st ((k + 1) % 4)) 1))), (2, .int (zFwd (zby (st k) 0))), (0, .ref h), (1, .int (nI k))]) hx hb dX0_forwardColumn_37 rfl hl (by decide) rfl (fun ls hl => ?_)
  refine lv_aload_n hx hb dX0_forwardColumn_38 rfl (lv_at hl 2 rfl) ?_
  refine zr_get (T := TX0) (N := 12) hx hb hts in_X0 hown hK hP 0 rfl rfl 2 (by decide) q100 rfl dX0_forwardColumn_39 ?_
  refine lv_aload_n hx hb dX0_forwardColumn_42 rfl (lv_at hl 2 rfl) ?_
  refine zr_get (T := TX0) (N := 12) hx hb hts in_X0 hown hK hP 0 rfl rfl 8 (by decide) q106 rfl dX0_forwardColumn_43 ?_
  refine lv_iload_n hx hb dX0_forwardColumn_46 rfl (lv_at hl 3 rfl) ?_
  refine lv_iconst (v := nI 2) hx hb dX0_forwardColumn_47 (by decide) ?_
  refine zr_iadd (v := nI (k + 2)) hx hb dX0_forwardColumn_48 (nI_add _ _) ?_
  refine lv_iconst (v := nI 3) hx hb dX0_forwardColumn_49 (by decide) ?_
  refine zr_iand (v := nI ((k + 2) % 4)) hx hb dX0_forwardColumn_50 (zm3 (by omega)) ?_
  refine zr_iald (v := st ((k + 2) % 4)) hx hb hK hP 9 0 rfl rfl ((k + 2) % 4) rfl (by omega) (by decide) rfl dX0_forwardColumn_51 ?_
  refine lv_bipush (v := nI 8) hx hb dX0_forwardColumn_52 (by decide) ?_
  refine zr_iushr (v := zus (st ((k + 2) % 4)) 8) hx hb dX0_forwardColumn_54 rfl ?_
  refine lv_sipush (v := nI 255) hx hb dX0_forwardColumn_55 (by decide) ?_
  refine zr_iand (v := nI (zby (st ((k + 2) % 4)) 2)) hx hb dX0_forwardColumn_58 (zb2 _) ?_
  refine zr_iald (v := zFwd (zby (st ((k + 2) % 4)) 2)) hx hb hK hP 3 0 rfl rfl (zby (st ((k + 2) % 4)) 2) rfl (zby_lt _ _) (by decide) rfl dX0_forwardColumn_59 ?_
  refine lv_istore (lv' := [(4, .int (zFwd (zby (st ((k + 2) % 4)) 2))), (3, .int (zFwd (zby (st ((k + 1) % 4)) 1))), (2, .int (zFwd (zby (st k) 0))), (0, .ref h), (1, .int (nI k))]) hx hb dX0_forwardColumn_60 hl (by decide) rfl (fun ls hl => ?_)
  refine lv_aload_n hx hb dX0_forwardColumn_62 rfl (lv_at hl 3 rfl) ?_
  refine zr_get (T := TX0) (N := 12) hx hb hts in_X0 hown hK hP 0 rfl rfl 2 (by decide) q100 rfl dX0_forwardColumn_63 ?_
  refine lv_aload_n hx hb dX0_forwardColumn_66 rfl (lv_at hl 3 rfl) ?_
  refine zr_get (T := TX0) (N := 12) hx hb hts in_X0 hown hK hP 0 rfl rfl 8 (by decide) q106 rfl dX0_forwardColumn_67 ?_
  refine lv_iload_n hx hb dX0_forwardColumn_70 rfl (lv_at hl 4 rfl) ?_
  refine lv_iconst (v := nI 3) hx hb dX0_forwardColumn_71 (by decide) ?_
  refine zr_iadd (v := nI (k + 3)) hx hb dX0_forwardColumn_72 (nI_add _ _) ?_
  refine lv_iconst (v := nI 3) hx hb dX0_forwardColumn_73 (by decide) ?_
  refine zr_iand (v := nI ((k + 3) % 4)) hx hb dX0_forwardColumn_74 (zm3 (by omega)) ?_
  refine zr_iald (v := st ((k + 3) % 4)) hx hb hK hP 9 0 rfl rfl ((k + 3) % 4) rfl (by omega) (by decide) rfl dX0_forwardColumn_75 ?_
  refine lv_sipush (v := nI 255) hx hb dX0_forwardColumn_76 (by decide) ?_
  refine zr_iand (v := nI (zby (st ((k + 3) % 4)) 3)) hx hb dX0_forwardColumn_79 (zb3 _) ?_
  refine zr_iald (v := zFwd (zby (st ((k + 3) % 4)) 3)) hx hb hK hP 3 0 rfl rfl (zby (st ((k + 3) % 4)) 3) rfl (zby_lt _ _) (by decide) rfl dX0_forwardColumn_80 ?_
  refine lv_istore (lv' := [(5, .int (zFwd (zby (st ((k + 3) % 4)) 3))), (4, .int (zFwd (zby (st ((k + 2) % 4)) 2))), (3, .int (zFwd (zby (st ((k + 1) % 4)) 1))), (2, .int (zFwd (zby (st k) 0))), (0, .ref h), (1, .int (nI k))]) hx hb dX0_forwardColumn_81 hl (by decide) rfl (fun ls hl => ?_)
  refine lv_iload_n hx hb dX0_forwardColumn_83 rfl (lv_at hl 3 rfl) ?_
  refine lv_iload_n hx hb dX0_forwardColumn_84 rfl (lv_at hl 2 rfl) ?_
  refine lv_bipush (v := nI 8) hx hb dX0_forwardColumn_85 (by decide) ?_
  refine zr_callS (rest := [.int (zFwd (zby (st k) 0))]) ⟨hx, hb, hml, hown, hts⟩ (mX_turnRight l D cA (zFwd (zby (st ((k + 1) % 4)) 1)) 8 (by decide)) (va_cwS 2 hts (lw_S q75 q76 q30 q77) rfl rfl rfl (by decide +kernel) ⟨Nat.le_of_ble_eq_true rfl, Nat.le_of_ble_eq_true rfl⟩) hK hP hD rfl hS hA rfl hl.1 rfl (Nat.le_of_ble_eq_true rfl) dX0_forwardColumn_87 ⟨Nat.zero_le _, Nat.zero_le _⟩ (fun H locs hP hS => ?_)
  refine zr_ixor (v := (zFwd (zby (st k) 0)) ^^^ (zrr (zFwd (zby (st ((k + 1) % 4)) 1)) 8)) hx hb dX0_forwardColumn_90 rfl ?_
  refine lv_iload hx hb dX0_forwardColumn_91 (lv_at hl 1 rfl) ?_
  refine lv_bipush (v := nI 16) hx hb dX0_forwardColumn_93 (by decide) ?_
  refine zr_callS (rest := [.int ((zFwd (zby (st k) 0)) ^^^ (zrr (zFwd (zby (st ((k + 1) % 4)) 1)) 8))]) ⟨hx, hb, hml, hown, hts⟩ (mX_turnRight l D cA (zFwd (zby (st ((k + 2) % 4)) 2)) 16 (by decide)) (va_cwS 2 hts (lw_S q75 q76 q30 q77) rfl rfl rfl (by decide +kernel) ⟨Nat.le_of_ble_eq_true rfl, Nat.le_of_ble_eq_true rfl⟩) hK hP hD rfl hS hA rfl hl.1 rfl (Nat.le_of_ble_eq_true rfl) dX0_forwardColumn_95 ⟨Nat.zero_le _, Nat.zero_le _⟩ (fun H locs hP hS => ?_)
  refine zr_ixor (v := ((zFwd (zby (st k) 0)) ^^^ (zrr (zFwd (zby (st ((k + 1) % 4)) 1)) 8)) ^^^ (zrr (zFwd (zby (st ((k + 2) % 4)) 2)) 16)) hx hb dX0_forwardColumn_98 rfl ?_
  refine lv_iload hx hb dX0_forwardColumn_99 (lv_at hl 0 rfl) ?_
  refine lv_bipush (v := nI 24) hx hb dX0_forwardColumn_101 (by decide) ?_
  refine zr_callS (rest := [.int (((zFwd (zby (st k) 0)) ^^^ (zrr (zFwd (zby (st ((k + 1) % 4)) 1)) 8)) ^^^ (zrr (zFwd (zby (st ((k + 2) % 4)) 2)) 16))]) ⟨hx, hb, hml, hown, hts⟩ (mX_turnRight l D cA (zFwd (zby (st ((k + 3) % 4)) 3)) 24 (by decide)) (va_cwS 2 hts (lw_S q75 q76 q30 q77) rfl rfl rfl (by decide +kernel) ⟨Nat.le_of_ble_eq_true rfl, Nat.le_of_ble_eq_true rfl⟩) hK hP hD rfl hS hA rfl hl.1 rfl (Nat.le_of_ble_eq_true rfl) dX0_forwardColumn_103 ⟨Nat.zero_le _, Nat.zero_le _⟩ (fun H locs hP hS => ?_)
  refine zr_ixor (v := (((zFwd (zby (st k) 0)) ^^^ (zrr (zFwd (zby (st ((k + 1) % 4)) 1)) 8)) ^^^ (zrr (zFwd (zby (st ((k + 2) % 4)) 2)) 16)) ^^^ (zrr (zFwd (zby (st ((k + 3) % 4)) 3)) 24)) hx hb dX0_forwardColumn_106 rfl ?_
  exact hret _ H locs _ ls rfl hP hS dX0_forwardColumn_107
set_option maxHeartbeats 4000000 in
/-- BlockSealer.backwardColumn  -/
theorem mX_backwardColumn (l : Launch) (D : va_G) (cA : ClassId) (h : Nat) (ad : Nat → Nat) (rk tk pre sum st fr mul : Nat → Int32) (k : Nat) (hk : k < 4) : MetW l D cA yX0_backwardColumn (ws_ yX0_backwardColumn cX0_backwardColumn 6 (some .int)) (zroom 1) ([.ref h, .int (nI k)] : List Value) (XG cA h ad zSub zRes zFwd zBwd rk tk pre sum st fr mul zFal) (XG cA h ad zSub zRes zFwd zBwd rk tk pre sum st fr mul zFal) (some (zbc st k)) := by
  refine zr_startI RX0 rfl (by decide) (Nat.le_of_ble_eq_true rfl) ?_
  intro p e s m below meth c A ls Q hx hb hml hown hts hK hP hD hA hS hret hl
  have hl : lv_has ls 6 [(0, .ref h), (1, .int (nI k))] := hl
  generalize hH : s.heap = H at hP
  have hS : va_S A s.heap H [] := by rw [← hH]; exact hS
  generalize hlo : ([] : List Loc) = locs at hS ⊢
  refine lv_aload_n hx hb dX0_backwardColumn_0 rfl (lv_at hl 0 rfl) ?_
  refine zr_get (T := TX0) (N := 12) hx hb hts in_X0 hown hK hP 0 rfl rfl 3 (by decide) q101 rfl dX0_backwardColumn_1 ?_
  refine lv_aload_n hx hb dX0_backwardColumn_4 rfl (lv_at hl 0 rfl) ?_
  refine zr_get (T := TX0) (N := 12) hx hb hts in_X0 hown hK hP 0 rfl rfl 8 (by decide) q106 rfl dX0_backwardColumn_5 ?_
  refine lv_iload_n hx hb dX0_backwardColumn_8 rfl (lv_at hl 1 rfl) ?_
  refine zr_iald (v := st k) hx hb hK hP 9 0 rfl rfl k rfl (by omega) (by decide) rfl dX0_backwardColumn_9 ?_
  refine lv_bipush (v := nI 24) hx hb dX0_backwardColumn_10 (by decide) ?_
  refine zr_iushr (v := nI (zby (st k) 0)) hx hb dX0_backwardColumn_12 (zb0 _) ?_
  refine zr_iald (v := zBwd (zby (st k) 0)) hx hb hK hP 4 0 rfl rfl (zby (st k) 0) rfl (zby_lt _ _) (by decide) rfl dX0_backwardColumn_13 ?_
  refine lv_istore_n (lv' := [(2, .int (zBwd (zby (st k) 0))), (0, .ref h), (1, .int (nI k))]) hx hb dX0_backwardColumn_14 rfl hl (by decide) rfl (fun ls hl => ?_)
  refine lv_aload_n hx hb dX0_backwardColumn_15 rfl (lv_at hl 1 rfl) ?_
  refine zr_get (T := TX0) (N := 12) hx hb hts in_X0 hown hK hP 0 rfl rfl 3 (by decide) q101 rfl dX0_backwardColumn_16 ?_
  refine lv_aload_n hx hb dX0_backwardColumn_19 rfl (lv_at hl 1 rfl) ?_
  refine zr_get (T := TX0) (N := 12) hx hb hts in_X0 hown hK hP 0 rfl rfl 8 (by decide) q106 rfl dX0_backwardColumn_20 ?_
  refine lv_iload_n hx hb dX0_backwardColumn_23 rfl (lv_at hl 2 rfl) ?_
  refine lv_iconst (v := nI 3) hx hb dX0_backwardColumn_24 (by decide) ?_
  refine zr_iadd (v := nI (k + 3)) hx hb dX0_backwardColumn_25 (nI_add _ _) ?_
  refine lv_iconst (v := nI 3) hx hb dX0_backwardColumn_26 (by decide) ?_
  refine zr_iand (v := nI ((k + 3) % 4)) hx hb dX0_backwardColumn_27 (zm3 (by omega)) ?_
  refine zr_iald (v := st ((k + 3) % 4)) hx hb hK hP 9 0 rfl rfl ((k + 3) % 4) rfl (by omega) (by decide) rfl dX0_backwardColumn_28 ?_
  refine lv_bipush (v := nI 16) hx hb dX0_backwardColumn_29 (by decide) ?_
  refine zr_iushr (v := zus (st ((k + 3) % 4)) 16) hx hb dX0_backwardColumn_31 rfl ?_
  refine lv_sipush (v := nI 255) hx hb dX0_backwardColumn_32 (by decide) ?_
  refine zr_iand (v := nI (zby (st ((k + 3) % 4)) 1)) hx hb dX0_backwardColumn_35 (zb1 _) ?_
  refine zr_iald (v := zBwd (zby (st ((k + 3) % 4)) 1)) hx hb hK hP 4 0 rfl rfl (zby (st ((k + 3) % 4)) 1) rfl (zby_lt _ _) (by decide) rfl dX0_backwardColumn_36 ?_
  refine lv_istore_n (lv' := [(3, .int (zBwd (zby (st ((k + 3) % 4)) 1))), (2, .int (zBwd (zby (st k) 0))), (0, .ref h), (1, .int (nI k))]) hx hb dX0_backwardColumn_37 rfl hl (by decide) rfl (fun ls hl => ?_)
  refine lv_aload_n hx hb dX0_backwardColumn_38 rfl (lv_at hl 2 rfl) ?_
  refine zr_get (T := TX0) (N := 12) hx hb hts in_X0 hown hK hP 0 rfl rfl 3 (by decide) q101 rfl dX0_backwardColumn_39 ?_
  refine lv_aload_n hx hb dX0_backwardColumn_42 rfl (lv_at hl 2 rfl) ?_
  refine zr_get (T := TX0) (N := 12) hx hb hts in_X0 hown hK hP 0 rfl rfl 8 (by decide) q106 rfl dX0_backwardColumn_43 ?_
  refine lv_iload_n hx hb dX0_backwardColumn_46 rfl (lv_at hl 3 rfl) ?_
  refine lv_iconst (v := nI 2) hx hb dX0_backwardColumn_47 (by decide) ?_
  refine zr_iadd (v := nI (k + 2)) hx hb dX0_backwardColumn_48 (nI_add _ _) ?_
  refine lv_iconst (v := nI 3) hx hb dX0_backwardColumn_49 (by decide) ?_
  refine zr_iand (v := nI ((k + 2) % 4)) hx hb dX0_backwardColumn_50 (zm3 (by omega)) ?_
  refine zr_iald (v := st ((k + 2) % 4)) hx hb hK hP 9 0 rfl rfl ((k + 2) % 4) rfl (by omega) (by decide) rfl dX0_backwardColumn_51 ?_
  refine lv_bipush (v := nI 8) hx hb dX0_backwardColumn_52 (by decide) ?_
  refine zr_iushr (v := zus (st ((k + 2) % 4)) 8) hx hb dX0_backwardColumn_54 rfl ?_
  refine lv_sipush (v := nI 255) hx hb dX0_backwardColumn_55 (by decide) ?_
  refine zr_iand (v := nI (zby (st ((k + 2) % 4)) 2)) hx hb dX0_backwardColumn_58 (zb2 _) ?_
  refine zr_iald (v := zBwd (zby (st ((k + 2) % 4)) 2)) hx hb hK hP 4 0 rfl rfl (zby (st ((k + 2) % 4)) 2) rfl (zby_lt _ _) (by decide) rfl dX0_backwardColumn_59 ?_
  refine lv_istore (lv' := [(4, .int (zBwd (zby (st ((k + 2) % 4)) 2))), (3, .int (zBwd (zby (st ((k + 3) % 4)) 1))), (2, .int (zBwd (zby (st k) 0))), (0, .ref h), (1, .int (nI k))]) hx hb dX0_backwardColumn_60 hl (by decide) rfl (fun ls hl => ?_)
  refine lv_aload_n hx hb dX0_backwardColumn_62 rfl (lv_at hl 3 rfl) ?_
  refine zr_get (T := TX0) (N := 12) hx hb hts in_X0 hown hK hP 0 rfl rfl 3 (by decide) q101 rfl dX0_backwardColumn_63 ?_
  refine lv_aload_n hx hb dX0_backwardColumn_66 rfl (lv_at hl 3 rfl) ?_
  refine zr_get (T := TX0) (N := 12) hx hb hts in_X0 hown hK hP 0 rfl rfl 8 (by decide) q106 rfl dX0_backwardColumn_67 ?_
  refine lv_iload_n hx hb dX0_backwardColumn_70 rfl (lv_at hl 4 rfl) ?_
  refine lv_iconst (v := nI 1) hx hb dX0_backwardColumn_71 (by decide) ?_
  refine zr_iadd (v := nI (k + 1)) hx hb dX0_backwardColumn_72 (nI_add _ _) ?_
  refine lv_iconst (v := nI 3) hx hb dX0_backwardColumn_73 (by decide) ?_
  refine zr_iand (v := nI ((k + 1) % 4)) hx hb dX0_backwardColumn_74 (zm3 (by omega)) ?_
  refine zr_iald (v := st ((k + 1) % 4)) hx hb hK hP 9 0 rfl rfl ((k + 1) % 4) rfl (by omega) (by decide) rfl dX0_backwardColumn_75 ?_
  refine lv_sipush (v := nI 255) hx hb dX0_backwardColumn_76 (by decide) ?_
  refine zr_iand (v := nI (zby (st ((k + 1) % 4)) 3)) hx hb dX0_backwardColumn_79 (zb3 _) ?_
  refine zr_iald (v := zBwd (zby (st ((k + 1) % 4)) 3)) hx hb hK hP 4 0 rfl rfl (zby (st ((k + 1) % 4)) 3) rfl (zby_lt _ _) (by decide) rfl dX0_backwardColumn_80 ?_
  refine lv_istore (lv' := [(5, .int (zBwd (zby (st ((k + 1) % 4)) 3))), (4, .int (zBwd (zby (st ((k + 2) % 4)) 2))), (3, .int (zBwd (zby (st ((k + 3) % 4)) 1))), (2, .int (zBwd (zby (st k) 0))), (0, .ref h), (1, .int (nI k))]) hx hb dX0_backwardColumn_81 hl (by decide) rfl (fun ls hl => ?_)
  refine lv_iload_n hx hb dX0_backwardColumn_83 rfl (lv_at hl 3 rfl) ?_
  refine lv_iload_n hx hb dX0_backwardColumn_84 rfl (lv_at hl 2 rfl) ?_
  refine lv_bipush (v := nI 8) hx hb dX0_backwardColumn_85 (by decide) ?_
  refine zr_callS (rest := [.int (zBwd (zby (st k) 0))]) ⟨hx, hb, hml, hown, hts⟩ (mX_turnRight l D cA (zBwd (zby (st ((k + 3) % 4)) 1)) 8 (by decide)) (va_cwS 2 hts (lw_S q75 q76 q30 q77) rfl rfl rfl (by decide +kernel) ⟨Nat.le_of_ble_eq_true rfl, Nat.le_of_ble_eq_true rfl⟩) hK hP hD rfl hS hA rfl hl.1 rfl (Nat.le_of_ble_eq_true rfl) dX0_backwardColumn_87 ⟨Nat.zero_le _, Nat.zero_le _⟩ (fun H locs hP hS => ?_)
  refine zr_ixor (v := (zBwd (zby (st k) 0)) ^^^ (zrr (zBwd (zby (st ((k + 3) % 4)) 1)) 8)) hx hb dX0_backwardColumn_90 rfl ?_
  refine lv_iload hx hb dX0_backwardColumn_91 (lv_at hl 1 rfl) ?_
  refine lv_bipush (v := nI 16) hx hb dX0_backwardColumn_93 (by decide) ?_
  refine zr_callS (rest := [.int ((zBwd (zby (st k) 0)) ^^^ (zrr (zBwd (zby (st ((k + 3) % 4)) 1)) 8))]) ⟨hx, hb, hml, hown, hts⟩ (mX_turnRight l D cA (zBwd (zby (st ((k + 2) % 4)) 2)) 16 (by decide)) (va_cwS 2 hts (lw_S q75 q76 q30 q77) rfl rfl rfl (by decide +kernel) ⟨Nat.le_of_ble_eq_true rfl, Nat.le_of_ble_eq_true rfl⟩) hK hP hD rfl hS hA rfl hl.1 rfl (Nat.le_of_ble_eq_true rfl) dX0_backwardColumn_95 ⟨Nat.zero_le _, Nat.zero_le _⟩ (fun H locs hP hS => ?_)
  refine zr_ixor (v := ((zBwd (zby (st k) 0)) ^^^ (zrr (zBwd (zby (st ((k + 3) % 4)) 1)) 8)) ^^^ (zrr (zBwd (zby (st ((k + 2) % 4)) 2)) 16)) hx hb dX0_backwardColumn_98 rfl ?_
  refine lv_iload hx hb dX0_backwardColumn_99 (lv_at hl 0 rfl) ?_
  refine lv_bipush (v := nI 24) hx hb dX0_backwardColumn_101 (by decide) ?_
  refine zr_callS (rest := [.int (((zBwd (zby (st k) 0)) ^^^ (zrr (zBwd (zby (st ((k + 3) % 4)) 1)) 8)) ^^^ (zrr (zBwd (zby (st ((k + 2) % 4)) 2)) 16))]) ⟨hx, hb, hml, hown, hts⟩ (mX_turnRight l D cA (zBwd (zby (st ((k + 1) % 4)) 3)) 24 (by decide)) (va_cwS 2 hts (lw_S q75 q76 q30 q77) rfl rfl rfl (by decide +kernel) ⟨Nat.le_of_ble_eq_true rfl, Nat.le_of_ble_eq_true rfl⟩) hK hP hD rfl hS hA rfl hl.1 rfl (Nat.le_of_ble_eq_true rfl) dX0_backwardColumn_103 ⟨Nat.zero_le _, Nat.zero_le _⟩ (fun H locs hP hS => ?_)
  refine zr_ixor (v := (((zBwd (zby (st k) 0)) ^^^ (zrr (zBwd (zby (st ((k + 3) % 4)) 1)) 8)) ^^^ (zrr (zBwd (zby (st ((k + 2) % 4)) 2)) 16)) ^^^ (zrr (zBwd (zby (st ((k + 1) % 4)) 3)) 24)) hx hb dX0_backwardColumn_106 rfl ?_
  exact hret _ H locs _ ls rfl hP hS dX0_backwardColumn_107
set_option maxHeartbeats 4000000 in
/-- BlockSealer.block  -/
theorem mX_block (l : Launch) (D : va_G) (cA : ClassId) (h : Nat) (ad : Nat → Nat) (rk tk pre sum st fr mul : Nat → Int32) (k0 k1 k2 k3 : Int32) : MetW l D cA yX0_block (ws_ yX0_block cX0_block 5 none) (zroom 0) ([.ref h, .int k0, .int k1, .int k2, .int k3] : List Value) (XG cA h ad zSub zRes zFwd zBwd rk tk pre sum st fr mul zFal) (XG cA h ad zSub zRes zFwd zBwd rk tk (zk4 pre k0 k1 k2 k3) sum st fr mul zFal) none := by
  refine zr_startV RX0 rfl (by decide) (Nat.le_of_ble_eq_true rfl) ?_
  intro p e s m below meth c A ls Q hx hb hml hown hts hK hP hD hA hS hret hl
  have hl : lv_has ls 5 [(0, .ref h), (1, .int k0), (2, .int k1), (3, .int k2), (4, .int k3)] := hl
  generalize hH : s.heap = H at hP
  have hS : va_S A s.heap H [] := by rw [← hH]; exact hS
  generalize hlo : ([] : List Loc) = locs at hS ⊢
  refine lv_aload_n hx hb dX0_block_0 rfl (lv_at hl 0 rfl) ?_
  refine zr_get (T := TX0) (N := 12) hx hb hts in_X0 hown hK hP 0 rfl rfl 6 (by decide) q104 rfl dX0_block_1 ?_
  refine lv_iconst (v := nI 0) hx hb dX0_block_4 (by decide) ?_
  refine lv_iload_n hx hb dX0_block_5 rfl (lv_at hl 1 rfl) ?_
  refine zr_iast (f' := upd pre 0 k0) hx hb hK hP hD rfl hS 7 0 rfl rfl 0 rfl (by decide) (by decide) rfl dX0_block_6 (fun H locs hP hS => ?_)
  have hP : va_P D Cl (XG cA h ad zSub zRes zFwd zBwd rk tk (upd pre 0 k0) sum st fr mul zFal) H := hP
  refine lv_aload_n hx hb dX0_block_7 rfl (lv_at hl 0 rfl) ?_
  refine zr_get (T := TX0) (N := 12) hx hb hts in_X0 hown hK hP 0 rfl rfl 6 (by decide) q104 rfl dX0_block_8 ?_
  refine lv_iconst (v := nI 1) hx hb dX0_block_11 (by decide) ?_
  refine lv_iload_n hx hb dX0_block_12 rfl (lv_at hl 2 rfl) ?_
  refine zr_iast (f' := upd (upd pre 0 k0) 1 k1) hx hb hK hP hD rfl hS 7 0 rfl rfl 1 rfl (by decide) (by decide) rfl dX0_block_13 (fun H locs hP hS => ?_)
  have hP : va_P D Cl (XG cA h ad zSub zRes zFwd zBwd rk tk (upd (upd pre 0 k0) 1 k1) sum st fr mul zFal) H := hP
  refine lv_aload_n hx hb dX0_block_14 rfl (lv_at hl 0 rfl) ?_
  refine zr_get (T := TX0) (N := 12) hx hb hts in_X0 hown hK hP 0 rfl rfl 6 (by decide) q104 rfl dX0_block_15 ?_
  refine lv_iconst (v := nI 2) hx hb dX0_block_18 (by decide) ?_
  refine lv_iload_n hx hb dX0_block_19 rfl (lv_at hl 3 rfl) ?_
  refine zr_iast (f' := upd (upd (upd pre 0 k0) 1 k1) 2 k2) hx hb hK hP hD rfl hS 7 0 rfl rfl 2 rfl (by decide) (by decide) rfl dX0_block_20 (fun H locs hP hS => ?_)
  have hP : va_P D Cl (XG cA h ad zSub zRes zFwd zBwd rk tk (upd (upd (upd pre 0 k0) 1 k1) 2 k2) sum st fr mul zFal) H := hP
  refine lv_aload_n hx hb dX0_block_21 rfl (lv_at hl 0 rfl) ?_
  refine zr_get (T := TX0) (N := 12) hx hb hts in_X0 hown hK hP 0 rfl rfl 6 (by decide) q104 rfl dX0_block_22 ?_
  refine lv_iconst (v := nI 3) hx hb dX0_block_25 (by decide) ?_
  refine lv_iload hx hb dX0_block_26 (lv_at hl 4 rfl) ?_
  refine zr_iast (f' := upd (upd (upd (upd pre 0 k0) 1 k1) 2 k2) 3 k3) hx hb hK hP hD rfl hS 7 0 rfl rfl 3 rfl (by decide) (by decide) rfl dX0_block_28 (fun H locs hP hS => ?_)
  have hP : va_P D Cl (XG cA h ad zSub zRes zFwd zBwd rk tk (upd (upd (upd (upd pre 0 k0) 1 k1) 2 k2) 3 k3) sum st fr mul zFal) H := hP
  exact hret H locs _ ls hP hS dX0_block_29
set_option maxHeartbeats 4000000 in
/-- BlockSealer.mix  -/
theorem mX_mix (l : Launch) (D : va_G) (cA : ClassId) (h : Nat) (ad : Nat → Nat) (rk tk pre sum st fr mul : Nat → Int32) (k0 k1 k2 k3 : Int32) : MetW l D cA yX0_mix (ws_ yX0_mix cX0_mix 5 none) (zroom 0) ([.ref h, .int k0, .int k1, .int k2, .int k3] : List Value) (XG cA h ad zSub zRes zFwd zBwd rk tk pre sum st fr mul zFal) (XG cA h ad zSub zRes zFwd zBwd rk tk (zk4 pre (pre 0 ^^^ k0) (pre 1 ^^^ k1) (pre 2 ^^^ k2) (pre 3 ^^^ k3)) sum st fr mul zFal) none := by
  refine zr_startV RX0 rfl (by decide) (Nat.le_of_ble_eq_true rfl) ?_
  intro p e s m below meth c A ls Q hx hb hml hown hts hK hP hD hA hS hret hl
  have hl : lv_has ls 5 [(0, .ref h), (1, .int k0), (2, .int k1), (3, .int k2), (4, .int k3)] := hl
  generalize hH : s.heap = H at hP
  have hS : va_S A s.heap H [] := by rw [← hH]; exact hS
  generalize hlo : ([] : List Loc) = locs at hS ⊢
  refine lv_aload_n hx hb dX0_mix_0 rfl (lv_at hl 0 rfl) ?_
  refine zr_get (T := TX0) (N := 12) hx hb hts in_X0 hown hK hP 0 rfl rfl 6 (by decide) q104 rfl dX0_mix_1 ?_
  refine lv_iconst (v := nI 0) hx hb dX0_mix_4 (by decide) ?_
  refine lv_dup2_11 hx hb dX0_mix_5 rfl rfl ?_
  refine zr_iald (v := pre 0) hx hb hK hP 7 0 rfl rfl 0 rfl (by decide) (by decide) rfl dX0_mix_6 ?_
  refine lv_iload_n hx hb dX0_mix_7 rfl (lv_at hl 1 rfl) ?_
  refine zr_ixor (v := (pre 0) ^^^ k0) hx hb dX0_mix_8 rfl ?_
  refine zr_iast (f' := upd pre 0 ((pre 0) ^^^ k0)) hx hb hK hP hD rfl hS 7 0 rfl rfl 0 rfl (by decide) (by decide) rfl dX0_mix_9 (fun H locs hP hS => ?_)
  have hP : va_P D Cl (XG cA h ad zSub zRes zFwd zBwd rk tk (upd pre 0 ((pre 0) ^^^ k0)) sum st fr mul zFal) H := hP
  refine lv_aload_n hx hb dX0_mix_10 rfl (lv_at hl 0 rfl) ?_
  refine zr_get (T := TX0) (N := 12) hx hb hts in_X0 hown hK hP 0 rfl rfl 6 (by decide) q104 rfl dX0_mix_11 ?_
  refine lv_iconst (v := nI 1) hx hb dX0_mix_14 (by decide) ?_
  refine lv_dup2_11 hx hb dX0_mix_15 rfl rfl ?_
  refine zr_iald (v := (upd pre 0 ((pre 0) ^^^ k0)) 1) hx hb hK hP 7 0 rfl rfl 1 rfl (by decide) (by decide) rfl dX0_mix_16 ?_
  refine lv_iload_n hx hb dX0_mix_17 rfl (lv_at hl 2 rfl) ?_
  refine zr_ixor (v := ((upd pre 0 ((pre 0) ^^^ k0)) 1) ^^^ k1) hx hb dX0_mix_18 rfl ?_
  refine zr_iast (f' := upd (upd pre 0 ((pre 0) ^^^ k0)) 1 (((upd pre 0 ((pre 0) ^^^ k0)) 1) ^^^ k1)) hx hb hK hP hD rfl hS 7 0 rfl rfl 1 rfl (by decide) (by decide) rfl dX0_mix_19 (fun H locs hP hS => ?_)
  have hP : va_P D Cl (XG cA h ad zSub zRes zFwd zBwd rk tk (upd (upd pre 0 ((pre 0) ^^^ k0)) 1 (((upd pre 0 ((pre 0) ^^^ k0)) 1) ^^^ k1)) sum st fr mul zFal) H := hP
  refine lv_aload_n hx hb dX0_mix_20 rfl (lv_at hl 0 rfl) ?_
  refine zr_get (T := TX0) (N := 12) hx hb hts in_X0 hown hK hP 0 rfl rfl 6 (by decide) q104 rfl dX0_mix_21 ?_
  refine lv_iconst (v := nI 2) hx hb dX0_mix_24 (by decide) ?_
  refine lv_dup2_11 hx hb dX0_mix_25 rfl rfl ?_
  refine zr_iald (v := (upd (upd pre 0 ((pre 0) ^^^ k0)) 1 (((upd pre 0 ((pre 0) ^^^ k0)) 1) ^^^ k1)) 2) hx hb hK hP 7 0 rfl rfl 2 rfl (by decide) (by decide) rfl dX0_mix_26 ?_
  refine lv_iload_n hx hb dX0_mix_27 rfl (lv_at hl 3 rfl) ?_
  refine zr_ixor (v := ((upd (upd pre 0 ((pre 0) ^^^ k0)) 1 (((upd pre 0 ((pre 0) ^^^ k0)) 1) ^^^ k1)) 2) ^^^ k2) hx hb dX0_mix_28 rfl ?_
  refine zr_iast (f' := upd (upd (upd pre 0 ((pre 0) ^^^ k0)) 1 (((upd pre 0 ((pre 0) ^^^ k0)) 1) ^^^ k1)) 2 (((upd (upd pre 0 ((pre 0) ^^^ k0)) 1 (((upd pre 0 ((pre 0) ^^^ k0)) 1) ^^^ k1)) 2) ^^^ k2)) hx hb hK hP hD rfl hS 7 0 rfl rfl 2 rfl (by decide) (by decide) rfl dX0_mix_29 (fun H locs hP hS => ?_)
  have hP : va_P D Cl (XG cA h ad zSub zRes zFwd zBwd rk tk (upd (upd (upd pre 0 ((pre 0) ^^^ k0)) 1 (((upd pre 0 ((pre 0) ^^^ k0)) 1) ^^^ k1)) 2 (((upd (upd pre 0 ((pre 0) ^^^ k0)) 1 (((upd pre 0 ((pre 0) ^^^ k0)) 1) ^^^ k1)) 2) ^^^ k2)) sum st fr mul zFal) H := hP
  refine lv_aload_n hx hb dX0_mix_30 rfl (lv_at hl 0 rfl) ?_
  refine zr_get (T := TX0) (N := 12) hx hb hts in_X0 hown hK hP 0 rfl rfl 6 (by decide) q104 rfl dX0_mix_31 ?_
  refine lv_iconst (v := nI 3) hx hb dX0_mix_34 (by decide) ?_
  refine lv_dup2_11 hx hb dX0_mix_35 rfl rfl ?_
  refine zr_iald (v := (upd (upd (upd pre 0 ((pre 0) ^^^ k0)) 1 (((upd pre 0 ((pre 0) ^^^ k0)) 1) ^^^ k1)) 2 (((upd (upd pre 0 ((pre 0) ^^^ k0)) 1 (((upd pre 0 ((pre 0) ^^^ k0)) 1) ^^^ k1)) 2) ^^^ k2)) 3) hx hb hK hP 7 0 rfl rfl 3 rfl (by decide) (by decide) rfl dX0_mix_36 ?_
  refine lv_iload hx hb dX0_mix_37 (lv_at hl 4 rfl) ?_
  refine zr_ixor (v := ((upd (upd (upd pre 0 ((pre 0) ^^^ k0)) 1 (((upd pre 0 ((pre 0) ^^^ k0)) 1) ^^^ k1)) 2 (((upd (upd pre 0 ((pre 0) ^^^ k0)) 1 (((upd pre 0 ((pre 0) ^^^ k0)) 1) ^^^ k1)) 2) ^^^ k2)) 3) ^^^ k3) hx hb dX0_mix_39 rfl ?_
  refine zr_iast (f' := upd (upd (upd (upd pre 0 ((pre 0) ^^^ k0)) 1 (((upd pre 0 ((pre 0) ^^^ k0)) 1) ^^^ k1)) 2 (((upd (upd pre 0 ((pre 0) ^^^ k0)) 1 (((upd pre 0 ((pre 0) ^^^ k0)) 1) ^^^ k1)) 2) ^^^ k2)) 3 (((upd (upd (upd pre 0 ((pre 0) ^^^ k0)) 1 (((upd pre 0 ((pre 0) ^^^ k0)) 1) ^^^ k1)) 2 (((upd (upd pre 0 ((pre 0) ^^^ k0)) 1 (((upd pre 0 ((pre 0) ^^^ k0)) 1) ^^^ k1)) 2) ^^^ k2)) 3) ^^^ k3)) hx hb hK hP hD rfl hS 7 0 rfl rfl 3 rfl (by decide) (by decide) rfl dX0_mix_40 (fun H locs hP hS => ?_)
  have hP : va_P D Cl (XG cA h ad zSub zRes zFwd zBwd rk tk (upd (upd (upd (upd pre 0 ((pre 0) ^^^ k0)) 1 (((upd pre 0 ((pre 0) ^^^ k0)) 1) ^^^ k1)) 2 (((upd (upd pre 0 ((pre 0) ^^^ k0)) 1 (((upd pre 0 ((pre 0) ^^^ k0)) 1) ^^^ k1)) 2) ^^^ k2)) 3 (((upd (upd (upd pre 0 ((pre 0) ^^^ k0)) 1 (((upd pre 0 ((pre 0) ^^^ k0)) 1) ^^^ k1)) 2 (((upd (upd pre 0 ((pre 0) ^^^ k0)) 1 (((upd pre 0 ((pre 0) ^^^ k0)) 1) ^^^ k1)) 2) ^^^ k2)) 3) ^^^ k3)) sum st fr mul zFal) H := hP
  exact hret H locs _ ls hP hS dX0_mix_41
set_option maxHeartbeats 4000000 in
/-- BlockSealer.next  -/
theorem mX_next (l : Launch) (D : va_G) (cA : ClassId) (h : Nat) (ad : Nat → Nat) (rk tk pre sum st fr mul : Nat → Int32)  : MetW l D cA yX0_next (ws_ yX0_next cX0_next 1 none) (zroom 0) ([.ref h] : List Value) (XG cA h ad zSub zRes zFwd zBwd rk tk pre sum st fr mul zFal) (XG cA h ad zSub zRes zFwd zBwd rk tk (upd pre 3 (pre 3 + nI 1)) sum st fr mul zFal) none := by
  refine zr_startV RX0 rfl (by decide) (Nat.le_of_ble_eq_true rfl) ?_
  intro p e s m below meth c A ls Q hx hb hml hown hts hK hP hD hA hS hret hl
  have hl : lv_has ls 1 [(0, .ref h)] := hl
  generalize hH : s.heap = H at hP
  have hS : va_S A s.heap H [] := by rw [← hH]; exact hS
  generalize hlo : ([] : List Loc) = locs at hS ⊢
  refine lv_aload_n hx hb dX0_next_0 rfl (lv_at hl 0 rfl) ?_
  refine zr_get (T := TX0) (N := 12) hx hb hts in_X0 hown hK hP 0 rfl rfl 6 (by decide) q104 rfl dX0_next_1 ?_
  refine lv_iconst (v := nI 3) hx hb dX0_next_4 (by decide) ?_
  refine lv_dup2_11 hx hb dX0_next_5 rfl rfl ?_
  refine zr_iald (v := pre 3) hx hb hK hP 7 0 rfl rfl 3 rfl (by decide) (by decide) rfl dX0_next_6 ?_
  refine lv_iconst (v := nI 1) hx hb dX0_next_7 (by decide) ?_
  refine zr_iadd (v := (pre 3) + (nI 1)) hx hb dX0_next_8 rfl ?_
  refine zr_iast (f' := upd pre 3 ((pre 3) + (nI 1))) hx hb hK hP hD rfl hS 7 0 rfl rfl 3 rfl (by decide) (by decide) rfl dX0_next_9 (fun H locs hP hS => ?_)
  have hP : va_P D Cl (XG cA h ad zSub zRes zFwd zBwd rk tk (upd pre 3 ((pre 3) + (nI 1))) sum st fr mul zFal) H := hP
  exact hret H locs _ ls hP hS dX0_next_10
set_option maxHeartbeats 4000000 in
/-- BlockSealer.word  -/
theorem mX_word (l : Launch) (D : va_G) (cA : ClassId) (h : Nat) (ad : Nat → Nat) (rk tk pre sum st fr mul : Nat → Int32) (k : Int32) : MetW l D cA yX0_word (ws_ yX0_word cX0_word 2 (some .int)) (zroom 0) ([.ref h, .int k] : List Value) (XG cA h ad zSub zRes zFwd zBwd rk tk pre sum st fr mul zFal) (XG cA h ad zSub zRes zFwd zBwd rk tk pre sum st fr mul zFal) (some (pre (zlo k 4))) := by
  refine zr_startI RX0 rfl (by decide) (Nat.le_of_ble_eq_true rfl) ?_
  intro p e s m below meth c A ls Q hx hb hml hown hts hK hP hD hA hS hret hl
  have hl : lv_has ls 2 [(0, .ref h), (1, .int k)] := hl
  generalize hH : s.heap = H at hP
  have hS : va_S A s.heap H [] := by rw [← hH]; exact hS
  generalize hlo : ([] : List Loc) = locs at hS ⊢
  refine lv_aload_n hx hb dX0_word_0 rfl (lv_at hl 0 rfl) ?_
  refine zr_get (T := TX0) (N := 12) hx hb hts in_X0 hown hK hP 0 rfl rfl 6 (by decide) q104 rfl dX0_word_1 ?_
  refine lv_iload_n hx hb dX0_word_4 rfl (lv_at hl 1 rfl) ?_
  refine lv_iconst (v := nI 3) hx hb dX0_word_5 (by decide) ?_
  refine zr_iand (v := nI (zlo k 4)) hx hb dX0_word_6 (zl3 _) ?_
  refine zr_iald (v := pre (zlo k 4)) hx hb hK hP 7 0 rfl rfl (zlo k 4) rfl (zlo_lt _ (by decide)) (by decide) rfl dX0_word_7 ?_
  exact hret _ H locs _ ls rfl hP hS dX0_word_8
set_option maxHeartbeats 4000000 in
/-- BlockSealer.hash  -/
theorem mX_hash (l : Launch) (D : va_G) (cA : ClassId) (h : Nat) (ad : Nat → Nat) (rk tk pre sum st fr mul : Nat → Int32) (k : Int32) : MetW l D cA yX0_hash (ws_ yX0_hash cX0_hash 2 (some .int)) (zroom 0) ([.ref h, .int k] : List Value) (XG cA h ad zSub zRes zFwd zBwd rk tk pre sum st fr mul zFal) (XG cA h ad zSub zRes zFwd zBwd rk tk pre sum st fr mul zFal) (some (sum (zlo k 4))) := by
  refine zr_startI RX0 rfl (by decide) (Nat.le_of_ble_eq_true rfl) ?_
  intro p e s m below meth c A ls Q hx hb hml hown hts hK hP hD hA hS hret hl
  have hl : lv_has ls 2 [(0, .ref h), (1, .int k)] := hl
  generalize hH : s.heap = H at hP
  have hS : va_S A s.heap H [] := by rw [← hH]; exact hS
  generalize hlo : ([] : List Loc) = locs at hS ⊢
  refine lv_aload_n hx hb dX0_hash_0 rfl (lv_at hl 0 rfl) ?_
  refine zr_get (T := TX0) (N := 12) hx hb hts in_X0 hown hK hP 0 rfl rfl 7 (by decide) q105 rfl dX0_hash_1 ?_
  refine lv_iload_n hx hb dX0_hash_4 rfl (lv_at hl 1 rfl) ?_
  refine lv_iconst (v := nI 3) hx hb dX0_hash_5 (by decide) ?_
  refine zr_iand (v := nI (zlo k 4)) hx hb dX0_hash_6 (zl3 _) ?_
  refine zr_iald (v := sum (zlo k 4)) hx hb hK hP 8 0 rfl rfl (zlo k 4) rfl (zlo_lt _ (by decide)) (by decide) rfl dX0_hash_7 ?_
  exact hret _ H locs _ ls rfl hP hS dX0_hash_8
set_option maxHeartbeats 4000000 in
/-- BlockSealer.roundKey  -/
theorem mX_roundKey (l : Launch) (D : va_G) (cA : ClassId) (h : Nat) (ad : Nat → Nat) (rk tk pre sum st fr mul : Nat → Int32) (q k : Int32) : MetW l D cA yX0_roundKey (ws_ yX0_roundKey cX0_roundKey 4 (some .int)) (zroom 0) ([.ref h, .int q, .int k] : List Value) (XG cA h ad zSub zRes zFwd zBwd rk tk pre sum st fr mul zFal) (XG cA h ad zSub zRes zFwd zBwd rk tk pre sum st fr mul zFal) (some (rk (4 * zrq q + zlo k 4))) := by
  refine zr_startI RX0 rfl (by decide) (Nat.le_of_ble_eq_true rfl) ?_
  intro p e s m below meth c A ls Q hx hb hml hown hts hK hP hD hA hS hret hl
  have hl : lv_has ls 4 [(0, .ref h), (1, .int q), (2, .int k)] := hl
  generalize hH : s.heap = H at hP
  have hS : va_S A s.heap H [] := by rw [← hH]; exact hS
  generalize hlo : ([] : List Loc) = locs at hS ⊢
  refine lv_iload_n hx hb dX0_roundKey_0 rfl (lv_at hl 1 rfl) ?_
  refine lv_bipush (v := nI 11) hx hb dX0_roundKey_1 (by decide) ?_
  refine lv_irem hx hb dX0_roundKey_3 (by decide) ?_
  refine lv_istore_n (lv' := [(3, .int (q - q / nI 11 * nI 11)), (0, .ref h), (1, .int q), (2, .int k)]) hx hb dX0_roundKey_4 rfl hl (by decide) rfl (fun ls hl => ?_)
  refine lv_iload_n hx hb dX0_roundKey_5 rfl (lv_at hl 0 rfl) ?_
  have hq := zrq_lt q
  have hk : zlo k 4 < 4 := zlo_lt k (by decide)
  refine lv_if_ge (tgt := 12) hx hb dX0_roundKey_6 (by decide) (fun hc => ?_) (fun hc => ?_)
  · skip
    rw [zrq_t hc] at hl
    refine lv_aload_n hx hb dX0_roundKey_12 rfl (lv_at hl 1 rfl) ?_
    refine zr_get (T := TX0) (N := 12) hx hb hts in_X0 hown hK hP 0 rfl rfl 4 (by decide) q102 rfl dX0_roundKey_13 ?_
    refine lv_iconst (v := nI 4) hx hb dX0_roundKey_16 (by decide) ?_
    refine lv_iload_n hx hb dX0_roundKey_17 rfl (lv_at hl 0 rfl) ?_
    refine zr_imul (v := nI (4 * (zrq q))) hx hb dX0_roundKey_18 (pk_mul _ _) ?_
    refine lv_iload_n hx hb dX0_roundKey_19 rfl (lv_at hl 3 rfl) ?_
    refine lv_iconst (v := nI 3) hx hb dX0_roundKey_20 (by decide) ?_
    refine zr_iand (v := nI (zlo k 4)) hx hb dX0_roundKey_21 (zl3 _) ?_
    refine zr_iadd (v := nI ((4 * (zrq q)) + (zlo k 4))) hx hb dX0_roundKey_22 (nI_add _ _) ?_
    refine zr_iald (v := rk ((4 * (zrq q)) + (zlo k 4))) hx hb hK hP 5 0 rfl rfl ((4 * (zrq q)) + (zlo k 4)) rfl (by omega) (by decide) rfl dX0_roundKey_23 ?_
    exact hret _ H locs _ ls rfl hP hS dX0_roundKey_24
  · skip
    refine lv_iinc (v := nI (zrq q)) (lv' := [(3, .int (nI (zrq q))), (0, .ref h), (1, .int q), (2, .int k)]) hx hb dX0_roundKey_9 hl (k := 0) rfl (zrq_f hc) (by decide) rfl (fun ls hl => ?_)
    refine lv_aload_n hx hb dX0_roundKey_12 rfl (lv_at hl 1 rfl) ?_
    refine zr_get (T := TX0) (N := 12) hx hb hts in_X0 hown hK hP 0 rfl rfl 4 (by decide) q102 rfl dX0_roundKey_13 ?_
    refine lv_iconst (v := nI 4) hx hb dX0_roundKey_16 (by decide) ?_
    refine lv_iload_n hx hb dX0_roundKey_17 rfl (lv_at hl 0 rfl) ?_
    refine zr_imul (v := nI (4 * (zrq q))) hx hb dX0_roundKey_18 (pk_mul _ _) ?_
    refine lv_iload_n hx hb dX0_roundKey_19 rfl (lv_at hl 3 rfl) ?_
    refine lv_iconst (v := nI 3) hx hb dX0_roundKey_20 (by decide) ?_
    refine zr_iand (v := nI (zlo k 4)) hx hb dX0_roundKey_21 (zl3 _) ?_
    refine zr_iadd (v := nI ((4 * (zrq q)) + (zlo k 4))) hx hb dX0_roundKey_22 (nI_add _ _) ?_
    refine zr_iald (v := rk ((4 * (zrq q)) + (zlo k 4))) hx hb hK hP 5 0 rfl rfl ((4 * (zrq q)) + (zlo k 4)) rfl (by omega) (by decide) rfl dX0_roundKey_23 ?_
    exact hret _ H locs _ ls rfl hP hS dX0_roundKey_24
set_option maxHeartbeats 4000000 in
/-- BlockSealer.restart  -/
theorem mX_restart (l : Launch) (D : va_G) (cA : ClassId) (h : Nat) (ad : Nat → Nat) (rk tk pre sum st fr mul : Nat → Int32) : MetW l D cA yX0_restart (ws_ yX0_restart cX0_restart 2 none) (zroom 0) ([.ref h] : List Value) (XG cA h ad zSub zRes zFwd zBwd rk tk pre sum st fr mul zFal) (XG cA h ad zSub zRes zFwd zBwd rk tk pre (fun _ => nI 0) st fr mul zFal) none := by
  refine zr_startV RX0 rfl (by decide) (Nat.le_of_ble_eq_true rfl) ?_
  intro p e s m below meth c A ls Q hx hb hml hown hts hK hP hD hA hS hret hl
  have hl : lv_has ls 2 [(0, .ref h)] := hl
  generalize hH : s.heap = H at hP
  have hS : va_S A s.heap H [] := by rw [← hH]; exact hS
  generalize hlo : ([] : List Loc) = locs at hS ⊢
  refine lv_iconst (v := nI 0) hx hb dX0_restart_0 (by decide) ?_
  refine lv_istore_n (lv' := [(1, .int (nI 0)), (0, .ref h)]) hx hb dX0_restart_1 rfl hl (by decide) rfl (fun ls hl => ?_)
  have L1 : ∀ (nL1 i : Nat), i + nL1 = 4 → ∀ (H : Heap) (locs : List Loc) (ls : Array Slot), va_P D Cl (XG cA h ad zSub zRes zFwd zBwd rk tk pre (zfil sum (fun _ => nI 0) i) st fr mul zFal) H → va_S A s.heap H locs → lv_has ls 2 [(1, .int (nI i)), (0, .ref h)] → W p l e (zroom 0) s m ([.ref h] : List Value).toArray below meth c H locs 0 0 Q (F0 m 2 ls []) := by
    intro nL1
    induction nL1 with
    | zero =>
      intro i hL1 H locs ls hP hS hl
      obtain rfl : i = 4 := by omega
      refine lv_iload_n hx hb dX0_restart_2 rfl (lv_at hl 0 rfl) ?_
      refine lv_iconst (v := nI 4) hx hb dX0_restart_3 (by decide) ?_
      refine zr_ge_t (tgt := 20) hx hb dX0_restart_4 (by decide) (by omega) (by omega) ?_
      have hP := zP (g := (fun _ => nI 0)) hP 8 rfl (fun j hj => zfil_lt hj)
      have hP : va_P D Cl (XG cA h ad zSub zRes zFwd zBwd rk tk pre (fun _ => nI 0) st fr mul zFal) H := hP
      exact hret H locs _ ls hP hS dX0_restart_20
    | succ nL1 ihL1 =>
      intro i hL1 H locs ls hP hS hl
      have hltL1 : i < 4 := by omega
      refine lv_iload_n hx hb dX0_restart_2 rfl (lv_at hl 0 rfl) ?_
      refine lv_iconst (v := nI 4) hx hb dX0_restart_3 (by decide) ?_
      refine zr_ge_f (tgt := 20) hx hb dX0_restart_4 (by decide) (by omega) (by omega) ?_
      refine lv_aload_n hx hb dX0_restart_7 rfl (lv_at hl 1 rfl) ?_
      refine zr_get (T := TX0) (N := 12) hx hb hts in_X0 hown hK hP 0 rfl rfl 7 (by decide) q105 rfl dX0_restart_8 ?_
      refine lv_iload_n hx hb dX0_restart_11 rfl (lv_at hl 0 rfl) ?_
      refine lv_iconst (v := nI 0) hx hb dX0_restart_12 (by decide) ?_
      refine zr_iast (f' := zfil sum (fun _ => nI 0) (i + 1)) hx hb hK hP hD rfl hS 8 0 rfl rfl i rfl (by omega) (by decide) (zfil_s rfl) dX0_restart_13 (fun H locs hP hS => ?_)
      have hP : va_P D Cl (XG cA h ad zSub zRes zFwd zBwd rk tk pre (zfil sum (fun _ => nI 0) (i + 1)) st fr mul zFal) H := hP
      refine lv_iinc (v := nI (i + 1)) (lv' := [(1, .int (nI (i + 1))), (0, .ref h)]) hx hb dX0_restart_14 hl (k := 0) rfl (zinc _) (by decide) rfl (fun ls hl => ?_)
      refine lv_goto (tgt := 2) hx hb dX0_restart_17 (by decide) ?_
      exact ihL1 (i + 1) (by omega) H locs ls hP hS (lv_sub hl [0, 1] rfl)
  exact L1 4 0 (by omega) H locs ls (by rw [zfil_0]; exact hP) hS (lv_sub hl [0, 1] rfl)
theorem zms_end {s : Nat → Int32} {j : Nat} : upd (zfid s (zms s) 0) 0 (zus (s 0) 4 ^^^ zFal (zlo (s 3) 16)) j = zms s j := by
  unfold upd zfid
  by_cases h : j = 0
  · subst h
    rfl
  · rw [if_neg h, if_neg (by omega)]
theorem zmo_t {s : Nat → Int32} (h : nI (zlo (s 3) 2) = 0) {j : Nat} : upd (zfid s (zmo s) 0) 0 (zus (s 0) 1 ^^^ nI 0) j = zmo s j := by
  unfold upd zfid
  by_cases h1 : j = 0
  · subst h1
    show zus (s 0) 1 ^^^ nI 0 = zus (s 0) 1 ^^^ (if nI (zlo (s 3) 2) = 0 then nI 0 else (-520093696 : Int32))
    rw [if_pos h]
  · rw [if_neg h1, if_neg (by omega)]
theorem zmo_f {s : Nat → Int32} (h : ¬ nI (zlo (s 3) 2) = 0) {j : Nat} : upd (zfid s (zmo s) 0) 0 (zus (s 0) 1 ^^^ (-520093696 : Int32)) j = zmo s j := by
  unfold upd zfid
  by_cases h1 : j = 0
  · subst h1
    show zus (s 0) 1 ^^^ (-520093696 : Int32) = zus (s 0) 1 ^^^ (if nI (zlo (s 3) 2) = 0 then nI 0 else (-520093696 : Int32))
    rw [if_neg h]
  · rw [if_neg h1, if_neg (by omega)]
set_option maxHeartbeats 4000000 in
/-- BlockSealer.moveSum  -/
theorem mX_moveSum (l : Launch) (D : va_G) (cA : ClassId) (h : Nat) (ad : Nat → Nat) (rk tk pre sum st fr mul : Nat → Int32) : MetW l D cA yX0_moveSum (ws_ yX0_moveSum cX0_moveSum 3 none) (zroom 0) ([.ref h] : List Value) (XG cA h ad zSub zRes zFwd zBwd rk tk pre sum st fr mul zFal) (XG cA h ad zSub zRes zFwd zBwd rk tk pre (zms sum) st fr mul zFal) none := by
  refine zr_startV RX0 rfl (by decide) (Nat.le_of_ble_eq_true rfl) ?_
  intro p e s m below meth c A ls Q hx hb hml hown hts hK hP hD hA hS hret hl
  have hl : lv_has ls 3 [(0, .ref h)] := hl
  generalize hH : s.heap = H at hP
  have hS : va_S A s.heap H [] := by rw [← hH]; exact hS
  generalize hlo : ([] : List Loc) = locs at hS ⊢
  refine lv_aload_n hx hb dX0_moveSum_0 rfl (lv_at hl 0 rfl) ?_
  refine zr_get (T := TX0) (N := 12) hx hb hts in_X0 hown hK hP 0 rfl rfl 7 (by decide) q105 rfl dX0_moveSum_1 ?_
  refine lv_iconst (v := nI 3) hx hb dX0_moveSum_4 (by decide) ?_
  refine zr_iald (v := sum 3) hx hb hK hP 8 0 rfl rfl 3 rfl (by decide) (by decide) rfl dX0_moveSum_5 ?_
  refine lv_bipush (v := nI 15) hx hb dX0_moveSum_6 (by decide) ?_
  refine zr_iand (v := nI (zlo (sum 3) 16)) hx hb dX0_moveSum_8 (zl15 _) ?_
  refine lv_istore_n (lv' := [(1, .int (nI (zlo (sum 3) 16))), (0, .ref h)]) hx hb dX0_moveSum_9 rfl hl (by decide) rfl (fun ls hl => ?_)
  refine lv_iconst (v := nI 3) hx hb dX0_moveSum_10 (by decide) ?_
  refine lv_istore_n (lv' := [(2, .int (nI 3)), (1, .int (nI (zlo (sum 3) 16))), (0, .ref h)]) hx hb dX0_moveSum_11 rfl hl (by decide) rfl (fun ls hl => ?_)
  have L1 : ∀ (i : Nat), i ≤ 3 → ∀ (H : Heap) (locs : List Loc) (ls : Array Slot), va_P D Cl (XG cA h ad zSub zRes zFwd zBwd rk tk pre (zfid sum (zms sum) i) st fr mul zFal) H → va_S A s.heap H locs → lv_has ls 3 [(2, .int (nI i)), (1, .int (nI (zlo (sum 3) 16))), (0, .ref h)] → W p l e (zroom 0) s m ([.ref h] : List Value).toArray below meth c H locs 0 0 Q (F0 m 12 ls []) := by
    intro i
    induction i with
    | zero =>
      intro hleL1 H locs ls hP hS hl
      refine lv_iload_n hx hb dX0_moveSum_12 rfl (lv_at hl 0 rfl) ?_
      refine zr_ifle_t (tgt := 48) hx hb dX0_moveSum_13 (by decide) ?_
      refine lv_aload_n hx hb dX0_moveSum_48 rfl (lv_at hl 2 rfl) ?_
      refine zr_get (T := TX0) (N := 12) hx hb hts in_X0 hown hK hP 0 rfl rfl 7 (by decide) q105 rfl dX0_moveSum_49 ?_
      refine lv_iconst (v := nI 0) hx hb dX0_moveSum_52 (by decide) ?_
      refine lv_aload_n hx hb dX0_moveSum_53 rfl (lv_at hl 2 rfl) ?_
      refine zr_get (T := TX0) (N := 12) hx hb hts in_X0 hown hK hP 0 rfl rfl 7 (by decide) q105 rfl dX0_moveSum_54 ?_
      refine lv_iconst (v := nI 0) hx hb dX0_moveSum_57 (by decide) ?_
      refine zr_iald (v := sum 0) hx hb hK hP 8 0 rfl rfl 0 rfl (by decide) (by decide) (zfid_le (Nat.le_refl 0)) dX0_moveSum_58 ?_
      refine lv_iconst (v := nI 4) hx hb dX0_moveSum_59 (by decide) ?_
      refine zr_iushr (v := zus (sum 0) 4) hx hb dX0_moveSum_60 rfl ?_
      refine lv_aload_n hx hb dX0_moveSum_61 rfl (lv_at hl 2 rfl) ?_
      refine zr_get (T := TX0) (N := 12) hx hb hts in_X0 hown hK hP 0 rfl rfl 11 (by decide) q109 rfl dX0_moveSum_62 ?_
      refine lv_iload_n hx hb dX0_moveSum_65 rfl (lv_at hl 1 rfl) ?_
      refine zr_iald (v := zFal (zlo (sum 3) 16)) hx hb hK hP 12 0 rfl rfl (zlo (sum 3) 16) rfl (zlo_lt _ (by decide)) (by decide) rfl dX0_moveSum_66 ?_
      refine zr_ixor (v := (zus (sum 0) 4) ^^^ (zFal (zlo (sum 3) 16))) hx hb dX0_moveSum_67 rfl ?_
      refine zr_iast (f' := upd (zfid sum (zms sum) 0) 0 ((zus (sum 0) 4) ^^^ (zFal (zlo (sum 3) 16)))) hx hb hK hP hD rfl hS 8 0 rfl rfl 0 rfl (by decide) (by decide) rfl dX0_moveSum_68 (fun H locs hP hS => ?_)
      have hP : va_P D Cl (XG cA h ad zSub zRes zFwd zBwd rk tk pre (upd (zfid sum (zms sum) 0) 0 ((zus (sum 0) 4) ^^^ (zFal (zlo (sum 3) 16)))) st fr mul zFal) H := hP
      have hP := zP (g := zms sum) hP 8 rfl (fun j hj => zms_end)
      have hP : va_P D Cl (XG cA h ad zSub zRes zFwd zBwd rk tk pre (zms sum) st fr mul zFal) H := hP
      exact hret H locs _ ls hP hS dX0_moveSum_69
    | succ i ihL1 =>
      intro hleL1 H locs ls hP hS hl
      refine lv_iload_n hx hb dX0_moveSum_12 rfl (lv_at hl 0 rfl) ?_
      refine zr_ifle_f (tgt := 48) hx hb dX0_moveSum_13 (by decide) (by omega) (by omega) ?_
      refine lv_aload_n hx hb dX0_moveSum_16 rfl (lv_at hl 2 rfl) ?_
      refine zr_get (T := TX0) (N := 12) hx hb hts in_X0 hown hK hP 0 rfl rfl 7 (by decide) q105 rfl dX0_moveSum_17 ?_
      refine lv_iload_n hx hb dX0_moveSum_20 rfl (lv_at hl 0 rfl) ?_
      refine lv_aload_n hx hb dX0_moveSum_21 rfl (lv_at hl 2 rfl) ?_
      refine zr_get (T := TX0) (N := 12) hx hb hts in_X0 hown hK hP 0 rfl rfl 7 (by decide) q105 rfl dX0_moveSum_22 ?_
      refine lv_iload_n hx hb dX0_moveSum_25 rfl (lv_at hl 0 rfl) ?_
      refine zr_iald (v := sum (i + 1)) hx hb hK hP 8 0 rfl rfl (i + 1) rfl (by omega) (by decide) (zfid_le (Nat.le_refl _)) dX0_moveSum_26 ?_
      refine lv_iconst (v := nI 4) hx hb dX0_moveSum_27 (by decide) ?_
      refine zr_iushr (v := zus (sum (i + 1)) 4) hx hb dX0_moveSum_28 rfl ?_
      refine lv_aload_n hx hb dX0_moveSum_29 rfl (lv_at hl 2 rfl) ?_
      refine zr_get (T := TX0) (N := 12) hx hb hts in_X0 hown hK hP 0 rfl rfl 7 (by decide) q105 rfl dX0_moveSum_30 ?_
      refine lv_iload_n hx hb dX0_moveSum_33 rfl (lv_at hl 0 rfl) ?_
      refine lv_iconst (v := nI 1) hx hb dX0_moveSum_34 (by decide) ?_
      refine zr_isub (v := nI i) hx hb dX0_moveSum_35 (nI_pred i) ?_
      refine zr_iald (v := sum i) hx hb hK hP 8 0 rfl rfl i rfl (by omega) (by decide) (zfid_le (Nat.le_succ _)) dX0_moveSum_36 ?_
      refine lv_bipush (v := nI 28) hx hb dX0_moveSum_37 (by decide) ?_
      refine zr_ishl (v := zsl (sum i) 28) hx hb dX0_moveSum_39 rfl ?_
      refine zr_ior (v := (zus (sum (i + 1)) 4) ||| (zsl (sum i) 28)) hx hb dX0_moveSum_40 rfl ?_
      refine zr_iast (f' := zfid sum (zms sum) i) hx hb hK hP hD rfl hS 8 0 rfl rfl (i + 1) rfl (by omega) (by decide) (zfid_s rfl) dX0_moveSum_41 (fun H locs hP hS => ?_)
      have hP : va_P D Cl (XG cA h ad zSub zRes zFwd zBwd rk tk pre (zfid sum (zms sum) i) st fr mul zFal) H := hP
      refine lv_iinc (v := nI i) (lv' := [(2, .int (nI i)), (1, .int (nI (zlo (sum 3) 16))), (0, .ref h)]) hx hb dX0_moveSum_42 hl (k := 0) rfl (zdec i) (by decide) rfl (fun ls hl => ?_)
      refine lv_goto (tgt := 12) hx hb dX0_moveSum_45 (by decide) ?_
      exact ihL1 (by omega) H locs ls hP hS (lv_sub hl [0, 1, 2] rfl)
  exact L1 3 (by omega) H locs ls (zP (g := zfid sum (zms sum) 3) hP 8 rfl (fun j hj => (zfid_le (by omega)).symm)) hS (lv_sub hl [0, 1, 2] rfl)
set_option maxHeartbeats 4000000 in
/-- BlockSealer.moveOne  -/
theorem mX_moveOne (l : Launch) (D : va_G) (cA : ClassId) (h : Nat) (ad : Nat → Nat) (rk tk pre sum st fr mul : Nat → Int32) : MetW l D cA yX0_moveOne (ws_ yX0_moveOne cX0_moveOne 3 none) (zroom 0) ([.ref h] : List Value) (XG cA h ad zSub zRes zFwd zBwd rk tk pre sum st fr mul zFal) (XG cA h ad zSub zRes zFwd zBwd rk tk pre sum (zmo st) fr mul zFal) none := by
  refine zr_startV RX0 rfl (by decide) (Nat.le_of_ble_eq_true rfl) ?_
  intro p e s m below meth c A ls Q hx hb hml hown hts hK hP hD hA hS hret hl
  have hl : lv_has ls 3 [(0, .ref h)] := hl
  generalize hH : s.heap = H at hP
  have hS : va_S A s.heap H [] := by rw [← hH]; exact hS
  generalize hlo : ([] : List Loc) = locs at hS ⊢
  refine lv_aload_n hx hb dX0_moveOne_0 rfl (lv_at hl 0 rfl) ?_
  refine zr_get (T := TX0) (N := 12) hx hb hts in_X0 hown hK hP 0 rfl rfl 8 (by decide) q106 rfl dX0_moveOne_1 ?_
  refine lv_iconst (v := nI 3) hx hb dX0_moveOne_4 (by decide) ?_
  refine zr_iald (v := st 3) hx hb hK hP 9 0 rfl rfl 3 rfl (by decide) (by decide) rfl dX0_moveOne_5 ?_
  refine lv_iconst (v := nI 1) hx hb dX0_moveOne_6 (by decide) ?_
  refine zr_iand (v := nI (zlo (st 3) 2)) hx hb dX0_moveOne_7 (zl1 _) ?_
  refine lv_istore_n (lv' := [(1, .int (nI (zlo (st 3) 2))), (0, .ref h)]) hx hb dX0_moveOne_8 rfl hl (by decide) rfl (fun ls hl => ?_)
  refine lv_iconst (v := nI 3) hx hb dX0_moveOne_9 (by decide) ?_
  refine lv_istore_n (lv' := [(2, .int (nI 3)), (1, .int (nI (zlo (st 3) 2))), (0, .ref h)]) hx hb dX0_moveOne_10 rfl hl (by decide) rfl (fun ls hl => ?_)
  have L1 : ∀ (i : Nat), i ≤ 3 → ∀ (H : Heap) (locs : List Loc) (ls : Array Slot), va_P D Cl (XG cA h ad zSub zRes zFwd zBwd rk tk pre sum (zfid st (zmo st) i) fr mul zFal) H → va_S A s.heap H locs → lv_has ls 3 [(2, .int (nI i)), (1, .int (nI (zlo (st 3) 2))), (0, .ref h)] → W p l e (zroom 0) s m ([.ref h] : List Value).toArray below meth c H locs 0 0 Q (F0 m 11 ls []) := by
    intro i
    induction i with
    | zero =>
      intro hleL1 H locs ls hP hS hl
      refine lv_iload_n hx hb dX0_moveOne_11 rfl (lv_at hl 0 rfl) ?_
      refine zr_ifle_t (tgt := 47) hx hb dX0_moveOne_12 (by decide) ?_
      refine lv_aload_n hx hb dX0_moveOne_47 rfl (lv_at hl 2 rfl) ?_
      refine zr_get (T := TX0) (N := 12) hx hb hts in_X0 hown hK hP 0 rfl rfl 8 (by decide) q106 rfl dX0_moveOne_48 ?_
      refine lv_iconst (v := nI 0) hx hb dX0_moveOne_51 (by decide) ?_
      refine lv_aload_n hx hb dX0_moveOne_52 rfl (lv_at hl 2 rfl) ?_
      refine zr_get (T := TX0) (N := 12) hx hb hts in_X0 hown hK hP 0 rfl rfl 8 (by decide) q106 rfl dX0_moveOne_53 ?_
      refine lv_iconst (v := nI 0) hx hb dX0_moveOne_56 (by decide) ?_
      refine zr_iald (v := st 0) hx hb hK hP 9 0 rfl rfl 0 rfl (by decide) (by decide) (zfid_le (Nat.le_refl 0)) dX0_moveOne_57 ?_
      refine lv_iconst (v := nI 1) hx hb dX0_moveOne_58 (by decide) ?_
      refine zr_iushr (v := zus (st 0) 1) hx hb dX0_moveOne_59 rfl ?_
      refine lv_iload_n hx hb dX0_moveOne_60 rfl (lv_at hl 1 rfl) ?_
      refine lv_if_eq (tgt := 69) hx hb dX0_moveOne_61 (by decide) (fun hc => ?_) (fun hc => ?_)
      · skip
        refine lv_iconst (v := nI 0) hx hb dX0_moveOne_69 (by decide) ?_
        refine zr_ixor (v := (zus (st 0) 1) ^^^ (nI 0)) hx hb dX0_moveOne_70 rfl ?_
        refine zr_iast (f' := upd (zfid st (zmo st) 0) 0 ((zus (st 0) 1) ^^^ (nI 0))) hx hb hK hP hD rfl hS 9 0 rfl rfl 0 rfl (by decide) (by decide) rfl dX0_moveOne_71 (fun H locs hP hS => ?_)
        have hP : va_P D Cl (XG cA h ad zSub zRes zFwd zBwd rk tk pre sum (upd (zfid st (zmo st) 0) 0 ((zus (st 0) 1) ^^^ (nI 0))) fr mul zFal) H := hP
        have hP := zP (g := zmo st) hP 9 rfl (fun j hj => zmo_t hc)
        have hP : va_P D Cl (XG cA h ad zSub zRes zFwd zBwd rk tk pre sum (zmo st) fr mul zFal) H := hP
        exact hret H locs _ ls hP hS dX0_moveOne_72
      · skip
        refine lv_ldc hx hb hown (hts _ q62) dX0_moveOne_64 ?_
        refine lv_goto (tgt := 70) hx hb dX0_moveOne_66 (by decide) ?_
        refine zr_ixor (v := (zus (st 0) 1) ^^^ (-520093696 : Int32)) hx hb dX0_moveOne_70 rfl ?_
        refine zr_iast (f' := upd (zfid st (zmo st) 0) 0 ((zus (st 0) 1) ^^^ (-520093696 : Int32))) hx hb hK hP hD rfl hS 9 0 rfl rfl 0 rfl (by decide) (by decide) rfl dX0_moveOne_71 (fun H locs hP hS => ?_)
        have hP : va_P D Cl (XG cA h ad zSub zRes zFwd zBwd rk tk pre sum (upd (zfid st (zmo st) 0) 0 ((zus (st 0) 1) ^^^ (-520093696 : Int32))) fr mul zFal) H := hP
        have hP := zP (g := zmo st) hP 9 rfl (fun j hj => zmo_f hc)
        have hP : va_P D Cl (XG cA h ad zSub zRes zFwd zBwd rk tk pre sum (zmo st) fr mul zFal) H := hP
        exact hret H locs _ ls hP hS dX0_moveOne_72
    | succ i ihL1 =>
      intro hleL1 H locs ls hP hS hl
      refine lv_iload_n hx hb dX0_moveOne_11 rfl (lv_at hl 0 rfl) ?_
      refine zr_ifle_f (tgt := 47) hx hb dX0_moveOne_12 (by decide) (by omega) (by omega) ?_
      refine lv_aload_n hx hb dX0_moveOne_15 rfl (lv_at hl 2 rfl) ?_
      refine zr_get (T := TX0) (N := 12) hx hb hts in_X0 hown hK hP 0 rfl rfl 8 (by decide) q106 rfl dX0_moveOne_16 ?_
      refine lv_iload_n hx hb dX0_moveOne_19 rfl (lv_at hl 0 rfl) ?_
      refine lv_aload_n hx hb dX0_moveOne_20 rfl (lv_at hl 2 rfl) ?_
      refine zr_get (T := TX0) (N := 12) hx hb hts in_X0 hown hK hP 0 rfl rfl 8 (by decide) q106 rfl dX0_moveOne_21 ?_
      refine lv_iload_n hx hb dX0_moveOne_24 rfl (lv_at hl 0 rfl) ?_
      refine zr_iald (v := st (i + 1)) hx hb hK hP 9 0 rfl rfl (i + 1) rfl (by omega) (by decide) (zfid_le (Nat.le_refl _)) dX0_moveOne_25 ?_
      refine lv_iconst (v := nI 1) hx hb dX0_moveOne_26 (by decide) ?_
      refine zr_iushr (v := zus (st (i + 1)) 1) hx hb dX0_moveOne_27 rfl ?_
      refine lv_aload_n hx hb dX0_moveOne_28 rfl (lv_at hl 2 rfl) ?_
      refine zr_get (T := TX0) (N := 12) hx hb hts in_X0 hown hK hP 0 rfl rfl 8 (by decide) q106 rfl dX0_moveOne_29 ?_
      refine lv_iload_n hx hb dX0_moveOne_32 rfl (lv_at hl 0 rfl) ?_
      refine lv_iconst (v := nI 1) hx hb dX0_moveOne_33 (by decide) ?_
      refine zr_isub (v := nI i) hx hb dX0_moveOne_34 (nI_pred i) ?_
      refine zr_iald (v := st i) hx hb hK hP 9 0 rfl rfl i rfl (by omega) (by decide) (zfid_le (Nat.le_succ _)) dX0_moveOne_35 ?_
      refine lv_bipush (v := nI 31) hx hb dX0_moveOne_36 (by decide) ?_
      refine zr_ishl (v := zsl (st i) 31) hx hb dX0_moveOne_38 rfl ?_
      refine zr_ior (v := (zus (st (i + 1)) 1) ||| (zsl (st i) 31)) hx hb dX0_moveOne_39 rfl ?_
      refine zr_iast (f' := zfid st (zmo st) i) hx hb hK hP hD rfl hS 9 0 rfl rfl (i + 1) rfl (by omega) (by decide) (zfid_s rfl) dX0_moveOne_40 (fun H locs hP hS => ?_)
      have hP : va_P D Cl (XG cA h ad zSub zRes zFwd zBwd rk tk pre sum (zfid st (zmo st) i) fr mul zFal) H := hP
      refine lv_iinc (v := nI i) (lv' := [(2, .int (nI i)), (1, .int (nI (zlo (st 3) 2))), (0, .ref h)]) hx hb dX0_moveOne_41 hl (k := 0) rfl (zdec i) (by decide) rfl (fun ls hl => ?_)
      refine lv_goto (tgt := 11) hx hb dX0_moveOne_44 (by decide) ?_
      exact ihL1 (by omega) H locs ls hP hS (lv_sub hl [0, 1, 2] rfl)
  exact L1 3 (by omega) H locs ls (zP (g := zfid st (zmo st) 3) hP 9 rfl (fun j hj => (zfid_le (by omega)).symm)) hS (lv_sub hl [0, 1, 2] rfl)
end
section
set_option maxRecDepth 100000
def zrg (fr rk st : Nat → Int32) : Nat → Nat → Int32
  | 0 => fr
  | n + 1 => zrf rk st (n + 1)
def zrh (fr tk st : Nat → Int32) : Nat → Nat → Int32
  | 0 => fr
  | n + 1 => zrb tk st (n + 1)
theorem zrh_s {fr tk st : Nat → Int32} {i : Nat} (h : i + 1 ≤ 9) : zrh fr tk st (9 - i) = zrb tk st (9 - i) := by
  obtain ⟨n, hn⟩ : ∃ n, 9 - i = n + 1 := ⟨8 - i, by omega⟩
  rw [hn]
  rfl
set_option maxHeartbeats 4000000 in
/-- BlockSealer.runForward  -/
theorem mX_runForward (l : Launch) (D : va_G) (cA : ClassId) (h : Nat) (ad : Nat → Nat) (rk tk pre sum st fr mul : Nat → Int32) : MetW l D cA yX0_runForward (ws_ yX0_runForward cX0_runForward 4 none) (zroom 2) ([.ref h] : List Value) (XG cA h ad zSub zRes zFwd zBwd rk tk pre sum st fr mul zFal) (XG cA h ad zSub zRes zFwd zBwd rk tk pre sum (zen rk st) (zen rk st) mul zFal) none := by
  refine zr_startV RX0 rfl (by decide) (Nat.le_of_ble_eq_true rfl) ?_
  intro p e s m below meth c A ls Q hx hb hml hown hts hK hP hD hA hS hret hl
  have hl : lv_has ls 4 [(0, .ref h)] := hl
  generalize hH : s.heap = H at hP
  have hS : va_S A s.heap H [] := by rw [← hH]; exact hS
  generalize hlo : ([] : List Loc) = locs at hS ⊢
  refine lv_iconst (v := nI 0) hx hb dX0_runForward_0 (by decide) ?_
  refine lv_istore_n (lv' := [(1, .int (nI 0)), (0, .ref h)]) hx hb dX0_runForward_1 rfl hl (by decide) rfl (fun ls hl => ?_)
  have L1 : ∀ (nL1 i : Nat), i + nL1 = 4 → ∀ (H : Heap) (locs : List Loc) (ls : Array Slot), va_P D Cl (XG cA h ad zSub zRes zFwd zBwd rk tk pre sum (zfil st (fun j => st j ^^^ rk j) i) fr mul zFal) H → va_S A s.heap H locs → lv_has ls 4 [(1, .int (nI i)), (0, .ref h)] → W p l e (zroom 2) s m ([.ref h] : List Value).toArray below meth c H locs 0 0 Q (F0 m 2 ls []) := by
    intro nL1
    induction nL1 with
    | zero =>
      intro i hL1 H locs ls hP hS hl
      obtain rfl : i = 4 := by omega
      refine lv_iload_n hx hb dX0_runForward_2 rfl (lv_at hl 0 rfl) ?_
      refine lv_iconst (v := nI 4) hx hb dX0_runForward_3 (by decide) ?_
      refine zr_ge_t (tgt := 28) hx hb dX0_runForward_4 (by decide) (by omega) (by omega) ?_
      have hP := zP (g := zrf rk st 0) hP 9 rfl (fun j hj => zfil_lt hj)
      have hP : va_P D Cl (XG cA h ad zSub zRes zFwd zBwd rk tk pre sum (zrf rk st 0) fr mul zFal) H := hP
      refine lv_iconst (v := nI 1) hx hb dX0_runForward_28 (by decide) ?_
      refine lv_istore_n (lv' := [(1, .int (nI 1)), (0, .ref h)]) hx hb dX0_runForward_29 rfl hl (by decide) rfl (fun ls hl => ?_)
      have L2 : ∀ (nL2 q : Nat), q + nL2 = 9 → ∀ (H : Heap) (locs : List Loc) (ls : Array Slot), va_P D Cl (XG cA h ad zSub zRes zFwd zBwd rk tk pre sum (zrf rk st q) (zrg fr rk st q) mul zFal) H → va_S A s.heap H locs → lv_has ls 4 [(1, .int (nI (q + 1))), (0, .ref h)] → W p l e (zroom 2) s m ([.ref h] : List Value).toArray below meth c H locs 0 0 Q (F0 m 30 ls []) := by
        intro nL2
        induction nL2 with
        | zero =>
          intro q hL2 H locs ls hP hS hl
          obtain rfl : q = 9 := by omega
          refine lv_iload_n hx hb dX0_runForward_30 rfl (lv_at hl 0 rfl) ?_
          refine lv_bipush (v := nI 10) hx hb dX0_runForward_31 (by decide) ?_
          refine zr_ge_t (tgt := 81) hx hb dX0_runForward_33 (by decide) (by omega) (by omega) ?_
          refine lv_iconst (v := nI 0) hx hb dX0_runForward_81 (by decide) ?_
          refine lv_istore_n (lv' := [(1, .int (nI 0)), (0, .ref h)]) hx hb dX0_runForward_82 rfl hl (by decide) rfl (fun ls hl => ?_)
          have L4 : ∀ (nL4 i : Nat), i + nL4 = 4 → ∀ (H : Heap) (locs : List Loc) (ls : Array Slot), va_P D Cl (XG cA h ad zSub zRes zFwd zBwd rk tk pre sum (zrf rk st 9) (zfil (zrg fr rk st 9) (zen rk st) i) mul zFal) H → va_S A s.heap H locs → lv_has ls 4 [(1, .int (nI i)), (0, .ref h)] → W p l e (zroom 2) s m ([.ref h] : List Value).toArray below meth c H locs 0 0 Q (F0 m 83 ls []) := by
            intro nL4
            induction nL4 with
            | zero =>
              intro i hL4 H locs ls hP hS hl
              obtain rfl : i = 4 := by omega
              refine lv_iload_n hx hb dX0_runForward_83 rfl (lv_at hl 0 rfl) ?_
              refine lv_iconst (v := nI 4) hx hb dX0_runForward_84 (by decide) ?_
              refine zr_ge_t (tgt := 203) hx hb dX0_runForward_85 (by decide) (by omega) (by omega) ?_
              have hP := zP (g := zen rk st) hP 10 rfl (fun j hj => zfil_lt hj)
              have hP : va_P D Cl (XG cA h ad zSub zRes zFwd zBwd rk tk pre sum (zrf rk st 9) (zen rk st) mul zFal) H := hP
              refine lv_aload_n hx hb dX0_runForward_203 rfl (lv_at hl 1 rfl) ?_
              refine zr_callVv (rest := []) ⟨hx, hb, hml, hown, hts⟩ (mX_keepFresh l D cA h ad rk tk pre sum (zrf rk st 9) (zen rk st) mul) (cwV 0 hts (lw_V q90 q92 qs9 q30 q93) rfl rfl rfl (by decide +kernel) ⟨Nat.le_of_ble_eq_true rfl, Nat.le_of_ble_eq_true rfl⟩) [] hK hP hD rfl hS hA (ci := 0) (q0 := 0) rfl rfl rfl rfl hl.1 rfl (Nat.le_of_ble_eq_true rfl) dX0_runForward_204 ⟨Nat.zero_le _, Nat.zero_le _⟩ (fun H locs hP hS => ?_)
              have hP : va_P D Cl (XG cA h ad zSub zRes zFwd zBwd rk tk pre sum (zen rk st) (zen rk st) mul zFal) H := hP
              exact hret H locs _ ls hP hS dX0_runForward_207
            | succ nL4 ihL4 =>
              intro i hL4 H locs ls hP hS hl
              have hltL4 : i < 4 := by omega
              refine lv_iload_n hx hb dX0_runForward_83 rfl (lv_at hl 0 rfl) ?_
              refine lv_iconst (v := nI 4) hx hb dX0_runForward_84 (by decide) ?_
              refine zr_ge_f (tgt := 203) hx hb dX0_runForward_85 (by decide) (by omega) (by omega) ?_
              refine lv_aload_n hx hb dX0_runForward_88 rfl (lv_at hl 1 rfl) ?_
              refine zr_get (T := TX0) (N := 12) hx hb hts in_X0 hown hK hP 0 rfl rfl 0 (by decide) q98 rfl dX0_runForward_89 ?_
              refine lv_aload_n hx hb dX0_runForward_92 rfl (lv_at hl 1 rfl) ?_
              refine zr_get (T := TX0) (N := 12) hx hb hts in_X0 hown hK hP 0 rfl rfl 8 (by decide) q106 rfl dX0_runForward_93 ?_
              refine lv_iload_n hx hb dX0_runForward_96 rfl (lv_at hl 0 rfl) ?_
              refine zr_iald (v := (zrf rk st 9) i) hx hb hK hP 9 0 rfl rfl i rfl (by omega) (by decide) rfl dX0_runForward_97 ?_
              refine lv_bipush (v := nI 24) hx hb dX0_runForward_98 (by decide) ?_
              refine zr_iushr (v := nI (zby ((zrf rk st 9) i) 0)) hx hb dX0_runForward_100 (zb0 _) ?_
              refine zr_iald (v := nI (zSB (zby ((zrf rk st 9) i) 0))) hx hb hK hP 1 0 rfl rfl (zby ((zrf rk st 9) i) 0) rfl (zby_lt _ _) (by decide) rfl dX0_runForward_101 ?_
              refine lv_bipush (v := nI 24) hx hb dX0_runForward_102 (by decide) ?_
              refine zr_ishl (v := zsl (nI (zSB (zby ((zrf rk st 9) i) 0))) 24) hx hb dX0_runForward_104 rfl ?_
              refine lv_aload_n hx hb dX0_runForward_105 rfl (lv_at hl 1 rfl) ?_
              refine zr_get (T := TX0) (N := 12) hx hb hts in_X0 hown hK hP 0 rfl rfl 0 (by decide) q98 rfl dX0_runForward_106 ?_
              refine lv_aload_n hx hb dX0_runForward_109 rfl (lv_at hl 1 rfl) ?_
              refine zr_get (T := TX0) (N := 12) hx hb hts in_X0 hown hK hP 0 rfl rfl 8 (by decide) q106 rfl dX0_runForward_110 ?_
              refine lv_iload_n hx hb dX0_runForward_113 rfl (lv_at hl 0 rfl) ?_
              refine lv_iconst (v := nI 1) hx hb dX0_runForward_114 (by decide) ?_
              refine zr_iadd (v := nI (i + 1)) hx hb dX0_runForward_115 (nI_add _ _) ?_
              refine lv_iconst (v := nI 3) hx hb dX0_runForward_116 (by decide) ?_
              refine zr_iand (v := nI ((i + 1) % 4)) hx hb dX0_runForward_117 (zm3 (by omega)) ?_
              refine zr_iald (v := (zrf rk st 9) ((i + 1) % 4)) hx hb hK hP 9 0 rfl rfl ((i + 1) % 4) rfl (by omega) (by decide) rfl dX0_runForward_118 ?_
              refine lv_bipush (v := nI 16) hx hb dX0_runForward_119 (by decide) ?_
              refine zr_iushr (v := zus ((zrf rk st 9) ((i + 1) % 4)) 16) hx hb dX0_runForward_121 rfl ?_
              refine lv_sipush (v := nI 255) hx hb dX0_runForward_122 (by decide) ?_
              refine zr_iand (v := nI (zby ((zrf rk st 9) ((i + 1) % 4)) 1)) hx hb dX0_runForward_125 (zb1 _) ?_
              refine zr_iald (v := nI (zSB (zby ((zrf rk st 9) ((i + 1) % 4)) 1))) hx hb hK hP 1 0 rfl rfl (zby ((zrf rk st 9) ((i + 1) % 4)) 1) rfl (zby_lt _ _) (by decide) rfl dX0_runForward_126 ?_
              refine lv_bipush (v := nI 16) hx hb dX0_runForward_127 (by decide) ?_
              refine zr_ishl (v := zsl (nI (zSB (zby ((zrf rk st 9) ((i + 1) % 4)) 1))) 16) hx hb dX0_runForward_129 rfl ?_
              refine zr_ior (v := (zsl (nI (zSB (zby ((zrf rk st 9) i) 0))) 24) ||| (zsl (nI (zSB (zby ((zrf rk st 9) ((i + 1) % 4)) 1))) 16)) hx hb dX0_runForward_130 rfl ?_
              refine lv_istore_n (lv' := [(2, .int ((zsl (nI (zSB (zby ((zrf rk st 9) i) 0))) 24) ||| (zsl (nI (zSB (zby ((zrf rk st 9) ((i + 1) % 4)) 1))) 16))), (1, .int (nI i)), (0, .ref h)]) hx hb dX0_runForward_131 rfl hl (by decide) rfl (fun ls hl => ?_)
              refine lv_aload_n hx hb dX0_runForward_132 rfl (lv_at hl 2 rfl) ?_
              refine zr_get (T := TX0) (N := 12) hx hb hts in_X0 hown hK hP 0 rfl rfl 0 (by decide) q98 rfl dX0_runForward_133 ?_
              refine lv_aload_n hx hb dX0_runForward_136 rfl (lv_at hl 2 rfl) ?_
              refine zr_get (T := TX0) (N := 12) hx hb hts in_X0 hown hK hP 0 rfl rfl 8 (by decide) q106 rfl dX0_runForward_137 ?_
              refine lv_iload_n hx hb dX0_runForward_140 rfl (lv_at hl 1 rfl) ?_
              refine lv_iconst (v := nI 2) hx hb dX0_runForward_141 (by decide) ?_
              refine zr_iadd (v := nI (i + 2)) hx hb dX0_runForward_142 (nI_add _ _) ?_
              refine lv_iconst (v := nI 3) hx hb dX0_runForward_143 (by decide) ?_
              refine zr_iand (v := nI ((i + 2) % 4)) hx hb dX0_runForward_144 (zm3 (by omega)) ?_
              refine zr_iald (v := (zrf rk st 9) ((i + 2) % 4)) hx hb hK hP 9 0 rfl rfl ((i + 2) % 4) rfl (by omega) (by decide) rfl dX0_runForward_145 ?_
              refine lv_bipush (v := nI 8) hx hb dX0_runForward_146 (by decide) ?_
              refine zr_iushr (v := zus ((zrf rk st 9) ((i + 2) % 4)) 8) hx hb dX0_runForward_148 rfl ?_
              refine lv_sipush (v := nI 255) hx hb dX0_runForward_149 (by decide) ?_
              refine zr_iand (v := nI (zby ((zrf rk st 9) ((i + 2) % 4)) 2)) hx hb dX0_runForward_152 (zb2 _) ?_
              refine zr_iald (v := nI (zSB (zby ((zrf rk st 9) ((i + 2) % 4)) 2))) hx hb hK hP 1 0 rfl rfl (zby ((zrf rk st 9) ((i + 2) % 4)) 2) rfl (zby_lt _ _) (by decide) rfl dX0_runForward_153 ?_
              refine lv_bipush (v := nI 8) hx hb dX0_runForward_154 (by decide) ?_
              refine zr_ishl (v := zsl (nI (zSB (zby ((zrf rk st 9) ((i + 2) % 4)) 2))) 8) hx hb dX0_runForward_156 rfl ?_
              refine lv_aload_n hx hb dX0_runForward_157 rfl (lv_at hl 2 rfl) ?_
              refine zr_get (T := TX0) (N := 12) hx hb hts in_X0 hown hK hP 0 rfl rfl 0 (by decide) q98 rfl dX0_runForward_158 ?_
              refine lv_aload_n hx hb dX0_runForward_161 rfl (lv_at hl 2 rfl) ?_
              refine zr_get (T := TX0) (N := 12) hx hb hts in_X0 hown hK hP 0 rfl rfl 8 (by decide) q106 rfl dX0_runForward_162 ?_
              refine lv_iload_n hx hb dX0_runForward_165 rfl (lv_at hl 1 rfl) ?_
              refine lv_iconst (v := nI 3) hx hb dX0_runForward_166 (by decide) ?_
              refine zr_iadd (v := nI (i + 3)) hx hb dX0_runForward_167 (nI_add _ _) ?_
              refine lv_iconst (v := nI 3) hx hb dX0_runForward_168 (by decide) ?_
              refine zr_iand (v := nI ((i + 3) % 4)) hx hb dX0_runForward_169 (zm3 (by omega)) ?_
              refine zr_iald (v := (zrf rk st 9) ((i + 3) % 4)) hx hb hK hP 9 0 rfl rfl ((i + 3) % 4) rfl (by omega) (by decide) rfl dX0_runForward_170 ?_
              refine lv_sipush (v := nI 255) hx hb dX0_runForward_171 (by decide) ?_
              refine zr_iand (v := nI (zby ((zrf rk st 9) ((i + 3) % 4)) 3)) hx hb dX0_runForward_174 (zb3 _) ?_
              refine zr_iald (v := nI (zSB (zby ((zrf rk st 9) ((i + 3) % 4)) 3))) hx hb hK hP 1 0 rfl rfl (zby ((zrf rk st 9) ((i + 3) % 4)) 3) rfl (zby_lt _ _) (by decide) rfl dX0_runForward_175 ?_
              refine zr_ior (v := (zsl (nI (zSB (zby ((zrf rk st 9) ((i + 2) % 4)) 2))) 8) ||| (nI (zSB (zby ((zrf rk st 9) ((i + 3) % 4)) 3)))) hx hb dX0_runForward_176 rfl ?_
              refine lv_istore_n (lv' := [(3, .int ((zsl (nI (zSB (zby ((zrf rk st 9) ((i + 2) % 4)) 2))) 8) ||| (nI (zSB (zby ((zrf rk st 9) ((i + 3) % 4)) 3))))), (2, .int ((zsl (nI (zSB (zby ((zrf rk st 9) i) 0))) 24) ||| (zsl (nI (zSB (zby ((zrf rk st 9) ((i + 1) % 4)) 1))) 16))), (1, .int (nI i)), (0, .ref h)]) hx hb dX0_runForward_177 rfl hl (by decide) rfl (fun ls hl => ?_)
              refine lv_aload_n hx hb dX0_runForward_178 rfl (lv_at hl 3 rfl) ?_
              refine zr_get (T := TX0) (N := 12) hx hb hts in_X0 hown hK hP 0 rfl rfl 9 (by decide) q107 rfl dX0_runForward_179 ?_
              refine lv_iload_n hx hb dX0_runForward_182 rfl (lv_at hl 2 rfl) ?_
              refine lv_iload_n hx hb dX0_runForward_183 rfl (lv_at hl 1 rfl) ?_
              refine lv_iload_n hx hb dX0_runForward_184 rfl (lv_at hl 0 rfl) ?_
              refine zr_ior (v := ((zsl (nI (zSB (zby ((zrf rk st 9) i) 0))) 24) ||| (zsl (nI (zSB (zby ((zrf rk st 9) ((i + 1) % 4)) 1))) 16)) ||| ((zsl (nI (zSB (zby ((zrf rk st 9) ((i + 2) % 4)) 2))) 8) ||| (nI (zSB (zby ((zrf rk st 9) ((i + 3) % 4)) 3))))) hx hb dX0_runForward_185 rfl ?_
              refine lv_aload_n hx hb dX0_runForward_186 rfl (lv_at hl 3 rfl) ?_
              refine zr_get (T := TX0) (N := 12) hx hb hts in_X0 hown hK hP 0 rfl rfl 4 (by decide) q102 rfl dX0_runForward_187 ?_
              refine lv_bipush (v := nI 40) hx hb dX0_runForward_190 (by decide) ?_
              refine lv_iload_n hx hb dX0_runForward_192 rfl (lv_at hl 2 rfl) ?_
              refine zr_iadd (v := nI (40 + i)) hx hb dX0_runForward_193 (nI_add _ _) ?_
              refine zr_iald (v := rk (40 + i)) hx hb hK hP 5 0 rfl rfl (40 + i) rfl (by omega) (by decide) rfl dX0_runForward_194 ?_
              refine zr_ixor (v := (((zsl (nI (zSB (zby ((zrf rk st 9) i) 0))) 24) ||| (zsl (nI (zSB (zby ((zrf rk st 9) ((i + 1) % 4)) 1))) 16)) ||| ((zsl (nI (zSB (zby ((zrf rk st 9) ((i + 2) % 4)) 2))) 8) ||| (nI (zSB (zby ((zrf rk st 9) ((i + 3) % 4)) 3))))) ^^^ (rk (40 + i))) hx hb dX0_runForward_195 rfl ?_
              refine zr_iast (f' := zfil (zrg fr rk st 9) (zen rk st) (i + 1)) hx hb hK hP hD rfl hS 10 0 rfl rfl i rfl (by omega) (by decide) (zfil_s rfl) dX0_runForward_196 (fun H locs hP hS => ?_)
              have hP : va_P D Cl (XG cA h ad zSub zRes zFwd zBwd rk tk pre sum (zrf rk st 9) (zfil (zrg fr rk st 9) (zen rk st) (i + 1)) mul zFal) H := hP
              refine lv_iinc (v := nI (i + 1)) (lv' := [(1, .int (nI (i + 1))), (3, .int ((zsl (nI (zSB (zby ((zrf rk st 9) ((i + 2) % 4)) 2))) 8) ||| (nI (zSB (zby ((zrf rk st 9) ((i + 3) % 4)) 3))))), (2, .int ((zsl (nI (zSB (zby ((zrf rk st 9) i) 0))) 24) ||| (zsl (nI (zSB (zby ((zrf rk st 9) ((i + 1) % 4)) 1))) 16))), (0, .ref h)]) hx hb dX0_runForward_197 hl (k := 2) rfl (zinc _) (by decide) rfl (fun ls hl => ?_)
              refine lv_goto (tgt := 83) hx hb dX0_runForward_200 (by decide) ?_
              exact ihL4 (i + 1) (by omega) H locs ls hP hS (lv_sub hl [0, 3] rfl)
          exact L4 4 0 (by omega) H locs ls (by rw [zfil_0]; exact hP) hS (lv_sub hl [0, 1] rfl)
        | succ nL2 ihL2 =>
          intro q hL2 H locs ls hP hS hl
          have hltL2 : q < 9 := by omega
          refine lv_iload_n hx hb dX0_runForward_30 rfl (lv_at hl 0 rfl) ?_
          refine lv_bipush (v := nI 10) hx hb dX0_runForward_31 (by decide) ?_
          refine zr_ge_f (tgt := 81) hx hb dX0_runForward_33 (by decide) (by omega) (by omega) ?_
          refine lv_iconst (v := nI 0) hx hb dX0_runForward_36 (by decide) ?_
          refine lv_istore_n (lv' := [(2, .int (nI 0)), (1, .int (nI (q + 1))), (0, .ref h)]) hx hb dX0_runForward_37 rfl hl (by decide) rfl (fun ls hl => ?_)
          have L3 : ∀ (nL3 i : Nat), i + nL3 = 4 → ∀ (H : Heap) (locs : List Loc) (ls : Array Slot), va_P D Cl (XG cA h ad zSub zRes zFwd zBwd rk tk pre sum (zrf rk st q) (zfil (zrg fr rk st q) (zrf rk st (q + 1)) i) mul zFal) H → va_S A s.heap H locs → lv_has ls 4 [(2, .int (nI i)), (1, .int (nI (q + 1))), (0, .ref h)] → W p l e (zroom 2) s m ([.ref h] : List Value).toArray below meth c H locs 0 0 Q (F0 m 38 ls []) := by
            intro nL3
            induction nL3 with
            | zero =>
              intro i hL3 H locs ls hP hS hl
              obtain rfl : i = 4 := by omega
              refine lv_iload_n hx hb dX0_runForward_38 rfl (lv_at hl 0 rfl) ?_
              refine lv_iconst (v := nI 4) hx hb dX0_runForward_39 (by decide) ?_
              refine zr_ge_t (tgt := 71) hx hb dX0_runForward_40 (by decide) (by omega) (by omega) ?_
              have hP := zP (g := (zrf rk st (q + 1))) hP 10 rfl (fun j hj => zfil_lt hj)
              have hP : va_P D Cl (XG cA h ad zSub zRes zFwd zBwd rk tk pre sum (zrf rk st q) (zrf rk st (q + 1)) mul zFal) H := hP
              refine lv_aload_n hx hb dX0_runForward_71 rfl (lv_at hl 2 rfl) ?_
              refine zr_callVv (rest := []) ⟨hx, hb, hml, hown, hts⟩ (mX_keepFresh l D cA h ad rk tk pre sum (zrf rk st q) (zrf rk st (q + 1)) mul) (cwV 0 hts (lw_V q90 q92 qs9 q30 q93) rfl rfl rfl (by decide +kernel) ⟨Nat.le_of_ble_eq_true rfl, Nat.le_of_ble_eq_true rfl⟩) [] hK hP hD rfl hS hA (ci := 0) (q0 := 0) rfl rfl rfl rfl hl.1 rfl (Nat.le_of_ble_eq_true rfl) dX0_runForward_72 ⟨Nat.zero_le _, Nat.zero_le _⟩ (fun H locs hP hS => ?_)
              have hP : va_P D Cl (XG cA h ad zSub zRes zFwd zBwd rk tk pre sum (zrf rk st (q + 1)) (zrf rk st (q + 1)) mul zFal) H := hP
              refine lv_iinc (v := nI ((q + 1) + 1)) (lv' := [(1, .int (nI ((q + 1) + 1))), (2, .int (nI 4)), (0, .ref h)]) hx hb dX0_runForward_75 hl (k := 1) rfl (zinc _) (by decide) rfl (fun ls hl => ?_)
              refine lv_goto (tgt := 30) hx hb dX0_runForward_78 (by decide) ?_
              exact ihL2 (q + 1) (by omega) H locs ls hP hS (lv_sub hl [0, 2] rfl)
            | succ nL3 ihL3 =>
              intro i hL3 H locs ls hP hS hl
              have hltL3 : i < 4 := by omega
              refine lv_iload_n hx hb dX0_runForward_38 rfl (lv_at hl 0 rfl) ?_
              refine lv_iconst (v := nI 4) hx hb dX0_runForward_39 (by decide) ?_
              refine zr_ge_f (tgt := 71) hx hb dX0_runForward_40 (by decide) (by omega) (by omega) ?_
              refine lv_aload_n hx hb dX0_runForward_43 rfl (lv_at hl 2 rfl) ?_
              refine zr_get (T := TX0) (N := 12) hx hb hts in_X0 hown hK hP 0 rfl rfl 9 (by decide) q107 rfl dX0_runForward_44 ?_
              refine lv_iload_n hx hb dX0_runForward_47 rfl (lv_at hl 0 rfl) ?_
              refine lv_aload_n hx hb dX0_runForward_48 rfl (lv_at hl 2 rfl) ?_
              refine lv_iload_n hx hb dX0_runForward_49 rfl (lv_at hl 0 rfl) ?_
              refine zr_callVi (rest := [.int (nI i), .ref (ad 9)]) ⟨hx, hb, hml, hown, hts⟩ (mX_forwardColumn l D cA h ad rk tk pre sum (zrf rk st q) (zfil (zrg fr rk st q) (zrf rk st (q + 1)) i) mul i (by omega)) (cwV 1 hts (lw_V q86 q88 qs8 q30 q89) rfl rfl rfl (by decide +kernel) ⟨Nat.le_of_ble_eq_true rfl, Nat.le_of_ble_eq_true rfl⟩) [] hK hP hD rfl hS hA (ci := 0) (q0 := 0) rfl rfl rfl rfl hl.1 rfl (Nat.le_of_ble_eq_true rfl) dX0_runForward_50 ⟨Nat.zero_le _, Nat.zero_le _⟩ (fun H locs hP hS => ?_)
              have hP : va_P D Cl (XG cA h ad zSub zRes zFwd zBwd rk tk pre sum (zrf rk st q) (zfil (zrg fr rk st q) (zrf rk st (q + 1)) i) mul zFal) H := hP
              refine lv_aload_n hx hb dX0_runForward_53 rfl (lv_at hl 2 rfl) ?_
              refine zr_get (T := TX0) (N := 12) hx hb hts in_X0 hown hK hP 0 rfl rfl 4 (by decide) q102 rfl dX0_runForward_54 ?_
              refine lv_iconst (v := nI 4) hx hb dX0_runForward_57 (by decide) ?_
              refine lv_iload_n hx hb dX0_runForward_58 rfl (lv_at hl 1 rfl) ?_
              refine zr_imul (v := nI (4 * (q + 1))) hx hb dX0_runForward_59 (pk_mul _ _) ?_
              refine lv_iload_n hx hb dX0_runForward_60 rfl (lv_at hl 0 rfl) ?_
              refine zr_iadd (v := nI ((4 * (q + 1)) + i)) hx hb dX0_runForward_61 (nI_add _ _) ?_
              refine zr_iald (v := rk ((4 * (q + 1)) + i)) hx hb hK hP 5 0 rfl rfl ((4 * (q + 1)) + i) rfl (by omega) (by decide) rfl dX0_runForward_62 ?_
              refine zr_ixor (v := (zfc (zrf rk st q) i) ^^^ (rk ((4 * (q + 1)) + i))) hx hb dX0_runForward_63 rfl ?_
              refine zr_iast (f' := zfil (zrg fr rk st q) (zrf rk st (q + 1)) (i + 1)) hx hb hK hP hD rfl hS 10 0 rfl rfl i rfl (by omega) (by decide) (zfil_s rfl) dX0_runForward_64 (fun H locs hP hS => ?_)
              have hP : va_P D Cl (XG cA h ad zSub zRes zFwd zBwd rk tk pre sum (zrf rk st q) (zfil (zrg fr rk st q) (zrf rk st (q + 1)) (i + 1)) mul zFal) H := hP
              refine lv_iinc (v := nI (i + 1)) (lv' := [(2, .int (nI (i + 1))), (1, .int (nI (q + 1))), (0, .ref h)]) hx hb dX0_runForward_65 hl (k := 0) rfl (zinc _) (by decide) rfl (fun ls hl => ?_)
              refine lv_goto (tgt := 38) hx hb dX0_runForward_68 (by decide) ?_
              exact ihL3 (i + 1) (by omega) H locs ls hP hS (lv_sub hl [0, 1, 2] rfl)
          exact L3 4 0 (by omega) H locs ls (by rw [zfil_0]; exact hP) hS (lv_sub hl [0, 1, 2] rfl)
      exact L2 9 0 (by omega) H locs ls hP hS (lv_sub hl [0, 1] rfl)
    | succ nL1 ihL1 =>
      intro i hL1 H locs ls hP hS hl
      have hltL1 : i < 4 := by omega
      refine lv_iload_n hx hb dX0_runForward_2 rfl (lv_at hl 0 rfl) ?_
      refine lv_iconst (v := nI 4) hx hb dX0_runForward_3 (by decide) ?_
      refine zr_ge_f (tgt := 28) hx hb dX0_runForward_4 (by decide) (by omega) (by omega) ?_
      refine lv_aload_n hx hb dX0_runForward_7 rfl (lv_at hl 1 rfl) ?_
      refine zr_get (T := TX0) (N := 12) hx hb hts in_X0 hown hK hP 0 rfl rfl 8 (by decide) q106 rfl dX0_runForward_8 ?_
      refine lv_iload_n hx hb dX0_runForward_11 rfl (lv_at hl 0 rfl) ?_
      refine lv_dup2_11 hx hb dX0_runForward_12 rfl rfl ?_
      refine zr_iald (v := st i) hx hb hK hP 9 0 rfl rfl i rfl (by omega) (by decide) (zfil_self _ _ _) dX0_runForward_13 ?_
      refine lv_aload_n hx hb dX0_runForward_14 rfl (lv_at hl 1 rfl) ?_
      refine zr_get (T := TX0) (N := 12) hx hb hts in_X0 hown hK hP 0 rfl rfl 4 (by decide) q102 rfl dX0_runForward_15 ?_
      refine lv_iload_n hx hb dX0_runForward_18 rfl (lv_at hl 0 rfl) ?_
      refine zr_iald (v := rk i) hx hb hK hP 5 0 rfl rfl i rfl (by omega) (by decide) rfl dX0_runForward_19 ?_
      refine zr_ixor (v := (st i) ^^^ (rk i)) hx hb dX0_runForward_20 rfl ?_
      refine zr_iast (f' := zfil st (fun j => st j ^^^ rk j) (i + 1)) hx hb hK hP hD rfl hS 9 0 rfl rfl i rfl (by omega) (by decide) (zfil_s rfl) dX0_runForward_21 (fun H locs hP hS => ?_)
      have hP : va_P D Cl (XG cA h ad zSub zRes zFwd zBwd rk tk pre sum (zfil st (fun j => st j ^^^ rk j) (i + 1)) fr mul zFal) H := hP
      refine lv_iinc (v := nI (i + 1)) (lv' := [(1, .int (nI (i + 1))), (0, .ref h)]) hx hb dX0_runForward_22 hl (k := 0) rfl (zinc _) (by decide) rfl (fun ls hl => ?_)
      refine lv_goto (tgt := 2) hx hb dX0_runForward_25 (by decide) ?_
      exact ihL1 (i + 1) (by omega) H locs ls hP hS (lv_sub hl [0, 1] rfl)
  exact L1 4 0 (by omega) H locs ls (by rw [zfil_0]; exact hP) hS (lv_sub hl [0, 1] rfl)
set_option maxHeartbeats 4000000 in
/-- BlockSealer.runBackward  -/
theorem mX_runBackward (l : Launch) (D : va_G) (cA : ClassId) (h : Nat) (ad : Nat → Nat) (rk tk pre sum st fr mul : Nat → Int32) : MetW l D cA yX0_runBackward (ws_ yX0_runBackward cX0_runBackward 4 none) (zroom 2) ([.ref h] : List Value) (XG cA h ad zSub zRes zFwd zBwd rk tk pre sum st fr mul zFal) (XG cA h ad zSub zRes zFwd zBwd rk tk pre sum (zde tk st) (zde tk st) mul zFal) none := by
  refine zr_startV RX0 rfl (by decide) (Nat.le_of_ble_eq_true rfl) ?_
  intro p e s m below meth c A ls Q hx hb hml hown hts hK hP hD hA hS hret hl
  have hl : lv_has ls 4 [(0, .ref h)] := hl
  generalize hH : s.heap = H at hP
  have hS : va_S A s.heap H [] := by rw [← hH]; exact hS
  generalize hlo : ([] : List Loc) = locs at hS ⊢
  refine lv_iconst (v := nI 0) hx hb dX0_runBackward_0 (by decide) ?_
  refine lv_istore_n (lv' := [(1, .int (nI 0)), (0, .ref h)]) hx hb dX0_runBackward_1 rfl hl (by decide) rfl (fun ls hl => ?_)
  have L1 : ∀ (nL1 i : Nat), i + nL1 = 4 → ∀ (H : Heap) (locs : List Loc) (ls : Array Slot), va_P D Cl (XG cA h ad zSub zRes zFwd zBwd rk tk pre sum (zfil st (fun j => st j ^^^ tk (40 + j)) i) fr mul zFal) H → va_S A s.heap H locs → lv_has ls 4 [(1, .int (nI i)), (0, .ref h)] → W p l e (zroom 2) s m ([.ref h] : List Value).toArray below meth c H locs 0 0 Q (F0 m 2 ls []) := by
    intro nL1
    induction nL1 with
    | zero =>
      intro i hL1 H locs ls hP hS hl
      obtain rfl : i = 4 := by omega
      refine lv_iload_n hx hb dX0_runBackward_2 rfl (lv_at hl 0 rfl) ?_
      refine lv_iconst (v := nI 4) hx hb dX0_runBackward_3 (by decide) ?_
      refine zr_ge_t (tgt := 31) hx hb dX0_runBackward_4 (by decide) (by omega) (by omega) ?_
      have hP := zP (g := zrb tk st 0) hP 9 rfl (fun j hj => zfil_lt hj)
      have hP : va_P D Cl (XG cA h ad zSub zRes zFwd zBwd rk tk pre sum (zrb tk st 0) fr mul zFal) H := hP
      refine lv_bipush (v := nI 9) hx hb dX0_runBackward_31 (by decide) ?_
      refine lv_istore_n (lv' := [(1, .int (nI 9)), (0, .ref h)]) hx hb dX0_runBackward_33 rfl hl (by decide) rfl (fun ls hl => ?_)
      have L2 : ∀ (q : Nat), q ≤ 9 → ∀ (H : Heap) (locs : List Loc) (ls : Array Slot), va_P D Cl (XG cA h ad zSub zRes zFwd zBwd rk tk pre sum (zrb tk st (9 - q)) (zrh fr tk st (9 - q)) mul zFal) H → va_S A s.heap H locs → lv_has ls 4 [(1, .int (nI q)), (0, .ref h)] → W p l e (zroom 2) s m ([.ref h] : List Value).toArray below meth c H locs 0 0 Q (F0 m 34 ls []) := by
        intro q
        induction q with
        | zero =>
          intro hleL2 H locs ls hP hS hl
          refine lv_iload_n hx hb dX0_runBackward_34 rfl (lv_at hl 0 rfl) ?_
          refine zr_ifle_t (tgt := 83) hx hb dX0_runBackward_35 (by decide) ?_
          refine lv_iconst (v := nI 0) hx hb dX0_runBackward_83 (by decide) ?_
          refine lv_istore_n (lv' := [(1, .int (nI 0)), (0, .ref h)]) hx hb dX0_runBackward_84 rfl hl (by decide) rfl (fun ls hl => ?_)
          have L4 : ∀ (nL4 i : Nat), i + nL4 = 4 → ∀ (H : Heap) (locs : List Loc) (ls : Array Slot), va_P D Cl (XG cA h ad zSub zRes zFwd zBwd rk tk pre sum (zrb tk st 9) (zfil (zrh fr tk st 9) (zde tk st) i) mul zFal) H → va_S A s.heap H locs → lv_has ls 4 [(1, .int (nI i)), (0, .ref h)] → W p l e (zroom 2) s m ([.ref h] : List Value).toArray below meth c H locs 0 0 Q (F0 m 85 ls []) := by
            intro nL4
            induction nL4 with
            | zero =>
              intro i hL4 H locs ls hP hS hl
              obtain rfl : i = 4 := by omega
              refine lv_iload_n hx hb dX0_runBackward_85 rfl (lv_at hl 0 rfl) ?_
              refine lv_iconst (v := nI 4) hx hb dX0_runBackward_86 (by decide) ?_
              refine zr_ge_t (tgt := 202) hx hb dX0_runBackward_87 (by decide) (by omega) (by omega) ?_
              have hP := zP (g := zde tk st) hP 10 rfl (fun j hj => zfil_lt hj)
              have hP : va_P D Cl (XG cA h ad zSub zRes zFwd zBwd rk tk pre sum (zrb tk st 9) (zde tk st) mul zFal) H := hP
              refine lv_aload_n hx hb dX0_runBackward_202 rfl (lv_at hl 1 rfl) ?_
              refine zr_callVv (rest := []) ⟨hx, hb, hml, hown, hts⟩ (mX_keepFresh l D cA h ad rk tk pre sum (zrb tk st 9) (zde tk st) mul) (cwV 0 hts (lw_V q90 q92 qs9 q30 q93) rfl rfl rfl (by decide +kernel) ⟨Nat.le_of_ble_eq_true rfl, Nat.le_of_ble_eq_true rfl⟩) [] hK hP hD rfl hS hA (ci := 0) (q0 := 0) rfl rfl rfl rfl hl.1 rfl (Nat.le_of_ble_eq_true rfl) dX0_runBackward_203 ⟨Nat.zero_le _, Nat.zero_le _⟩ (fun H locs hP hS => ?_)
              have hP : va_P D Cl (XG cA h ad zSub zRes zFwd zBwd rk tk pre sum (zde tk st) (zde tk st) mul zFal) H := hP
              exact hret H locs _ ls hP hS dX0_runBackward_206
            | succ nL4 ihL4 =>
              intro i hL4 H locs ls hP hS hl
              have hltL4 : i < 4 := by omega
              refine lv_iload_n hx hb dX0_runBackward_85 rfl (lv_at hl 0 rfl) ?_
              refine lv_iconst (v := nI 4) hx hb dX0_runBackward_86 (by decide) ?_
              refine zr_ge_f (tgt := 202) hx hb dX0_runBackward_87 (by decide) (by omega) (by omega) ?_
              refine lv_aload_n hx hb dX0_runBackward_90 rfl (lv_at hl 1 rfl) ?_
              refine zr_get (T := TX0) (N := 12) hx hb hts in_X0 hown hK hP 0 rfl rfl 1 (by decide) q99 rfl dX0_runBackward_91 ?_
              refine lv_aload_n hx hb dX0_runBackward_94 rfl (lv_at hl 1 rfl) ?_
              refine zr_get (T := TX0) (N := 12) hx hb hts in_X0 hown hK hP 0 rfl rfl 8 (by decide) q106 rfl dX0_runBackward_95 ?_
              refine lv_iload_n hx hb dX0_runBackward_98 rfl (lv_at hl 0 rfl) ?_
              refine zr_iald (v := (zrb tk st 9) i) hx hb hK hP 9 0 rfl rfl i rfl (by omega) (by decide) rfl dX0_runBackward_99 ?_
              refine lv_bipush (v := nI 24) hx hb dX0_runBackward_100 (by decide) ?_
              refine zr_iushr (v := nI (zby ((zrb tk st 9) i) 0)) hx hb dX0_runBackward_102 (zb0 _) ?_
              refine zr_iald (v := zRes (zby ((zrb tk st 9) i) 0)) hx hb hK hP 2 0 rfl rfl (zby ((zrb tk st 9) i) 0) rfl (zby_lt _ _) (by decide) rfl dX0_runBackward_103 ?_
              refine lv_bipush (v := nI 24) hx hb dX0_runBackward_104 (by decide) ?_
              refine zr_ishl (v := zsl (zRes (zby ((zrb tk st 9) i) 0)) 24) hx hb dX0_runBackward_106 rfl ?_
              refine lv_aload_n hx hb dX0_runBackward_107 rfl (lv_at hl 1 rfl) ?_
              refine zr_get (T := TX0) (N := 12) hx hb hts in_X0 hown hK hP 0 rfl rfl 1 (by decide) q99 rfl dX0_runBackward_108 ?_
              refine lv_aload_n hx hb dX0_runBackward_111 rfl (lv_at hl 1 rfl) ?_
              refine zr_get (T := TX0) (N := 12) hx hb hts in_X0 hown hK hP 0 rfl rfl 8 (by decide) q106 rfl dX0_runBackward_112 ?_
              refine lv_iload_n hx hb dX0_runBackward_115 rfl (lv_at hl 0 rfl) ?_
              refine lv_iconst (v := nI 3) hx hb dX0_runBackward_116 (by decide) ?_
              refine zr_iadd (v := nI (i + 3)) hx hb dX0_runBackward_117 (nI_add _ _) ?_
              refine lv_iconst (v := nI 3) hx hb dX0_runBackward_118 (by decide) ?_
              refine zr_iand (v := nI ((i + 3) % 4)) hx hb dX0_runBackward_119 (zm3 (by omega)) ?_
              refine zr_iald (v := (zrb tk st 9) ((i + 3) % 4)) hx hb hK hP 9 0 rfl rfl ((i + 3) % 4) rfl (by omega) (by decide) rfl dX0_runBackward_120 ?_
              refine lv_bipush (v := nI 16) hx hb dX0_runBackward_121 (by decide) ?_
              refine zr_iushr (v := zus ((zrb tk st 9) ((i + 3) % 4)) 16) hx hb dX0_runBackward_123 rfl ?_
              refine lv_sipush (v := nI 255) hx hb dX0_runBackward_124 (by decide) ?_
              refine zr_iand (v := nI (zby ((zrb tk st 9) ((i + 3) % 4)) 1)) hx hb dX0_runBackward_127 (zb1 _) ?_
              refine zr_iald (v := zRes (zby ((zrb tk st 9) ((i + 3) % 4)) 1)) hx hb hK hP 2 0 rfl rfl (zby ((zrb tk st 9) ((i + 3) % 4)) 1) rfl (zby_lt _ _) (by decide) rfl dX0_runBackward_128 ?_
              refine lv_bipush (v := nI 16) hx hb dX0_runBackward_129 (by decide) ?_
              refine zr_ishl (v := zsl (zRes (zby ((zrb tk st 9) ((i + 3) % 4)) 1)) 16) hx hb dX0_runBackward_131 rfl ?_
              refine zr_ior (v := (zsl (zRes (zby ((zrb tk st 9) i) 0)) 24) ||| (zsl (zRes (zby ((zrb tk st 9) ((i + 3) % 4)) 1)) 16)) hx hb dX0_runBackward_132 rfl ?_
              refine lv_istore_n (lv' := [(2, .int ((zsl (zRes (zby ((zrb tk st 9) i) 0)) 24) ||| (zsl (zRes (zby ((zrb tk st 9) ((i + 3) % 4)) 1)) 16))), (1, .int (nI i)), (0, .ref h)]) hx hb dX0_runBackward_133 rfl hl (by decide) rfl (fun ls hl => ?_)
              refine lv_aload_n hx hb dX0_runBackward_134 rfl (lv_at hl 2 rfl) ?_
              refine zr_get (T := TX0) (N := 12) hx hb hts in_X0 hown hK hP 0 rfl rfl 1 (by decide) q99 rfl dX0_runBackward_135 ?_
              refine lv_aload_n hx hb dX0_runBackward_138 rfl (lv_at hl 2 rfl) ?_
              refine zr_get (T := TX0) (N := 12) hx hb hts in_X0 hown hK hP 0 rfl rfl 8 (by decide) q106 rfl dX0_runBackward_139 ?_
              refine lv_iload_n hx hb dX0_runBackward_142 rfl (lv_at hl 1 rfl) ?_
              refine lv_iconst (v := nI 2) hx hb dX0_runBackward_143 (by decide) ?_
              refine zr_iadd (v := nI (i + 2)) hx hb dX0_runBackward_144 (nI_add _ _) ?_
              refine lv_iconst (v := nI 3) hx hb dX0_runBackward_145 (by decide) ?_
              refine zr_iand (v := nI ((i + 2) % 4)) hx hb dX0_runBackward_146 (zm3 (by omega)) ?_
              refine zr_iald (v := (zrb tk st 9) ((i + 2) % 4)) hx hb hK hP 9 0 rfl rfl ((i + 2) % 4) rfl (by omega) (by decide) rfl dX0_runBackward_147 ?_
              refine lv_bipush (v := nI 8) hx hb dX0_runBackward_148 (by decide) ?_
              refine zr_iushr (v := zus ((zrb tk st 9) ((i + 2) % 4)) 8) hx hb dX0_runBackward_150 rfl ?_
              refine lv_sipush (v := nI 255) hx hb dX0_runBackward_151 (by decide) ?_
              refine zr_iand (v := nI (zby ((zrb tk st 9) ((i + 2) % 4)) 2)) hx hb dX0_runBackward_154 (zb2 _) ?_
              refine zr_iald (v := zRes (zby ((zrb tk st 9) ((i + 2) % 4)) 2)) hx hb hK hP 2 0 rfl rfl (zby ((zrb tk st 9) ((i + 2) % 4)) 2) rfl (zby_lt _ _) (by decide) rfl dX0_runBackward_155 ?_
              refine lv_bipush (v := nI 8) hx hb dX0_runBackward_156 (by decide) ?_
              refine zr_ishl (v := zsl (zRes (zby ((zrb tk st 9) ((i + 2) % 4)) 2)) 8) hx hb dX0_runBackward_158 rfl ?_
              refine lv_aload_n hx hb dX0_runBackward_159 rfl (lv_at hl 2 rfl) ?_
              refine zr_get (T := TX0) (N := 12) hx hb hts in_X0 hown hK hP 0 rfl rfl 1 (by decide) q99 rfl dX0_runBackward_160 ?_
              refine lv_aload_n hx hb dX0_runBackward_163 rfl (lv_at hl 2 rfl) ?_
              refine zr_get (T := TX0) (N := 12) hx hb hts in_X0 hown hK hP 0 rfl rfl 8 (by decide) q106 rfl dX0_runBackward_164 ?_
              refine lv_iload_n hx hb dX0_runBackward_167 rfl (lv_at hl 1 rfl) ?_
              refine lv_iconst (v := nI 1) hx hb dX0_runBackward_168 (by decide) ?_
              refine zr_iadd (v := nI (i + 1)) hx hb dX0_runBackward_169 (nI_add _ _) ?_
              refine lv_iconst (v := nI 3) hx hb dX0_runBackward_170 (by decide) ?_
              refine zr_iand (v := nI ((i + 1) % 4)) hx hb dX0_runBackward_171 (zm3 (by omega)) ?_
              refine zr_iald (v := (zrb tk st 9) ((i + 1) % 4)) hx hb hK hP 9 0 rfl rfl ((i + 1) % 4) rfl (by omega) (by decide) rfl dX0_runBackward_172 ?_
              refine lv_sipush (v := nI 255) hx hb dX0_runBackward_173 (by decide) ?_
              refine zr_iand (v := nI (zby ((zrb tk st 9) ((i + 1) % 4)) 3)) hx hb dX0_runBackward_176 (zb3 _) ?_
              refine zr_iald (v := zRes (zby ((zrb tk st 9) ((i + 1) % 4)) 3)) hx hb hK hP 2 0 rfl rfl (zby ((zrb tk st 9) ((i + 1) % 4)) 3) rfl (zby_lt _ _) (by decide) rfl dX0_runBackward_177 ?_
              refine zr_ior (v := (zsl (zRes (zby ((zrb tk st 9) ((i + 2) % 4)) 2)) 8) ||| (zRes (zby ((zrb tk st 9) ((i + 1) % 4)) 3))) hx hb dX0_runBackward_178 rfl ?_
              refine lv_istore_n (lv' := [(3, .int ((zsl (zRes (zby ((zrb tk st 9) ((i + 2) % 4)) 2)) 8) ||| (zRes (zby ((zrb tk st 9) ((i + 1) % 4)) 3)))), (2, .int ((zsl (zRes (zby ((zrb tk st 9) i) 0)) 24) ||| (zsl (zRes (zby ((zrb tk st 9) ((i + 3) % 4)) 1)) 16))), (1, .int (nI i)), (0, .ref h)]) hx hb dX0_runBackward_179 rfl hl (by decide) rfl (fun ls hl => ?_)
              refine lv_aload_n hx hb dX0_runBackward_180 rfl (lv_at hl 3 rfl) ?_
              refine zr_get (T := TX0) (N := 12) hx hb hts in_X0 hown hK hP 0 rfl rfl 9 (by decide) q107 rfl dX0_runBackward_181 ?_
              refine lv_iload_n hx hb dX0_runBackward_184 rfl (lv_at hl 2 rfl) ?_
              refine lv_iload_n hx hb dX0_runBackward_185 rfl (lv_at hl 1 rfl) ?_
              refine lv_iload_n hx hb dX0_runBackward_186 rfl (lv_at hl 0 rfl) ?_
              refine zr_ior (v := ((zsl (zRes (zby ((zrb tk st 9) i) 0)) 24) ||| (zsl (zRes (zby ((zrb tk st 9) ((i + 3) % 4)) 1)) 16)) ||| ((zsl (zRes (zby ((zrb tk st 9) ((i + 2) % 4)) 2)) 8) ||| (zRes (zby ((zrb tk st 9) ((i + 1) % 4)) 3)))) hx hb dX0_runBackward_187 rfl ?_
              refine lv_aload_n hx hb dX0_runBackward_188 rfl (lv_at hl 3 rfl) ?_
              refine zr_get (T := TX0) (N := 12) hx hb hts in_X0 hown hK hP 0 rfl rfl 5 (by decide) q103 rfl dX0_runBackward_189 ?_
              refine lv_iload_n hx hb dX0_runBackward_192 rfl (lv_at hl 2 rfl) ?_
              refine zr_iald (v := tk i) hx hb hK hP 6 0 rfl rfl i rfl (by omega) (by decide) rfl dX0_runBackward_193 ?_
              refine zr_ixor (v := (((zsl (zRes (zby ((zrb tk st 9) i) 0)) 24) ||| (zsl (zRes (zby ((zrb tk st 9) ((i + 3) % 4)) 1)) 16)) ||| ((zsl (zRes (zby ((zrb tk st 9) ((i + 2) % 4)) 2)) 8) ||| (zRes (zby ((zrb tk st 9) ((i + 1) % 4)) 3)))) ^^^ (tk i)) hx hb dX0_runBackward_194 rfl ?_
              refine zr_iast (f' := zfil (zrh fr tk st 9) (zde tk st) (i + 1)) hx hb hK hP hD rfl hS 10 0 rfl rfl i rfl (by omega) (by decide) (zfil_s rfl) dX0_runBackward_195 (fun H locs hP hS => ?_)
              have hP : va_P D Cl (XG cA h ad zSub zRes zFwd zBwd rk tk pre sum (zrb tk st 9) (zfil (zrh fr tk st 9) (zde tk st) (i + 1)) mul zFal) H := hP
              refine lv_iinc (v := nI (i + 1)) (lv' := [(1, .int (nI (i + 1))), (3, .int ((zsl (zRes (zby ((zrb tk st 9) ((i + 2) % 4)) 2)) 8) ||| (zRes (zby ((zrb tk st 9) ((i + 1) % 4)) 3)))), (2, .int ((zsl (zRes (zby ((zrb tk st 9) i) 0)) 24) ||| (zsl (zRes (zby ((zrb tk st 9) ((i + 3) % 4)) 1)) 16))), (0, .ref h)]) hx hb dX0_runBackward_196 hl (k := 2) rfl (zinc _) (by decide) rfl (fun ls hl => ?_)
              refine lv_goto (tgt := 85) hx hb dX0_runBackward_199 (by decide) ?_
              exact ihL4 (i + 1) (by omega) H locs ls hP hS (lv_sub hl [0, 3] rfl)
          exact L4 4 0 (by omega) H locs ls (by rw [zfil_0]; exact hP) hS (lv_sub hl [0, 1] rfl)
        | succ q ihL2 =>
          intro hleL2 H locs ls hP hS hl
          refine lv_iload_n hx hb dX0_runBackward_34 rfl (lv_at hl 0 rfl) ?_
          refine zr_ifle_f (tgt := 83) hx hb dX0_runBackward_35 (by decide) (by omega) (by omega) ?_
          refine lv_iconst (v := nI 0) hx hb dX0_runBackward_38 (by decide) ?_
          refine lv_istore_n (lv' := [(2, .int (nI 0)), (1, .int (nI (q + 1))), (0, .ref h)]) hx hb dX0_runBackward_39 rfl hl (by decide) rfl (fun ls hl => ?_)
          have L3 : ∀ (nL3 i : Nat), i + nL3 = 4 → ∀ (H : Heap) (locs : List Loc) (ls : Array Slot), va_P D Cl (XG cA h ad zSub zRes zFwd zBwd rk tk pre sum (zrb tk st (9 - (q + 1))) (zfil (zrh fr tk st (9 - (q + 1))) (fun c => zbc (zrb tk st (9 - (q + 1))) c ^^^ tk (4 * (q + 1) + c)) i) mul zFal) H → va_S A s.heap H locs → lv_has ls 4 [(2, .int (nI i)), (1, .int (nI (q + 1))), (0, .ref h)] → W p l e (zroom 2) s m ([.ref h] : List Value).toArray below meth c H locs 0 0 Q (F0 m 40 ls []) := by
            intro nL3
            induction nL3 with
            | zero =>
              intro i hL3 H locs ls hP hS hl
              obtain rfl : i = 4 := by omega
              refine lv_iload_n hx hb dX0_runBackward_40 rfl (lv_at hl 0 rfl) ?_
              refine lv_iconst (v := nI 4) hx hb dX0_runBackward_41 (by decide) ?_
              refine zr_ge_t (tgt := 73) hx hb dX0_runBackward_42 (by decide) (by omega) (by omega) ?_
              have hP := zP (g := (fun c => zbc (zrb tk st (9 - (q + 1))) c ^^^ tk (4 * (q + 1) + c))) hP 10 rfl (fun j hj => zfil_lt hj)
              have hP : va_P D Cl (XG cA h ad zSub zRes zFwd zBwd rk tk pre sum (zrb tk st (9 - (q + 1))) (fun c => zbc (zrb tk st (9 - (q + 1))) c ^^^ tk (4 * (q + 1) + c)) mul zFal) H := hP
              refine lv_aload_n hx hb dX0_runBackward_73 rfl (lv_at hl 2 rfl) ?_
              refine zr_callVv (rest := []) ⟨hx, hb, hml, hown, hts⟩ (mX_keepFresh l D cA h ad rk tk pre sum (zrb tk st (9 - (q + 1))) (fun c => zbc (zrb tk st (9 - (q + 1))) c ^^^ tk (4 * (q + 1) + c)) mul) (cwV 0 hts (lw_V q90 q92 qs9 q30 q93) rfl rfl rfl (by decide +kernel) ⟨Nat.le_of_ble_eq_true rfl, Nat.le_of_ble_eq_true rfl⟩) [] hK hP hD rfl hS hA (ci := 0) (q0 := 0) rfl rfl rfl rfl hl.1 rfl (Nat.le_of_ble_eq_true rfl) dX0_runBackward_74 ⟨Nat.zero_le _, Nat.zero_le _⟩ (fun H locs hP hS => ?_)
              have hP : va_P D Cl (XG cA h ad zSub zRes zFwd zBwd rk tk pre sum (fun c => zbc (zrb tk st (9 - (q + 1))) c ^^^ tk (4 * (q + 1) + c)) (fun c => zbc (zrb tk st (9 - (q + 1))) c ^^^ tk (4 * (q + 1) + c)) mul zFal) H := hP
              refine lv_iinc (v := nI q) (lv' := [(1, .int (nI q)), (2, .int (nI 4)), (0, .ref h)]) hx hb dX0_runBackward_77 hl (k := 1) rfl (zdec q) (by decide) rfl (fun ls hl => ?_)
              refine lv_goto (tgt := 34) hx hb dX0_runBackward_80 (by decide) ?_
              exact ihL2 (by omega) H locs ls (by rw [zrh_s (by omega), zrb_s (by omega)]; exact hP) hS (lv_sub hl [0, 2] rfl)
            | succ nL3 ihL3 =>
              intro i hL3 H locs ls hP hS hl
              have hltL3 : i < 4 := by omega
              refine lv_iload_n hx hb dX0_runBackward_40 rfl (lv_at hl 0 rfl) ?_
              refine lv_iconst (v := nI 4) hx hb dX0_runBackward_41 (by decide) ?_
              refine zr_ge_f (tgt := 73) hx hb dX0_runBackward_42 (by decide) (by omega) (by omega) ?_
              refine lv_aload_n hx hb dX0_runBackward_45 rfl (lv_at hl 2 rfl) ?_
              refine zr_get (T := TX0) (N := 12) hx hb hts in_X0 hown hK hP 0 rfl rfl 9 (by decide) q107 rfl dX0_runBackward_46 ?_
              refine lv_iload_n hx hb dX0_runBackward_49 rfl (lv_at hl 0 rfl) ?_
              refine lv_aload_n hx hb dX0_runBackward_50 rfl (lv_at hl 2 rfl) ?_
              refine lv_iload_n hx hb dX0_runBackward_51 rfl (lv_at hl 0 rfl) ?_
              refine zr_callVi (rest := [.int (nI i), .ref (ad 9)]) ⟨hx, hb, hml, hown, hts⟩ (mX_backwardColumn l D cA h ad rk tk pre sum (zrb tk st (9 - (q + 1))) (zfil (zrh fr tk st (9 - (q + 1))) (fun c => zbc (zrb tk st (9 - (q + 1))) c ^^^ tk (4 * (q + 1) + c)) i) mul i (by omega)) (cwV 1 hts (lw_V q165 q167 qs14 q30 q168) rfl rfl rfl (by decide +kernel) ⟨Nat.le_of_ble_eq_true rfl, Nat.le_of_ble_eq_true rfl⟩) [] hK hP hD rfl hS hA (ci := 0) (q0 := 0) rfl rfl rfl rfl hl.1 rfl (Nat.le_of_ble_eq_true rfl) dX0_runBackward_52 ⟨Nat.zero_le _, Nat.zero_le _⟩ (fun H locs hP hS => ?_)
              have hP : va_P D Cl (XG cA h ad zSub zRes zFwd zBwd rk tk pre sum (zrb tk st (9 - (q + 1))) (zfil (zrh fr tk st (9 - (q + 1))) (fun c => zbc (zrb tk st (9 - (q + 1))) c ^^^ tk (4 * (q + 1) + c)) i) mul zFal) H := hP
              refine lv_aload_n hx hb dX0_runBackward_55 rfl (lv_at hl 2 rfl) ?_
              refine zr_get (T := TX0) (N := 12) hx hb hts in_X0 hown hK hP 0 rfl rfl 5 (by decide) q103 rfl dX0_runBackward_56 ?_
              refine lv_iconst (v := nI 4) hx hb dX0_runBackward_59 (by decide) ?_
              refine lv_iload_n hx hb dX0_runBackward_60 rfl (lv_at hl 1 rfl) ?_
              refine zr_imul (v := nI (4 * (q + 1))) hx hb dX0_runBackward_61 (pk_mul _ _) ?_
              refine lv_iload_n hx hb dX0_runBackward_62 rfl (lv_at hl 0 rfl) ?_
              refine zr_iadd (v := nI ((4 * (q + 1)) + i)) hx hb dX0_runBackward_63 (nI_add _ _) ?_
              refine zr_iald (v := tk ((4 * (q + 1)) + i)) hx hb hK hP 6 0 rfl rfl ((4 * (q + 1)) + i) rfl (by omega) (by decide) rfl dX0_runBackward_64 ?_
              refine zr_ixor (v := (zbc (zrb tk st (9 - (q + 1))) i) ^^^ (tk ((4 * (q + 1)) + i))) hx hb dX0_runBackward_65 rfl ?_
              refine zr_iast (f' := zfil (zrh fr tk st (9 - (q + 1))) (fun c => zbc (zrb tk st (9 - (q + 1))) c ^^^ tk (4 * (q + 1) + c)) (i + 1)) hx hb hK hP hD rfl hS 10 0 rfl rfl i rfl (by omega) (by decide) (zfil_s rfl) dX0_runBackward_66 (fun H locs hP hS => ?_)
              have hP : va_P D Cl (XG cA h ad zSub zRes zFwd zBwd rk tk pre sum (zrb tk st (9 - (q + 1))) (zfil (zrh fr tk st (9 - (q + 1))) (fun c => zbc (zrb tk st (9 - (q + 1))) c ^^^ tk (4 * (q + 1) + c)) (i + 1)) mul zFal) H := hP
              refine lv_iinc (v := nI (i + 1)) (lv' := [(2, .int (nI (i + 1))), (1, .int (nI (q + 1))), (0, .ref h)]) hx hb dX0_runBackward_67 hl (k := 0) rfl (zinc _) (by decide) rfl (fun ls hl => ?_)
              refine lv_goto (tgt := 40) hx hb dX0_runBackward_70 (by decide) ?_
              exact ihL3 (i + 1) (by omega) H locs ls hP hS (lv_sub hl [0, 1, 2] rfl)
          exact L3 4 0 (by omega) H locs ls (by rw [zfil_0]; exact hP) hS (lv_sub hl [0, 1, 2] rfl)
      exact L2 9 (by omega) H locs ls hP hS (lv_sub hl [0, 1] rfl)
    | succ nL1 ihL1 =>
      intro i hL1 H locs ls hP hS hl
      have hltL1 : i < 4 := by omega
      refine lv_iload_n hx hb dX0_runBackward_2 rfl (lv_at hl 0 rfl) ?_
      refine lv_iconst (v := nI 4) hx hb dX0_runBackward_3 (by decide) ?_
      refine zr_ge_f (tgt := 31) hx hb dX0_runBackward_4 (by decide) (by omega) (by omega) ?_
      refine lv_aload_n hx hb dX0_runBackward_7 rfl (lv_at hl 1 rfl) ?_
      refine zr_get (T := TX0) (N := 12) hx hb hts in_X0 hown hK hP 0 rfl rfl 8 (by decide) q106 rfl dX0_runBackward_8 ?_
      refine lv_iload_n hx hb dX0_runBackward_11 rfl (lv_at hl 0 rfl) ?_
      refine lv_dup2_11 hx hb dX0_runBackward_12 rfl rfl ?_
      refine zr_iald (v := st i) hx hb hK hP 9 0 rfl rfl i rfl (by omega) (by decide) (zfil_self _ _ _) dX0_runBackward_13 ?_
      refine lv_aload_n hx hb dX0_runBackward_14 rfl (lv_at hl 1 rfl) ?_
      refine zr_get (T := TX0) (N := 12) hx hb hts in_X0 hown hK hP 0 rfl rfl 5 (by decide) q103 rfl dX0_runBackward_15 ?_
      refine lv_bipush (v := nI 40) hx hb dX0_runBackward_18 (by decide) ?_
      refine lv_iload_n hx hb dX0_runBackward_20 rfl (lv_at hl 0 rfl) ?_
      refine zr_iadd (v := nI (40 + i)) hx hb dX0_runBackward_21 (nI_add _ _) ?_
      refine zr_iald (v := tk (40 + i)) hx hb hK hP 6 0 rfl rfl (40 + i) rfl (by omega) (by decide) rfl dX0_runBackward_22 ?_
      refine zr_ixor (v := (st i) ^^^ (tk (40 + i))) hx hb dX0_runBackward_23 rfl ?_
      refine zr_iast (f' := zfil st (fun j => st j ^^^ tk (40 + j)) (i + 1)) hx hb hK hP hD rfl hS 9 0 rfl rfl i rfl (by omega) (by decide) (zfil_s rfl) dX0_runBackward_24 (fun H locs hP hS => ?_)
      have hP : va_P D Cl (XG cA h ad zSub zRes zFwd zBwd rk tk pre sum (zfil st (fun j => st j ^^^ tk (40 + j)) (i + 1)) fr mul zFal) H := hP
      refine lv_iinc (v := nI (i + 1)) (lv' := [(1, .int (nI (i + 1))), (0, .ref h)]) hx hb dX0_runBackward_25 hl (k := 0) rfl (zinc _) (by decide) rfl (fun ls hl => ?_)
      refine lv_goto (tgt := 2) hx hb dX0_runBackward_28 (by decide) ?_
      exact ihL1 (i + 1) (by omega) H locs ls hP hS (lv_sub hl [0, 1] rfl)
  exact L1 4 0 (by omega) H locs ls (by rw [zfil_0]; exact hP) hS (lv_sub hl [0, 1] rfl)
set_option maxHeartbeats 4000000 in
/-- BlockSealer.encrypt  -/
theorem mX_encrypt (l : Launch) (D : va_G) (cA : ClassId) (h : Nat) (ad : Nat → Nat) (rk tk pre sum st fr mul : Nat → Int32)  : MetW l D cA yX0_encrypt (ws_ yX0_encrypt cX0_encrypt 1 none) (zroom 3) ([.ref h] : List Value) (XG cA h ad zSub zRes zFwd zBwd rk tk pre sum st fr mul zFal) (XG cA h ad zSub zRes zFwd zBwd rk tk (zen rk pre) sum (zen rk pre) (zen rk pre) mul zFal) none := by
  refine zr_startV RX0 rfl (by decide) (Nat.le_of_ble_eq_true rfl) ?_
  intro p e s m below meth c A ls Q hx hb hml hown hts hK hP hD hA hS hret hl
  have hl : lv_has ls 1 [(0, .ref h)] := hl
  generalize hH : s.heap = H at hP
  have hS : va_S A s.heap H [] := by rw [← hH]; exact hS
  generalize hlo : ([] : List Loc) = locs at hS ⊢
  refine lv_aload_n hx hb dX0_encrypt_0 rfl (lv_at hl 0 rfl) ?_
  refine zr_callVv (rest := []) ⟨hx, hb, hml, hown, hts⟩ (mX_takePresent l D cA h ad rk tk pre sum st fr mul) (cwV 0 hts (lw_V q149 q151 qs11 q30 q152) rfl rfl rfl (by decide +kernel) ⟨Nat.le_of_ble_eq_true rfl, Nat.le_of_ble_eq_true rfl⟩) [] hK hP hD rfl hS hA (ci := 0) (q0 := 0) rfl rfl rfl rfl hl.1 rfl (Nat.le_of_ble_eq_true rfl) dX0_encrypt_1 ⟨Nat.zero_le _, Nat.zero_le _⟩ (fun H locs hP hS => ?_)
  have hP : va_P D Cl (XG cA h ad zSub zRes zFwd zBwd rk tk pre sum pre fr mul zFal) H := hP
  refine lv_aload_n hx hb dX0_encrypt_4 rfl (lv_at hl 0 rfl) ?_
  refine zr_callVv (rest := []) ⟨hx, hb, hml, hown, hts⟩ (mX_runForward l D cA h ad rk tk pre sum pre fr mul) (cwV 0 hts (lw_V q82 q84 qs7 q30 q85) rfl rfl rfl (by decide +kernel) ⟨Nat.le_of_ble_eq_true rfl, Nat.le_of_ble_eq_true rfl⟩) [] hK hP hD rfl hS hA (ci := 0) (q0 := 0) rfl rfl rfl rfl hl.1 rfl (Nat.le_of_ble_eq_true rfl) dX0_encrypt_5 ⟨Nat.zero_le _, Nat.zero_le _⟩ (fun H locs hP hS => ?_)
  have hP : va_P D Cl (XG cA h ad zSub zRes zFwd zBwd rk tk pre sum (zen rk pre) (zen rk pre) mul zFal) H := hP
  refine lv_aload_n hx hb dX0_encrypt_8 rfl (lv_at hl 0 rfl) ?_
  refine zr_callVv (rest := []) ⟨hx, hb, hml, hown, hts⟩ (mX_givePresent l D cA h ad rk tk pre sum (zen rk pre) (zen rk pre) mul) (cwV 0 hts (lw_V q153 q155 qs12 q30 q156) rfl rfl rfl (by decide +kernel) ⟨Nat.le_of_ble_eq_true rfl, Nat.le_of_ble_eq_true rfl⟩) [] hK hP hD rfl hS hA (ci := 0) (q0 := 0) rfl rfl rfl rfl hl.1 rfl (Nat.le_of_ble_eq_true rfl) dX0_encrypt_9 ⟨Nat.zero_le _, Nat.zero_le _⟩ (fun H locs hP hS => ?_)
  have hP : va_P D Cl (XG cA h ad zSub zRes zFwd zBwd rk tk (zen rk pre) sum (zen rk pre) (zen rk pre) mul zFal) H := hP
  exact hret H locs _ ls hP hS dX0_encrypt_12
set_option maxHeartbeats 4000000 in
/-- BlockSealer.decrypt  -/
theorem mX_decrypt (l : Launch) (D : va_G) (cA : ClassId) (h : Nat) (ad : Nat → Nat) (rk tk pre sum st fr mul : Nat → Int32)  : MetW l D cA yX0_decrypt (ws_ yX0_decrypt cX0_decrypt 1 none) (zroom 3) ([.ref h] : List Value) (XG cA h ad zSub zRes zFwd zBwd rk tk pre sum st fr mul zFal) (XG cA h ad zSub zRes zFwd zBwd rk tk (zde tk pre) sum (zde tk pre) (zde tk pre) mul zFal) none := by
  refine zr_startV RX0 rfl (by decide) (Nat.le_of_ble_eq_true rfl) ?_
  intro p e s m below meth c A ls Q hx hb hml hown hts hK hP hD hA hS hret hl
  have hl : lv_has ls 1 [(0, .ref h)] := hl
  generalize hH : s.heap = H at hP
  have hS : va_S A s.heap H [] := by rw [← hH]; exact hS
  generalize hlo : ([] : List Loc) = locs at hS ⊢
  refine lv_aload_n hx hb dX0_decrypt_0 rfl (lv_at hl 0 rfl) ?_
  refine zr_callVv (rest := []) ⟨hx, hb, hml, hown, hts⟩ (mX_takePresent l D cA h ad rk tk pre sum st fr mul) (cwV 0 hts (lw_V q149 q151 qs11 q30 q152) rfl rfl rfl (by decide +kernel) ⟨Nat.le_of_ble_eq_true rfl, Nat.le_of_ble_eq_true rfl⟩) [] hK hP hD rfl hS hA (ci := 0) (q0 := 0) rfl rfl rfl rfl hl.1 rfl (Nat.le_of_ble_eq_true rfl) dX0_decrypt_1 ⟨Nat.zero_le _, Nat.zero_le _⟩ (fun H locs hP hS => ?_)
  have hP : va_P D Cl (XG cA h ad zSub zRes zFwd zBwd rk tk pre sum pre fr mul zFal) H := hP
  refine lv_aload_n hx hb dX0_decrypt_4 rfl (lv_at hl 0 rfl) ?_
  refine zr_callVv (rest := []) ⟨hx, hb, hml, hown, hts⟩ (mX_runBackward l D cA h ad rk tk pre sum pre fr mul) (cwV 0 hts (lw_V q161 q163 qs13 q30 q164) rfl rfl rfl (by decide +kernel) ⟨Nat.le_of_ble_eq_true rfl, Nat.le_of_ble_eq_true rfl⟩) [] hK hP hD rfl hS hA (ci := 0) (q0 := 0) rfl rfl rfl rfl hl.1 rfl (Nat.le_of_ble_eq_true rfl) dX0_decrypt_5 ⟨Nat.zero_le _, Nat.zero_le _⟩ (fun H locs hP hS => ?_)
  have hP : va_P D Cl (XG cA h ad zSub zRes zFwd zBwd rk tk pre sum (zde tk pre) (zde tk pre) mul zFal) H := hP
  refine lv_aload_n hx hb dX0_decrypt_8 rfl (lv_at hl 0 rfl) ?_
  refine zr_callVv (rest := []) ⟨hx, hb, hml, hown, hts⟩ (mX_givePresent l D cA h ad rk tk pre sum (zde tk pre) (zde tk pre) mul) (cwV 0 hts (lw_V q153 q155 qs12 q30 q156) rfl rfl rfl (by decide +kernel) ⟨Nat.le_of_ble_eq_true rfl, Nat.le_of_ble_eq_true rfl⟩) [] hK hP hD rfl hS hA (ci := 0) (q0 := 0) rfl rfl rfl rfl hl.1 rfl (Nat.le_of_ble_eq_true rfl) dX0_decrypt_9 ⟨Nat.zero_le _, Nat.zero_le _⟩ (fun H locs hP hS => ?_)
  have hP : va_P D Cl (XG cA h ad zSub zRes zFwd zBwd rk tk (zde tk pre) sum (zde tk pre) (zde tk pre) mul zFal) H := hP
  exact hret H locs _ ls hP hS dX0_decrypt_12
set_option maxHeartbeats 4000000 in
/-- BlockSealer.absorb  -/
theorem mX_absorb (l : Launch) (D : va_G) (cA : ClassId) (h : Nat) (ad : Nat → Nat) (rk tk pre sum st fr mul : Nat → Int32) : MetW l D cA yX0_absorb (ws_ yX0_absorb cX0_absorb 4 none) (zroom 1) ([.ref h] : List Value) (XG cA h ad zSub zRes zFwd zBwd rk tk pre sum st fr mul zFal) (XG cA h ad zSub zRes zFwd zBwd rk tk pre (zab mul (fun c => sum c ^^^ pre c) 32) (fun c => sum c ^^^ pre c) fr mul zFal) none := by
  refine zr_startV RX0 rfl (by decide) (Nat.le_of_ble_eq_true rfl) ?_
  intro p e s m below meth c A ls Q hx hb hml hown hts hK hP hD hA hS hret hl
  have hl : lv_has ls 4 [(0, .ref h)] := hl
  generalize hH : s.heap = H at hP
  have hS : va_S A s.heap H [] := by rw [← hH]; exact hS
  generalize hlo : ([] : List Loc) = locs at hS ⊢
  refine lv_iconst (v := nI 0) hx hb dX0_absorb_0 (by decide) ?_
  refine lv_istore_n (lv' := [(1, .int (nI 0)), (0, .ref h)]) hx hb dX0_absorb_1 rfl hl (by decide) rfl (fun ls hl => ?_)
  have L1 : ∀ (nL1 i : Nat), i + nL1 = 4 → ∀ (H : Heap) (locs : List Loc) (ls : Array Slot), va_P D Cl (XG cA h ad zSub zRes zFwd zBwd rk tk pre (zfil sum (fun _ => nI 0) i) (zfil st (fun c => sum c ^^^ pre c) i) fr mul zFal) H → va_S A s.heap H locs → lv_has ls 4 [(1, .int (nI i)), (0, .ref h)] → W p l e (zroom 1) s m ([.ref h] : List Value).toArray below meth c H locs 0 0 Q (F0 m 2 ls []) := by
    intro nL1
    induction nL1 with
    | zero =>
      intro i hL1 H locs ls hP hS hl
      obtain rfl : i = 4 := by omega
      refine lv_iload_n hx hb dX0_absorb_2 rfl (lv_at hl 0 rfl) ?_
      refine lv_iconst (v := nI 4) hx hb dX0_absorb_3 (by decide) ?_
      refine zr_ge_t (tgt := 39) hx hb dX0_absorb_4 (by decide) (by omega) (by omega) ?_
      have hP := zP (g := (fun c => sum c ^^^ pre c)) hP 9 rfl (fun j hj => zfil_lt hj)
      have hP := zP (g := zab mul (fun c => sum c ^^^ pre c) 0) hP 8 rfl (fun j hj => zfil_lt hj)
      have hP : va_P D Cl (XG cA h ad zSub zRes zFwd zBwd rk tk pre (zab mul (fun c => sum c ^^^ pre c) 0) (fun c => sum c ^^^ pre c) fr mul zFal) H := hP
      refine lv_bipush (v := nI 31) hx hb dX0_absorb_39 (by decide) ?_
      refine lv_istore_n (lv' := [(1, .int (nI 31)), (0, .ref h)]) hx hb dX0_absorb_41 rfl hl (by decide) rfl (fun ls hl => ?_)
      have L2 : ∀ (k : Nat), k ≤ 32 → ∀ (H : Heap) (locs : List Loc) (ls : Array Slot), va_P D Cl (XG cA h ad zSub zRes zFwd zBwd rk tk pre (zab mul (fun c => sum c ^^^ pre c) (32 - k)) (fun c => sum c ^^^ pre c) fr mul zFal) H → va_S A s.heap H locs → lv_has ls 4 [(1, .int (zpd k)), (0, .ref h)] → W p l e (zroom 1) s m ([.ref h] : List Value).toArray below meth c H locs 0 0 Q (F0 m 42 ls []) := by
        intro k
        induction k with
        | zero =>
          intro hleL2 H locs ls hP hS hl
          have hl : lv_has ls 4 [(1, .int (nI 0 - 1)), (0, .ref h)] := hl
          refine lv_iload_n hx hb dX0_absorb_42 rfl (lv_at hl 0 rfl) ?_
          refine zr_iflt_t (tgt := 110) hx hb dX0_absorb_43 (by decide) ?_
          exact hret H locs _ ls hP hS dX0_absorb_110
        | succ k ihL2 =>
          intro hleL2 H locs ls hP hS hl
          have hl : lv_has ls 4 [(1, .int (nI k)), (0, .ref h)] := hl
          refine lv_iload_n hx hb dX0_absorb_42 rfl (lv_at hl 0 rfl) ?_
          refine zr_iflt_f (tgt := 110) hx hb dX0_absorb_43 (by decide) (by omega) ?_
          refine lv_aload_n hx hb dX0_absorb_46 rfl (lv_at hl 1 rfl) ?_
          refine zr_callVv (rest := []) ⟨hx, hb, hml, hown, hts⟩ (mX_moveSum l D cA h ad rk tk pre (zab mul (fun c => sum c ^^^ pre c) (32 - (k + 1))) (fun c => sum c ^^^ pre c) fr mul) (cwV 0 hts (lw_V q181 q183 qs15 q30 q184) rfl rfl rfl (by decide +kernel) ⟨Nat.le_of_ble_eq_true rfl, Nat.le_of_ble_eq_true rfl⟩) [] hK hP hD rfl hS hA (ci := 0) (q0 := 0) rfl rfl rfl rfl hl.1 rfl (Nat.le_of_ble_eq_true rfl) dX0_absorb_47 ⟨Nat.zero_le _, Nat.zero_le _⟩ (fun H locs hP hS => ?_)
          have hP : va_P D Cl (XG cA h ad zSub zRes zFwd zBwd rk tk pre (zms (zab mul (fun c => sum c ^^^ pre c) (32 - (k + 1)))) (fun c => sum c ^^^ pre c) fr mul zFal) H := hP
          refine lv_aload_n hx hb dX0_absorb_50 rfl (lv_at hl 1 rfl) ?_
          refine zr_get (T := TX0) (N := 12) hx hb hts in_X0 hown hK hP 0 rfl rfl 8 (by decide) q106 rfl dX0_absorb_51 ?_
          refine lv_iload_n hx hb dX0_absorb_54 rfl (lv_at hl 0 rfl) ?_
          refine lv_iconst (v := nI 3) hx hb dX0_absorb_55 (by decide) ?_
          refine zr_ishr (v := nI (k / 8)) hx hb dX0_absorb_56 (zs3 (by omega)) ?_
          refine zr_iald (v := (sum (k / 8) ^^^ pre (k / 8))) hx hb hK hP 9 0 rfl rfl (k / 8) rfl (by omega) (by decide) rfl dX0_absorb_57 ?_
          refine lv_bipush (v := nI 28) hx hb dX0_absorb_58 (by decide) ?_
          refine lv_iconst (v := nI 4) hx hb dX0_absorb_60 (by decide) ?_
          refine lv_iload_n hx hb dX0_absorb_61 rfl (lv_at hl 0 rfl) ?_
          refine lv_bipush (v := nI 7) hx hb dX0_absorb_62 (by decide) ?_
          refine zr_iand (v := nI (k % 8)) hx hb dX0_absorb_64 (zm7 (by omega)) ?_
          refine zr_imul (v := nI (4 * (k % 8))) hx hb dX0_absorb_65 (pk_mul _ _) ?_
          refine zr_isub (v := nI (28 - (4 * (k % 8)))) hx hb dX0_absorb_66 (pk_sub (by omega)) ?_
          refine zr_iushr (v := zus (sum (k / 8) ^^^ pre (k / 8)) (28 - (4 * (k % 8)))) hx hb dX0_absorb_67 rfl ?_
          refine lv_bipush (v := nI 15) hx hb dX0_absorb_68 (by decide) ?_
          refine zr_iand (v := nI (znb (fun c => sum c ^^^ pre c) k)) hx hb dX0_absorb_70 (zl15 _) ?_
          refine lv_istore_n (lv' := [(2, .int (nI (znb (fun c => sum c ^^^ pre c) k))), (1, .int (nI k)), (0, .ref h)]) hx hb dX0_absorb_71 rfl hl (by decide) rfl (fun ls hl => ?_)
          refine lv_iconst (v := nI 0) hx hb dX0_absorb_72 (by decide) ?_
          refine lv_istore_n (lv' := [(3, .int (nI 0)), (2, .int (nI (znb (fun c => sum c ^^^ pre c) k))), (1, .int (nI k)), (0, .ref h)]) hx hb dX0_absorb_73 rfl hl (by decide) rfl (fun ls hl => ?_)
          have hnb : znb (fun c => sum c ^^^ pre c) k < 16 := zlo_lt _ (by decide)
          generalize hnbe : znb (fun c => sum c ^^^ pre c) k = nb at hnb hl
          have L3 : ∀ (nL3 i : Nat), i + nL3 = 4 → ∀ (H : Heap) (locs : List Loc) (ls : Array Slot), va_P D Cl (XG cA h ad zSub zRes zFwd zBwd rk tk pre (zfil (zms (zab mul (fun c => sum c ^^^ pre c) (32 - (k + 1)))) (fun c => zms (zab mul (fun c => sum c ^^^ pre c) (32 - (k + 1))) c ^^^ mul (4 * nb + c)) i) (fun c => sum c ^^^ pre c) fr mul zFal) H → va_S A s.heap H locs → lv_has ls 4 [(3, .int (nI i)), (2, .int (nI nb)), (1, .int (nI k)), (0, .ref h)] → W p l e (zroom 1) s m ([.ref h] : List Value).toArray below meth c H locs 0 0 Q (F0 m 74 ls []) := by
            intro nL3
            induction nL3 with
            | zero =>
              intro i hL3 H locs ls hP hS hl
              obtain rfl : i = 4 := by omega
              refine lv_iload_n hx hb dX0_absorb_74 rfl (lv_at hl 0 rfl) ?_
              refine lv_iconst (v := nI 4) hx hb dX0_absorb_75 (by decide) ?_
              refine zr_ge_t (tgt := 104) hx hb dX0_absorb_76 (by decide) (by omega) (by omega) ?_
              have hP := zP (g := (fun c => zms (zab mul (fun c => sum c ^^^ pre c) (32 - (k + 1))) c ^^^ mul (4 * nb + c))) hP 8 rfl (fun j hj => zfil_lt hj)
              have hP : va_P D Cl (XG cA h ad zSub zRes zFwd zBwd rk tk pre (fun c => zms (zab mul (fun c => sum c ^^^ pre c) (32 - (k + 1))) c ^^^ mul (4 * nb + c)) (fun c => sum c ^^^ pre c) fr mul zFal) H := hP
              refine lv_iinc (v := zpd k) (lv' := [(1, .int (zpd k)), (3, .int (nI 4)), (2, .int (nI nb)), (0, .ref h)]) hx hb dX0_absorb_104 hl (k := 2) rfl (zpd_dec k) (by decide) rfl (fun ls hl => ?_)
              refine lv_goto (tgt := 42) hx hb dX0_absorb_107 (by decide) ?_
              exact ihL2 (by omega) H locs ls (by rw [zab_s (by omega), hnbe]; exact hP) hS (lv_sub hl [0, 3] rfl)
            | succ nL3 ihL3 =>
              intro i hL3 H locs ls hP hS hl
              have hltL3 : i < 4 := by omega
              refine lv_iload_n hx hb dX0_absorb_74 rfl (lv_at hl 0 rfl) ?_
              refine lv_iconst (v := nI 4) hx hb dX0_absorb_75 (by decide) ?_
              refine zr_ge_f (tgt := 104) hx hb dX0_absorb_76 (by decide) (by omega) (by omega) ?_
              refine lv_aload_n hx hb dX0_absorb_79 rfl (lv_at hl 3 rfl) ?_
              refine zr_get (T := TX0) (N := 12) hx hb hts in_X0 hown hK hP 0 rfl rfl 7 (by decide) q105 rfl dX0_absorb_80 ?_
              refine lv_iload_n hx hb dX0_absorb_83 rfl (lv_at hl 0 rfl) ?_
              refine lv_dup2_11 hx hb dX0_absorb_84 rfl rfl ?_
              refine zr_iald (v := zms (zab mul (fun c => sum c ^^^ pre c) (32 - (k + 1))) i) hx hb hK hP 8 0 rfl rfl i rfl (by omega) (by decide) (zfil_self _ _ _) dX0_absorb_85 ?_
              refine lv_aload_n hx hb dX0_absorb_86 rfl (lv_at hl 3 rfl) ?_
              refine zr_get (T := TX0) (N := 12) hx hb hts in_X0 hown hK hP 0 rfl rfl 10 (by decide) q108 rfl dX0_absorb_87 ?_
              refine lv_iconst (v := nI 4) hx hb dX0_absorb_90 (by decide) ?_
              refine lv_iload_n hx hb dX0_absorb_91 rfl (lv_at hl 1 rfl) ?_
              refine zr_imul (v := nI (4 * nb)) hx hb dX0_absorb_92 (pk_mul _ _) ?_
              refine lv_iload_n hx hb dX0_absorb_93 rfl (lv_at hl 0 rfl) ?_
              refine zr_iadd (v := nI ((4 * nb) + i)) hx hb dX0_absorb_94 (nI_add _ _) ?_
              refine zr_iald (v := mul ((4 * nb) + i)) hx hb hK hP 11 0 rfl rfl ((4 * nb) + i) rfl (by omega) (by decide) rfl dX0_absorb_95 ?_
              refine zr_ixor (v := (zms (zab mul (fun c => sum c ^^^ pre c) (32 - (k + 1))) i) ^^^ (mul ((4 * nb) + i))) hx hb dX0_absorb_96 rfl ?_
              refine zr_iast (f' := zfil (zms (zab mul (fun c => sum c ^^^ pre c) (32 - (k + 1)))) (fun c => zms (zab mul (fun c => sum c ^^^ pre c) (32 - (k + 1))) c ^^^ mul (4 * nb + c)) (i + 1)) hx hb hK hP hD rfl hS 8 0 rfl rfl i rfl (by omega) (by decide) (zfil_s rfl) dX0_absorb_97 (fun H locs hP hS => ?_)
              have hP : va_P D Cl (XG cA h ad zSub zRes zFwd zBwd rk tk pre (zfil (zms (zab mul (fun c => sum c ^^^ pre c) (32 - (k + 1)))) (fun c => zms (zab mul (fun c => sum c ^^^ pre c) (32 - (k + 1))) c ^^^ mul (4 * nb + c)) (i + 1)) (fun c => sum c ^^^ pre c) fr mul zFal) H := hP
              refine lv_iinc (v := nI (i + 1)) (lv' := [(3, .int (nI (i + 1))), (2, .int (nI nb)), (1, .int (nI k)), (0, .ref h)]) hx hb dX0_absorb_98 hl (k := 0) rfl (zinc _) (by decide) rfl (fun ls hl => ?_)
              refine lv_goto (tgt := 74) hx hb dX0_absorb_101 (by decide) ?_
              exact ihL3 (i + 1) (by omega) H locs ls hP hS (lv_sub hl [0, 1, 2, 3] rfl)
          exact L3 4 0 (by omega) H locs ls (by rw [zfil_0]; exact hP) hS (lv_sub hl [0, 1, 2, 3] rfl)
      exact L2 32 (by omega) H locs ls hP hS (lv_sub hl [0, 1] rfl)
    | succ nL1 ihL1 =>
      intro i hL1 H locs ls hP hS hl
      have hltL1 : i < 4 := by omega
      refine lv_iload_n hx hb dX0_absorb_2 rfl (lv_at hl 0 rfl) ?_
      refine lv_iconst (v := nI 4) hx hb dX0_absorb_3 (by decide) ?_
      refine zr_ge_f (tgt := 39) hx hb dX0_absorb_4 (by decide) (by omega) (by omega) ?_
      refine lv_aload_n hx hb dX0_absorb_7 rfl (lv_at hl 1 rfl) ?_
      refine zr_get (T := TX0) (N := 12) hx hb hts in_X0 hown hK hP 0 rfl rfl 8 (by decide) q106 rfl dX0_absorb_8 ?_
      refine lv_iload_n hx hb dX0_absorb_11 rfl (lv_at hl 0 rfl) ?_
      refine lv_aload_n hx hb dX0_absorb_12 rfl (lv_at hl 1 rfl) ?_
      refine zr_get (T := TX0) (N := 12) hx hb hts in_X0 hown hK hP 0 rfl rfl 7 (by decide) q105 rfl dX0_absorb_13 ?_
      refine lv_iload_n hx hb dX0_absorb_16 rfl (lv_at hl 0 rfl) ?_
      refine zr_iald (v := sum i) hx hb hK hP 8 0 rfl rfl i rfl (by omega) (by decide) (zfil_self _ _ _) dX0_absorb_17 ?_
      refine lv_aload_n hx hb dX0_absorb_18 rfl (lv_at hl 1 rfl) ?_
      refine zr_get (T := TX0) (N := 12) hx hb hts in_X0 hown hK hP 0 rfl rfl 6 (by decide) q104 rfl dX0_absorb_19 ?_
      refine lv_iload_n hx hb dX0_absorb_22 rfl (lv_at hl 0 rfl) ?_
      refine zr_iald (v := pre i) hx hb hK hP 7 0 rfl rfl i rfl (by omega) (by decide) rfl dX0_absorb_23 ?_
      refine zr_ixor (v := (sum i) ^^^ (pre i)) hx hb dX0_absorb_24 rfl ?_
      refine zr_iast (f' := zfil st (fun c => sum c ^^^ pre c) (i + 1)) hx hb hK hP hD rfl hS 9 0 rfl rfl i rfl (by omega) (by decide) (zfil_s rfl) dX0_absorb_25 (fun H locs hP hS => ?_)
      have hP : va_P D Cl (XG cA h ad zSub zRes zFwd zBwd rk tk pre (zfil sum (fun _ => nI 0) i) (zfil st (fun c => sum c ^^^ pre c) (i + 1)) fr mul zFal) H := hP
      refine lv_aload_n hx hb dX0_absorb_26 rfl (lv_at hl 1 rfl) ?_
      refine zr_get (T := TX0) (N := 12) hx hb hts in_X0 hown hK hP 0 rfl rfl 7 (by decide) q105 rfl dX0_absorb_27 ?_
      refine lv_iload_n hx hb dX0_absorb_30 rfl (lv_at hl 0 rfl) ?_
      refine lv_iconst (v := nI 0) hx hb dX0_absorb_31 (by decide) ?_
      refine zr_iast (f' := zfil sum (fun _ => nI 0) (i + 1)) hx hb hK hP hD rfl hS 8 0 rfl rfl i rfl (by omega) (by decide) (zfil_s rfl) dX0_absorb_32 (fun H locs hP hS => ?_)
      have hP : va_P D Cl (XG cA h ad zSub zRes zFwd zBwd rk tk pre (zfil sum (fun _ => nI 0) (i + 1)) (zfil st (fun c => sum c ^^^ pre c) (i + 1)) fr mul zFal) H := hP
      refine lv_iinc (v := nI (i + 1)) (lv' := [(1, .int (nI (i + 1))), (0, .ref h)]) hx hb dX0_absorb_33 hl (k := 0) rfl (zinc _) (by decide) rfl (fun ls hl => ?_)
      refine lv_goto (tgt := 2) hx hb dX0_absorb_36 (by decide) ?_
      exact ihL1 (i + 1) (by omega) H locs ls hP hS (lv_sub hl [0, 1] rfl)
  exact L1 4 0 (by omega) H locs ls (by rw [zfil_0, zfil_0]; exact hP) hS (lv_sub hl [0, 1] rfl)
end
section
set_option maxRecDepth 100000
set_option maxHeartbeats 4000000 in
/-- BlockSealer.buildMultiples  -/
theorem mX_buildMultiples (l : Launch) (D : va_G) (cA : ClassId) (h : Nat) (ad : Nat → Nat) (rk tk pre sum st fr mul : Nat → Int32) : MetW l D cA yX0_buildMultiples (ws_ yX0_buildMultiples cX0_buildMultiples 4 none) (zroom 3) ([.ref h] : List Value) (XG cA h ad zSub zRes zFwd zBwd rk tk pre sum st fr mul zFal) (XG cA h ad zSub zRes zFwd zBwd rk tk pre sum (zmo (zmo (zmo (zmo (zH rk))))) (zH rk) (zmm rk mul) zFal) none := by
  refine zr_startV RX0 rfl (by decide) (Nat.le_of_ble_eq_true rfl) ?_
  intro p e s m below meth c A ls Q hx hb hml hown hts hK hP hD hA hS hret hl
  have hl : lv_has ls 4 [(0, .ref h)] := hl
  generalize hH : s.heap = H at hP
  have hS : va_S A s.heap H [] := by rw [← hH]; exact hS
  generalize hlo : ([] : List Loc) = locs at hS ⊢
  refine lv_iconst (v := nI 0) hx hb dX0_buildMultiples_0 (by decide) ?_
  refine lv_istore_n (lv' := [(1, .int (nI 0)), (0, .ref h)]) hx hb dX0_buildMultiples_1 rfl hl (by decide) rfl (fun ls hl => ?_)
  have L1 : ∀ (nL1 i : Nat), i + nL1 = 4 → ∀ (H : Heap) (locs : List Loc) (ls : Array Slot), va_P D Cl (XG cA h ad zSub zRes zFwd zBwd rk tk pre sum (zfil st (fun _ => nI 0) i) fr (zfil mul (fun _ => nI 0) i) zFal) H → va_S A s.heap H locs → lv_has ls 4 [(1, .int (nI i)), (0, .ref h)] → W p l e (zroom 3) s m ([.ref h] : List Value).toArray below meth c H locs 0 0 Q (F0 m 2 ls []) := by
    intro nL1
    induction nL1 with
    | zero =>
      intro i hL1 H locs ls hP hS hl
      obtain rfl : i = 4 := by omega
      refine lv_iload_n hx hb dX0_buildMultiples_2 rfl (lv_at hl 0 rfl) ?_
      refine lv_iconst (v := nI 4) hx hb dX0_buildMultiples_3 (by decide) ?_
      refine zr_ge_t (tgt := 27) hx hb dX0_buildMultiples_4 (by decide) (by omega) (by omega) ?_
      have hP := zP (g := (fun _ => nI 0)) hP 9 rfl (fun j hj => zfil_lt hj)
      have hP : va_P D Cl (XG cA h ad zSub zRes zFwd zBwd rk tk pre sum (fun _ => nI 0) fr (zfil mul (fun _ => nI 0) 4) zFal) H := hP
      refine lv_aload_n hx hb dX0_buildMultiples_27 rfl (lv_at hl 1 rfl) ?_
      refine zr_callVv (rest := []) ⟨hx, hb, hml, hown, hts⟩ (mX_runForward l D cA h ad rk tk pre sum (fun _ => nI 0) fr (zfil mul (fun _ => nI 0) 4)) (cwV 0 hts (lw_V q82 q84 qs7 q30 q85) rfl rfl rfl (by decide +kernel) ⟨Nat.le_of_ble_eq_true rfl, Nat.le_of_ble_eq_true rfl⟩) [] hK hP hD rfl hS hA (ci := 0) (q0 := 0) rfl rfl rfl rfl hl.1 rfl (Nat.le_of_ble_eq_true rfl) dX0_buildMultiples_28 ⟨Nat.zero_le _, Nat.zero_le _⟩ (fun H locs hP hS => ?_)
      have hP : va_P D Cl (XG cA h ad zSub zRes zFwd zBwd rk tk pre sum (zen rk (fun _ => nI 0)) (zen rk (fun _ => nI 0)) (zfil mul (fun _ => nI 0) 4) zFal) H := hP
      have hP : va_P D Cl (XG cA h ad zSub zRes zFwd zBwd rk tk pre sum (zH rk) (zH rk) (zfil mul (fun _ => nI 0) 4) zFal) H := hP
      refine lv_bipush (v := nI 8) hx hb dX0_buildMultiples_31 (by decide) ?_
      refine lv_istore_n (lv' := [(1, .int (nI 8)), (0, .ref h)]) hx hb dX0_buildMultiples_33 rfl hl (by decide) rfl (fun ls hl => ?_)
      refine lv_iload_n hx hb dX0_buildMultiples_34 rfl (lv_at hl 0 rfl) ?_
      refine zr_ifle_f (tgt := 78) hx hb dX0_buildMultiples_35 (by decide) (by decide) (by decide) ?_
      refine lv_iconst (v := nI 0) hx hb dX0_buildMultiples_38 (by decide) ?_
      refine lv_istore_n (lv' := [(2, .int (nI 0)), (1, .int (nI 8)), (0, .ref h)]) hx hb dX0_buildMultiples_39 rfl hl (by decide) rfl (fun ls hl => ?_)
      have B8 : ∀ (nB8 i : Nat), i + nB8 = 4 → ∀ (H : Heap) (locs : List Loc) (ls : Array Slot), va_P D Cl (XG cA h ad zSub zRes zFwd zBwd rk tk pre sum (zH rk) (zH rk) (zpm (zfil mul (fun _ => nI 0) 4) 8 (zH rk) i) zFal) H → va_S A s.heap H locs → lv_has ls 4 [(2, .int (nI i)), (1, .int (nI 8)), (0, .ref h)] → W p l e (zroom 3) s m ([.ref h] : List Value).toArray below meth c H locs 0 0 Q (F0 m 40 ls []) := by
        intro nB8
        induction nB8 with
        | zero =>
          intro i hB8 H locs ls hP hS hl
          obtain rfl : i = 4 := by omega
          refine lv_iload_n hx hb dX0_buildMultiples_40 rfl (lv_at hl 0 rfl) ?_
          refine lv_iconst (v := nI 4) hx hb dX0_buildMultiples_41 (by decide) ?_
          refine zr_ge_t (tgt := 67) hx hb dX0_buildMultiples_42 (by decide) (by omega) (by omega) ?_
          refine lv_aload_n hx hb dX0_buildMultiples_67 rfl (lv_at hl 2 rfl) ?_
          refine zr_callVv (rest := []) ⟨hx, hb, hml, hown, hts⟩ (mX_moveOne l D cA h ad rk tk pre sum (zH rk) (zH rk) (zpm (zfil mul (fun _ => nI 0) 4) 8 (zH rk) 4)) (cwV 0 hts (lw_V q94 q96 qs10 q30 q97) rfl rfl rfl (by decide +kernel) ⟨Nat.le_of_ble_eq_true rfl, Nat.le_of_ble_eq_true rfl⟩) [] hK hP hD rfl hS hA (ci := 0) (q0 := 0) rfl rfl rfl rfl hl.1 rfl (Nat.le_of_ble_eq_true rfl) dX0_buildMultiples_68 ⟨Nat.zero_le _, Nat.zero_le _⟩ (fun H locs hP hS => ?_)
          have hP : va_P D Cl (XG cA h ad zSub zRes zFwd zBwd rk tk pre sum (zmo (zH rk)) (zH rk) (zpm (zfil mul (fun _ => nI 0) 4) 8 (zH rk) 4) zFal) H := hP
          refine lv_iload_n hx hb dX0_buildMultiples_71 rfl (lv_at hl 1 rfl) ?_
          refine lv_iconst (v := nI 2) hx hb dX0_buildMultiples_72 (by decide) ?_
          refine zr_idiv hx hb dX0_buildMultiples_73 (by decide) (by decide) (by decide) ?_
          refine lv_istore_n (lv' := [(1, .int (nI 4)), (2, .int (nI 4)), (0, .ref h)]) hx hb dX0_buildMultiples_74 rfl hl (by decide) rfl (fun ls hl => ?_)
          refine lv_goto (tgt := 34) hx hb dX0_buildMultiples_75 (by decide) ?_
          refine lv_iload_n hx hb dX0_buildMultiples_34 rfl (lv_at hl 0 rfl) ?_
          refine zr_ifle_f (tgt := 78) hx hb dX0_buildMultiples_35 (by decide) (by decide) (by decide) ?_
          refine lv_iconst (v := nI 0) hx hb dX0_buildMultiples_38 (by decide) ?_
          refine lv_istore_n (lv' := [(2, .int (nI 0)), (1, .int (nI 4)), (0, .ref h)]) hx hb dX0_buildMultiples_39 rfl hl (by decide) rfl (fun ls hl => ?_)
          have B4 : ∀ (nB4 i : Nat), i + nB4 = 4 → ∀ (H : Heap) (locs : List Loc) (ls : Array Slot), va_P D Cl (XG cA h ad zSub zRes zFwd zBwd rk tk pre sum (zmo (zH rk)) (zH rk) (zpm (zpm (zfil mul (fun _ => nI 0) 4) 8 (zH rk) 4) 4 (zmo (zH rk)) i) zFal) H → va_S A s.heap H locs → lv_has ls 4 [(2, .int (nI i)), (1, .int (nI 4)), (0, .ref h)] → W p l e (zroom 3) s m ([.ref h] : List Value).toArray below meth c H locs 0 0 Q (F0 m 40 ls []) := by
            intro nB4
            induction nB4 with
            | zero =>
              intro i hB4 H locs ls hP hS hl
              obtain rfl : i = 4 := by omega
              refine lv_iload_n hx hb dX0_buildMultiples_40 rfl (lv_at hl 0 rfl) ?_
              refine lv_iconst (v := nI 4) hx hb dX0_buildMultiples_41 (by decide) ?_
              refine zr_ge_t (tgt := 67) hx hb dX0_buildMultiples_42 (by decide) (by omega) (by omega) ?_
              refine lv_aload_n hx hb dX0_buildMultiples_67 rfl (lv_at hl 2 rfl) ?_
              refine zr_callVv (rest := []) ⟨hx, hb, hml, hown, hts⟩ (mX_moveOne l D cA h ad rk tk pre sum (zmo (zH rk)) (zH rk) (zpm (zpm (zfil mul (fun _ => nI 0) 4) 8 (zH rk) 4) 4 (zmo (zH rk)) 4)) (cwV 0 hts (lw_V q94 q96 qs10 q30 q97) rfl rfl rfl (by decide +kernel) ⟨Nat.le_of_ble_eq_true rfl, Nat.le_of_ble_eq_true rfl⟩) [] hK hP hD rfl hS hA (ci := 0) (q0 := 0) rfl rfl rfl rfl hl.1 rfl (Nat.le_of_ble_eq_true rfl) dX0_buildMultiples_68 ⟨Nat.zero_le _, Nat.zero_le _⟩ (fun H locs hP hS => ?_)
              have hP : va_P D Cl (XG cA h ad zSub zRes zFwd zBwd rk tk pre sum (zmo (zmo (zH rk))) (zH rk) (zpm (zpm (zfil mul (fun _ => nI 0) 4) 8 (zH rk) 4) 4 (zmo (zH rk)) 4) zFal) H := hP
              refine lv_iload_n hx hb dX0_buildMultiples_71 rfl (lv_at hl 1 rfl) ?_
              refine lv_iconst (v := nI 2) hx hb dX0_buildMultiples_72 (by decide) ?_
              refine zr_idiv hx hb dX0_buildMultiples_73 (by decide) (by decide) (by decide) ?_
              refine lv_istore_n (lv' := [(1, .int (nI 2)), (2, .int (nI 4)), (0, .ref h)]) hx hb dX0_buildMultiples_74 rfl hl (by decide) rfl (fun ls hl => ?_)
              refine lv_goto (tgt := 34) hx hb dX0_buildMultiples_75 (by decide) ?_
              refine lv_iload_n hx hb dX0_buildMultiples_34 rfl (lv_at hl 0 rfl) ?_
              refine zr_ifle_f (tgt := 78) hx hb dX0_buildMultiples_35 (by decide) (by decide) (by decide) ?_
              refine lv_iconst (v := nI 0) hx hb dX0_buildMultiples_38 (by decide) ?_
              refine lv_istore_n (lv' := [(2, .int (nI 0)), (1, .int (nI 2)), (0, .ref h)]) hx hb dX0_buildMultiples_39 rfl hl (by decide) rfl (fun ls hl => ?_)
              have B2 : ∀ (nB2 i : Nat), i + nB2 = 4 → ∀ (H : Heap) (locs : List Loc) (ls : Array Slot), va_P D Cl (XG cA h ad zSub zRes zFwd zBwd rk tk pre sum (zmo (zmo (zH rk))) (zH rk) (zpm (zpm (zpm (zfil mul (fun _ => nI 0) 4) 8 (zH rk) 4) 4 (zmo (zH rk)) 4) 2 (zmo (zmo (zH rk))) i) zFal) H → va_S A s.heap H locs → lv_has ls 4 [(2, .int (nI i)), (1, .int (nI 2)), (0, .ref h)] → W p l e (zroom 3) s m ([.ref h] : List Value).toArray below meth c H locs 0 0 Q (F0 m 40 ls []) := by
                intro nB2
                induction nB2 with
                | zero =>
                  intro i hB2 H locs ls hP hS hl
                  obtain rfl : i = 4 := by omega
                  refine lv_iload_n hx hb dX0_buildMultiples_40 rfl (lv_at hl 0 rfl) ?_
                  refine lv_iconst (v := nI 4) hx hb dX0_buildMultiples_41 (by decide) ?_
                  refine zr_ge_t (tgt := 67) hx hb dX0_buildMultiples_42 (by decide) (by omega) (by omega) ?_
                  refine lv_aload_n hx hb dX0_buildMultiples_67 rfl (lv_at hl 2 rfl) ?_
                  refine zr_callVv (rest := []) ⟨hx, hb, hml, hown, hts⟩ (mX_moveOne l D cA h ad rk tk pre sum (zmo (zmo (zH rk))) (zH rk) (zpm (zpm (zpm (zfil mul (fun _ => nI 0) 4) 8 (zH rk) 4) 4 (zmo (zH rk)) 4) 2 (zmo (zmo (zH rk))) 4)) (cwV 0 hts (lw_V q94 q96 qs10 q30 q97) rfl rfl rfl (by decide +kernel) ⟨Nat.le_of_ble_eq_true rfl, Nat.le_of_ble_eq_true rfl⟩) [] hK hP hD rfl hS hA (ci := 0) (q0 := 0) rfl rfl rfl rfl hl.1 rfl (Nat.le_of_ble_eq_true rfl) dX0_buildMultiples_68 ⟨Nat.zero_le _, Nat.zero_le _⟩ (fun H locs hP hS => ?_)
                  have hP : va_P D Cl (XG cA h ad zSub zRes zFwd zBwd rk tk pre sum (zmo (zmo (zmo (zH rk)))) (zH rk) (zpm (zpm (zpm (zfil mul (fun _ => nI 0) 4) 8 (zH rk) 4) 4 (zmo (zH rk)) 4) 2 (zmo (zmo (zH rk))) 4) zFal) H := hP
                  refine lv_iload_n hx hb dX0_buildMultiples_71 rfl (lv_at hl 1 rfl) ?_
                  refine lv_iconst (v := nI 2) hx hb dX0_buildMultiples_72 (by decide) ?_
                  refine zr_idiv hx hb dX0_buildMultiples_73 (by decide) (by decide) (by decide) ?_
                  refine lv_istore_n (lv' := [(1, .int (nI 1)), (2, .int (nI 4)), (0, .ref h)]) hx hb dX0_buildMultiples_74 rfl hl (by decide) rfl (fun ls hl => ?_)
                  refine lv_goto (tgt := 34) hx hb dX0_buildMultiples_75 (by decide) ?_
                  refine lv_iload_n hx hb dX0_buildMultiples_34 rfl (lv_at hl 0 rfl) ?_
                  refine zr_ifle_f (tgt := 78) hx hb dX0_buildMultiples_35 (by decide) (by decide) (by decide) ?_
                  refine lv_iconst (v := nI 0) hx hb dX0_buildMultiples_38 (by decide) ?_
                  refine lv_istore_n (lv' := [(2, .int (nI 0)), (1, .int (nI 1)), (0, .ref h)]) hx hb dX0_buildMultiples_39 rfl hl (by decide) rfl (fun ls hl => ?_)
                  have B1 : ∀ (nB1 i : Nat), i + nB1 = 4 → ∀ (H : Heap) (locs : List Loc) (ls : Array Slot), va_P D Cl (XG cA h ad zSub zRes zFwd zBwd rk tk pre sum (zmo (zmo (zmo (zH rk)))) (zH rk) (zpm (zpm (zpm (zpm (zfil mul (fun _ => nI 0) 4) 8 (zH rk) 4) 4 (zmo (zH rk)) 4) 2 (zmo (zmo (zH rk))) 4) 1 (zmo (zmo (zmo (zH rk)))) i) zFal) H → va_S A s.heap H locs → lv_has ls 4 [(2, .int (nI i)), (1, .int (nI 1)), (0, .ref h)] → W p l e (zroom 3) s m ([.ref h] : List Value).toArray below meth c H locs 0 0 Q (F0 m 40 ls []) := by
                    intro nB1
                    induction nB1 with
                    | zero =>
                      intro i hB1 H locs ls hP hS hl
                      obtain rfl : i = 4 := by omega
                      refine lv_iload_n hx hb dX0_buildMultiples_40 rfl (lv_at hl 0 rfl) ?_
                      refine lv_iconst (v := nI 4) hx hb dX0_buildMultiples_41 (by decide) ?_
                      refine zr_ge_t (tgt := 67) hx hb dX0_buildMultiples_42 (by decide) (by omega) (by omega) ?_
                      refine lv_aload_n hx hb dX0_buildMultiples_67 rfl (lv_at hl 2 rfl) ?_
                      refine zr_callVv (rest := []) ⟨hx, hb, hml, hown, hts⟩ (mX_moveOne l D cA h ad rk tk pre sum (zmo (zmo (zmo (zH rk)))) (zH rk) (zpm (zpm (zpm (zpm (zfil mul (fun _ => nI 0) 4) 8 (zH rk) 4) 4 (zmo (zH rk)) 4) 2 (zmo (zmo (zH rk))) 4) 1 (zmo (zmo (zmo (zH rk)))) 4)) (cwV 0 hts (lw_V q94 q96 qs10 q30 q97) rfl rfl rfl (by decide +kernel) ⟨Nat.le_of_ble_eq_true rfl, Nat.le_of_ble_eq_true rfl⟩) [] hK hP hD rfl hS hA (ci := 0) (q0 := 0) rfl rfl rfl rfl hl.1 rfl (Nat.le_of_ble_eq_true rfl) dX0_buildMultiples_68 ⟨Nat.zero_le _, Nat.zero_le _⟩ (fun H locs hP hS => ?_)
                      have hP : va_P D Cl (XG cA h ad zSub zRes zFwd zBwd rk tk pre sum (zmo (zmo (zmo (zmo (zH rk))))) (zH rk) (zpm (zpm (zpm (zpm (zfil mul (fun _ => nI 0) 4) 8 (zH rk) 4) 4 (zmo (zH rk)) 4) 2 (zmo (zmo (zH rk))) 4) 1 (zmo (zmo (zmo (zH rk)))) 4) zFal) H := hP
                      refine lv_iload_n hx hb dX0_buildMultiples_71 rfl (lv_at hl 1 rfl) ?_
                      refine lv_iconst (v := nI 2) hx hb dX0_buildMultiples_72 (by decide) ?_
                      refine zr_idiv hx hb dX0_buildMultiples_73 (by decide) (by decide) (by decide) ?_
                      refine lv_istore_n (lv' := [(1, .int (nI 0)), (2, .int (nI 4)), (0, .ref h)]) hx hb dX0_buildMultiples_74 rfl hl (by decide) rfl (fun ls hl => ?_)
                      refine lv_goto (tgt := 34) hx hb dX0_buildMultiples_75 (by decide) ?_
                      refine lv_iload_n hx hb dX0_buildMultiples_34 rfl (lv_at hl 0 rfl) ?_
                      refine zr_ifle_t (tgt := 78) hx hb dX0_buildMultiples_35 (by decide) ?_
                      refine lv_iconst (v := nI 3) hx hb dX0_buildMultiples_78 (by decide) ?_
                      refine lv_istore_n (lv' := [(1, .int (nI 3)), (2, .int (nI 4)), (0, .ref h)]) hx hb dX0_buildMultiples_79 rfl hl (by decide) rfl (fun ls hl => ?_)
                      have L3 : ∀ (nL3 k : Nat), k + nL3 = 13 → ∀ (H : Heap) (locs : List Loc) (ls : Array Slot), va_P D Cl (XG cA h ad zSub zRes zFwd zBwd rk tk pre sum (zmo (zmo (zmo (zmo (zH rk))))) (zH rk) (zcb (zpm (zpm (zpm (zpm (zfil mul (fun _ => nI 0) 4) 8 (zH rk) 4) 4 (zmo (zH rk)) 4) 2 (zmo (zmo (zH rk))) 4) 1 (zmo (zmo (zmo (zH rk)))) 4) k) zFal) H → va_S A s.heap H locs → lv_has ls 4 [(1, .int (nI (k + 3))), (0, .ref h)] → W p l e (zroom 3) s m ([.ref h] : List Value).toArray below meth c H locs 0 0 Q (F0 m 80 ls []) := by
                        intro nL3
                        induction nL3 with
                        | zero =>
                          intro k hL3 H locs ls hP hS hl
                          obtain rfl : k = 13 := by omega
                          refine lv_iload_n hx hb dX0_buildMultiples_80 rfl (lv_at hl 0 rfl) ?_
                          refine lv_bipush (v := nI 16) hx hb dX0_buildMultiples_81 (by decide) ?_
                          refine zr_ge_t (tgt := 148) hx hb dX0_buildMultiples_83 (by decide) (by omega) (by omega) ?_
                          exact hret H locs _ ls hP hS dX0_buildMultiples_148
                        | succ nL3 ihL3 =>
                          intro k hL3 H locs ls hP hS hl
                          have hltL3 : k < 13 := by omega
                          refine lv_iload_n hx hb dX0_buildMultiples_80 rfl (lv_at hl 0 rfl) ?_
                          refine lv_bipush (v := nI 16) hx hb dX0_buildMultiples_81 (by decide) ?_
                          refine zr_ge_f (tgt := 148) hx hb dX0_buildMultiples_83 (by decide) (by omega) (by omega) ?_
                          obtain ⟨hw1, hw2, hw3⟩ := zlw_n (k + 3) (by omega) (by omega)
                          refine lv_iload_n hx hb dX0_buildMultiples_86 rfl (lv_at hl 0 rfl) ?_
                          refine lv_iload_n hx hb dX0_buildMultiples_87 rfl (lv_at hl 0 rfl) ?_
                          refine lv_ineg hx hb dX0_buildMultiples_88 ?_
                          refine zr_iand (v := nI (zlw (k + 3))) hx hb dX0_buildMultiples_89 hw1 ?_
                          refine lv_istore_n (lv' := [(2, .int (nI (zlw (k + 3)))), (1, .int (nI (k + 3))), (0, .ref h)]) hx hb dX0_buildMultiples_90 rfl hl (by decide) rfl (fun ls hl => ?_)
                          refine lv_iload_n hx hb dX0_buildMultiples_91 rfl (lv_at hl 0 rfl) ?_
                          refine lv_iload_n hx hb dX0_buildMultiples_92 rfl (lv_at hl 1 rfl) ?_
                          refine lv_icmp_eq (tgt := 142) hx hb dX0_buildMultiples_93 (by decide) (fun hc => ?_) (fun hc => ?_)
                          · skip
                            have hcb : zcb (zpm (zpm (zpm (zpm (zfil mul (fun _ => nI 0) 4) 8 (zH rk) 4) 4 (zmo (zH rk)) 4) 2 (zmo (zmo (zH rk))) 4) 1 (zmo (zmo (zmo (zH rk)))) 4) (k + 1) = zcb (zpm (zpm (zpm (zpm (zfil mul (fun _ => nI 0) 4) 8 (zH rk) 4) 4 (zmo (zH rk)) 4) 2 (zmo (zmo (zH rk))) 4) 1 (zmo (zmo (zmo (zH rk)))) 4) k := by show (if _ then _ else _) = _; rw [if_pos hc]
                            refine lv_iinc (v := nI ((k + 3) + 1)) (lv' := [(1, .int (nI ((k + 3) + 1))), (2, .int (nI (zlw (k + 3)))), (0, .ref h)]) hx hb dX0_buildMultiples_142 hl (k := 1) rfl (zinc _) (by decide) rfl (fun ls hl => ?_)
                            refine lv_goto (tgt := 80) hx hb dX0_buildMultiples_145 (by decide) ?_
                            exact ihL3 (k + 1) (by omega) H locs ls (by rw [hcb]; exact hP) hS (lv_sub hl [0, 2] rfl)
                          · skip
                            have hcb : zcb (zpm (zpm (zpm (zpm (zfil mul (fun _ => nI 0) 4) 8 (zH rk) 4) 4 (zmo (zH rk)) 4) 2 (zmo (zmo (zH rk))) 4) 1 (zmo (zmo (zmo (zH rk)))) 4) (k + 1) = zpm (zcb (zpm (zpm (zpm (zpm (zfil mul (fun _ => nI 0) 4) 8 (zH rk) 4) 4 (zmo (zH rk)) 4) 2 (zmo (zmo (zH rk))) 4) 1 (zmo (zmo (zmo (zH rk)))) 4) k) (k + 3) (fun c => zcb (zpm (zpm (zpm (zpm (zfil mul (fun _ => nI 0) 4) 8 (zH rk) 4) 4 (zmo (zH rk)) 4) 2 (zmo (zmo (zH rk))) 4) 1 (zmo (zmo (zmo (zH rk)))) 4) k (4 * zlw (k + 3) + c) ^^^ zcb (zpm (zpm (zpm (zpm (zfil mul (fun _ => nI 0) 4) 8 (zH rk) 4) 4 (zmo (zH rk)) 4) 2 (zmo (zmo (zH rk))) 4) 1 (zmo (zmo (zmo (zH rk)))) 4) k (4 * (k + 3 - zlw (k + 3)) + c)) 4 := by show (if _ then _ else _) = _; rw [if_neg hc]
                            have hlw : zlw (k + 3) < k + 3 := Nat.lt_of_le_of_ne hw2 (fun z => hc (by rw [z]))
                            generalize hlwe : zlw (k + 3) = lw at hl hcb hlw hw3
                            refine lv_iconst (v := nI 0) hx hb dX0_buildMultiples_96 (by decide) ?_
                            refine lv_istore_n (lv' := [(3, .int (nI 0)), (2, .int (nI lw)), (1, .int (nI (k + 3))), (0, .ref h)]) hx hb dX0_buildMultiples_97 rfl hl (by decide) rfl (fun ls hl => ?_)
                            have L4 : ∀ (nL4 i : Nat), i + nL4 = 4 → ∀ (H : Heap) (locs : List Loc) (ls : Array Slot), va_P D Cl (XG cA h ad zSub zRes zFwd zBwd rk tk pre sum (zmo (zmo (zmo (zmo (zH rk))))) (zH rk) (zpm (zcb (zpm (zpm (zpm (zpm (zfil mul (fun _ => nI 0) 4) 8 (zH rk) 4) 4 (zmo (zH rk)) 4) 2 (zmo (zmo (zH rk))) 4) 1 (zmo (zmo (zmo (zH rk)))) 4) k) (k + 3) (fun c => zcb (zpm (zpm (zpm (zpm (zfil mul (fun _ => nI 0) 4) 8 (zH rk) 4) 4 (zmo (zH rk)) 4) 2 (zmo (zmo (zH rk))) 4) 1 (zmo (zmo (zmo (zH rk)))) 4) k (4 * lw + c) ^^^ zcb (zpm (zpm (zpm (zpm (zfil mul (fun _ => nI 0) 4) 8 (zH rk) 4) 4 (zmo (zH rk)) 4) 2 (zmo (zmo (zH rk))) 4) 1 (zmo (zmo (zmo (zH rk)))) 4) k (4 * (k + 3 - lw) + c)) i) zFal) H → va_S A s.heap H locs → lv_has ls 4 [(3, .int (nI i)), (2, .int (nI lw)), (1, .int (nI (k + 3))), (0, .ref h)] → W p l e (zroom 3) s m ([.ref h] : List Value).toArray below meth c H locs 0 0 Q (F0 m 98 ls []) := by
                              intro nL4
                              induction nL4 with
                              | zero =>
                                intro i hL4 H locs ls hP hS hl
                                obtain rfl : i = 4 := by omega
                                refine lv_iload_n hx hb dX0_buildMultiples_98 rfl (lv_at hl 0 rfl) ?_
                                refine lv_iconst (v := nI 4) hx hb dX0_buildMultiples_99 (by decide) ?_
                                refine zr_ge_t (tgt := 142) hx hb dX0_buildMultiples_100 (by decide) (by omega) (by omega) ?_
                                refine lv_iinc (v := nI ((k + 3) + 1)) (lv' := [(1, .int (nI ((k + 3) + 1))), (3, .int (nI 4)), (2, .int (nI lw)), (0, .ref h)]) hx hb dX0_buildMultiples_142 hl (k := 2) rfl (zinc _) (by decide) rfl (fun ls hl => ?_)
                                refine lv_goto (tgt := 80) hx hb dX0_buildMultiples_145 (by decide) ?_
                                exact ihL3 (k + 1) (by omega) H locs ls (by rw [hcb]; exact hP) hS (lv_sub hl [0, 3] rfl)
                              | succ nL4 ihL4 =>
                                intro i hL4 H locs ls hP hS hl
                                have hltL4 : i < 4 := by omega
                                refine lv_iload_n hx hb dX0_buildMultiples_98 rfl (lv_at hl 0 rfl) ?_
                                refine lv_iconst (v := nI 4) hx hb dX0_buildMultiples_99 (by decide) ?_
                                refine zr_ge_f (tgt := 142) hx hb dX0_buildMultiples_100 (by decide) (by omega) (by omega) ?_
                                refine lv_aload_n hx hb dX0_buildMultiples_103 rfl (lv_at hl 3 rfl) ?_
                                refine zr_get (T := TX0) (N := 12) hx hb hts in_X0 hown hK hP 0 rfl rfl 10 (by decide) q108 rfl dX0_buildMultiples_104 ?_
                                refine lv_iconst (v := nI 4) hx hb dX0_buildMultiples_107 (by decide) ?_
                                refine lv_iload_n hx hb dX0_buildMultiples_108 rfl (lv_at hl 2 rfl) ?_
                                refine zr_imul (v := nI (4 * (k + 3))) hx hb dX0_buildMultiples_109 (pk_mul _ _) ?_
                                refine lv_iload_n hx hb dX0_buildMultiples_110 rfl (lv_at hl 0 rfl) ?_
                                refine zr_iadd (v := nI ((4 * (k + 3)) + i)) hx hb dX0_buildMultiples_111 (nI_add _ _) ?_
                                refine lv_aload_n hx hb dX0_buildMultiples_112 rfl (lv_at hl 3 rfl) ?_
                                refine zr_get (T := TX0) (N := 12) hx hb hts in_X0 hown hK hP 0 rfl rfl 10 (by decide) q108 rfl dX0_buildMultiples_113 ?_
                                refine lv_iconst (v := nI 4) hx hb dX0_buildMultiples_116 (by decide) ?_
                                refine lv_iload_n hx hb dX0_buildMultiples_117 rfl (lv_at hl 1 rfl) ?_
                                refine zr_imul (v := nI (4 * lw)) hx hb dX0_buildMultiples_118 (pk_mul _ _) ?_
                                refine lv_iload_n hx hb dX0_buildMultiples_119 rfl (lv_at hl 0 rfl) ?_
                                refine zr_iadd (v := nI ((4 * lw) + i)) hx hb dX0_buildMultiples_120 (nI_add _ _) ?_
                                refine zr_iald (v := zcb (zpm (zpm (zpm (zpm (zfil mul (fun _ => nI 0) 4) 8 (zH rk) 4) 4 (zmo (zH rk)) 4) 2 (zmo (zmo (zH rk))) 4) 1 (zmo (zmo (zmo (zH rk)))) 4) k (4 * lw + i)) hx hb hK hP 11 0 rfl rfl ((4 * lw) + i) rfl (by omega) (by decide) (zpm_out (by omega)) dX0_buildMultiples_121 ?_
                                refine lv_aload_n hx hb dX0_buildMultiples_122 rfl (lv_at hl 3 rfl) ?_
                                refine zr_get (T := TX0) (N := 12) hx hb hts in_X0 hown hK hP 0 rfl rfl 10 (by decide) q108 rfl dX0_buildMultiples_123 ?_
                                refine lv_iconst (v := nI 4) hx hb dX0_buildMultiples_126 (by decide) ?_
                                refine lv_iload_n hx hb dX0_buildMultiples_127 rfl (lv_at hl 2 rfl) ?_
                                refine lv_iload_n hx hb dX0_buildMultiples_128 rfl (lv_at hl 1 rfl) ?_
                                refine zr_isub (v := nI ((k + 3) - lw)) hx hb dX0_buildMultiples_129 (pk_sub (by omega)) ?_
                                refine zr_imul (v := nI (4 * ((k + 3) - lw))) hx hb dX0_buildMultiples_130 (pk_mul _ _) ?_
                                refine lv_iload_n hx hb dX0_buildMultiples_131 rfl (lv_at hl 0 rfl) ?_
                                refine zr_iadd (v := nI ((4 * ((k + 3) - lw)) + i)) hx hb dX0_buildMultiples_132 (nI_add _ _) ?_
                                refine zr_iald (v := zcb (zpm (zpm (zpm (zpm (zfil mul (fun _ => nI 0) 4) 8 (zH rk) 4) 4 (zmo (zH rk)) 4) 2 (zmo (zmo (zH rk))) 4) 1 (zmo (zmo (zmo (zH rk)))) 4) k (4 * (k + 3 - lw) + i)) hx hb hK hP 11 0 rfl rfl ((4 * ((k + 3) - lw)) + i) rfl (by omega) (by decide) (zpm_out (by omega)) dX0_buildMultiples_133 ?_
                                refine zr_ixor (v := (zcb (zpm (zpm (zpm (zpm (zfil mul (fun _ => nI 0) 4) 8 (zH rk) 4) 4 (zmo (zH rk)) 4) 2 (zmo (zmo (zH rk))) 4) 1 (zmo (zmo (zmo (zH rk)))) 4) k (4 * lw + i)) ^^^ (zcb (zpm (zpm (zpm (zpm (zfil mul (fun _ => nI 0) 4) 8 (zH rk) 4) 4 (zmo (zH rk)) 4) 2 (zmo (zmo (zH rk))) 4) 1 (zmo (zmo (zmo (zH rk)))) 4) k (4 * (k + 3 - lw) + i))) hx hb dX0_buildMultiples_134 rfl ?_
                                refine zr_iast (f' := zpm (zcb (zpm (zpm (zpm (zpm (zfil mul (fun _ => nI 0) 4) 8 (zH rk) 4) 4 (zmo (zH rk)) 4) 2 (zmo (zmo (zH rk))) 4) 1 (zmo (zmo (zmo (zH rk)))) 4) k) (k + 3) (fun c => zcb (zpm (zpm (zpm (zpm (zfil mul (fun _ => nI 0) 4) 8 (zH rk) 4) 4 (zmo (zH rk)) 4) 2 (zmo (zmo (zH rk))) 4) 1 (zmo (zmo (zmo (zH rk)))) 4) k (4 * lw + c) ^^^ zcb (zpm (zpm (zpm (zpm (zfil mul (fun _ => nI 0) 4) 8 (zH rk) 4) 4 (zmo (zH rk)) 4) 2 (zmo (zmo (zH rk))) 4) 1 (zmo (zmo (zmo (zH rk)))) 4) k (4 * (k + 3 - lw) + c)) (i + 1)) hx hb hK hP hD rfl hS 11 0 rfl rfl ((4 * (k + 3)) + i) rfl (by omega) (by decide) (zpm_s rfl) dX0_buildMultiples_135 (fun H locs hP hS => ?_)
                                have hP : va_P D Cl (XG cA h ad zSub zRes zFwd zBwd rk tk pre sum (zmo (zmo (zmo (zmo (zH rk))))) (zH rk) (zpm (zcb (zpm (zpm (zpm (zpm (zfil mul (fun _ => nI 0) 4) 8 (zH rk) 4) 4 (zmo (zH rk)) 4) 2 (zmo (zmo (zH rk))) 4) 1 (zmo (zmo (zmo (zH rk)))) 4) k) (k + 3) (fun c => zcb (zpm (zpm (zpm (zpm (zfil mul (fun _ => nI 0) 4) 8 (zH rk) 4) 4 (zmo (zH rk)) 4) 2 (zmo (zmo (zH rk))) 4) 1 (zmo (zmo (zmo (zH rk)))) 4) k (4 * lw + c) ^^^ zcb (zpm (zpm (zpm (zpm (zfil mul (fun _ => nI 0) 4) 8 (zH rk) 4) 4 (zmo (zH rk)) 4) 2 (zmo (zmo (zH rk))) 4) 1 (zmo (zmo (zmo (zH rk)))) 4) k (4 * (k + 3 - lw) + c)) (i + 1)) zFal) H := hP
                                refine lv_iinc (v := nI (i + 1)) (lv' := [(3, .int (nI (i + 1))), (2, .int (nI lw)), (1, .int (nI (k + 3))), (0, .ref h)]) hx hb dX0_buildMultiples_136 hl (k := 0) rfl (zinc _) (by decide) rfl (fun ls hl => ?_)
                                refine lv_goto (tgt := 98) hx hb dX0_buildMultiples_139 (by decide) ?_
                                exact ihL4 (i + 1) (by omega) H locs ls hP hS (lv_sub hl [0, 1, 2, 3] rfl)
                            exact L4 4 0 (by omega) H locs ls (by rw [zpm_0]; exact hP) hS (lv_sub hl [0, 1, 2, 3] rfl)
                      exact L3 13 0 (by omega) H locs ls hP hS (lv_sub hl [0, 2] rfl)
                    | succ nB1 ihB1 =>
                      intro i hB1 H locs ls hP hS hl
                      have hltB1 : i < 4 := by omega
                      refine lv_iload_n hx hb dX0_buildMultiples_40 rfl (lv_at hl 0 rfl) ?_
                      refine lv_iconst (v := nI 4) hx hb dX0_buildMultiples_41 (by decide) ?_
                      refine zr_ge_f (tgt := 67) hx hb dX0_buildMultiples_42 (by decide) (by omega) (by omega) ?_
                      refine lv_aload_n hx hb dX0_buildMultiples_45 rfl (lv_at hl 2 rfl) ?_
                      refine zr_get (T := TX0) (N := 12) hx hb hts in_X0 hown hK hP 0 rfl rfl 10 (by decide) q108 rfl dX0_buildMultiples_46 ?_
                      refine lv_iconst (v := nI 4) hx hb dX0_buildMultiples_49 (by decide) ?_
                      refine lv_iload_n hx hb dX0_buildMultiples_50 rfl (lv_at hl 1 rfl) ?_
                      refine zr_imul (v := nI (4 * 1)) hx hb dX0_buildMultiples_51 (pk_mul _ _) ?_
                      refine lv_iload_n hx hb dX0_buildMultiples_52 rfl (lv_at hl 0 rfl) ?_
                      refine zr_iadd (v := nI ((4 * 1) + i)) hx hb dX0_buildMultiples_53 (nI_add _ _) ?_
                      refine lv_aload_n hx hb dX0_buildMultiples_54 rfl (lv_at hl 2 rfl) ?_
                      refine zr_get (T := TX0) (N := 12) hx hb hts in_X0 hown hK hP 0 rfl rfl 8 (by decide) q106 rfl dX0_buildMultiples_55 ?_
                      refine lv_iload_n hx hb dX0_buildMultiples_58 rfl (lv_at hl 0 rfl) ?_
                      refine zr_iald (v := (zmo (zmo (zmo (zH rk)))) i) hx hb hK hP 9 0 rfl rfl i rfl (by omega) (by decide) rfl dX0_buildMultiples_59 ?_
                      refine zr_iast (f' := zpm (zpm (zpm (zpm (zfil mul (fun _ => nI 0) 4) 8 (zH rk) 4) 4 (zmo (zH rk)) 4) 2 (zmo (zmo (zH rk))) 4) 1 (zmo (zmo (zmo (zH rk)))) (i + 1)) hx hb hK hP hD rfl hS 11 0 rfl rfl ((4 * 1) + i) rfl (by omega) (by decide) (zpm_s rfl) dX0_buildMultiples_60 (fun H locs hP hS => ?_)
                      have hP : va_P D Cl (XG cA h ad zSub zRes zFwd zBwd rk tk pre sum (zmo (zmo (zmo (zH rk)))) (zH rk) (zpm (zpm (zpm (zpm (zfil mul (fun _ => nI 0) 4) 8 (zH rk) 4) 4 (zmo (zH rk)) 4) 2 (zmo (zmo (zH rk))) 4) 1 (zmo (zmo (zmo (zH rk)))) (i + 1)) zFal) H := hP
                      refine lv_iinc (v := nI (i + 1)) (lv' := [(2, .int (nI (i + 1))), (1, .int (nI 1)), (0, .ref h)]) hx hb dX0_buildMultiples_61 hl (k := 0) rfl (zinc _) (by decide) rfl (fun ls hl => ?_)
                      refine lv_goto (tgt := 40) hx hb dX0_buildMultiples_64 (by decide) ?_
                      exact ihB1 (i + 1) (by omega) H locs ls hP hS (lv_sub hl [0, 1, 2] rfl)
                  exact B1 4 0 (by omega) H locs ls (by rw [zpm_0]; exact hP) hS (lv_sub hl [0, 1, 2] rfl)
                | succ nB2 ihB2 =>
                  intro i hB2 H locs ls hP hS hl
                  have hltB2 : i < 4 := by omega
                  refine lv_iload_n hx hb dX0_buildMultiples_40 rfl (lv_at hl 0 rfl) ?_
                  refine lv_iconst (v := nI 4) hx hb dX0_buildMultiples_41 (by decide) ?_
                  refine zr_ge_f (tgt := 67) hx hb dX0_buildMultiples_42 (by decide) (by omega) (by omega) ?_
                  refine lv_aload_n hx hb dX0_buildMultiples_45 rfl (lv_at hl 2 rfl) ?_
                  refine zr_get (T := TX0) (N := 12) hx hb hts in_X0 hown hK hP 0 rfl rfl 10 (by decide) q108 rfl dX0_buildMultiples_46 ?_
                  refine lv_iconst (v := nI 4) hx hb dX0_buildMultiples_49 (by decide) ?_
                  refine lv_iload_n hx hb dX0_buildMultiples_50 rfl (lv_at hl 1 rfl) ?_
                  refine zr_imul (v := nI (4 * 2)) hx hb dX0_buildMultiples_51 (pk_mul _ _) ?_
                  refine lv_iload_n hx hb dX0_buildMultiples_52 rfl (lv_at hl 0 rfl) ?_
                  refine zr_iadd (v := nI ((4 * 2) + i)) hx hb dX0_buildMultiples_53 (nI_add _ _) ?_
                  refine lv_aload_n hx hb dX0_buildMultiples_54 rfl (lv_at hl 2 rfl) ?_
                  refine zr_get (T := TX0) (N := 12) hx hb hts in_X0 hown hK hP 0 rfl rfl 8 (by decide) q106 rfl dX0_buildMultiples_55 ?_
                  refine lv_iload_n hx hb dX0_buildMultiples_58 rfl (lv_at hl 0 rfl) ?_
                  refine zr_iald (v := (zmo (zmo (zH rk))) i) hx hb hK hP 9 0 rfl rfl i rfl (by omega) (by decide) rfl dX0_buildMultiples_59 ?_
                  refine zr_iast (f' := zpm (zpm (zpm (zfil mul (fun _ => nI 0) 4) 8 (zH rk) 4) 4 (zmo (zH rk)) 4) 2 (zmo (zmo (zH rk))) (i + 1)) hx hb hK hP hD rfl hS 11 0 rfl rfl ((4 * 2) + i) rfl (by omega) (by decide) (zpm_s rfl) dX0_buildMultiples_60 (fun H locs hP hS => ?_)
                  have hP : va_P D Cl (XG cA h ad zSub zRes zFwd zBwd rk tk pre sum (zmo (zmo (zH rk))) (zH rk) (zpm (zpm (zpm (zfil mul (fun _ => nI 0) 4) 8 (zH rk) 4) 4 (zmo (zH rk)) 4) 2 (zmo (zmo (zH rk))) (i + 1)) zFal) H := hP
                  refine lv_iinc (v := nI (i + 1)) (lv' := [(2, .int (nI (i + 1))), (1, .int (nI 2)), (0, .ref h)]) hx hb dX0_buildMultiples_61 hl (k := 0) rfl (zinc _) (by decide) rfl (fun ls hl => ?_)
                  refine lv_goto (tgt := 40) hx hb dX0_buildMultiples_64 (by decide) ?_
                  exact ihB2 (i + 1) (by omega) H locs ls hP hS (lv_sub hl [0, 1, 2] rfl)
              exact B2 4 0 (by omega) H locs ls (by rw [zpm_0]; exact hP) hS (lv_sub hl [0, 1, 2] rfl)
            | succ nB4 ihB4 =>
              intro i hB4 H locs ls hP hS hl
              have hltB4 : i < 4 := by omega
              refine lv_iload_n hx hb dX0_buildMultiples_40 rfl (lv_at hl 0 rfl) ?_
              refine lv_iconst (v := nI 4) hx hb dX0_buildMultiples_41 (by decide) ?_
              refine zr_ge_f (tgt := 67) hx hb dX0_buildMultiples_42 (by decide) (by omega) (by omega) ?_
              refine lv_aload_n hx hb dX0_buildMultiples_45 rfl (lv_at hl 2 rfl) ?_
              refine zr_get (T := TX0) (N := 12) hx hb hts in_X0 hown hK hP 0 rfl rfl 10 (by decide) q108 rfl dX0_buildMultiples_46 ?_
              refine lv_iconst (v := nI 4) hx hb dX0_buildMultiples_49 (by decide) ?_
              refine lv_iload_n hx hb dX0_buildMultiples_50 rfl (lv_at hl 1 rfl) ?_
              refine zr_imul (v := nI (4 * 4)) hx hb dX0_buildMultiples_51 (pk_mul _ _) ?_
              refine lv_iload_n hx hb dX0_buildMultiples_52 rfl (lv_at hl 0 rfl) ?_
              refine zr_iadd (v := nI ((4 * 4) + i)) hx hb dX0_buildMultiples_53 (nI_add _ _) ?_
              refine lv_aload_n hx hb dX0_buildMultiples_54 rfl (lv_at hl 2 rfl) ?_
              refine zr_get (T := TX0) (N := 12) hx hb hts in_X0 hown hK hP 0 rfl rfl 8 (by decide) q106 rfl dX0_buildMultiples_55 ?_
              refine lv_iload_n hx hb dX0_buildMultiples_58 rfl (lv_at hl 0 rfl) ?_
              refine zr_iald (v := (zmo (zH rk)) i) hx hb hK hP 9 0 rfl rfl i rfl (by omega) (by decide) rfl dX0_buildMultiples_59 ?_
              refine zr_iast (f' := zpm (zpm (zfil mul (fun _ => nI 0) 4) 8 (zH rk) 4) 4 (zmo (zH rk)) (i + 1)) hx hb hK hP hD rfl hS 11 0 rfl rfl ((4 * 4) + i) rfl (by omega) (by decide) (zpm_s rfl) dX0_buildMultiples_60 (fun H locs hP hS => ?_)
              have hP : va_P D Cl (XG cA h ad zSub zRes zFwd zBwd rk tk pre sum (zmo (zH rk)) (zH rk) (zpm (zpm (zfil mul (fun _ => nI 0) 4) 8 (zH rk) 4) 4 (zmo (zH rk)) (i + 1)) zFal) H := hP
              refine lv_iinc (v := nI (i + 1)) (lv' := [(2, .int (nI (i + 1))), (1, .int (nI 4)), (0, .ref h)]) hx hb dX0_buildMultiples_61 hl (k := 0) rfl (zinc _) (by decide) rfl (fun ls hl => ?_)
              refine lv_goto (tgt := 40) hx hb dX0_buildMultiples_64 (by decide) ?_
              exact ihB4 (i + 1) (by omega) H locs ls hP hS (lv_sub hl [0, 1, 2] rfl)
          exact B4 4 0 (by omega) H locs ls (by rw [zpm_0]; exact hP) hS (lv_sub hl [0, 1, 2] rfl)
        | succ nB8 ihB8 =>
          intro i hB8 H locs ls hP hS hl
          have hltB8 : i < 4 := by omega
          refine lv_iload_n hx hb dX0_buildMultiples_40 rfl (lv_at hl 0 rfl) ?_
          refine lv_iconst (v := nI 4) hx hb dX0_buildMultiples_41 (by decide) ?_
          refine zr_ge_f (tgt := 67) hx hb dX0_buildMultiples_42 (by decide) (by omega) (by omega) ?_
          refine lv_aload_n hx hb dX0_buildMultiples_45 rfl (lv_at hl 2 rfl) ?_
          refine zr_get (T := TX0) (N := 12) hx hb hts in_X0 hown hK hP 0 rfl rfl 10 (by decide) q108 rfl dX0_buildMultiples_46 ?_
          refine lv_iconst (v := nI 4) hx hb dX0_buildMultiples_49 (by decide) ?_
          refine lv_iload_n hx hb dX0_buildMultiples_50 rfl (lv_at hl 1 rfl) ?_
          refine zr_imul (v := nI (4 * 8)) hx hb dX0_buildMultiples_51 (pk_mul _ _) ?_
          refine lv_iload_n hx hb dX0_buildMultiples_52 rfl (lv_at hl 0 rfl) ?_
          refine zr_iadd (v := nI ((4 * 8) + i)) hx hb dX0_buildMultiples_53 (nI_add _ _) ?_
          refine lv_aload_n hx hb dX0_buildMultiples_54 rfl (lv_at hl 2 rfl) ?_
          refine zr_get (T := TX0) (N := 12) hx hb hts in_X0 hown hK hP 0 rfl rfl 8 (by decide) q106 rfl dX0_buildMultiples_55 ?_
          refine lv_iload_n hx hb dX0_buildMultiples_58 rfl (lv_at hl 0 rfl) ?_
          refine zr_iald (v := (zH rk) i) hx hb hK hP 9 0 rfl rfl i rfl (by omega) (by decide) rfl dX0_buildMultiples_59 ?_
          refine zr_iast (f' := zpm (zfil mul (fun _ => nI 0) 4) 8 (zH rk) (i + 1)) hx hb hK hP hD rfl hS 11 0 rfl rfl ((4 * 8) + i) rfl (by omega) (by decide) (zpm_s rfl) dX0_buildMultiples_60 (fun H locs hP hS => ?_)
          have hP : va_P D Cl (XG cA h ad zSub zRes zFwd zBwd rk tk pre sum (zH rk) (zH rk) (zpm (zfil mul (fun _ => nI 0) 4) 8 (zH rk) (i + 1)) zFal) H := hP
          refine lv_iinc (v := nI (i + 1)) (lv' := [(2, .int (nI (i + 1))), (1, .int (nI 8)), (0, .ref h)]) hx hb dX0_buildMultiples_61 hl (k := 0) rfl (zinc _) (by decide) rfl (fun ls hl => ?_)
          refine lv_goto (tgt := 40) hx hb dX0_buildMultiples_64 (by decide) ?_
          exact ihB8 (i + 1) (by omega) H locs ls hP hS (lv_sub hl [0, 1, 2] rfl)
      exact B8 4 0 (by omega) H locs ls (by rw [zpm_0]; exact hP) hS (lv_sub hl [0, 1, 2] rfl)
    | succ nL1 ihL1 =>
      intro i hL1 H locs ls hP hS hl
      have hltL1 : i < 4 := by omega
      refine lv_iload_n hx hb dX0_buildMultiples_2 rfl (lv_at hl 0 rfl) ?_
      refine lv_iconst (v := nI 4) hx hb dX0_buildMultiples_3 (by decide) ?_
      refine zr_ge_f (tgt := 27) hx hb dX0_buildMultiples_4 (by decide) (by omega) (by omega) ?_
      refine lv_aload_n hx hb dX0_buildMultiples_7 rfl (lv_at hl 1 rfl) ?_
      refine zr_get (T := TX0) (N := 12) hx hb hts in_X0 hown hK hP 0 rfl rfl 8 (by decide) q106 rfl dX0_buildMultiples_8 ?_
      refine lv_iload_n hx hb dX0_buildMultiples_11 rfl (lv_at hl 0 rfl) ?_
      refine lv_iconst (v := nI 0) hx hb dX0_buildMultiples_12 (by decide) ?_
      refine zr_iast (f' := zfil st (fun _ => nI 0) (i + 1)) hx hb hK hP hD rfl hS 9 0 rfl rfl i rfl (by omega) (by decide) (zfil_s rfl) dX0_buildMultiples_13 (fun H locs hP hS => ?_)
      have hP : va_P D Cl (XG cA h ad zSub zRes zFwd zBwd rk tk pre sum (zfil st (fun _ => nI 0) (i + 1)) fr (zfil mul (fun _ => nI 0) i) zFal) H := hP
      refine lv_aload_n hx hb dX0_buildMultiples_14 rfl (lv_at hl 1 rfl) ?_
      refine zr_get (T := TX0) (N := 12) hx hb hts in_X0 hown hK hP 0 rfl rfl 10 (by decide) q108 rfl dX0_buildMultiples_15 ?_
      refine lv_iload_n hx hb dX0_buildMultiples_18 rfl (lv_at hl 0 rfl) ?_
      refine lv_iconst (v := nI 0) hx hb dX0_buildMultiples_19 (by decide) ?_
      refine zr_iast (f' := zfil mul (fun _ => nI 0) (i + 1)) hx hb hK hP hD rfl hS 11 0 rfl rfl i rfl (by omega) (by decide) (zfil_s rfl) dX0_buildMultiples_20 (fun H locs hP hS => ?_)
      have hP : va_P D Cl (XG cA h ad zSub zRes zFwd zBwd rk tk pre sum (zfil st (fun _ => nI 0) (i + 1)) fr (zfil mul (fun _ => nI 0) (i + 1)) zFal) H := hP
      refine lv_iinc (v := nI (i + 1)) (lv' := [(1, .int (nI (i + 1))), (0, .ref h)]) hx hb dX0_buildMultiples_21 hl (k := 0) rfl (zinc _) (by decide) rfl (fun ls hl => ?_)
      refine lv_goto (tgt := 2) hx hb dX0_buildMultiples_24 (by decide) ?_
      exact ihL1 (i + 1) (by omega) H locs ls hP hS (lv_sub hl [0, 1] rfl)
  exact L1 4 0 (by omega) H locs ls (by rw [zfil_0, zfil_0]; exact hP) hS (lv_sub hl [0, 1] rfl)
set_option maxHeartbeats 4000000 in
/-- BlockSealer.key  -/
theorem mX_key (l : Launch) (D : va_G) (cA : ClassId) (h : Nat) (ad : Nat → Nat) (rk tk pre sum st fr mul : Nat → Int32) (k0 k1 k2 k3 : Int32) : MetW l D cA yX0_key (ws_ yX0_key cX0_key 9 none) (zroom 4) ([.ref h, .int k0, .int k1, .int k2, .int k3] : List Value) (XG cA h ad zSub zRes zFwd zBwd rk tk pre sum st fr mul zFal) (XG cA h ad zSub zRes zFwd zBwd ((zkx zsw ztw (zk4 rk k0 k1 k2 k3) 40).1) (zTK (zkx zsw ztw (zk4 rk k0 k1 k2 k3) 40).1) pre sum (zmo (zmo (zmo (zmo (zH (zkx zsw ztw (zk4 rk k0 k1 k2 k3) 40).1))))) (zH (zkx zsw ztw (zk4 rk k0 k1 k2 k3) 40).1) (zmm (zkx zsw ztw (zk4 rk k0 k1 k2 k3) 40).1 mul) zFal) none := by
  refine zr_startV RX0 rfl (by decide) (Nat.le_of_ble_eq_true rfl) ?_
  intro p e s m below meth c A ls Q hx hb hml hown hts hK hP hD hA hS hret hl
  have hl : lv_has ls 9 [(0, .ref h), (1, .int k0), (2, .int k1), (3, .int k2), (4, .int k3)] := hl
  generalize hH : s.heap = H at hP
  have hS : va_S A s.heap H [] := by rw [← hH]; exact hS
  generalize hlo : ([] : List Loc) = locs at hS ⊢
  refine lv_aload_n hx hb dX0_key_0 rfl (lv_at hl 0 rfl) ?_
  refine zr_get (T := TX0) (N := 12) hx hb hts in_X0 hown hK hP 0 rfl rfl 4 (by decide) q102 rfl dX0_key_1 ?_
  refine lv_iconst (v := nI 0) hx hb dX0_key_4 (by decide) ?_
  refine lv_iload_n hx hb dX0_key_5 rfl (lv_at hl 1 rfl) ?_
  refine zr_iast (f' := upd rk 0 k0) hx hb hK hP hD rfl hS 5 0 rfl rfl 0 rfl (by decide) (by decide) rfl dX0_key_6 (fun H locs hP hS => ?_)
  have hP : va_P D Cl (XG cA h ad zSub zRes zFwd zBwd (upd rk 0 k0) tk pre sum st fr mul zFal) H := hP
  refine lv_aload_n hx hb dX0_key_7 rfl (lv_at hl 0 rfl) ?_
  refine zr_get (T := TX0) (N := 12) hx hb hts in_X0 hown hK hP 0 rfl rfl 4 (by decide) q102 rfl dX0_key_8 ?_
  refine lv_iconst (v := nI 1) hx hb dX0_key_11 (by decide) ?_
  refine lv_iload_n hx hb dX0_key_12 rfl (lv_at hl 2 rfl) ?_
  refine zr_iast (f' := upd (upd rk 0 k0) 1 k1) hx hb hK hP hD rfl hS 5 0 rfl rfl 1 rfl (by decide) (by decide) rfl dX0_key_13 (fun H locs hP hS => ?_)
  have hP : va_P D Cl (XG cA h ad zSub zRes zFwd zBwd (upd (upd rk 0 k0) 1 k1) tk pre sum st fr mul zFal) H := hP
  refine lv_aload_n hx hb dX0_key_14 rfl (lv_at hl 0 rfl) ?_
  refine zr_get (T := TX0) (N := 12) hx hb hts in_X0 hown hK hP 0 rfl rfl 4 (by decide) q102 rfl dX0_key_15 ?_
  refine lv_iconst (v := nI 2) hx hb dX0_key_18 (by decide) ?_
  refine lv_iload_n hx hb dX0_key_19 rfl (lv_at hl 3 rfl) ?_
  refine zr_iast (f' := upd (upd (upd rk 0 k0) 1 k1) 2 k2) hx hb hK hP hD rfl hS 5 0 rfl rfl 2 rfl (by decide) (by decide) rfl dX0_key_20 (fun H locs hP hS => ?_)
  have hP : va_P D Cl (XG cA h ad zSub zRes zFwd zBwd (upd (upd (upd rk 0 k0) 1 k1) 2 k2) tk pre sum st fr mul zFal) H := hP
  refine lv_aload_n hx hb dX0_key_21 rfl (lv_at hl 0 rfl) ?_
  refine zr_get (T := TX0) (N := 12) hx hb hts in_X0 hown hK hP 0 rfl rfl 4 (by decide) q102 rfl dX0_key_22 ?_
  refine lv_iconst (v := nI 3) hx hb dX0_key_25 (by decide) ?_
  refine lv_iload hx hb dX0_key_26 (lv_at hl 4 rfl) ?_
  refine zr_iast (f' := upd (upd (upd (upd rk 0 k0) 1 k1) 2 k2) 3 k3) hx hb hK hP hD rfl hS 5 0 rfl rfl 3 rfl (by decide) (by decide) rfl dX0_key_28 (fun H locs hP hS => ?_)
  have hP : va_P D Cl (XG cA h ad zSub zRes zFwd zBwd (upd (upd (upd (upd rk 0 k0) 1 k1) 2 k2) 3 k3) tk pre sum st fr mul zFal) H := hP
  refine lv_iconst (v := nI 1) hx hb dX0_key_29 (by decide) ?_
  refine lv_istore (lv' := [(5, .int (nI 1)), (0, .ref h), (1, .int k0), (2, .int k1), (3, .int k2), (4, .int k3)]) hx hb dX0_key_30 hl (by decide) rfl (fun ls hl => ?_)
  refine lv_iconst (v := nI 4) hx hb dX0_key_32 (by decide) ?_
  refine lv_istore (lv' := [(6, .int (nI 4)), (5, .int (nI 1)), (0, .ref h), (1, .int k0), (2, .int k1), (3, .int k2), (4, .int k3)]) hx hb dX0_key_33 hl (by decide) rfl (fun ls hl => ?_)
  have L1 : ∀ (nL1 n : Nat), n + nL1 = 40 → ∀ (H : Heap) (locs : List Loc) (ls : Array Slot), va_P D Cl (XG cA h ad zSub zRes zFwd zBwd ((zkx zsw ztw (zk4 rk k0 k1 k2 k3) n).1) tk pre sum st fr mul zFal) H → va_S A s.heap H locs → lv_has ls 9 [(6, .int (nI (n + 4))), (5, .int ((zkx zsw ztw (zk4 rk k0 k1 k2 k3) n).2)), (0, .ref h)] → W p l e (zroom 4) s m ([.ref h, .int k0, .int k1, .int k2, .int k3] : List Value).toArray below meth c H locs 0 0 Q (F0 m 35 ls []) := by
    intro nL1
    induction nL1 with
    | zero =>
      intro n hL1 H locs ls hP hS hl
      obtain rfl : n = 40 := by omega
      refine lv_iload hx hb dX0_key_35 (lv_at hl 0 rfl) ?_
      refine lv_bipush (v := nI 44) hx hb dX0_key_37 (by decide) ?_
      refine zr_ge_t (tgt := 119) hx hb dX0_key_39 (by decide) (by omega) (by omega) ?_
      refine lv_iconst (v := nI 0) hx hb dX0_key_119 (by decide) ?_
      refine lv_istore (lv' := [(6, .int (nI 0)), (5, .int ((zkx zsw ztw (zk4 rk k0 k1 k2 k3) 40).2)), (0, .ref h)]) hx hb dX0_key_120 hl (by decide) rfl (fun ls hl => ?_)
      generalize hKe : (zkx zsw ztw (zk4 rk k0 k1 k2 k3) 40).1 = K at hP hret
      have hP : va_P D Cl (XG cA h ad zSub zRes zFwd zBwd K tk pre sum st fr mul zFal) H := hP
      have hl : lv_has ls 9 [(6, .int (nI 0)), (0, .ref h)] := lv_sub hl [0, 2] rfl
      have L2 : ∀ (nL2 i : Nat), i + nL2 = 44 → ∀ (H : Heap) (locs : List Loc) (ls : Array Slot), va_P D Cl (XG cA h ad zSub zRes zFwd zBwd K (zfil tk (zTK K) i) pre sum st fr mul zFal) H → va_S A s.heap H locs → lv_has ls 9 [(6, .int (nI i)), (0, .ref h)] → W p l e (zroom 4) s m ([.ref h, .int k0, .int k1, .int k2, .int k3] : List Value).toArray below meth c H locs 0 0 Q (F0 m 122 ls []) := by
        intro nL2
        induction nL2 with
        | zero =>
          intro i hL2 H locs ls hP hS hl
          obtain rfl : i = 44 := by omega
          refine lv_iload hx hb dX0_key_122 (lv_at hl 0 rfl) ?_
          refine lv_bipush (v := nI 44) hx hb dX0_key_124 (by decide) ?_
          refine zr_ge_t (tgt := 176) hx hb dX0_key_126 (by decide) (by omega) (by omega) ?_
          have hP := zP (g := zTK K) hP 6 rfl (fun j hj => zfil_lt hj)
          have hP : va_P D Cl (XG cA h ad zSub zRes zFwd zBwd K (zTK K) pre sum st fr mul zFal) H := hP
          refine lv_aload_n hx hb dX0_key_176 rfl (lv_at hl 1 rfl) ?_
          refine zr_callVv (rest := []) ⟨hx, hb, hml, hown, hts⟩ (mX_buildMultiples l D cA h ad K (zTK K) pre sum st fr mul) (cwV 0 hts (lw_V q78 q80 qs6 q30 q81) rfl rfl rfl (by decide +kernel) ⟨Nat.le_of_ble_eq_true rfl, Nat.le_of_ble_eq_true rfl⟩) [] hK hP hD rfl hS hA (ci := 0) (q0 := 0) rfl rfl rfl rfl hl.1 rfl (Nat.le_of_ble_eq_true rfl) dX0_key_177 ⟨Nat.zero_le _, Nat.zero_le _⟩ (fun H locs hP hS => ?_)
          have hP : va_P D Cl (XG cA h ad zSub zRes zFwd zBwd K (zTK K) pre sum (zmo (zmo (zmo (zmo (zH K))))) (zH K) (zmm K mul) zFal) H := hP
          exact hret H locs _ ls hP hS dX0_key_180
        | succ nL2 ihL2 =>
          intro i hL2 H locs ls hP hS hl
          have hltL2 : i < 44 := by omega
          refine lv_iload hx hb dX0_key_122 (lv_at hl 0 rfl) ?_
          refine lv_bipush (v := nI 44) hx hb dX0_key_124 (by decide) ?_
          refine zr_ge_f (tgt := 176) hx hb dX0_key_126 (by decide) (by omega) (by omega) ?_
          refine lv_aload_n hx hb dX0_key_129 rfl (lv_at hl 1 rfl) ?_
          refine zr_get (T := TX0) (N := 12) hx hb hts in_X0 hown hK hP 0 rfl rfl 5 (by decide) q103 rfl dX0_key_130 ?_
          refine lv_iload hx hb dX0_key_133 (lv_at hl 0 rfl) ?_
          refine lv_iload hx hb dX0_key_135 (lv_at hl 0 rfl) ?_
          refine lv_iconst (v := nI 4) hx hb dX0_key_137 (by decide) ?_
          rcases Nat.lt_or_ge i 4 with hi4 | hi4
          · skip
            have hz : (if i < 4 ∨ 40 ≤ i then K i else ztx (K i)) = K i := if_pos (Or.inl hi4)
            refine zr_lt_t (tgt := 148) hx hb dX0_key_138 (by decide) (by omega) (by omega) ?_
            refine lv_aload_n hx hb dX0_key_148 rfl (lv_at hl 1 rfl) ?_
            refine zr_get (T := TX0) (N := 12) hx hb hts in_X0 hown hK hP 0 rfl rfl 4 (by decide) q102 rfl dX0_key_149 ?_
            refine lv_iload hx hb dX0_key_152 (lv_at hl 0 rfl) ?_
            refine zr_iald (v := K i) hx hb hK hP 5 0 rfl rfl i rfl (by omega) (by decide) rfl dX0_key_154 ?_
            refine lv_goto (tgt := 169) hx hb dX0_key_155 (by decide) ?_
            refine zr_iast (f' := zfil tk (zTK K) (i + 1)) hx hb hK hP hD rfl hS 6 0 rfl rfl i rfl (by omega) (by decide) (zfil_s (by unfold zTK; rw [hz])) dX0_key_169 (fun H locs hP hS => ?_)
            have hP : va_P D Cl (XG cA h ad zSub zRes zFwd zBwd K (zfil tk (zTK K) (i + 1)) pre sum st fr mul zFal) H := hP
            refine lv_iinc (v := nI (i + 1)) (lv' := [(6, .int (nI (i + 1))), (0, .ref h)]) hx hb dX0_key_170 hl (k := 0) rfl (zinc _) (by decide) rfl (fun ls hl => ?_)
            refine lv_goto (tgt := 122) hx hb dX0_key_173 (by decide) ?_
            exact ihL2 (i + 1) (by omega) H locs ls hP hS (lv_sub hl [0, 1] rfl)
          · skip
            refine zr_lt_f (tgt := 148) hx hb dX0_key_138 (by decide) (by omega) (by omega) ?_
            refine lv_iload hx hb dX0_key_141 (lv_at hl 0 rfl) ?_
            refine lv_bipush (v := nI 40) hx hb dX0_key_143 (by decide) ?_
            rcases Nat.lt_or_ge i 40 with hi40 | hi40
            · skip
              have hz : (if i < 4 ∨ 40 ≤ i then K i else ztx (K i)) = ztx (K i) := if_neg (by omega)
              refine zr_lt_t (tgt := 158) hx hb dX0_key_145 (by decide) (by omega) (by omega) ?_
              refine lv_aload_n hx hb dX0_key_158 rfl (lv_at hl 1 rfl) ?_
              refine lv_aload_n hx hb dX0_key_159 rfl (lv_at hl 1 rfl) ?_
              refine zr_get (T := TX0) (N := 12) hx hb hts in_X0 hown hK hP 0 rfl rfl 4 (by decide) q102 rfl dX0_key_160 ?_
              refine lv_iload hx hb dX0_key_163 (lv_at hl 0 rfl) ?_
              refine zr_iald (v := K i) hx hb hK hP 5 0 rfl rfl i rfl (by omega) (by decide) rfl dX0_key_165 ?_
              refine zr_callVi (rest := [.int (nI i), .ref (ad 5)]) ⟨hx, hb, hml, hown, hts⟩ (mX_turnMixing l D cA h ad K (zfil tk (zTK K) i) pre sum st fr mul (K i)) (cwV 1 hts (lw_V q71 q73 qs5 q30 q74) rfl rfl rfl (by decide +kernel) ⟨Nat.le_of_ble_eq_true rfl, Nat.le_of_ble_eq_true rfl⟩) [] hK hP hD rfl hS hA (ci := 0) (q0 := 0) rfl rfl rfl rfl hl.1 rfl (Nat.le_of_ble_eq_true rfl) dX0_key_166 ⟨Nat.zero_le _, Nat.zero_le _⟩ (fun H locs hP hS => ?_)
              have hP : va_P D Cl (XG cA h ad zSub zRes zFwd zBwd K (zfil tk (zTK K) i) pre sum st fr mul zFal) H := hP
              refine zr_iast (f' := zfil tk (zTK K) (i + 1)) hx hb hK hP hD rfl hS 6 0 rfl rfl i rfl (by omega) (by decide) (zfil_s (by unfold zTK; rw [hz])) dX0_key_169 (fun H locs hP hS => ?_)
              have hP : va_P D Cl (XG cA h ad zSub zRes zFwd zBwd K (zfil tk (zTK K) (i + 1)) pre sum st fr mul zFal) H := hP
              refine lv_iinc (v := nI (i + 1)) (lv' := [(6, .int (nI (i + 1))), (0, .ref h)]) hx hb dX0_key_170 hl (k := 0) rfl (zinc _) (by decide) rfl (fun ls hl => ?_)
              refine lv_goto (tgt := 122) hx hb dX0_key_173 (by decide) ?_
              exact ihL2 (i + 1) (by omega) H locs ls hP hS (lv_sub hl [0, 1] rfl)
            · skip
              have hz : (if i < 4 ∨ 40 ≤ i then K i else ztx (K i)) = K i := if_pos (Or.inr hi40)
              refine zr_lt_f (tgt := 158) hx hb dX0_key_145 (by decide) (by omega) (by omega) ?_
              refine lv_aload_n hx hb dX0_key_148 rfl (lv_at hl 1 rfl) ?_
              refine zr_get (T := TX0) (N := 12) hx hb hts in_X0 hown hK hP 0 rfl rfl 4 (by decide) q102 rfl dX0_key_149 ?_
              refine lv_iload hx hb dX0_key_152 (lv_at hl 0 rfl) ?_
              refine zr_iald (v := K i) hx hb hK hP 5 0 rfl rfl i rfl (by omega) (by decide) rfl dX0_key_154 ?_
              refine lv_goto (tgt := 169) hx hb dX0_key_155 (by decide) ?_
              refine zr_iast (f' := zfil tk (zTK K) (i + 1)) hx hb hK hP hD rfl hS 6 0 rfl rfl i rfl (by omega) (by decide) (zfil_s (by unfold zTK; rw [hz])) dX0_key_169 (fun H locs hP hS => ?_)
              have hP : va_P D Cl (XG cA h ad zSub zRes zFwd zBwd K (zfil tk (zTK K) (i + 1)) pre sum st fr mul zFal) H := hP
              refine lv_iinc (v := nI (i + 1)) (lv' := [(6, .int (nI (i + 1))), (0, .ref h)]) hx hb dX0_key_170 hl (k := 0) rfl (zinc _) (by decide) rfl (fun ls hl => ?_)
              refine lv_goto (tgt := 122) hx hb dX0_key_173 (by decide) ?_
              exact ihL2 (i + 1) (by omega) H locs ls hP hS (lv_sub hl [0, 1] rfl)
      exact L2 44 0 (by omega) H locs ls (by rw [zfil_0]; exact hP) hS (lv_sub hl [0, 1] rfl)
    | succ nL1 ihL1 =>
      intro n hL1 H locs ls hP hS hl
      have hltL1 : n < 40 := by omega
      refine lv_iload hx hb dX0_key_35 (lv_at hl 0 rfl) ?_
      refine lv_bipush (v := nI 44) hx hb dX0_key_37 (by decide) ?_
      refine zr_ge_f (tgt := 119) hx hb dX0_key_39 (by decide) (by omega) (by omega) ?_
      refine lv_aload_n hx hb dX0_key_42 rfl (lv_at hl 2 rfl) ?_
      refine zr_get (T := TX0) (N := 12) hx hb hts in_X0 hown hK hP 0 rfl rfl 4 (by decide) q102 rfl dX0_key_43 ?_
      refine lv_iload hx hb dX0_key_46 (lv_at hl 0 rfl) ?_
      refine lv_iconst (v := nI 1) hx hb dX0_key_48 (by decide) ?_
      refine zr_isub (v := nI (n + 3)) hx hb dX0_key_49 (pk_sub (by omega)) ?_
      refine zr_iald (v := ((zkx zsw ztw (zk4 rk k0 k1 k2 k3) n).1) (n + 3)) hx hb hK hP 5 0 rfl rfl (n + 3) rfl (by omega) (by decide) rfl dX0_key_50 ?_
      refine lv_istore (lv' := [(7, .int (((zkx zsw ztw (zk4 rk k0 k1 k2 k3) n).1) (n + 3))), (6, .int (nI (n + 4))), (5, .int ((zkx zsw ztw (zk4 rk k0 k1 k2 k3) n).2)), (0, .ref h)]) hx hb dX0_key_51 hl (by decide) rfl (fun ls hl => ?_)
      refine lv_iload hx hb dX0_key_53 (lv_at hl 1 rfl) ?_
      refine lv_iconst (v := nI 3) hx hb dX0_key_55 (by decide) ?_
      refine zr_iand (v := nI ((n + 4) % 4)) hx hb dX0_key_56 (zm3 (by omega)) ?_
      refine lv_if_ne (tgt := 94) hx hb dX0_key_57 (by decide) (fun hc => ?_) (fun hc => ?_)
      · skip
        have hkx := zkx_f (S := zsw) (T := ztw) (f := (zk4 rk k0 k1 k2 k3)) hc
        refine lv_aload_n hx hb dX0_key_94 rfl (lv_at hl 3 rfl) ?_
        refine zr_get (T := TX0) (N := 12) hx hb hts in_X0 hown hK hP 0 rfl rfl 4 (by decide) q102 rfl dX0_key_95 ?_
        refine lv_iload hx hb dX0_key_98 (lv_at hl 1 rfl) ?_
        refine lv_aload_n hx hb dX0_key_100 rfl (lv_at hl 3 rfl) ?_
        refine zr_get (T := TX0) (N := 12) hx hb hts in_X0 hown hK hP 0 rfl rfl 4 (by decide) q102 rfl dX0_key_101 ?_
        refine lv_iload hx hb dX0_key_104 (lv_at hl 1 rfl) ?_
        refine lv_iconst (v := nI 4) hx hb dX0_key_106 (by decide) ?_
        refine zr_isub (v := nI n) hx hb dX0_key_107 (pk_sub (by omega)) ?_
        refine zr_iald (v := ((zkx zsw ztw (zk4 rk k0 k1 k2 k3) n).1) n) hx hb hK hP 5 0 rfl rfl n rfl (by omega) (by decide) rfl dX0_key_108 ?_
        refine lv_iload hx hb dX0_key_109 (lv_at hl 0 rfl) ?_
        refine zr_ixor (v := (((zkx zsw ztw (zk4 rk k0 k1 k2 k3) n).1) n) ^^^ (((zkx zsw ztw (zk4 rk k0 k1 k2 k3) n).1) (n + 3))) hx hb dX0_key_111 rfl ?_
        refine zr_iast (f' := upd ((zkx zsw ztw (zk4 rk k0 k1 k2 k3) n).1) (n + 4) ((((zkx zsw ztw (zk4 rk k0 k1 k2 k3) n).1) n) ^^^ (((zkx zsw ztw (zk4 rk k0 k1 k2 k3) n).1) (n + 3)))) hx hb hK hP hD rfl hS 5 0 rfl rfl (n + 4) rfl (by omega) (by decide) rfl dX0_key_112 (fun H locs hP hS => ?_)
        have hP : va_P D Cl (XG cA h ad zSub zRes zFwd zBwd (upd ((zkx zsw ztw (zk4 rk k0 k1 k2 k3) n).1) (n + 4) ((((zkx zsw ztw (zk4 rk k0 k1 k2 k3) n).1) n) ^^^ (((zkx zsw ztw (zk4 rk k0 k1 k2 k3) n).1) (n + 3)))) tk pre sum st fr mul zFal) H := hP
        refine lv_iinc (v := nI ((n + 4) + 1)) (lv' := [(6, .int (nI ((n + 4) + 1))), (7, .int (((zkx zsw ztw (zk4 rk k0 k1 k2 k3) n).1) (n + 3))), (5, .int ((zkx zsw ztw (zk4 rk k0 k1 k2 k3) n).2)), (0, .ref h)]) hx hb dX0_key_113 hl (k := 1) rfl (zinc _) (by decide) rfl (fun ls hl => ?_)
        refine lv_goto (tgt := 35) hx hb dX0_key_116 (by decide) ?_
        exact ihL1 (n + 1) (by omega) H locs ls (by rw [hkx]; exact hP) hS (by rw [hkx]; exact (lv_sub hl [0, 2, 3] rfl))
      · skip
        have hkx := zkx_t (S := zsw) (T := ztw) (f := (zk4 rk k0 k1 k2 k3)) hc
        refine lv_iload hx hb dX0_key_60 (lv_at hl 0 rfl) ?_
        refine lv_bipush (v := nI 8) hx hb dX0_key_62 (by decide) ?_
        refine zr_ishl (v := zsl (((zkx zsw ztw (zk4 rk k0 k1 k2 k3) n).1) (n + 3)) 8) hx hb dX0_key_64 rfl ?_
        refine lv_iload hx hb dX0_key_65 (lv_at hl 0 rfl) ?_
        refine lv_bipush (v := nI 24) hx hb dX0_key_67 (by decide) ?_
        refine zr_iushr (v := nI (zby (((zkx zsw ztw (zk4 rk k0 k1 k2 k3) n).1) (n + 3)) 0)) hx hb dX0_key_69 (zb0 _) ?_
        refine zr_ior (v := (zsl (((zkx zsw ztw (zk4 rk k0 k1 k2 k3) n).1) (n + 3)) 8) ||| (nI (zby (((zkx zsw ztw (zk4 rk k0 k1 k2 k3) n).1) (n + 3)) 0))) hx hb dX0_key_70 rfl ?_
        refine lv_istore (lv' := [(8, .int ((zsl (((zkx zsw ztw (zk4 rk k0 k1 k2 k3) n).1) (n + 3)) 8) ||| (nI (zby (((zkx zsw ztw (zk4 rk k0 k1 k2 k3) n).1) (n + 3)) 0)))), (7, .int (((zkx zsw ztw (zk4 rk k0 k1 k2 k3) n).1) (n + 3))), (6, .int (nI (n + 4))), (5, .int ((zkx zsw ztw (zk4 rk k0 k1 k2 k3) n).2)), (0, .ref h)]) hx hb dX0_key_71 hl (by decide) rfl (fun ls hl => ?_)
        refine lv_aload_n hx hb dX0_key_73 rfl (lv_at hl 4 rfl) ?_
        refine lv_iload hx hb dX0_key_74 (lv_at hl 0 rfl) ?_
        refine zr_callVi (rest := []) ⟨hx, hb, hml, hown, hts⟩ (mX_substituteWord l D cA h ad ((zkx zsw ztw (zk4 rk k0 k1 k2 k3) n).1) tk pre sum st fr mul ((zsl (((zkx zsw ztw (zk4 rk k0 k1 k2 k3) n).1) (n + 3)) 8) ||| (nI (zby (((zkx zsw ztw (zk4 rk k0 k1 k2 k3) n).1) (n + 3)) 0)))) (cwV 1 hts (lw_V q67 q69 qs4 q30 q70) rfl rfl rfl (by decide +kernel) ⟨Nat.le_of_ble_eq_true rfl, Nat.le_of_ble_eq_true rfl⟩) [] hK hP hD rfl hS hA (ci := 0) (q0 := 0) rfl rfl rfl rfl hl.1 rfl (Nat.le_of_ble_eq_true rfl) dX0_key_76 ⟨Nat.zero_le _, Nat.zero_le _⟩ (fun H locs hP hS => ?_)
        have hP : va_P D Cl (XG cA h ad zSub zRes zFwd zBwd ((zkx zsw ztw (zk4 rk k0 k1 k2 k3) n).1) tk pre sum st fr mul zFal) H := hP
        refine lv_iload hx hb dX0_key_79 (lv_at hl 3 rfl) ?_
        refine lv_bipush (v := nI 24) hx hb dX0_key_81 (by decide) ?_
        refine zr_ishl (v := zsl ((zkx zsw ztw (zk4 rk k0 k1 k2 k3) n).2) 24) hx hb dX0_key_83 rfl ?_
        refine zr_ixor (v := (zsw ((zsl (((zkx zsw ztw (zk4 rk k0 k1 k2 k3) n).1) (n + 3)) 8) ||| (nI (zby (((zkx zsw ztw (zk4 rk k0 k1 k2 k3) n).1) (n + 3)) 0)))) ^^^ (zsl ((zkx zsw ztw (zk4 rk k0 k1 k2 k3) n).2) 24)) hx hb dX0_key_84 rfl ?_
        refine lv_istore (lv' := [(7, .int ((zsw ((zsl (((zkx zsw ztw (zk4 rk k0 k1 k2 k3) n).1) (n + 3)) 8) ||| (nI (zby (((zkx zsw ztw (zk4 rk k0 k1 k2 k3) n).1) (n + 3)) 0)))) ^^^ (zsl ((zkx zsw ztw (zk4 rk k0 k1 k2 k3) n).2) 24))), (8, .int ((zsl (((zkx zsw ztw (zk4 rk k0 k1 k2 k3) n).1) (n + 3)) 8) ||| (nI (zby (((zkx zsw ztw (zk4 rk k0 k1 k2 k3) n).1) (n + 3)) 0)))), (6, .int (nI (n + 4))), (5, .int ((zkx zsw ztw (zk4 rk k0 k1 k2 k3) n).2)), (0, .ref h)]) hx hb dX0_key_85 hl (by decide) rfl (fun ls hl => ?_)
        refine lv_iload hx hb dX0_key_87 (lv_at hl 3 rfl) ?_
        refine zr_callS (rest := []) ⟨hx, hb, hml, hown, hts⟩ (mX_twice l D cA ((zkx zsw ztw (zk4 rk k0 k1 k2 k3) n).2)) (va_cwS 1 hts (lw_S q48 q49 q30 q50) rfl rfl rfl (by decide +kernel) ⟨Nat.le_of_ble_eq_true rfl, Nat.le_of_ble_eq_true rfl⟩) hK hP hD rfl hS hA rfl hl.1 rfl (Nat.le_of_ble_eq_true rfl) dX0_key_89 ⟨Nat.zero_le _, Nat.zero_le _⟩ (fun H locs hP hS => ?_)
        refine lv_istore (lv' := [(5, .int (ztw ((zkx zsw ztw (zk4 rk k0 k1 k2 k3) n).2))), (7, .int ((zsw ((zsl (((zkx zsw ztw (zk4 rk k0 k1 k2 k3) n).1) (n + 3)) 8) ||| (nI (zby (((zkx zsw ztw (zk4 rk k0 k1 k2 k3) n).1) (n + 3)) 0)))) ^^^ (zsl ((zkx zsw ztw (zk4 rk k0 k1 k2 k3) n).2) 24))), (8, .int ((zsl (((zkx zsw ztw (zk4 rk k0 k1 k2 k3) n).1) (n + 3)) 8) ||| (nI (zby (((zkx zsw ztw (zk4 rk k0 k1 k2 k3) n).1) (n + 3)) 0)))), (6, .int (nI (n + 4))), (0, .ref h)]) hx hb dX0_key_92 hl (by decide) rfl (fun ls hl => ?_)
        refine lv_aload_n hx hb dX0_key_94 rfl (lv_at hl 4 rfl) ?_
        refine zr_get (T := TX0) (N := 12) hx hb hts in_X0 hown hK hP 0 rfl rfl 4 (by decide) q102 rfl dX0_key_95 ?_
        refine lv_iload hx hb dX0_key_98 (lv_at hl 3 rfl) ?_
        refine lv_aload_n hx hb dX0_key_100 rfl (lv_at hl 4 rfl) ?_
        refine zr_get (T := TX0) (N := 12) hx hb hts in_X0 hown hK hP 0 rfl rfl 4 (by decide) q102 rfl dX0_key_101 ?_
        refine lv_iload hx hb dX0_key_104 (lv_at hl 3 rfl) ?_
        refine lv_iconst (v := nI 4) hx hb dX0_key_106 (by decide) ?_
        refine zr_isub (v := nI n) hx hb dX0_key_107 (pk_sub (by omega)) ?_
        refine zr_iald (v := ((zkx zsw ztw (zk4 rk k0 k1 k2 k3) n).1) n) hx hb hK hP 5 0 rfl rfl n rfl (by omega) (by decide) rfl dX0_key_108 ?_
        refine lv_iload hx hb dX0_key_109 (lv_at hl 1 rfl) ?_
        refine zr_ixor (v := (((zkx zsw ztw (zk4 rk k0 k1 k2 k3) n).1) n) ^^^ ((zsw ((zsl (((zkx zsw ztw (zk4 rk k0 k1 k2 k3) n).1) (n + 3)) 8) ||| (nI (zby (((zkx zsw ztw (zk4 rk k0 k1 k2 k3) n).1) (n + 3)) 0)))) ^^^ (zsl ((zkx zsw ztw (zk4 rk k0 k1 k2 k3) n).2) 24))) hx hb dX0_key_111 rfl ?_
        refine zr_iast (f' := upd ((zkx zsw ztw (zk4 rk k0 k1 k2 k3) n).1) (n + 4) ((((zkx zsw ztw (zk4 rk k0 k1 k2 k3) n).1) n) ^^^ ((zsw ((zsl (((zkx zsw ztw (zk4 rk k0 k1 k2 k3) n).1) (n + 3)) 8) ||| (nI (zby (((zkx zsw ztw (zk4 rk k0 k1 k2 k3) n).1) (n + 3)) 0)))) ^^^ (zsl ((zkx zsw ztw (zk4 rk k0 k1 k2 k3) n).2) 24)))) hx hb hK hP hD rfl hS 5 0 rfl rfl (n + 4) rfl (by omega) (by decide) rfl dX0_key_112 (fun H locs hP hS => ?_)
        have hP : va_P D Cl (XG cA h ad zSub zRes zFwd zBwd (upd ((zkx zsw ztw (zk4 rk k0 k1 k2 k3) n).1) (n + 4) ((((zkx zsw ztw (zk4 rk k0 k1 k2 k3) n).1) n) ^^^ ((zsw ((zsl (((zkx zsw ztw (zk4 rk k0 k1 k2 k3) n).1) (n + 3)) 8) ||| (nI (zby (((zkx zsw ztw (zk4 rk k0 k1 k2 k3) n).1) (n + 3)) 0)))) ^^^ (zsl ((zkx zsw ztw (zk4 rk k0 k1 k2 k3) n).2) 24)))) tk pre sum st fr mul zFal) H := hP
        refine lv_iinc (v := nI ((n + 4) + 1)) (lv' := [(6, .int (nI ((n + 4) + 1))), (5, .int (ztw ((zkx zsw ztw (zk4 rk k0 k1 k2 k3) n).2))), (7, .int ((zsw ((zsl (((zkx zsw ztw (zk4 rk k0 k1 k2 k3) n).1) (n + 3)) 8) ||| (nI (zby (((zkx zsw ztw (zk4 rk k0 k1 k2 k3) n).1) (n + 3)) 0)))) ^^^ (zsl ((zkx zsw ztw (zk4 rk k0 k1 k2 k3) n).2) 24))), (8, .int ((zsl (((zkx zsw ztw (zk4 rk k0 k1 k2 k3) n).1) (n + 3)) 8) ||| (nI (zby (((zkx zsw ztw (zk4 rk k0 k1 k2 k3) n).1) (n + 3)) 0)))), (0, .ref h)]) hx hb dX0_key_113 hl (k := 3) rfl (zinc _) (by decide) rfl (fun ls hl => ?_)
        refine lv_goto (tgt := 35) hx hb dX0_key_116 (by decide) ?_
        exact ihL1 (n + 1) (by omega) H locs ls (by rw [hkx]; exact hP) hS (by rw [hkx]; exact (lv_sub hl [0, 1, 4] rfl))
  exact L1 40 0 (by omega) H locs ls hP hS (lv_sub hl [0, 1, 2] rfl)
end
section
set_option maxRecDepth 100000
/-! the substitution: what the loop over the powers of 3 has written -/
theorem zx_step : ∀ p, p < 256 → p ≠ 0 → zti (nI (zIN p)) = nI (zIN (p ^^^ ztN p)) ∧ p ^^^ ztN p ≠ 0 := by decide +kernel
theorem zss_n : ∀ p, p < 256 → zby (zss (nI (zIN p))) 3 = zSB p := by decide +kernel
theorem zpw_lg : ∀ p, p < 256 → p ≠ 0 → zpw (zLG p) = p ∧ zLG p < 255 := by decide +kernel
theorem zpw_ne (k : Nat) : zpw k ≠ 0 := by
  induction k with
  | zero => decide
  | succ k ih => exact (zx_step _ (zpw_lt k) ih).2
theorem ziv_n (k : Nat) : ziv k = nI (zIN (zpw k)) := by
  induction k with
  | zero => decide
  | succ k ih =>
    show zti (ziv k) = _
    rw [ih]
    exact (zx_step _ (zpw_lt k) (zpw_ne k)).1
theorem zbs_s (f : Nat → Int32) (k : Nat) : zbs f (k + 1) = upd (zbs f k) (zpw k) (nI (zSB (zpw k))) := by
  show upd (zbs f k) (zpw k) (nI (zby (zss (ziv k)) 3)) = _
  rw [ziv_n, zss_n _ (zpw_lt k)]
theorem zbr_s (f : Nat → Int32) (k : Nat) : zbr f (k + 1) = upd (zbr f k) (zSB (zpw k)) (nI (zpw k)) := by
  show upd (zbr f k) (zby (zss (ziv k)) 3) (nI (zpw k)) = _
  rw [ziv_n, zss_n _ (zpw_lt k)]
theorem zbs_ok (f : Nat → Int32) (k : Nat) : ∀ i, i < k → zbs f k (zpw i) = nI (zSB (zpw i)) := by
  induction k with
  | zero => intro i h; omega
  | succ k ih =>
    intro i h
    rw [zbs_s]
    unfold upd
    by_cases h1 : zpw i = zpw k
    · rw [if_pos h1, h1]
    · rw [if_neg h1]
      exact ih i (Nat.lt_of_le_of_ne (Nat.le_of_lt_succ h) (fun z => h1 (by rw [z])))
theorem zbr_ok (f : Nat → Int32) (k : Nat) : ∀ i, i < k → zbr f k (zSB (zpw i)) = nI (zpw i) := by
  induction k with
  | zero => intro i h; omega
  | succ k ih =>
    intro i h
    rw [zbr_s]
    unfold upd
    by_cases h1 : zSB (zpw i) = zSB (zpw k)
    · rw [if_pos h1, ← zRS_SB (zpw i) (zpw_lt i), h1, zRS_SB _ (zpw_lt k)]
    · rw [if_neg h1]
      exact ih i (Nat.lt_of_le_of_ne (Nat.le_of_lt_succ h) (fun z => h1 (by rw [z])))
theorem zbs_end (f : Nat → Int32) {j : Nat} (hj : j < 256) : upd (zbs f 255) 0 (nI (zby (zss (nI 0)) 3)) j = zSub j := by
  unfold upd
  by_cases h : j = 0
  · subst h
    rw [if_pos rfl]
    decide +kernel
  · rw [if_neg h]
    obtain ⟨e, hl⟩ := zpw_lg j hj h
    have := zbs_ok f 255 (zLG j) hl
    rw [e] at this
    exact this
theorem zbr_end (f : Nat → Int32) {j : Nat} (hj : j < 256) : upd (zbr f 255) (zby (zss (nI 0)) 3) (nI 0) j = zRes j := by
  have e0 : zby (zss (nI 0)) 3 = zSB 0 := by decide +kernel
  rw [e0]
  unfold upd
  by_cases h : j = zSB 0
  · subst h
    rw [if_pos rfl]
    decide +kernel
  · rw [if_neg h]
    have hne : zRS j ≠ 0 := fun z => h (by rw [← zSB_RS j hj, z])
    obtain ⟨e, hl⟩ := zpw_lg (zRS j) (zRS_lt j) hne
    have := zbr_ok f 255 (zLG (zRS j)) hl
    rw [e, zSB_RS j hj] at this
    exact this
set_option maxHeartbeats 4000000 in
/-- BlockSealer.buildSubstitution  -/
theorem mX_buildSubstitution (l : Launch) (D : va_G) (cA : ClassId) (h : Nat) (ad : Nat → Nat) (sub res fwd bwd rk tk pre sum st fr mul fal : Nat → Int32) : MetW l D cA yX0_buildSubstitution (ws_ yX0_buildSubstitution cX0_buildSubstitution 4 none) (zroom 2) ([.ref h] : List Value) (XG cA h ad sub res fwd bwd rk tk pre sum st fr mul fal) (XG cA h ad zSub zRes fwd bwd rk tk pre sum st fr mul fal) none := by
  refine zr_startV RX0 rfl (by decide) (Nat.le_of_ble_eq_true rfl) ?_
  intro p e s m below meth c A ls Q hx hb hml hown hts hK hP hD hA hS hret hl
  have hl : lv_has ls 4 [(0, .ref h)] := hl
  generalize hH : s.heap = H at hP
  have hS : va_S A s.heap H [] := by rw [← hH]; exact hS
  generalize hlo : ([] : List Loc) = locs at hS ⊢
  refine lv_iconst (v := nI 1) hx hb dX0_buildSubstitution_0 (by decide) ?_
  refine lv_istore_n (lv' := [(1, .int (nI 1)), (0, .ref h)]) hx hb dX0_buildSubstitution_1 rfl hl (by decide) rfl (fun ls hl => ?_)
  refine lv_iconst (v := nI 1) hx hb dX0_buildSubstitution_2 (by decide) ?_
  refine lv_istore_n (lv' := [(2, .int (nI 1)), (1, .int (nI 1)), (0, .ref h)]) hx hb dX0_buildSubstitution_3 rfl hl (by decide) rfl (fun ls hl => ?_)
  refine lv_iconst (v := nI 0) hx hb dX0_buildSubstitution_4 (by decide) ?_
  refine lv_istore_n (lv' := [(3, .int (nI 0)), (2, .int (nI 1)), (1, .int (nI 1)), (0, .ref h)]) hx hb dX0_buildSubstitution_5 rfl hl (by decide) rfl (fun ls hl => ?_)
  have L1 : ∀ (nL1 k : Nat), k + nL1 = 255 → ∀ (H : Heap) (locs : List Loc) (ls : Array Slot), va_P D Cl (XG cA h ad (zbs sub k) (zbr res k) fwd bwd rk tk pre sum st fr mul fal) H → va_S A s.heap H locs → lv_has ls 4 [(3, .int (nI k)), (2, .int (ziv k)), (1, .int (nI (zpw k))), (0, .ref h)] → W p l e (zroom 2) s m ([.ref h] : List Value).toArray below meth c H locs 0 0 Q (F0 m 6 ls []) := by
    intro nL1
    induction nL1 with
    | zero =>
      intro k hL1 H locs ls hP hS hl
      obtain rfl : k = 255 := by omega
      refine lv_iload_n hx hb dX0_buildSubstitution_6 rfl (lv_at hl 0 rfl) ?_
      refine lv_sipush (v := nI 255) hx hb dX0_buildSubstitution_7 (by decide) ?_
      refine zr_ge_t (tgt := 37) hx hb dX0_buildSubstitution_10 (by decide) (by omega) (by omega) ?_
      refine lv_aload_n hx hb dX0_buildSubstitution_37 rfl (lv_at hl 3 rfl) ?_
      refine lv_iconst (v := nI 0) hx hb dX0_buildSubstitution_38 (by decide) ?_
      refine lv_iconst (v := nI 0) hx hb dX0_buildSubstitution_39 (by decide) ?_
      refine zr_callVv (rest := []) ⟨hx, hb, hml, hown, hts⟩ (mX_setSubstitution l D cA h ad (zbs sub 255) (zbr res 255) fwd bwd rk tk pre sum st fr mul fal 0 (by decide) (nI 0)) (cwV 2 hts (lw_V q44 q46 qs1 q30 q47) rfl rfl rfl (by decide +kernel) ⟨Nat.le_of_ble_eq_true rfl, Nat.le_of_ble_eq_true rfl⟩) [] hK hP hD rfl hS hA (ci := 0) (q0 := 0) rfl rfl rfl rfl hl.1 rfl (Nat.le_of_ble_eq_true rfl) dX0_buildSubstitution_40 ⟨Nat.zero_le _, Nat.zero_le _⟩ (fun H locs hP hS => ?_)
      have hP : va_P D Cl (XG cA h ad (upd (zbs sub 255) 0 (nI (zby (zss (nI 0)) 3))) (upd (zbr res 255) (zby (zss (nI 0)) 3) (nI 0)) fwd bwd rk tk pre sum st fr mul fal) H := hP
      have hP := zP (g := zSub) hP 1 rfl (fun j hj => zbs_end _ hj)
      have hP := zP (g := zRes) hP 2 rfl (fun j hj => zbr_end _ hj)
      have hP : va_P D Cl (XG cA h ad zSub zRes fwd bwd rk tk pre sum st fr mul fal) H := hP
      exact hret H locs _ ls hP hS dX0_buildSubstitution_43
    | succ nL1 ihL1 =>
      intro k hL1 H locs ls hP hS hl
      have hltL1 : k < 255 := by omega
      refine lv_iload_n hx hb dX0_buildSubstitution_6 rfl (lv_at hl 0 rfl) ?_
      refine lv_sipush (v := nI 255) hx hb dX0_buildSubstitution_7 (by decide) ?_
      refine zr_ge_f (tgt := 37) hx hb dX0_buildSubstitution_10 (by decide) (by omega) (by omega) ?_
      refine lv_aload_n hx hb dX0_buildSubstitution_13 rfl (lv_at hl 3 rfl) ?_
      refine lv_iload_n hx hb dX0_buildSubstitution_14 rfl (lv_at hl 2 rfl) ?_
      refine lv_iload_n hx hb dX0_buildSubstitution_15 rfl (lv_at hl 1 rfl) ?_
      refine zr_callVv (rest := []) ⟨hx, hb, hml, hown, hts⟩ (mX_setSubstitution l D cA h ad (zbs sub k) (zbr res k) fwd bwd rk tk pre sum st fr mul fal (zpw k) (zpw_lt _) (ziv k)) (cwV 2 hts (lw_V q44 q46 qs1 q30 q47) rfl rfl rfl (by decide +kernel) ⟨Nat.le_of_ble_eq_true rfl, Nat.le_of_ble_eq_true rfl⟩) [] hK hP hD rfl hS hA (ci := 0) (q0 := 0) rfl rfl rfl rfl hl.1 rfl (Nat.le_of_ble_eq_true rfl) dX0_buildSubstitution_16 ⟨Nat.zero_le _, Nat.zero_le _⟩ (fun H locs hP hS => ?_)
      have hP : va_P D Cl (XG cA h ad (upd (zbs sub k) (zpw k) (nI (zby (zss (ziv k)) 3))) (upd (zbr res k) (zby (zss (ziv k)) 3) (nI (zpw k))) fwd bwd rk tk pre sum st fr mul fal) H := hP
      have hP : va_P D Cl (XG cA h ad (zbs sub (k + 1)) (zbr res (k + 1)) fwd bwd rk tk pre sum st fr mul fal) H := hP
      refine lv_iload_n hx hb dX0_buildSubstitution_19 rfl (lv_at hl 2 rfl) ?_
      refine lv_iload_n hx hb dX0_buildSubstitution_20 rfl (lv_at hl 2 rfl) ?_
      refine zr_callS (rest := [.int (nI (zpw k))]) ⟨hx, hb, hml, hown, hts⟩ (mX_twice l D cA (nI (zpw k))) (va_cwS 1 hts (lw_S q48 q49 q30 q50) rfl rfl rfl (by decide +kernel) ⟨Nat.le_of_ble_eq_true rfl, Nat.le_of_ble_eq_true rfl⟩) hK hP hD rfl hS hA rfl hl.1 rfl (Nat.le_of_ble_eq_true rfl) dX0_buildSubstitution_21 ⟨Nat.zero_le _, Nat.zero_le _⟩ (fun H locs hP hS => ?_)
      refine zr_ixor (v := nI (zpw (k + 1))) hx hb dX0_buildSubstitution_24 (zpw_s k) ?_
      refine lv_istore_n (lv' := [(1, .int (nI (zpw (k + 1)))), (3, .int (nI k)), (2, .int (ziv k)), (0, .ref h)]) hx hb dX0_buildSubstitution_25 rfl hl (by decide) rfl (fun ls hl => ?_)
      refine lv_iload_n hx hb dX0_buildSubstitution_26 rfl (lv_at hl 2 rfl) ?_
      refine zr_callS (rest := []) ⟨hx, hb, hml, hown, hts⟩ (mX_timesInverseOfThree l D cA (ziv k)) (va_cwS 1 hts (lw_S q51 q52 q30 q53) rfl rfl rfl (by decide +kernel) ⟨Nat.le_of_ble_eq_true rfl, Nat.le_of_ble_eq_true rfl⟩) hK hP hD rfl hS hA rfl hl.1 rfl (Nat.le_of_ble_eq_true rfl) dX0_buildSubstitution_27 ⟨Nat.zero_le _, Nat.zero_le _⟩ (fun H locs hP hS => ?_)
      refine lv_istore_n (lv' := [(2, .int (zti (ziv k))), (1, .int (nI (zpw (k + 1)))), (3, .int (nI k)), (0, .ref h)]) hx hb dX0_buildSubstitution_30 rfl hl (by decide) rfl (fun ls hl => ?_)
      refine lv_iinc (v := nI (k + 1)) (lv' := [(3, .int (nI (k + 1))), (2, .int (zti (ziv k))), (1, .int (nI (zpw (k + 1)))), (0, .ref h)]) hx hb dX0_buildSubstitution_31 hl (k := 2) rfl (zinc _) (by decide) rfl (fun ls hl => ?_)
      refine lv_goto (tgt := 6) hx hb dX0_buildSubstitution_34 (by decide) ?_
      exact ihL1 (k + 1) (by omega) H locs ls hP hS (lv_sub hl [0, 1, 2, 3] rfl)
  exact L1 255 0 (by omega) H locs ls hP hS (lv_sub hl [0, 1, 2, 3] rfl)
set_option maxHeartbeats 4000000 in
/-- BlockSealer.buildMixing  -/
theorem mX_buildMixing (l : Launch) (D : va_G) (cA : ClassId) (h : Nat) (ad : Nat → Nat) (sub res fwd bwd rk tk pre sum st fr mul fal : Nat → Int32) : MetW l D cA yX0_buildMixing (ws_ yX0_buildMixing cX0_buildMixing 8 none) (zroom 1) ([.ref h] : List Value) (XG cA h ad sub res fwd bwd rk tk pre sum st fr mul fal) (XG cA h ad sub res (fun x => zmF (sub x)) (fun x => zmB (res x)) rk tk pre sum st fr mul fal) none := by
  refine zr_startV RX0 rfl (by decide) (Nat.le_of_ble_eq_true rfl) ?_
  intro p e s m below meth c A ls Q hx hb hml hown hts hK hP hD hA hS hret hl
  have hl : lv_has ls 8 [(0, .ref h)] := hl
  generalize hH : s.heap = H at hP
  have hS : va_S A s.heap H [] := by rw [← hH]; exact hS
  generalize hlo : ([] : List Loc) = locs at hS ⊢
  refine lv_iconst (v := nI 0) hx hb dX0_buildMixing_0 (by decide) ?_
  refine lv_istore_n (lv' := [(1, .int (nI 0)), (0, .ref h)]) hx hb dX0_buildMixing_1 rfl hl (by decide) rfl (fun ls hl => ?_)
  have L1 : ∀ (nL1 k : Nat), k + nL1 = 256 → ∀ (H : Heap) (locs : List Loc) (ls : Array Slot), va_P D Cl (XG cA h ad sub res (zfil fwd (fun x => zmF (sub x)) k) (zfil bwd (fun x => zmB (res x)) k) rk tk pre sum st fr mul fal) H → va_S A s.heap H locs → lv_has ls 8 [(1, .int (nI k)), (0, .ref h)] → W p l e (zroom 1) s m ([.ref h] : List Value).toArray below meth c H locs 0 0 Q (F0 m 2 ls []) := by
    intro nL1
    induction nL1 with
    | zero =>
      intro k hL1 H locs ls hP hS hl
      obtain rfl : k = 256 := by omega
      refine lv_iload_n hx hb dX0_buildMixing_2 rfl (lv_at hl 0 rfl) ?_
      refine lv_sipush (v := nI 256) hx hb dX0_buildMixing_3 (by decide) ?_
      refine zr_ge_t (tgt := 127) hx hb dX0_buildMixing_6 (by decide) (by omega) (by omega) ?_
      have hP := zP (g := (fun x => zmF (sub x))) hP 3 rfl (fun j hj => zfil_lt hj)
      have hP := zP (g := (fun x => zmB (res x))) hP 4 rfl (fun j hj => zfil_lt hj)
      have hP : va_P D Cl (XG cA h ad sub res (fun x => zmF (sub x)) (fun x => zmB (res x)) rk tk pre sum st fr mul fal) H := hP
      exact hret H locs _ ls hP hS dX0_buildMixing_127
    | succ nL1 ihL1 =>
      intro k hL1 H locs ls hP hS hl
      have hltL1 : k < 256 := by omega
      refine lv_iload_n hx hb dX0_buildMixing_2 rfl (lv_at hl 0 rfl) ?_
      refine lv_sipush (v := nI 256) hx hb dX0_buildMixing_3 (by decide) ?_
      refine zr_ge_f (tgt := 127) hx hb dX0_buildMixing_6 (by decide) (by omega) (by omega) ?_
      refine lv_aload_n hx hb dX0_buildMixing_9 rfl (lv_at hl 1 rfl) ?_
      refine zr_get (T := TX0) (N := 12) hx hb hts in_X0 hown hK hP 0 rfl rfl 0 (by decide) q98 rfl dX0_buildMixing_10 ?_
      refine lv_iload_n hx hb dX0_buildMixing_13 rfl (lv_at hl 0 rfl) ?_
      refine zr_iald (v := sub k) hx hb hK hP 1 0 rfl rfl k rfl (by omega) (by decide) rfl dX0_buildMixing_14 ?_
      refine lv_istore_n (lv' := [(2, .int (sub k)), (1, .int (nI k)), (0, .ref h)]) hx hb dX0_buildMixing_15 rfl hl (by decide) rfl (fun ls hl => ?_)
      refine lv_iload_n hx hb dX0_buildMixing_16 rfl (lv_at hl 0 rfl) ?_
      refine zr_callS (rest := []) ⟨hx, hb, hml, hown, hts⟩ (mX_twice l D cA (sub k)) (va_cwS 1 hts (lw_S q48 q49 q30 q50) rfl rfl rfl (by decide +kernel) ⟨Nat.le_of_ble_eq_true rfl, Nat.le_of_ble_eq_true rfl⟩) hK hP hD rfl hS hA rfl hl.1 rfl (Nat.le_of_ble_eq_true rfl) dX0_buildMixing_17 ⟨Nat.zero_le _, Nat.zero_le _⟩ (fun H locs hP hS => ?_)
      refine lv_istore_n (lv' := [(3, .int (ztw (sub k))), (2, .int (sub k)), (1, .int (nI k)), (0, .ref h)]) hx hb dX0_buildMixing_20 rfl hl (by decide) rfl (fun ls hl => ?_)
      refine lv_aload_n hx hb dX0_buildMixing_21 rfl (lv_at hl 3 rfl) ?_
      refine zr_get (T := TX0) (N := 12) hx hb hts in_X0 hown hK hP 0 rfl rfl 2 (by decide) q100 rfl dX0_buildMixing_22 ?_
      refine lv_iload_n hx hb dX0_buildMixing_25 rfl (lv_at hl 2 rfl) ?_
      refine lv_iload_n hx hb dX0_buildMixing_26 rfl (lv_at hl 0 rfl) ?_
      refine lv_bipush (v := nI 24) hx hb dX0_buildMixing_27 (by decide) ?_
      refine zr_ishl (v := zsl (ztw (sub k)) 24) hx hb dX0_buildMixing_29 rfl ?_
      refine lv_iload_n hx hb dX0_buildMixing_30 rfl (lv_at hl 1 rfl) ?_
      refine lv_bipush (v := nI 16) hx hb dX0_buildMixing_31 (by decide) ?_
      refine zr_ishl (v := zsl (sub k) 16) hx hb dX0_buildMixing_33 rfl ?_
      refine zr_ior (v := (zsl (ztw (sub k)) 24) ||| (zsl (sub k) 16)) hx hb dX0_buildMixing_34 rfl ?_
      refine lv_iload_n hx hb dX0_buildMixing_35 rfl (lv_at hl 1 rfl) ?_
      refine lv_bipush (v := nI 8) hx hb dX0_buildMixing_36 (by decide) ?_
      refine zr_ishl (v := zsl (sub k) 8) hx hb dX0_buildMixing_38 rfl ?_
      refine zr_ior (v := ((zsl (ztw (sub k)) 24) ||| (zsl (sub k) 16)) ||| (zsl (sub k) 8)) hx hb dX0_buildMixing_39 rfl ?_
      refine lv_iload_n hx hb dX0_buildMixing_40 rfl (lv_at hl 0 rfl) ?_
      refine lv_iload_n hx hb dX0_buildMixing_41 rfl (lv_at hl 1 rfl) ?_
      refine zr_ixor (v := (ztw (sub k)) ^^^ (sub k)) hx hb dX0_buildMixing_42 rfl ?_
      refine zr_ior (v := (((zsl (ztw (sub k)) 24) ||| (zsl (sub k) 16)) ||| (zsl (sub k) 8)) ||| ((ztw (sub k)) ^^^ (sub k))) hx hb dX0_buildMixing_43 rfl ?_
      refine zr_iast (f' := zfil fwd (fun x => zmF (sub x)) (k + 1)) hx hb hK hP hD rfl hS 3 0 rfl rfl k rfl (by omega) (by decide) (zfil_s rfl) dX0_buildMixing_44 (fun H locs hP hS => ?_)
      have hP : va_P D Cl (XG cA h ad sub res (zfil fwd (fun x => zmF (sub x)) (k + 1)) (zfil bwd (fun x => zmB (res x)) k) rk tk pre sum st fr mul fal) H := hP
      refine lv_aload_n hx hb dX0_buildMixing_45 rfl (lv_at hl 3 rfl) ?_
      refine zr_get (T := TX0) (N := 12) hx hb hts in_X0 hown hK hP 0 rfl rfl 1 (by decide) q99 rfl dX0_buildMixing_46 ?_
      refine lv_iload_n hx hb dX0_buildMixing_49 rfl (lv_at hl 2 rfl) ?_
      refine zr_iald (v := res k) hx hb hK hP 2 0 rfl rfl k rfl (by omega) (by decide) rfl dX0_buildMixing_50 ?_
      refine lv_istore (lv' := [(4, .int (res k)), (3, .int (ztw (sub k))), (2, .int (sub k)), (1, .int (nI k)), (0, .ref h)]) hx hb dX0_buildMixing_51 hl (by decide) rfl (fun ls hl => ?_)
      refine lv_iload hx hb dX0_buildMixing_53 (lv_at hl 0 rfl) ?_
      refine zr_callS (rest := []) ⟨hx, hb, hml, hown, hts⟩ (mX_twice l D cA (res k)) (va_cwS 1 hts (lw_S q48 q49 q30 q50) rfl rfl rfl (by decide +kernel) ⟨Nat.le_of_ble_eq_true rfl, Nat.le_of_ble_eq_true rfl⟩) hK hP hD rfl hS hA rfl hl.1 rfl (Nat.le_of_ble_eq_true rfl) dX0_buildMixing_55 ⟨Nat.zero_le _, Nat.zero_le _⟩ (fun H locs hP hS => ?_)
      refine lv_istore (lv' := [(5, .int (ztw (res k))), (4, .int (res k)), (3, .int (ztw (sub k))), (2, .int (sub k)), (1, .int (nI k)), (0, .ref h)]) hx hb dX0_buildMixing_58 hl (by decide) rfl (fun ls hl => ?_)
      refine lv_iload hx hb dX0_buildMixing_60 (lv_at hl 0 rfl) ?_
      refine zr_callS (rest := []) ⟨hx, hb, hml, hown, hts⟩ (mX_twice l D cA (ztw (res k))) (va_cwS 1 hts (lw_S q48 q49 q30 q50) rfl rfl rfl (by decide +kernel) ⟨Nat.le_of_ble_eq_true rfl, Nat.le_of_ble_eq_true rfl⟩) hK hP hD rfl hS hA rfl hl.1 rfl (Nat.le_of_ble_eq_true rfl) dX0_buildMixing_62 ⟨Nat.zero_le _, Nat.zero_le _⟩ (fun H locs hP hS => ?_)
      refine lv_istore (lv' := [(6, .int (ztw (ztw (res k)))), (5, .int (ztw (res k))), (4, .int (res k)), (3, .int (ztw (sub k))), (2, .int (sub k)), (1, .int (nI k)), (0, .ref h)]) hx hb dX0_buildMixing_65 hl (by decide) rfl (fun ls hl => ?_)
      refine lv_iload hx hb dX0_buildMixing_67 (lv_at hl 0 rfl) ?_
      refine zr_callS (rest := []) ⟨hx, hb, hml, hown, hts⟩ (mX_twice l D cA (ztw (ztw (res k)))) (va_cwS 1 hts (lw_S q48 q49 q30 q50) rfl rfl rfl (by decide +kernel) ⟨Nat.le_of_ble_eq_true rfl, Nat.le_of_ble_eq_true rfl⟩) hK hP hD rfl hS hA rfl hl.1 rfl (Nat.le_of_ble_eq_true rfl) dX0_buildMixing_69 ⟨Nat.zero_le _, Nat.zero_le _⟩ (fun H locs hP hS => ?_)
      refine lv_istore (lv' := [(7, .int (ztw (ztw (ztw (res k))))), (6, .int (ztw (ztw (res k)))), (5, .int (ztw (res k))), (4, .int (res k)), (3, .int (ztw (sub k))), (2, .int (sub k)), (1, .int (nI k)), (0, .ref h)]) hx hb dX0_buildMixing_72 hl (by decide) rfl (fun ls hl => ?_)
      refine lv_aload_n hx hb dX0_buildMixing_74 rfl (lv_at hl 7 rfl) ?_
      refine zr_get (T := TX0) (N := 12) hx hb hts in_X0 hown hK hP 0 rfl rfl 3 (by decide) q101 rfl dX0_buildMixing_75 ?_
      refine lv_iload_n hx hb dX0_buildMixing_78 rfl (lv_at hl 6 rfl) ?_
      refine lv_iload hx hb dX0_buildMixing_79 (lv_at hl 0 rfl) ?_
      refine lv_iload hx hb dX0_buildMixing_81 (lv_at hl 1 rfl) ?_
      refine zr_ixor (v := (ztw (ztw (ztw (res k)))) ^^^ (ztw (ztw (res k)))) hx hb dX0_buildMixing_83 rfl ?_
      refine lv_iload hx hb dX0_buildMixing_84 (lv_at hl 2 rfl) ?_
      refine zr_ixor (v := ((ztw (ztw (ztw (res k)))) ^^^ (ztw (ztw (res k)))) ^^^ (ztw (res k))) hx hb dX0_buildMixing_86 rfl ?_
      refine lv_bipush (v := nI 24) hx hb dX0_buildMixing_87 (by decide) ?_
      refine zr_ishl (v := zsl (((ztw (ztw (ztw (res k)))) ^^^ (ztw (ztw (res k)))) ^^^ (ztw (res k))) 24) hx hb dX0_buildMixing_89 rfl ?_
      refine lv_iload hx hb dX0_buildMixing_90 (lv_at hl 0 rfl) ?_
      refine lv_iload hx hb dX0_buildMixing_92 (lv_at hl 3 rfl) ?_
      refine zr_ixor (v := (ztw (ztw (ztw (res k)))) ^^^ (res k)) hx hb dX0_buildMixing_94 rfl ?_
      refine lv_bipush (v := nI 16) hx hb dX0_buildMixing_95 (by decide) ?_
      refine zr_ishl (v := zsl ((ztw (ztw (ztw (res k)))) ^^^ (res k)) 16) hx hb dX0_buildMixing_97 rfl ?_
      refine zr_ior (v := (zsl (((ztw (ztw (ztw (res k)))) ^^^ (ztw (ztw (res k)))) ^^^ (ztw (res k))) 24) ||| (zsl ((ztw (ztw (ztw (res k)))) ^^^ (res k)) 16)) hx hb dX0_buildMixing_98 rfl ?_
      refine lv_iload hx hb dX0_buildMixing_99 (lv_at hl 0 rfl) ?_
      refine lv_iload hx hb dX0_buildMixing_101 (lv_at hl 1 rfl) ?_
      refine zr_ixor (v := (ztw (ztw (ztw (res k)))) ^^^ (ztw (ztw (res k)))) hx hb dX0_buildMixing_103 rfl ?_
      refine lv_iload hx hb dX0_buildMixing_104 (lv_at hl 3 rfl) ?_
      refine zr_ixor (v := ((ztw (ztw (ztw (res k)))) ^^^ (ztw (ztw (res k)))) ^^^ (res k)) hx hb dX0_buildMixing_106 rfl ?_
      refine lv_bipush (v := nI 8) hx hb dX0_buildMixing_107 (by decide) ?_
      refine zr_ishl (v := zsl (((ztw (ztw (ztw (res k)))) ^^^ (ztw (ztw (res k)))) ^^^ (res k)) 8) hx hb dX0_buildMixing_109 rfl ?_
      refine zr_ior (v := ((zsl (((ztw (ztw (ztw (res k)))) ^^^ (ztw (ztw (res k)))) ^^^ (ztw (res k))) 24) ||| (zsl ((ztw (ztw (ztw (res k)))) ^^^ (res k)) 16)) ||| (zsl (((ztw (ztw (ztw (res k)))) ^^^ (ztw (ztw (res k)))) ^^^ (res k)) 8)) hx hb dX0_buildMixing_110 rfl ?_
      refine lv_iload hx hb dX0_buildMixing_111 (lv_at hl 0 rfl) ?_
      refine lv_iload hx hb dX0_buildMixing_113 (lv_at hl 2 rfl) ?_
      refine zr_ixor (v := (ztw (ztw (ztw (res k)))) ^^^ (ztw (res k))) hx hb dX0_buildMixing_115 rfl ?_
      refine lv_iload hx hb dX0_buildMixing_116 (lv_at hl 3 rfl) ?_
      refine zr_ixor (v := ((ztw (ztw (ztw (res k)))) ^^^ (ztw (res k))) ^^^ (res k)) hx hb dX0_buildMixing_118 rfl ?_
      refine zr_ior (v := (((zsl (((ztw (ztw (ztw (res k)))) ^^^ (ztw (ztw (res k)))) ^^^ (ztw (res k))) 24) ||| (zsl ((ztw (ztw (ztw (res k)))) ^^^ (res k)) 16)) ||| (zsl (((ztw (ztw (ztw (res k)))) ^^^ (ztw (ztw (res k)))) ^^^ (res k)) 8)) ||| (((ztw (ztw (ztw (res k)))) ^^^ (ztw (res k))) ^^^ (res k))) hx hb dX0_buildMixing_119 rfl ?_
      refine zr_iast (f' := zfil bwd (fun x => zmB (res x)) (k + 1)) hx hb hK hP hD rfl hS 4 0 rfl rfl k rfl (by omega) (by decide) (zfil_s rfl) dX0_buildMixing_120 (fun H locs hP hS => ?_)
      have hP : va_P D Cl (XG cA h ad sub res (zfil fwd (fun x => zmF (sub x)) (k + 1)) (zfil bwd (fun x => zmB (res x)) (k + 1)) rk tk pre sum st fr mul fal) H := hP
      refine lv_iinc (v := nI (k + 1)) (lv' := [(1, .int (nI (k + 1))), (7, .int (ztw (ztw (ztw (res k))))), (6, .int (ztw (ztw (res k)))), (5, .int (ztw (res k))), (4, .int (res k)), (3, .int (ztw (sub k))), (2, .int (sub k)), (0, .ref h)]) hx hb dX0_buildMixing_121 hl (k := 6) rfl (zinc _) (by decide) rfl (fun ls hl => ?_)
      refine lv_goto (tgt := 2) hx hb dX0_buildMixing_124 (by decide) ?_
      exact ihL1 (k + 1) (by omega) H locs ls hP hS (lv_sub hl [0, 7] rfl)
  exact L1 256 0 (by omega) H locs ls (by rw [zfil_0, zfil_0]; exact hP) hS (lv_sub hl [0, 1] rfl)
set_option maxHeartbeats 4000000 in
/-- BlockSealer.buildFallen  -/
theorem mX_buildFallen (l : Launch) (D : va_G) (cA : ClassId) (h : Nat) (ad : Nat → Nat) (sub res fwd bwd rk tk pre sum st fr mul fal : Nat → Int32) : MetW l D cA yX0_buildFallen (ws_ yX0_buildFallen cX0_buildFallen 4 none) (zroom 0) ([.ref h] : List Value) (XG cA h ad sub res fwd bwd rk tk pre sum st fr mul fal) (XG cA h ad sub res fwd bwd rk tk pre sum st fr mul zFal) none := by
  refine zr_startV RX0 rfl (by decide) (Nat.le_of_ble_eq_true rfl) ?_
  intro p e s m below meth c A ls Q hx hb hml hown hts hK hP hD hA hS hret hl
  have hl : lv_has ls 4 [(0, .ref h)] := hl
  generalize hH : s.heap = H at hP
  have hS : va_S A s.heap H [] := by rw [← hH]; exact hS
  generalize hlo : ([] : List Loc) = locs at hS ⊢
  refine lv_iconst (v := nI 0) hx hb dX0_buildFallen_0 (by decide) ?_
  refine lv_istore_n (lv' := [(1, .int (nI 0)), (0, .ref h)]) hx hb dX0_buildFallen_1 rfl hl (by decide) rfl (fun ls hl => ?_)
  have L1 : ∀ (nL1 b : Nat), b + nL1 = 16 → ∀ (H : Heap) (locs : List Loc) (ls : Array Slot), va_P D Cl (XG cA h ad sub res fwd bwd rk tk pre sum st fr mul (zfil fal zFal b)) H → va_S A s.heap H locs → lv_has ls 4 [(1, .int (nI b)), (0, .ref h)] → W p l e (zroom 0) s m ([.ref h] : List Value).toArray below meth c H locs 0 0 Q (F0 m 2 ls []) := by
    intro nL1
    induction nL1 with
    | zero =>
      intro b hL1 H locs ls hP hS hl
      obtain rfl : b = 16 := by omega
      refine lv_iload_n hx hb dX0_buildFallen_2 rfl (lv_at hl 0 rfl) ?_
      refine lv_bipush (v := nI 16) hx hb dX0_buildFallen_3 (by decide) ?_
      refine zr_ge_t (tgt := 55) hx hb dX0_buildFallen_5 (by decide) (by omega) (by omega) ?_
      have hP := zP (g := zFal) hP 12 rfl (fun j hj => zfil_lt hj)
      have hP : va_P D Cl (XG cA h ad sub res fwd bwd rk tk pre sum st fr mul zFal) H := hP
      exact hret H locs _ ls hP hS dX0_buildFallen_55
    | succ nL1 ihL1 =>
      intro b hL1 H locs ls hP hS hl
      have hltL1 : b < 16 := by omega
      refine lv_iload_n hx hb dX0_buildFallen_2 rfl (lv_at hl 0 rfl) ?_
      refine lv_bipush (v := nI 16) hx hb dX0_buildFallen_3 (by decide) ?_
      refine zr_ge_f (tgt := 55) hx hb dX0_buildFallen_5 (by decide) (by omega) (by omega) ?_
      refine lv_iconst (v := nI 0) hx hb dX0_buildFallen_8 (by decide) ?_
      refine lv_istore_n (lv' := [(2, .int (nI 0)), (1, .int (nI b)), (0, .ref h)]) hx hb dX0_buildFallen_9 rfl hl (by decide) rfl (fun ls hl => ?_)
      refine lv_iconst (v := nI 0) hx hb dX0_buildFallen_10 (by decide) ?_
      refine lv_istore_n (lv' := [(3, .int (nI 0)), (2, .int (nI 0)), (1, .int (nI b)), (0, .ref h)]) hx hb dX0_buildFallen_11 rfl hl (by decide) rfl (fun ls hl => ?_)
      have L2 : ∀ (nL2 k : Nat), k + nL2 = 4 → ∀ (H : Heap) (locs : List Loc) (ls : Array Slot), va_P D Cl (XG cA h ad sub res fwd bwd rk tk pre sum st fr mul (zfil fal zFal b)) H → va_S A s.heap H locs → lv_has ls 4 [(3, .int (nI k)), (2, .int (zfb b k)), (1, .int (nI b)), (0, .ref h)] → W p l e (zroom 0) s m ([.ref h] : List Value).toArray below meth c H locs 0 0 Q (F0 m 12 ls []) := by
        intro nL2
        induction nL2 with
        | zero =>
          intro k hL2 H locs ls hP hS hl
          obtain rfl : k = 4 := by omega
          refine lv_iload_n hx hb dX0_buildFallen_12 rfl (lv_at hl 0 rfl) ?_
          refine lv_iconst (v := nI 4) hx hb dX0_buildFallen_13 (by decide) ?_
          refine zr_ge_t (tgt := 42) hx hb dX0_buildFallen_14 (by decide) (by omega) (by omega) ?_
          refine lv_aload_n hx hb dX0_buildFallen_42 rfl (lv_at hl 3 rfl) ?_
          refine zr_get (T := TX0) (N := 12) hx hb hts in_X0 hown hK hP 0 rfl rfl 11 (by decide) q109 rfl dX0_buildFallen_43 ?_
          refine lv_iload_n hx hb dX0_buildFallen_46 rfl (lv_at hl 2 rfl) ?_
          refine lv_iload_n hx hb dX0_buildFallen_47 rfl (lv_at hl 1 rfl) ?_
          refine zr_iast (f' := zfil fal zFal (b + 1)) hx hb hK hP hD rfl hS 12 0 rfl rfl b rfl (by omega) (by decide) (zfil_s rfl) dX0_buildFallen_48 (fun H locs hP hS => ?_)
          have hP : va_P D Cl (XG cA h ad sub res fwd bwd rk tk pre sum st fr mul (zfil fal zFal (b + 1))) H := hP
          refine lv_iinc (v := nI (b + 1)) (lv' := [(1, .int (nI (b + 1))), (3, .int (nI 4)), (2, .int (zfb b 4)), (0, .ref h)]) hx hb dX0_buildFallen_49 hl (k := 2) rfl (zinc _) (by decide) rfl (fun ls hl => ?_)
          refine lv_goto (tgt := 2) hx hb dX0_buildFallen_52 (by decide) ?_
          exact ihL1 (b + 1) (by omega) H locs ls hP hS (lv_sub hl [0, 3] rfl)
        | succ nL2 ihL2 =>
          intro k hL2 H locs ls hP hS hl
          have hltL2 : k < 4 := by omega
          refine lv_iload_n hx hb dX0_buildFallen_12 rfl (lv_at hl 0 rfl) ?_
          refine lv_iconst (v := nI 4) hx hb dX0_buildFallen_13 (by decide) ?_
          refine zr_ge_f (tgt := 42) hx hb dX0_buildFallen_14 (by decide) (by omega) (by omega) ?_
          refine lv_iload_n hx hb dX0_buildFallen_17 rfl (lv_at hl 1 rfl) ?_
          refine lv_iconst (v := nI 1) hx hb dX0_buildFallen_18 (by decide) ?_
          refine zr_iushr (v := zus (zfb b k) 1) hx hb dX0_buildFallen_19 rfl ?_
          refine lv_iload_n hx hb dX0_buildFallen_20 rfl (lv_at hl 2 rfl) ?_
          refine lv_iload_n hx hb dX0_buildFallen_21 rfl (lv_at hl 0 rfl) ?_
          refine zr_iushr (v := zus (nI b) k) hx hb dX0_buildFallen_22 rfl ?_
          refine lv_iconst (v := nI 1) hx hb dX0_buildFallen_23 (by decide) ?_
          refine zr_iand (v := nI (zlo (zus (nI b) k) 2)) hx hb dX0_buildFallen_24 (zl1 _) ?_
          refine lv_if_eq (tgt := 33) hx hb dX0_buildFallen_25 (by decide) (fun hc => ?_) (fun hc => ?_)
          · skip
            refine lv_iconst (v := nI 0) hx hb dX0_buildFallen_33 (by decide) ?_
            refine zr_ixor (v := zfb b (k + 1)) hx hb dX0_buildFallen_34 (zfb_t hc) ?_
            refine lv_istore_n (lv' := [(2, .int (zfb b (k + 1))), (3, .int (nI k)), (1, .int (nI b)), (0, .ref h)]) hx hb dX0_buildFallen_35 rfl hl (by decide) rfl (fun ls hl => ?_)
            refine lv_iinc (v := nI (k + 1)) (lv' := [(3, .int (nI (k + 1))), (2, .int (zfb b (k + 1))), (1, .int (nI b)), (0, .ref h)]) hx hb dX0_buildFallen_36 hl (k := 1) rfl (zinc _) (by decide) rfl (fun ls hl => ?_)
            refine lv_goto (tgt := 12) hx hb dX0_buildFallen_39 (by decide) ?_
            exact ihL2 (k + 1) (by omega) H locs ls hP hS (lv_sub hl [0, 1, 2, 3] rfl)
          · skip
            refine lv_ldc hx hb hown (hts _ q62) dX0_buildFallen_28 ?_
            refine lv_goto (tgt := 34) hx hb dX0_buildFallen_30 (by decide) ?_
            refine zr_ixor (v := zfb b (k + 1)) hx hb dX0_buildFallen_34 (zfb_f hc) ?_
            refine lv_istore_n (lv' := [(2, .int (zfb b (k + 1))), (3, .int (nI k)), (1, .int (nI b)), (0, .ref h)]) hx hb dX0_buildFallen_35 rfl hl (by decide) rfl (fun ls hl => ?_)
            refine lv_iinc (v := nI (k + 1)) (lv' := [(3, .int (nI (k + 1))), (2, .int (zfb b (k + 1))), (1, .int (nI b)), (0, .ref h)]) hx hb dX0_buildFallen_36 hl (k := 1) rfl (zinc _) (by decide) rfl (fun ls hl => ?_)
            refine lv_goto (tgt := 12) hx hb dX0_buildFallen_39 (by decide) ?_
            exact ihL2 (k + 1) (by omega) H locs ls hP hS (lv_sub hl [0, 1, 2, 3] rfl)
      exact L2 4 0 (by omega) H locs ls hP hS (lv_sub hl [0, 1, 2, 3] rfl)
  exact L1 16 0 (by omega) H locs ls (by rw [zfil_0]; exact hP) hS (lv_sub hl [0, 1] rfl)
end
section
set_option maxRecDepth 100000
set_option maxHeartbeats 8000000 in
/-- BlockSealer(): the arrays are made, the tables built, the key is all zeros -/
theorem mX_init (l : Launch) (D : va_G) (h : Nat) (sz : Nat) : Met l yX0_init (ws_ yX0_init cX0_init 1 none) ({ frames := 5, cells := 12, slots := 1208, locals := 200 } : Room) (va_Pc [.ref h] (fun U => U.heap.size = sz ∧ va_P D Cl [(h, .inr (0, [.null, .null, .null, .null, .null, .null, .null, .null, .null, .null, .null, .null]))] U.heap ∧ va_K D Cl [] U ∧ va_D (fun _ => True) [(h, .inr (0, [.null, .null, .null, .null, .null, .null, .null, .null, .null, .null, .null, .null]))])) (va_Qv (fun (_ : ClassId × (Nat → Nat)) => True) (fun u t => va_P D Cl (XG u.1 h u.2 zSub zRes zFwd zBwd (zkx zsw ztw (zk4 (fun _ => 0) (nI 0) (nI 0) (nI 0) (nI 0)) 40).1 (zTK (zkx zsw ztw (zk4 (fun _ => 0) (nI 0) (nI 0) (nI 0) (nI 0)) 40).1) (fun _ => 0) (fun _ => 0) (zmo (zmo (zmo (zmo (zH (zkx zsw ztw (zk4 (fun _ => 0) (nI 0) (nI 0) (nI 0) (nI 0)) 40).1))))) (zH (zkx zsw ztw (zk4 (fun _ => 0) (nI 0) (nI 0) (nI 0) (nI 0)) 40).1) (zmm (zkx zsw ztw (zk4 (fun _ => 0) (nI 0) (nI 0) (nI 0) (nI 0)) 40).1 (fun _ => 0)) zFal) t.heap ∧ va_K D Cl [(u.1, .int)] t ∧ va_D (va_A [(h, .inr (0, [.null, .null, .null, .null, .null, .null, .null, .null, .null, .null, .null, .null]))] sz) (XG u.1 h u.2 zSub zRes zFwd zBwd (zkx zsw ztw (zk4 (fun _ => 0) (nI 0) (nI 0) (nI 0) (nI 0)) 40).1 (zTK (zkx zsw ztw (zk4 (fun _ => 0) (nI 0) (nI 0) (nI 0) (nI 0)) 40).1) (fun _ => 0) (fun _ => 0) (zmo (zmo (zmo (zmo (zH (zkx zsw ztw (zk4 (fun _ => 0) (nI 0) (nI 0) (nI 0) (nI 0)) 40).1))))) (zH (zkx zsw ztw (zk4 (fun _ => 0) (nI 0) (nI 0) (nI 0) (nI 0)) 40).1) (zmm (zkx zsw ztw (zk4 (fun _ => 0) (nI 0) (nI 0) (nI 0) (nI 0)) 40).1 (fun _ => 0)) zFal)) (va_A [(h, .inr (0, [.null, .null, .null, .null, .null, .null, .null, .null, .null, .null, .null, .null]))] sz)) 12 1208 (va_A [(h, .inr (0, [.null, .null, .null, .null, .null, .null, .null, .null, .null, .null, .null, .null]))] sz) := by
  refine Met.ofW (cc := cX0_init) (maxL := 1) (ret := none) (by decide) rfl ?_
  intro p e s m args below meth c s₁ B hml hv
  obtain ⟨rfl, hsz, hP, hK, hD0⟩ := hv
  have hx := B.exec
  have hb := B.bytes
  have hr := B.returns
  have hts := atoms_spec (ws := ws_ yX0_init cX0_init 1 none) B.pre
  have hts : ∀ w ∈ lw_all, w.before _ s = true := fun w h => hts w (List.mem_cons_of_mem _ h)
  have hown : s.vm.findClass RX0 = some m.cls := findClass_of_methodNamed B.named
  have hlocks := B.notSynchronized
  have hin : meth.name = "<init>" := (name_of_methodNamed B.named B.method).1
  subst hsz
  have hD := hD0.self (sz := s.heap.size)
  generalize hAe : va_A [(h, .inr (0, [.null, .null, .null, .null, .null, .null, .null, .null, .null, .null, .null, .null]))] s.heap.size = A at hD ⊢
  have hA : ∀ q : Nat, s.heap.size ≤ q → A q := fun q h => by rw [← hAe]; exact Or.inr h
  have hS : va_S A s.heap s.heap [] := va_S.rf
  have hl := lv_entry ([.ref h]) (n := 1) (Nat.le_of_ble_eq_true rfl)
  rw [lg_entry_eq]
  generalize (lg_sl ([.ref h]) ++ List.replicate (1 - (lg_sl ([.ref h])).length) Slot.unset).toArray = ls at hl ⊢
  have hl : lv_has ls 1 [(0, .ref h)] := hl
  refine lv_aload_n hx hb dX0_init_0 rfl (lv_at hl 0 rfl) ?_
  refine W.objInit hx hb hown (hts _ q37) (hts _ q38) (hts _ q39) rfl (by rw [hml]; exact hl.1) rfl dX0_init_1 (Nat.le_of_ble_eq_true rfl) (Nat.le_of_ble_eq_true rfl) ?_
  refine W.eq (g2 := F0 m 4 ls []) rfl ?_
  refine lv_aload_n hx hb dX0_init_4 rfl (lv_at hl 0 rfl) ?_
  refine lv_sipush (v := nI 256) hx hb dX0_init_5 (by decide) ?_
  refine va_newa (atype := .int) (ty := .int) (a0 := (256, .inl (fun _ => 0))) (N' := 256) hx hb (hts _ q135) rfl hK hP hD hS hA (fun _ => rfl) (by decide) (by decide) (by decide) (Nat.le_of_ble_eq_true rfl) (Nat.le_of_ble_eq_true rfl) dX0_init_8 (fun q0 cA H hK hP hD hS => ?_)
  refine W.widen (k := 1) (n := 256) (by decide) (by decide) ?_
  have hK : va_K D Cl [(cA, .int)] s := hK
  have hP : va_P D Cl [(h, .inr (0, [.null, .null, .null, .null, .null, .null, .null, .null, .null, .null, .null, .null])), (q0, .inl (cA, 256, .inl (fun _ => 0)))] H := hP
  have hD : va_D A [(h, .inr (0, [.null, .null, .null, .null, .null, .null, .null, .null, .null, .null, .null, .null])), (q0, .inl (cA, 256, .inl (fun _ => 0)))] := hD
  refine va_putF (D := D) (ci := 0) (v := .ref q0) (ty := .array .int) (C := RX0) (T := TX0) (N := 12) hx hb hts in_X0 tyX0 tyX0_ok nmX0 hown hK hP hD hS 0 rfl rfl 0 (by decide) (hts _ q98) (fun _ h9 => h9) rfl hin rfl (by decide +kernel) rfl rfl (Nat.le_of_ble_eq_true rfl) dX0_init_10 (fun H locs hP hD hS => ?_)
  have hP : va_P D Cl [(h, .inr (0, [.ref q0, .null, .null, .null, .null, .null, .null, .null, .null, .null, .null, .null])), (q0, .inl (cA, 256, .inl (fun _ => 0)))] H := hP
  have hD : va_D A [(h, .inr (0, [.ref q0, .null, .null, .null, .null, .null, .null, .null, .null, .null, .null, .null])), (q0, .inl (cA, 256, .inl (fun _ => 0)))] := hD
  refine lv_aload_n hx hb dX0_init_13 rfl (lv_at hl 0 rfl) ?_
  refine lv_sipush (v := nI 256) hx hb dX0_init_14 (by decide) ?_
  refine va_newa (atype := .int) (ty := .int) (a0 := (256, .inl (fun _ => 0))) (N' := 256) hx hb (hts _ q135) rfl hK hP hD hS hA (fun _ => rfl) (by decide) (by decide) (by decide) (Nat.le_of_ble_eq_true rfl) (Nat.le_of_ble_eq_true rfl) dX0_init_17 (fun q1 cB H hK hP hD hS => ?_)
  refine W.widen (k := 2) (n := 512) (by decide) (by decide) ?_
  have hK : va_K D Cl [(cA, .int), (cB, .int)] s := hK
  have ecb : cB = cA := Option.some.inj ((hK.2 1 _ rfl).2.symm.trans (hK.2 0 _ rfl).2)
  rw [ecb] at hP hD
  have hK : va_K D Cl [(cA, .int)] s := hK.sub [0] rfl
  have hP : va_P D Cl [(h, .inr (0, [.ref q0, .null, .null, .null, .null, .null, .null, .null, .null, .null, .null, .null])), (q0, .inl (cA, 256, .inl (fun _ => 0))), (q1, .inl (cA, 256, .inl (fun _ => 0)))] H := hP
  have hD : va_D A [(h, .inr (0, [.ref q0, .null, .null, .null, .null, .null, .null, .null, .null, .null, .null, .null])), (q0, .inl (cA, 256, .inl (fun _ => 0))), (q1, .inl (cA, 256, .inl (fun _ => 0)))] := hD
  refine va_putF (D := D) (ci := 0) (v := .ref q1) (ty := .array .int) (C := RX0) (T := TX0) (N := 12) hx hb hts in_X0 tyX0 tyX0_ok nmX0 hown hK hP hD hS 0 rfl rfl 1 (by decide) (hts _ q99) (fun _ h9 => h9) rfl hin rfl (by decide +kernel) rfl rfl (Nat.le_of_ble_eq_true rfl) dX0_init_19 (fun H locs hP hD hS => ?_)
  have hP : va_P D Cl [(h, .inr (0, [.ref q0, .ref q1, .null, .null, .null, .null, .null, .null, .null, .null, .null, .null])), (q0, .inl (cA, 256, .inl (fun _ => 0))), (q1, .inl (cA, 256, .inl (fun _ => 0)))] H := hP
  have hD : va_D A [(h, .inr (0, [.ref q0, .ref q1, .null, .null, .null, .null, .null, .null, .null, .null, .null, .null])), (q0, .inl (cA, 256, .inl (fun _ => 0))), (q1, .inl (cA, 256, .inl (fun _ => 0)))] := hD
  refine lv_aload_n hx hb dX0_init_22 rfl (lv_at hl 0 rfl) ?_
  refine lv_sipush (v := nI 256) hx hb dX0_init_23 (by decide) ?_
  refine va_newa (atype := .int) (ty := .int) (a0 := (256, .inl (fun _ => 0))) (N' := 256) hx hb (hts _ q135) rfl hK hP hD hS hA (fun _ => rfl) (by decide) (by decide) (by decide) (Nat.le_of_ble_eq_true rfl) (Nat.le_of_ble_eq_true rfl) dX0_init_26 (fun q2 cB H hK hP hD hS => ?_)
  refine W.widen (k := 3) (n := 768) (by decide) (by decide) ?_
  have hK : va_K D Cl [(cA, .int), (cB, .int)] s := hK
  have ecb : cB = cA := Option.some.inj ((hK.2 1 _ rfl).2.symm.trans (hK.2 0 _ rfl).2)
  rw [ecb] at hP hD
  have hK : va_K D Cl [(cA, .int)] s := hK.sub [0] rfl
  have hP : va_P D Cl [(h, .inr (0, [.ref q0, .ref q1, .null, .null, .null, .null, .null, .null, .null, .null, .null, .null])), (q0, .inl (cA, 256, .inl (fun _ => 0))), (q1, .inl (cA, 256, .inl (fun _ => 0))), (q2, .inl (cA, 256, .inl (fun _ => 0)))] H := hP
  have hD : va_D A [(h, .inr (0, [.ref q0, .ref q1, .null, .null, .null, .null, .null, .null, .null, .null, .null, .null])), (q0, .inl (cA, 256, .inl (fun _ => 0))), (q1, .inl (cA, 256, .inl (fun _ => 0))), (q2, .inl (cA, 256, .inl (fun _ => 0)))] := hD
  refine va_putF (D := D) (ci := 0) (v := .ref q2) (ty := .array .int) (C := RX0) (T := TX0) (N := 12) hx hb hts in_X0 tyX0 tyX0_ok nmX0 hown hK hP hD hS 0 rfl rfl 2 (by decide) (hts _ q100) (fun _ h9 => h9) rfl hin rfl (by decide +kernel) rfl rfl (Nat.le_of_ble_eq_true rfl) dX0_init_28 (fun H locs hP hD hS => ?_)
  have hP : va_P D Cl [(h, .inr (0, [.ref q0, .ref q1, .ref q2, .null, .null, .null, .null, .null, .null, .null, .null, .null])), (q0, .inl (cA, 256, .inl (fun _ => 0))), (q1, .inl (cA, 256, .inl (fun _ => 0))), (q2, .inl (cA, 256, .inl (fun _ => 0)))] H := hP
  have hD : va_D A [(h, .inr (0, [.ref q0, .ref q1, .ref q2, .null, .null, .null, .null, .null, .null, .null, .null, .null])), (q0, .inl (cA, 256, .inl (fun _ => 0))), (q1, .inl (cA, 256, .inl (fun _ => 0))), (q2, .inl (cA, 256, .inl (fun _ => 0)))] := hD
  refine lv_aload_n hx hb dX0_init_31 rfl (lv_at hl 0 rfl) ?_
  refine lv_sipush (v := nI 256) hx hb dX0_init_32 (by decide) ?_
  refine va_newa (atype := .int) (ty := .int) (a0 := (256, .inl (fun _ => 0))) (N' := 256) hx hb (hts _ q135) rfl hK hP hD hS hA (fun _ => rfl) (by decide) (by decide) (by decide) (Nat.le_of_ble_eq_true rfl) (Nat.le_of_ble_eq_true rfl) dX0_init_35 (fun q3 cB H hK hP hD hS => ?_)
  refine W.widen (k := 4) (n := 1024) (by decide) (by decide) ?_
  have hK : va_K D Cl [(cA, .int), (cB, .int)] s := hK
  have ecb : cB = cA := Option.some.inj ((hK.2 1 _ rfl).2.symm.trans (hK.2 0 _ rfl).2)
  rw [ecb] at hP hD
  have hK : va_K D Cl [(cA, .int)] s := hK.sub [0] rfl
  have hP : va_P D Cl [(h, .inr (0, [.ref q0, .ref q1, .ref q2, .null, .null, .null, .null, .null, .null, .null, .null, .null])), (q0, .inl (cA, 256, .inl (fun _ => 0))), (q1, .inl (cA, 256, .inl (fun _ => 0))), (q2, .inl (cA, 256, .inl (fun _ => 0))), (q3, .inl (cA, 256, .inl (fun _ => 0)))] H := hP
  have hD : va_D A [(h, .inr (0, [.ref q0, .ref q1, .ref q2, .null, .null, .null, .null, .null, .null, .null, .null, .null])), (q0, .inl (cA, 256, .inl (fun _ => 0))), (q1, .inl (cA, 256, .inl (fun _ => 0))), (q2, .inl (cA, 256, .inl (fun _ => 0))), (q3, .inl (cA, 256, .inl (fun _ => 0)))] := hD
  refine va_putF (D := D) (ci := 0) (v := .ref q3) (ty := .array .int) (C := RX0) (T := TX0) (N := 12) hx hb hts in_X0 tyX0 tyX0_ok nmX0 hown hK hP hD hS 0 rfl rfl 3 (by decide) (hts _ q101) (fun _ h9 => h9) rfl hin rfl (by decide +kernel) rfl rfl (Nat.le_of_ble_eq_true rfl) dX0_init_37 (fun H locs hP hD hS => ?_)
  have hP : va_P D Cl [(h, .inr (0, [.ref q0, .ref q1, .ref q2, .ref q3, .null, .null, .null, .null, .null, .null, .null, .null])), (q0, .inl (cA, 256, .inl (fun _ => 0))), (q1, .inl (cA, 256, .inl (fun _ => 0))), (q2, .inl (cA, 256, .inl (fun _ => 0))), (q3, .inl (cA, 256, .inl (fun _ => 0)))] H := hP
  have hD : va_D A [(h, .inr (0, [.ref q0, .ref q1, .ref q2, .ref q3, .null, .null, .null, .null, .null, .null, .null, .null])), (q0, .inl (cA, 256, .inl (fun _ => 0))), (q1, .inl (cA, 256, .inl (fun _ => 0))), (q2, .inl (cA, 256, .inl (fun _ => 0))), (q3, .inl (cA, 256, .inl (fun _ => 0)))] := hD
  refine lv_aload_n hx hb dX0_init_40 rfl (lv_at hl 0 rfl) ?_
  refine lv_bipush (v := nI 44) hx hb dX0_init_41 (by decide) ?_
  refine va_newa (atype := .int) (ty := .int) (a0 := (44, .inl (fun _ => 0))) (N' := 44) hx hb (hts _ q135) rfl hK hP hD hS hA (fun _ => rfl) (by decide) (by decide) (by decide) (Nat.le_of_ble_eq_true rfl) (Nat.le_of_ble_eq_true rfl) dX0_init_43 (fun q4 cB H hK hP hD hS => ?_)
  refine W.widen (k := 5) (n := 1068) (by decide) (by decide) ?_
  have hK : va_K D Cl [(cA, .int), (cB, .int)] s := hK
  have ecb : cB = cA := Option.some.inj ((hK.2 1 _ rfl).2.symm.trans (hK.2 0 _ rfl).2)
  rw [ecb] at hP hD
  have hK : va_K D Cl [(cA, .int)] s := hK.sub [0] rfl
  have hP : va_P D Cl [(h, .inr (0, [.ref q0, .ref q1, .ref q2, .ref q3, .null, .null, .null, .null, .null, .null, .null, .null])), (q0, .inl (cA, 256, .inl (fun _ => 0))), (q1, .inl (cA, 256, .inl (fun _ => 0))), (q2, .inl (cA, 256, .inl (fun _ => 0))), (q3, .inl (cA, 256, .inl (fun _ => 0))), (q4, .inl (cA, 44, .inl (fun _ => 0)))] H := hP
  have hD : va_D A [(h, .inr (0, [.ref q0, .ref q1, .ref q2, .ref q3, .null, .null, .null, .null, .null, .null, .null, .null])), (q0, .inl (cA, 256, .inl (fun _ => 0))), (q1, .inl (cA, 256, .inl (fun _ => 0))), (q2, .inl (cA, 256, .inl (fun _ => 0))), (q3, .inl (cA, 256, .inl (fun _ => 0))), (q4, .inl (cA, 44, .inl (fun _ => 0)))] := hD
  refine va_putF (D := D) (ci := 0) (v := .ref q4) (ty := .array .int) (C := RX0) (T := TX0) (N := 12) hx hb hts in_X0 tyX0 tyX0_ok nmX0 hown hK hP hD hS 0 rfl rfl 4 (by decide) (hts _ q102) (fun _ h9 => h9) rfl hin rfl (by decide +kernel) rfl rfl (Nat.le_of_ble_eq_true rfl) dX0_init_45 (fun H locs hP hD hS => ?_)
  have hP : va_P D Cl [(h, .inr (0, [.ref q0, .ref q1, .ref q2, .ref q3, .ref q4, .null, .null, .null, .null, .null, .null, .null])), (q0, .inl (cA, 256, .inl (fun _ => 0))), (q1, .inl (cA, 256, .inl (fun _ => 0))), (q2, .inl (cA, 256, .inl (fun _ => 0))), (q3, .inl (cA, 256, .inl (fun _ => 0))), (q4, .inl (cA, 44, .inl (fun _ => 0)))] H := hP
  have hD : va_D A [(h, .inr (0, [.ref q0, .ref q1, .ref q2, .ref q3, .ref q4, .null, .null, .null, .null, .null, .null, .null])), (q0, .inl (cA, 256, .inl (fun _ => 0))), (q1, .inl (cA, 256, .inl (fun _ => 0))), (q2, .inl (cA, 256, .inl (fun _ => 0))), (q3, .inl (cA, 256, .inl (fun _ => 0))), (q4, .inl (cA, 44, .inl (fun _ => 0)))] := hD
  refine lv_aload_n hx hb dX0_init_48 rfl (lv_at hl 0 rfl) ?_
  refine lv_bipush (v := nI 44) hx hb dX0_init_49 (by decide) ?_
  refine va_newa (atype := .int) (ty := .int) (a0 := (44, .inl (fun _ => 0))) (N' := 44) hx hb (hts _ q135) rfl hK hP hD hS hA (fun _ => rfl) (by decide) (by decide) (by decide) (Nat.le_of_ble_eq_true rfl) (Nat.le_of_ble_eq_true rfl) dX0_init_51 (fun q5 cB H hK hP hD hS => ?_)
  refine W.widen (k := 6) (n := 1112) (by decide) (by decide) ?_
  have hK : va_K D Cl [(cA, .int), (cB, .int)] s := hK
  have ecb : cB = cA := Option.some.inj ((hK.2 1 _ rfl).2.symm.trans (hK.2 0 _ rfl).2)
  rw [ecb] at hP hD
  have hK : va_K D Cl [(cA, .int)] s := hK.sub [0] rfl
  have hP : va_P D Cl [(h, .inr (0, [.ref q0, .ref q1, .ref q2, .ref q3, .ref q4, .null, .null, .null, .null, .null, .null, .null])), (q0, .inl (cA, 256, .inl (fun _ => 0))), (q1, .inl (cA, 256, .inl (fun _ => 0))), (q2, .inl (cA, 256, .inl (fun _ => 0))), (q3, .inl (cA, 256, .inl (fun _ => 0))), (q4, .inl (cA, 44, .inl (fun _ => 0))), (q5, .inl (cA, 44, .inl (fun _ => 0)))] H := hP
  have hD : va_D A [(h, .inr (0, [.ref q0, .ref q1, .ref q2, .ref q3, .ref q4, .null, .null, .null, .null, .null, .null, .null])), (q0, .inl (cA, 256, .inl (fun _ => 0))), (q1, .inl (cA, 256, .inl (fun _ => 0))), (q2, .inl (cA, 256, .inl (fun _ => 0))), (q3, .inl (cA, 256, .inl (fun _ => 0))), (q4, .inl (cA, 44, .inl (fun _ => 0))), (q5, .inl (cA, 44, .inl (fun _ => 0)))] := hD
  refine va_putF (D := D) (ci := 0) (v := .ref q5) (ty := .array .int) (C := RX0) (T := TX0) (N := 12) hx hb hts in_X0 tyX0 tyX0_ok nmX0 hown hK hP hD hS 0 rfl rfl 5 (by decide) (hts _ q103) (fun _ h9 => h9) rfl hin rfl (by decide +kernel) rfl rfl (Nat.le_of_ble_eq_true rfl) dX0_init_53 (fun H locs hP hD hS => ?_)
  have hP : va_P D Cl [(h, .inr (0, [.ref q0, .ref q1, .ref q2, .ref q3, .ref q4, .ref q5, .null, .null, .null, .null, .null, .null])), (q0, .inl (cA, 256, .inl (fun _ => 0))), (q1, .inl (cA, 256, .inl (fun _ => 0))), (q2, .inl (cA, 256, .inl (fun _ => 0))), (q3, .inl (cA, 256, .inl (fun _ => 0))), (q4, .inl (cA, 44, .inl (fun _ => 0))), (q5, .inl (cA, 44, .inl (fun _ => 0)))] H := hP
  have hD : va_D A [(h, .inr (0, [.ref q0, .ref q1, .ref q2, .ref q3, .ref q4, .ref q5, .null, .null, .null, .null, .null, .null])), (q0, .inl (cA, 256, .inl (fun _ => 0))), (q1, .inl (cA, 256, .inl (fun _ => 0))), (q2, .inl (cA, 256, .inl (fun _ => 0))), (q3, .inl (cA, 256, .inl (fun _ => 0))), (q4, .inl (cA, 44, .inl (fun _ => 0))), (q5, .inl (cA, 44, .inl (fun _ => 0)))] := hD
  refine lv_aload_n hx hb dX0_init_56 rfl (lv_at hl 0 rfl) ?_
  refine lv_iconst (v := nI 4) hx hb dX0_init_57 (by decide) ?_
  refine va_newa (atype := .int) (ty := .int) (a0 := (4, .inl (fun _ => 0))) (N' := 4) hx hb (hts _ q135) rfl hK hP hD hS hA (fun _ => rfl) (by decide) (by decide) (by decide) (Nat.le_of_ble_eq_true rfl) (Nat.le_of_ble_eq_true rfl) dX0_init_58 (fun q6 cB H hK hP hD hS => ?_)
  refine W.widen (k := 7) (n := 1116) (by decide) (by decide) ?_
  have hK : va_K D Cl [(cA, .int), (cB, .int)] s := hK
  have ecb : cB = cA := Option.some.inj ((hK.2 1 _ rfl).2.symm.trans (hK.2 0 _ rfl).2)
  rw [ecb] at hP hD
  have hK : va_K D Cl [(cA, .int)] s := hK.sub [0] rfl
  have hP : va_P D Cl [(h, .inr (0, [.ref q0, .ref q1, .ref q2, .ref q3, .ref q4, .ref q5, .null, .null, .null, .null, .null, .null])), (q0, .inl (cA, 256, .inl (fun _ => 0))), (q1, .inl (cA, 256, .inl (fun _ => 0))), (q2, .inl (cA, 256, .inl (fun _ => 0))), (q3, .inl (cA, 256, .inl (fun _ => 0))), (q4, .inl (cA, 44, .inl (fun _ => 0))), (q5, .inl (cA, 44, .inl (fun _ => 0))), (q6, .inl (cA, 4, .inl (fun _ => 0)))] H := hP
  have hD : va_D A [(h, .inr (0, [.ref q0, .ref q1, .ref q2, .ref q3, .ref q4, .ref q5, .null, .null, .null, .null, .null, .null])), (q0, .inl (cA, 256, .inl (fun _ => 0))), (q1, .inl (cA, 256, .inl (fun _ => 0))), (q2, .inl (cA, 256, .inl (fun _ => 0))), (q3, .inl (cA, 256, .inl (fun _ => 0))), (q4, .inl (cA, 44, .inl (fun _ => 0))), (q5, .inl (cA, 44, .inl (fun _ => 0))), (q6, .inl (cA, 4, .inl (fun _ => 0)))] := hD
  refine va_putF (D := D) (ci := 0) (v := .ref q6) (ty := .array .int) (C := RX0) (T := TX0) (N := 12) hx hb hts in_X0 tyX0 tyX0_ok nmX0 hown hK hP hD hS 0 rfl rfl 6 (by decide) (hts _ q104) (fun _ h9 => h9) rfl hin rfl (by decide +kernel) rfl rfl (Nat.le_of_ble_eq_true rfl) dX0_init_60 (fun H locs hP hD hS => ?_)
  have hP : va_P D Cl [(h, .inr (0, [.ref q0, .ref q1, .ref q2, .ref q3, .ref q4, .ref q5, .ref q6, .null, .null, .null, .null, .null])), (q0, .inl (cA, 256, .inl (fun _ => 0))), (q1, .inl (cA, 256, .inl (fun _ => 0))), (q2, .inl (cA, 256, .inl (fun _ => 0))), (q3, .inl (cA, 256, .inl (fun _ => 0))), (q4, .inl (cA, 44, .inl (fun _ => 0))), (q5, .inl (cA, 44, .inl (fun _ => 0))), (q6, .inl (cA, 4, .inl (fun _ => 0)))] H := hP
  have hD : va_D A [(h, .inr (0, [.ref q0, .ref q1, .ref q2, .ref q3, .ref q4, .ref q5, .ref q6, .null, .null, .null, .null, .null])), (q0, .inl (cA, 256, .inl (fun _ => 0))), (q1, .inl (cA, 256, .inl (fun _ => 0))), (q2, .inl (cA, 256, .inl (fun _ => 0))), (q3, .inl (cA, 256, .inl (fun _ => 0))), (q4, .inl (cA, 44, .inl (fun _ => 0))), (q5, .inl (cA, 44, .inl (fun _ => 0))), (q6, .inl (cA, 4, .inl (fun _ => 0)))] := hD
  refine lv_aload_n hx hb dX0_init_63 rfl (lv_at hl 0 rfl) ?_
  refine lv_iconst (v := nI 4) hx hb dX0_init_64 (by decide) ?_
  refine va_newa (atype := .int) (ty := .int) (a0 := (4, .inl (fun _ => 0))) (N' := 4) hx hb (hts _ q135) rfl hK hP hD hS hA (fun _ => rfl) (by decide) (by decide) (by decide) (Nat.le_of_ble_eq_true rfl) (Nat.le_of_ble_eq_true rfl) dX0_init_65 (fun q7 cB H hK hP hD hS => ?_)
  refine W.widen (k := 8) (n := 1120) (by decide) (by decide) ?_
  have hK : va_K D Cl [(cA, .int), (cB, .int)] s := hK
  have ecb : cB = cA := Option.some.inj ((hK.2 1 _ rfl).2.symm.trans (hK.2 0 _ rfl).2)
  rw [ecb] at hP hD
  have hK : va_K D Cl [(cA, .int)] s := hK.sub [0] rfl
  have hP : va_P D Cl [(h, .inr (0, [.ref q0, .ref q1, .ref q2, .ref q3, .ref q4, .ref q5, .ref q6, .null, .null, .null, .null, .null])), (q0, .inl (cA, 256, .inl (fun _ => 0))), (q1, .inl (cA, 256, .inl (fun _ => 0))), (q2, .inl (cA, 256, .inl (fun _ => 0))), (q3, .inl (cA, 256, .inl (fun _ => 0))), (q4, .inl (cA, 44, .inl (fun _ => 0))), (q5, .inl (cA, 44, .inl (fun _ => 0))), (q6, .inl (cA, 4, .inl (fun _ => 0))), (q7, .inl (cA, 4, .inl (fun _ => 0)))] H := hP
  have hD : va_D A [(h, .inr (0, [.ref q0, .ref q1, .ref q2, .ref q3, .ref q4, .ref q5, .ref q6, .null, .null, .null, .null, .null])), (q0, .inl (cA, 256, .inl (fun _ => 0))), (q1, .inl (cA, 256, .inl (fun _ => 0))), (q2, .inl (cA, 256, .inl (fun _ => 0))), (q3, .inl (cA, 256, .inl (fun _ => 0))), (q4, .inl (cA, 44, .inl (fun _ => 0))), (q5, .inl (cA, 44, .inl (fun _ => 0))), (q6, .inl (cA, 4, .inl (fun _ => 0))), (q7, .inl (cA, 4, .inl (fun _ => 0)))] := hD
  refine va_putF (D := D) (ci := 0) (v := .ref q7) (ty := .array .int) (C := RX0) (T := TX0) (N := 12) hx hb hts in_X0 tyX0 tyX0_ok nmX0 hown hK hP hD hS 0 rfl rfl 7 (by decide) (hts _ q105) (fun _ h9 => h9) rfl hin rfl (by decide +kernel) rfl rfl (Nat.le_of_ble_eq_true rfl) dX0_init_67 (fun H locs hP hD hS => ?_)
  have hP : va_P D Cl [(h, .inr (0, [.ref q0, .ref q1, .ref q2, .ref q3, .ref q4, .ref q5, .ref q6, .ref q7, .null, .null, .null, .null])), (q0, .inl (cA, 256, .inl (fun _ => 0))), (q1, .inl (cA, 256, .inl (fun _ => 0))), (q2, .inl (cA, 256, .inl (fun _ => 0))), (q3, .inl (cA, 256, .inl (fun _ => 0))), (q4, .inl (cA, 44, .inl (fun _ => 0))), (q5, .inl (cA, 44, .inl (fun _ => 0))), (q6, .inl (cA, 4, .inl (fun _ => 0))), (q7, .inl (cA, 4, .inl (fun _ => 0)))] H := hP
  have hD : va_D A [(h, .inr (0, [.ref q0, .ref q1, .ref q2, .ref q3, .ref q4, .ref q5, .ref q6, .ref q7, .null, .null, .null, .null])), (q0, .inl (cA, 256, .inl (fun _ => 0))), (q1, .inl (cA, 256, .inl (fun _ => 0))), (q2, .inl (cA, 256, .inl (fun _ => 0))), (q3, .inl (cA, 256, .inl (fun _ => 0))), (q4, .inl (cA, 44, .inl (fun _ => 0))), (q5, .inl (cA, 44, .inl (fun _ => 0))), (q6, .inl (cA, 4, .inl (fun _ => 0))), (q7, .inl (cA, 4, .inl (fun _ => 0)))] := hD
  refine lv_aload_n hx hb dX0_init_70 rfl (lv_at hl 0 rfl) ?_
  refine lv_iconst (v := nI 4) hx hb dX0_init_71 (by decide) ?_
  refine va_newa (atype := .int) (ty := .int) (a0 := (4, .inl (fun _ => 0))) (N' := 4) hx hb (hts _ q135) rfl hK hP hD hS hA (fun _ => rfl) (by decide) (by decide) (by decide) (Nat.le_of_ble_eq_true rfl) (Nat.le_of_ble_eq_true rfl) dX0_init_72 (fun q8 cB H hK hP hD hS => ?_)
  refine W.widen (k := 9) (n := 1124) (by decide) (by decide) ?_
  have hK : va_K D Cl [(cA, .int), (cB, .int)] s := hK
  have ecb : cB = cA := Option.some.inj ((hK.2 1 _ rfl).2.symm.trans (hK.2 0 _ rfl).2)
  rw [ecb] at hP hD
  have hK : va_K D Cl [(cA, .int)] s := hK.sub [0] rfl
  have hP : va_P D Cl [(h, .inr (0, [.ref q0, .ref q1, .ref q2, .ref q3, .ref q4, .ref q5, .ref q6, .ref q7, .null, .null, .null, .null])), (q0, .inl (cA, 256, .inl (fun _ => 0))), (q1, .inl (cA, 256, .inl (fun _ => 0))), (q2, .inl (cA, 256, .inl (fun _ => 0))), (q3, .inl (cA, 256, .inl (fun _ => 0))), (q4, .inl (cA, 44, .inl (fun _ => 0))), (q5, .inl (cA, 44, .inl (fun _ => 0))), (q6, .inl (cA, 4, .inl (fun _ => 0))), (q7, .inl (cA, 4, .inl (fun _ => 0))), (q8, .inl (cA, 4, .inl (fun _ => 0)))] H := hP
  have hD : va_D A [(h, .inr (0, [.ref q0, .ref q1, .ref q2, .ref q3, .ref q4, .ref q5, .ref q6, .ref q7, .null, .null, .null, .null])), (q0, .inl (cA, 256, .inl (fun _ => 0))), (q1, .inl (cA, 256, .inl (fun _ => 0))), (q2, .inl (cA, 256, .inl (fun _ => 0))), (q3, .inl (cA, 256, .inl (fun _ => 0))), (q4, .inl (cA, 44, .inl (fun _ => 0))), (q5, .inl (cA, 44, .inl (fun _ => 0))), (q6, .inl (cA, 4, .inl (fun _ => 0))), (q7, .inl (cA, 4, .inl (fun _ => 0))), (q8, .inl (cA, 4, .inl (fun _ => 0)))] := hD
  refine va_putF (D := D) (ci := 0) (v := .ref q8) (ty := .array .int) (C := RX0) (T := TX0) (N := 12) hx hb hts in_X0 tyX0 tyX0_ok nmX0 hown hK hP hD hS 0 rfl rfl 8 (by decide) (hts _ q106) (fun _ h9 => h9) rfl hin rfl (by decide +kernel) rfl rfl (Nat.le_of_ble_eq_true rfl) dX0_init_74 (fun H locs hP hD hS => ?_)
  have hP : va_P D Cl [(h, .inr (0, [.ref q0, .ref q1, .ref q2, .ref q3, .ref q4, .ref q5, .ref q6, .ref q7, .ref q8, .null, .null, .null])), (q0, .inl (cA, 256, .inl (fun _ => 0))), (q1, .inl (cA, 256, .inl (fun _ => 0))), (q2, .inl (cA, 256, .inl (fun _ => 0))), (q3, .inl (cA, 256, .inl (fun _ => 0))), (q4, .inl (cA, 44, .inl (fun _ => 0))), (q5, .inl (cA, 44, .inl (fun _ => 0))), (q6, .inl (cA, 4, .inl (fun _ => 0))), (q7, .inl (cA, 4, .inl (fun _ => 0))), (q8, .inl (cA, 4, .inl (fun _ => 0)))] H := hP
  have hD : va_D A [(h, .inr (0, [.ref q0, .ref q1, .ref q2, .ref q3, .ref q4, .ref q5, .ref q6, .ref q7, .ref q8, .null, .null, .null])), (q0, .inl (cA, 256, .inl (fun _ => 0))), (q1, .inl (cA, 256, .inl (fun _ => 0))), (q2, .inl (cA, 256, .inl (fun _ => 0))), (q3, .inl (cA, 256, .inl (fun _ => 0))), (q4, .inl (cA, 44, .inl (fun _ => 0))), (q5, .inl (cA, 44, .inl (fun _ => 0))), (q6, .inl (cA, 4, .inl (fun _ => 0))), (q7, .inl (cA, 4, .inl (fun _ => 0))), (q8, .inl (cA, 4, .inl (fun _ => 0)))] := hD
  refine lv_aload_n hx hb dX0_init_77 rfl (lv_at hl 0 rfl) ?_
  refine lv_iconst (v := nI 4) hx hb dX0_init_78 (by decide) ?_
  refine va_newa (atype := .int) (ty := .int) (a0 := (4, .inl (fun _ => 0))) (N' := 4) hx hb (hts _ q135) rfl hK hP hD hS hA (fun _ => rfl) (by decide) (by decide) (by decide) (Nat.le_of_ble_eq_true rfl) (Nat.le_of_ble_eq_true rfl) dX0_init_79 (fun q9 cB H hK hP hD hS => ?_)
  refine W.widen (k := 10) (n := 1128) (by decide) (by decide) ?_
  have hK : va_K D Cl [(cA, .int), (cB, .int)] s := hK
  have ecb : cB = cA := Option.some.inj ((hK.2 1 _ rfl).2.symm.trans (hK.2 0 _ rfl).2)
  rw [ecb] at hP hD
  have hK : va_K D Cl [(cA, .int)] s := hK.sub [0] rfl
  have hP : va_P D Cl [(h, .inr (0, [.ref q0, .ref q1, .ref q2, .ref q3, .ref q4, .ref q5, .ref q6, .ref q7, .ref q8, .null, .null, .null])), (q0, .inl (cA, 256, .inl (fun _ => 0))), (q1, .inl (cA, 256, .inl (fun _ => 0))), (q2, .inl (cA, 256, .inl (fun _ => 0))), (q3, .inl (cA, 256, .inl (fun _ => 0))), (q4, .inl (cA, 44, .inl (fun _ => 0))), (q5, .inl (cA, 44, .inl (fun _ => 0))), (q6, .inl (cA, 4, .inl (fun _ => 0))), (q7, .inl (cA, 4, .inl (fun _ => 0))), (q8, .inl (cA, 4, .inl (fun _ => 0))), (q9, .inl (cA, 4, .inl (fun _ => 0)))] H := hP
  have hD : va_D A [(h, .inr (0, [.ref q0, .ref q1, .ref q2, .ref q3, .ref q4, .ref q5, .ref q6, .ref q7, .ref q8, .null, .null, .null])), (q0, .inl (cA, 256, .inl (fun _ => 0))), (q1, .inl (cA, 256, .inl (fun _ => 0))), (q2, .inl (cA, 256, .inl (fun _ => 0))), (q3, .inl (cA, 256, .inl (fun _ => 0))), (q4, .inl (cA, 44, .inl (fun _ => 0))), (q5, .inl (cA, 44, .inl (fun _ => 0))), (q6, .inl (cA, 4, .inl (fun _ => 0))), (q7, .inl (cA, 4, .inl (fun _ => 0))), (q8, .inl (cA, 4, .inl (fun _ => 0))), (q9, .inl (cA, 4, .inl (fun _ => 0)))] := hD
  refine va_putF (D := D) (ci := 0) (v := .ref q9) (ty := .array .int) (C := RX0) (T := TX0) (N := 12) hx hb hts in_X0 tyX0 tyX0_ok nmX0 hown hK hP hD hS 0 rfl rfl 9 (by decide) (hts _ q107) (fun _ h9 => h9) rfl hin rfl (by decide +kernel) rfl rfl (Nat.le_of_ble_eq_true rfl) dX0_init_81 (fun H locs hP hD hS => ?_)
  have hP : va_P D Cl [(h, .inr (0, [.ref q0, .ref q1, .ref q2, .ref q3, .ref q4, .ref q5, .ref q6, .ref q7, .ref q8, .ref q9, .null, .null])), (q0, .inl (cA, 256, .inl (fun _ => 0))), (q1, .inl (cA, 256, .inl (fun _ => 0))), (q2, .inl (cA, 256, .inl (fun _ => 0))), (q3, .inl (cA, 256, .inl (fun _ => 0))), (q4, .inl (cA, 44, .inl (fun _ => 0))), (q5, .inl (cA, 44, .inl (fun _ => 0))), (q6, .inl (cA, 4, .inl (fun _ => 0))), (q7, .inl (cA, 4, .inl (fun _ => 0))), (q8, .inl (cA, 4, .inl (fun _ => 0))), (q9, .inl (cA, 4, .inl (fun _ => 0)))] H := hP
  have hD : va_D A [(h, .inr (0, [.ref q0, .ref q1, .ref q2, .ref q3, .ref q4, .ref q5, .ref q6, .ref q7, .ref q8, .ref q9, .null, .null])), (q0, .inl (cA, 256, .inl (fun _ => 0))), (q1, .inl (cA, 256, .inl (fun _ => 0))), (q2, .inl (cA, 256, .inl (fun _ => 0))), (q3, .inl (cA, 256, .inl (fun _ => 0))), (q4, .inl (cA, 44, .inl (fun _ => 0))), (q5, .inl (cA, 44, .inl (fun _ => 0))), (q6, .inl (cA, 4, .inl (fun _ => 0))), (q7, .inl (cA, 4, .inl (fun _ => 0))), (q8, .inl (cA, 4, .inl (fun _ => 0))), (q9, .inl (cA, 4, .inl (fun _ => 0)))] := hD
  refine lv_aload_n hx hb dX0_init_84 rfl (lv_at hl 0 rfl) ?_
  refine lv_bipush (v := nI 64) hx hb dX0_init_85 (by decide) ?_
  refine va_newa (atype := .int) (ty := .int) (a0 := (64, .inl (fun _ => 0))) (N' := 64) hx hb (hts _ q135) rfl hK hP hD hS hA (fun _ => rfl) (by decide) (by decide) (by decide) (Nat.le_of_ble_eq_true rfl) (Nat.le_of_ble_eq_true rfl) dX0_init_87 (fun q10 cB H hK hP hD hS => ?_)
  refine W.widen (k := 11) (n := 1192) (by decide) (by decide) ?_
  have hK : va_K D Cl [(cA, .int), (cB, .int)] s := hK
  have ecb : cB = cA := Option.some.inj ((hK.2 1 _ rfl).2.symm.trans (hK.2 0 _ rfl).2)
  rw [ecb] at hP hD
  have hK : va_K D Cl [(cA, .int)] s := hK.sub [0] rfl
  have hP : va_P D Cl [(h, .inr (0, [.ref q0, .ref q1, .ref q2, .ref q3, .ref q4, .ref q5, .ref q6, .ref q7, .ref q8, .ref q9, .null, .null])), (q0, .inl (cA, 256, .inl (fun _ => 0))), (q1, .inl (cA, 256, .inl (fun _ => 0))), (q2, .inl (cA, 256, .inl (fun _ => 0))), (q3, .inl (cA, 256, .inl (fun _ => 0))), (q4, .inl (cA, 44, .inl (fun _ => 0))), (q5, .inl (cA, 44, .inl (fun _ => 0))), (q6, .inl (cA, 4, .inl (fun _ => 0))), (q7, .inl (cA, 4, .inl (fun _ => 0))), (q8, .inl (cA, 4, .inl (fun _ => 0))), (q9, .inl (cA, 4, .inl (fun _ => 0))), (q10, .inl (cA, 64, .inl (fun _ => 0)))] H := hP
  have hD : va_D A [(h, .inr (0, [.ref q0, .ref q1, .ref q2, .ref q3, .ref q4, .ref q5, .ref q6, .ref q7, .ref q8, .ref q9, .null, .null])), (q0, .inl (cA, 256, .inl (fun _ => 0))), (q1, .inl (cA, 256, .inl (fun _ => 0))), (q2, .inl (cA, 256, .inl (fun _ => 0))), (q3, .inl (cA, 256, .inl (fun _ => 0))), (q4, .inl (cA, 44, .inl (fun _ => 0))), (q5, .inl (cA, 44, .inl (fun _ => 0))), (q6, .inl (cA, 4, .inl (fun _ => 0))), (q7, .inl (cA, 4, .inl (fun _ => 0))), (q8, .inl (cA, 4, .inl (fun _ => 0))), (q9, .inl (cA, 4, .inl (fun _ => 0))), (q10, .inl (cA, 64, .inl (fun _ => 0)))] := hD
  refine va_putF (D := D) (ci := 0) (v := .ref q10) (ty := .array .int) (C := RX0) (T := TX0) (N := 12) hx hb hts in_X0 tyX0 tyX0_ok nmX0 hown hK hP hD hS 0 rfl rfl 10 (by decide) (hts _ q108) (fun _ h9 => h9) rfl hin rfl (by decide +kernel) rfl rfl (Nat.le_of_ble_eq_true rfl) dX0_init_89 (fun H locs hP hD hS => ?_)
  have hP : va_P D Cl [(h, .inr (0, [.ref q0, .ref q1, .ref q2, .ref q3, .ref q4, .ref q5, .ref q6, .ref q7, .ref q8, .ref q9, .ref q10, .null])), (q0, .inl (cA, 256, .inl (fun _ => 0))), (q1, .inl (cA, 256, .inl (fun _ => 0))), (q2, .inl (cA, 256, .inl (fun _ => 0))), (q3, .inl (cA, 256, .inl (fun _ => 0))), (q4, .inl (cA, 44, .inl (fun _ => 0))), (q5, .inl (cA, 44, .inl (fun _ => 0))), (q6, .inl (cA, 4, .inl (fun _ => 0))), (q7, .inl (cA, 4, .inl (fun _ => 0))), (q8, .inl (cA, 4, .inl (fun _ => 0))), (q9, .inl (cA, 4, .inl (fun _ => 0))), (q10, .inl (cA, 64, .inl (fun _ => 0)))] H := hP
  have hD : va_D A [(h, .inr (0, [.ref q0, .ref q1, .ref q2, .ref q3, .ref q4, .ref q5, .ref q6, .ref q7, .ref q8, .ref q9, .ref q10, .null])), (q0, .inl (cA, 256, .inl (fun _ => 0))), (q1, .inl (cA, 256, .inl (fun _ => 0))), (q2, .inl (cA, 256, .inl (fun _ => 0))), (q3, .inl (cA, 256, .inl (fun _ => 0))), (q4, .inl (cA, 44, .inl (fun _ => 0))), (q5, .inl (cA, 44, .inl (fun _ => 0))), (q6, .inl (cA, 4, .inl (fun _ => 0))), (q7, .inl (cA, 4, .inl (fun _ => 0))), (q8, .inl (cA, 4, .inl (fun _ => 0))), (q9, .inl (cA, 4, .inl (fun _ => 0))), (q10, .inl (cA, 64, .inl (fun _ => 0)))] := hD
  refine lv_aload_n hx hb dX0_init_92 rfl (lv_at hl 0 rfl) ?_
  refine lv_bipush (v := nI 16) hx hb dX0_init_93 (by decide) ?_
  refine va_newa (atype := .int) (ty := .int) (a0 := (16, .inl (fun _ => 0))) (N' := 16) hx hb (hts _ q135) rfl hK hP hD hS hA (fun _ => rfl) (by decide) (by decide) (by decide) (Nat.le_of_ble_eq_true rfl) (Nat.le_of_ble_eq_true rfl) dX0_init_95 (fun q11 cB H hK hP hD hS => ?_)
  refine W.widen (k := 12) (n := 1208) (by decide) (by decide) ?_
  have hK : va_K D Cl [(cA, .int), (cB, .int)] s := hK
  have ecb : cB = cA := Option.some.inj ((hK.2 1 _ rfl).2.symm.trans (hK.2 0 _ rfl).2)
  rw [ecb] at hP hD
  have hK : va_K D Cl [(cA, .int)] s := hK.sub [0] rfl
  have hP : va_P D Cl [(h, .inr (0, [.ref q0, .ref q1, .ref q2, .ref q3, .ref q4, .ref q5, .ref q6, .ref q7, .ref q8, .ref q9, .ref q10, .null])), (q0, .inl (cA, 256, .inl (fun _ => 0))), (q1, .inl (cA, 256, .inl (fun _ => 0))), (q2, .inl (cA, 256, .inl (fun _ => 0))), (q3, .inl (cA, 256, .inl (fun _ => 0))), (q4, .inl (cA, 44, .inl (fun _ => 0))), (q5, .inl (cA, 44, .inl (fun _ => 0))), (q6, .inl (cA, 4, .inl (fun _ => 0))), (q7, .inl (cA, 4, .inl (fun _ => 0))), (q8, .inl (cA, 4, .inl (fun _ => 0))), (q9, .inl (cA, 4, .inl (fun _ => 0))), (q10, .inl (cA, 64, .inl (fun _ => 0))), (q11, .inl (cA, 16, .inl (fun _ => 0)))] H := hP
  have hD : va_D A [(h, .inr (0, [.ref q0, .ref q1, .ref q2, .ref q3, .ref q4, .ref q5, .ref q6, .ref q7, .ref q8, .ref q9, .ref q10, .null])), (q0, .inl (cA, 256, .inl (fun _ => 0))), (q1, .inl (cA, 256, .inl (fun _ => 0))), (q2, .inl (cA, 256, .inl (fun _ => 0))), (q3, .inl (cA, 256, .inl (fun _ => 0))), (q4, .inl (cA, 44, .inl (fun _ => 0))), (q5, .inl (cA, 44, .inl (fun _ => 0))), (q6, .inl (cA, 4, .inl (fun _ => 0))), (q7, .inl (cA, 4, .inl (fun _ => 0))), (q8, .inl (cA, 4, .inl (fun _ => 0))), (q9, .inl (cA, 4, .inl (fun _ => 0))), (q10, .inl (cA, 64, .inl (fun _ => 0))), (q11, .inl (cA, 16, .inl (fun _ => 0)))] := hD
  refine va_putF (D := D) (ci := 0) (v := .ref q11) (ty := .array .int) (C := RX0) (T := TX0) (N := 12) hx hb hts in_X0 tyX0 tyX0_ok nmX0 hown hK hP hD hS 0 rfl rfl 11 (by decide) (hts _ q109) (fun _ h9 => h9) rfl hin rfl (by decide +kernel) rfl rfl (Nat.le_of_ble_eq_true rfl) dX0_init_97 (fun H locs hP hD hS => ?_)
  have hP : va_P D Cl [(h, .inr (0, [.ref q0, .ref q1, .ref q2, .ref q3, .ref q4, .ref q5, .ref q6, .ref q7, .ref q8, .ref q9, .ref q10, .ref q11])), (q0, .inl (cA, 256, .inl (fun _ => 0))), (q1, .inl (cA, 256, .inl (fun _ => 0))), (q2, .inl (cA, 256, .inl (fun _ => 0))), (q3, .inl (cA, 256, .inl (fun _ => 0))), (q4, .inl (cA, 44, .inl (fun _ => 0))), (q5, .inl (cA, 44, .inl (fun _ => 0))), (q6, .inl (cA, 4, .inl (fun _ => 0))), (q7, .inl (cA, 4, .inl (fun _ => 0))), (q8, .inl (cA, 4, .inl (fun _ => 0))), (q9, .inl (cA, 4, .inl (fun _ => 0))), (q10, .inl (cA, 64, .inl (fun _ => 0))), (q11, .inl (cA, 16, .inl (fun _ => 0)))] H := hP
  have hD : va_D A [(h, .inr (0, [.ref q0, .ref q1, .ref q2, .ref q3, .ref q4, .ref q5, .ref q6, .ref q7, .ref q8, .ref q9, .ref q10, .ref q11])), (q0, .inl (cA, 256, .inl (fun _ => 0))), (q1, .inl (cA, 256, .inl (fun _ => 0))), (q2, .inl (cA, 256, .inl (fun _ => 0))), (q3, .inl (cA, 256, .inl (fun _ => 0))), (q4, .inl (cA, 44, .inl (fun _ => 0))), (q5, .inl (cA, 44, .inl (fun _ => 0))), (q6, .inl (cA, 4, .inl (fun _ => 0))), (q7, .inl (cA, 4, .inl (fun _ => 0))), (q8, .inl (cA, 4, .inl (fun _ => 0))), (q9, .inl (cA, 4, .inl (fun _ => 0))), (q10, .inl (cA, 64, .inl (fun _ => 0))), (q11, .inl (cA, 16, .inl (fun _ => 0)))] := hD
  obtain ⟨ad, e0, e1, e2, e3, e4, e5, e6, e7, e8, e9, e10, e11⟩ : ∃ ad : Nat → Nat, q0 = ad 0 ∧ q1 = ad 1 ∧ q2 = ad 2 ∧ q3 = ad 3 ∧ q4 = ad 4 ∧ q5 = ad 5 ∧ q6 = ad 6 ∧ q7 = ad 7 ∧ q8 = ad 8 ∧ q9 = ad 9 ∧ q10 = ad 10 ∧ q11 = ad 11 := ⟨fun k => [q0, q1, q2, q3, q4, q5, q6, q7, q8, q9, q10, q11].getD k 0, rfl, rfl, rfl, rfl, rfl, rfl, rfl, rfl, rfl, rfl, rfl, rfl⟩
  subst e0
  subst e1
  subst e2
  subst e3
  subst e4
  subst e5
  subst e6
  subst e7
  subst e8
  subst e9
  subst e10
  subst e11
  have hP : va_P D Cl (XG cA h ad (fun _ => 0) (fun _ => 0) (fun _ => 0) (fun _ => 0) (fun _ => 0) (fun _ => 0) (fun _ => 0) (fun _ => 0) (fun _ => 0) (fun _ => 0) (fun _ => 0) (fun _ => 0)) H := hP
  have hD : va_D A (XG cA h ad (fun _ => 0) (fun _ => 0) (fun _ => 0) (fun _ => 0) (fun _ => 0) (fun _ => 0) (fun _ => 0) (fun _ => 0) (fun _ => 0) (fun _ => 0) (fun _ => 0) (fun _ => 0)) := hD
  refine lv_aload_n hx hb dX0_init_100 rfl (lv_at hl 0 rfl) ?_
  refine zr_callVv (rest := []) ⟨hx, hb, hml, hown, hts⟩ (mX_buildSubstitution l D cA h ad (fun _ => 0) (fun _ => 0) (fun _ => 0) (fun _ => 0) (fun _ => 0) (fun _ => 0) (fun _ => 0) (fun _ => 0) (fun _ => 0) (fun _ => 0) (fun _ => 0) (fun _ => 0)) (cwV 0 hts (lw_V q40 q42 qs0 q30 q43) rfl rfl rfl (by decide +kernel) ⟨Nat.le_of_ble_eq_true rfl, Nat.le_of_ble_eq_true rfl⟩) [] hK hP hD rfl hS hA (ci := 0) (q0 := 0) rfl rfl rfl rfl hl.1 rfl (Nat.le_of_ble_eq_true rfl) dX0_init_101 ⟨Nat.le_of_ble_eq_true rfl, Nat.le_of_ble_eq_true rfl⟩ (fun H locs hP hS => ?_)
  have hP : va_P D Cl (XG cA h ad zSub zRes (fun _ => 0) (fun _ => 0) (fun _ => 0) (fun _ => 0) (fun _ => 0) (fun _ => 0) (fun _ => 0) (fun _ => 0) (fun _ => 0) (fun _ => 0)) H := hP
  refine lv_aload_n hx hb dX0_init_104 rfl (lv_at hl 0 rfl) ?_
  refine zr_callVv (rest := []) ⟨hx, hb, hml, hown, hts⟩ (mX_buildMixing l D cA h ad zSub zRes (fun _ => 0) (fun _ => 0) (fun _ => 0) (fun _ => 0) (fun _ => 0) (fun _ => 0) (fun _ => 0) (fun _ => 0) (fun _ => 0) (fun _ => 0)) (cwV 0 hts (lw_V q54 q56 qs2 q30 q57) rfl rfl rfl (by decide +kernel) ⟨Nat.le_of_ble_eq_true rfl, Nat.le_of_ble_eq_true rfl⟩) [] hK hP hD rfl hS hA (ci := 0) (q0 := 0) rfl rfl rfl rfl hl.1 rfl (Nat.le_of_ble_eq_true rfl) dX0_init_105 ⟨Nat.le_of_ble_eq_true rfl, Nat.le_of_ble_eq_true rfl⟩ (fun H locs hP hS => ?_)
  have hP : va_P D Cl (XG cA h ad zSub zRes zFwd zBwd (fun _ => 0) (fun _ => 0) (fun _ => 0) (fun _ => 0) (fun _ => 0) (fun _ => 0) (fun _ => 0) (fun _ => 0)) H := hP
  refine lv_aload_n hx hb dX0_init_108 rfl (lv_at hl 0 rfl) ?_
  refine zr_callVv (rest := []) ⟨hx, hb, hml, hown, hts⟩ (mX_buildFallen l D cA h ad zSub zRes zFwd zBwd (fun _ => 0) (fun _ => 0) (fun _ => 0) (fun _ => 0) (fun _ => 0) (fun _ => 0) (fun _ => 0) (fun _ => 0)) (cwV 0 hts (lw_V q58 q60 qs3 q30 q61) rfl rfl rfl (by decide +kernel) ⟨Nat.le_of_ble_eq_true rfl, Nat.le_of_ble_eq_true rfl⟩) [] hK hP hD rfl hS hA (ci := 0) (q0 := 0) rfl rfl rfl rfl hl.1 rfl (Nat.le_of_ble_eq_true rfl) dX0_init_109 ⟨Nat.le_of_ble_eq_true rfl, Nat.le_of_ble_eq_true rfl⟩ (fun H locs hP hS => ?_)
  have hP : va_P D Cl (XG cA h ad zSub zRes zFwd zBwd (fun _ => 0) (fun _ => 0) (fun _ => 0) (fun _ => 0) (fun _ => 0) (fun _ => 0) (fun _ => 0) zFal) H := hP
  refine lv_aload_n hx hb dX0_init_112 rfl (lv_at hl 0 rfl) ?_
  refine lv_iconst (v := nI 0) hx hb dX0_init_113 (by decide) ?_
  refine lv_iconst (v := nI 0) hx hb dX0_init_114 (by decide) ?_
  refine lv_iconst (v := nI 0) hx hb dX0_init_115 (by decide) ?_
  refine lv_iconst (v := nI 0) hx hb dX0_init_116 (by decide) ?_
  refine zr_callVv (rest := []) ⟨hx, hb, hml, hown, hts⟩ (mX_key l D cA h ad (fun _ => 0) (fun _ => 0) (fun _ => 0) (fun _ => 0) (fun _ => 0) (fun _ => 0) (fun _ => 0) (nI 0) (nI 0) (nI 0) (nI 0)) (cwV 4 hts (lw_V q63 q64 q65 q30 q66) rfl rfl rfl (by decide +kernel) ⟨Nat.le_of_ble_eq_true rfl, Nat.le_of_ble_eq_true rfl⟩) [] hK hP hD rfl hS hA (ci := 0) (q0 := 0) rfl rfl rfl rfl hl.1 rfl (Nat.le_of_ble_eq_true rfl) dX0_init_117 ⟨Nat.le_of_ble_eq_true rfl, Nat.le_of_ble_eq_true rfl⟩ (fun H locs hP hS => ?_)
  have hP : va_P D Cl (XG cA h ad zSub zRes zFwd zBwd ((zkx zsw ztw (zk4 (fun _ => 0) (nI 0) (nI 0) (nI 0) (nI 0)) 40).1) (zTK (zkx zsw ztw (zk4 (fun _ => 0) (nI 0) (nI 0) (nI 0) (nI 0)) 40).1) (fun _ => 0) (fun _ => 0) (zmo (zmo (zmo (zmo (zH (zkx zsw ztw (zk4 (fun _ => 0) (nI 0) (nI 0) (nI 0) (nI 0)) 40).1))))) (zH (zkx zsw ztw (zk4 (fun _ => 0) (nI 0) (nI 0) (nI 0) (nI 0)) 40).1) (zmm (zkx zsw ztw (zk4 (fun _ => 0) (nI 0) (nI 0) (nI 0) (nI 0)) 40).1 (fun _ => 0)) zFal) H := hP
  exact W.vret hx hb hr (fun t ht hW => ⟨⟨(cA, ad), rfl, trivial, by rw [ht]; exact hP, va_K.moved hW.alike hK, zD hD rfl⟩, hS.F ht⟩) hS.2.2 dX0_init_120
end
section
set_option maxRecDepth 100000
set_option maxHeartbeats 4000000 in
/-- BlockSealerModel.twice  -/
theorem mY_twice (l : Launch) (D : va_G) (cA : ClassId) (x : Int32) : MetW l D cA yX1_twice (ws_ yX1_twice cX1_twice 1 (some .int)) (zroom 0) ([.int x] : List Value) [] [] (some (ztm x)) := by
  refine zr_startI RX1 rfl (by decide) (Nat.le_of_ble_eq_true rfl) ?_
  intro p e s m below meth c A ls Q hx hb hml hown hts hK hP hD hA hS hret hl
  have hl : lv_has ls 1 [(0, .int x)] := hl
  generalize hH : s.heap = H at hP
  have hS : va_S A s.heap H [] := by rw [← hH]; exact hS
  generalize hlo : ([] : List Loc) = locs at hS ⊢
  refine lv_iconst (v := nI 2) hx hb dX1_twice_0 (by decide) ?_
  refine lv_iload_n hx hb dX1_twice_1 rfl (lv_at hl 0 rfl) ?_
  refine zr_imul (v := (nI 2) * x) hx hb dX1_twice_2 rfl ?_
  refine lv_sipush (v := nI 255) hx hb dX1_twice_3 (by decide) ?_
  refine lv_icmp_le (tgt := 19) hx hb dX1_twice_6 (by decide) (fun hc => ?_) (fun hc => ?_)
  · skip
    refine lv_iconst (v := nI 2) hx hb dX1_twice_19 (by decide) ?_
    refine lv_iload_n hx hb dX1_twice_20 rfl (lv_at hl 0 rfl) ?_
    refine zr_imul (v := (nI 2) * x) hx hb dX1_twice_21 rfl ?_
    exact hret _ H locs _ ls (by unfold ztm; rw [if_pos hc]) hP hS dX1_twice_22
  · skip
    refine lv_iconst (v := nI 2) hx hb dX1_twice_9 (by decide) ?_
    refine lv_iload_n hx hb dX1_twice_10 rfl (lv_at hl 0 rfl) ?_
    refine zr_imul (v := (nI 2) * x) hx hb dX1_twice_11 rfl ?_
    refine lv_sipush (v := nI 283) hx hb dX1_twice_12 (by decide) ?_
    refine zr_ixor (v := ((nI 2) * x) ^^^ (nI 283)) hx hb dX1_twice_15 rfl ?_
    refine lv_goto (tgt := 22) hx hb dX1_twice_16 (by decide) ?_
    exact hret _ H locs _ ls (by unfold ztm; rw [if_neg hc]) hP hS dX1_twice_22
set_option maxHeartbeats 4000000 in
/-- BlockSealerModel.times  -/
theorem mY_times (l : Launch) (D : va_G) (cA : ClassId) (x y : Int32) : MetW l D cA yX1_times (ws_ yX1_times cX1_times 5 (some .int)) (zroom 1) ([.int x, .int y] : List Value) [] [] (some (ztimes x y)) := by
  refine zr_startI RX1 rfl (by decide) (Nat.le_of_ble_eq_true rfl) ?_
  intro p e s m below meth c A ls Q hx hb hml hown hts hK hP hD hA hS hret hl
  have hl : lv_has ls 5 [(0, .int x), (1, .int y)] := hl
  generalize hH : s.heap = H at hP
  have hS : va_S A s.heap H [] := by rw [← hH]; exact hS
  generalize hlo : ([] : List Loc) = locs at hS ⊢
  refine lv_iconst (v := nI 0) hx hb dX1_times_0 (by decide) ?_
  refine lv_istore_n (lv' := [(2, .int (nI 0)), (0, .int x), (1, .int y)]) hx hb dX1_times_1 rfl hl (by decide) rfl (fun ls hl => ?_)
  refine lv_iload_n hx hb dX1_times_2 rfl (lv_at hl 1 rfl) ?_
  refine lv_istore_n (lv' := [(3, .int x), (2, .int (nI 0)), (0, .int x), (1, .int y)]) hx hb dX1_times_3 rfl hl (by decide) rfl (fun ls hl => ?_)
  refine lv_iconst (v := nI 0) hx hb dX1_times_4 (by decide) ?_
  refine lv_istore (lv' := [(4, .int (nI 0)), (3, .int x), (2, .int (nI 0)), (0, .int x), (1, .int y)]) hx hb dX1_times_5 hl (by decide) rfl (fun ls hl => ?_)
  have L1 : ∀ (nL1 k : Nat), k + nL1 = 8 → ∀ (H : Heap) (locs : List Loc) (ls : Array Slot), va_P D Cl [] H → va_S A s.heap H locs → lv_has ls 5 [(4, .int (nI k)), (3, .int ((ztr x y k).2)), (2, .int ((ztr x y k).1)), (1, .int y), (0, .int x)] → W p l e (zroom 1) s m ([.int x, .int y] : List Value).toArray below meth c H locs 0 0 Q (F0 m 7 ls []) := by
    intro nL1
    induction nL1 with
    | zero =>
      intro k hL1 H locs ls hP hS hl
      obtain rfl : k = 8 := by omega
      refine lv_iload hx hb dX1_times_7 (lv_at hl 0 rfl) ?_
      refine lv_bipush (v := nI 8) hx hb dX1_times_9 (by decide) ?_
      refine zr_ge_t (tgt := 39) hx hb dX1_times_11 (by decide) (by omega) (by omega) ?_
      refine lv_iload_n hx hb dX1_times_39 rfl (lv_at hl 2 rfl) ?_
      exact hret _ H locs _ ls rfl hP hS dX1_times_40
    | succ nL1 ihL1 =>
      intro k hL1 H locs ls hP hS hl
      have hltL1 : k < 8 := by omega
      refine lv_iload hx hb dX1_times_7 (lv_at hl 0 rfl) ?_
      refine lv_bipush (v := nI 8) hx hb dX1_times_9 (by decide) ?_
      refine zr_ge_f (tgt := 39) hx hb dX1_times_11 (by decide) (by omega) (by omega) ?_
      refine lv_iload_n hx hb dX1_times_14 rfl (lv_at hl 3 rfl) ?_
      refine lv_iload hx hb dX1_times_15 (lv_at hl 0 rfl) ?_
      refine zr_ishr (v := zsr y k) hx hb dX1_times_17 rfl ?_
      refine lv_iconst (v := nI 1) hx hb dX1_times_18 (by decide) ?_
      refine zr_iand (v := nI (zlo (zsr y k) 2)) hx hb dX1_times_19 (zl1 _) ?_
      refine lv_iconst (v := nI 1) hx hb dX1_times_20 (by decide) ?_
      refine lv_icmp_ne (tgt := 28) hx hb dX1_times_21 (by decide) (fun hc => ?_) (fun hc => ?_)
      · skip
        have e1 : (ztr x y (k + 1)).1 = (ztr x y k).1 := if_neg hc
        refine lv_iload_n hx hb dX1_times_28 rfl (lv_at hl 1 rfl) ?_
        refine zr_callS (rest := []) ⟨hx, hb, hml, hown, hts⟩ (mY_twice l D cA ((ztr x y k).2)) (va_cwS 1 hts (lw_S q209 q210 q31 q211) rfl rfl rfl (by decide +kernel) ⟨Nat.le_of_ble_eq_true rfl, Nat.le_of_ble_eq_true rfl⟩) hK hP hD rfl hS hA rfl hl.1 rfl (Nat.le_of_ble_eq_true rfl) dX1_times_29 ⟨Nat.zero_le _, Nat.zero_le _⟩ (fun H locs hP hS => ?_)
        refine lv_istore_n (lv' := [(3, .int (ztm ((ztr x y k).2))), (4, .int (nI k)), (2, .int ((ztr x y k).1)), (1, .int y), (0, .int x)]) hx hb dX1_times_32 rfl hl (by decide) rfl (fun ls hl => ?_)
        refine lv_iinc (v := nI (k + 1)) (lv' := [(4, .int (nI (k + 1))), (3, .int (ztm ((ztr x y k).2))), (2, .int ((ztr x y k).1)), (1, .int y), (0, .int x)]) hx hb dX1_times_33 hl (k := 1) rfl (zinc _) (by decide) rfl (fun ls hl => ?_)
        refine lv_goto (tgt := 7) hx hb dX1_times_36 (by decide) ?_
        exact ihL1 (k + 1) (by omega) H locs ls hP hS (by rw [e1]; exact (lv_sub hl [0, 1, 2, 3, 4] rfl))
      · skip
        have e1 : (ztr x y (k + 1)).1 = (ztr x y k).1 ^^^ (ztr x y k).2 := if_pos hc
        refine lv_iload_n hx hb dX1_times_24 rfl (lv_at hl 2 rfl) ?_
        refine lv_iload_n hx hb dX1_times_25 rfl (lv_at hl 1 rfl) ?_
        refine zr_ixor (v := ((ztr x y k).1) ^^^ ((ztr x y k).2)) hx hb dX1_times_26 rfl ?_
        refine lv_istore_n (lv' := [(2, .int (((ztr x y k).1) ^^^ ((ztr x y k).2))), (4, .int (nI k)), (3, .int ((ztr x y k).2)), (1, .int y), (0, .int x)]) hx hb dX1_times_27 rfl hl (by decide) rfl (fun ls hl => ?_)
        refine lv_iload_n hx hb dX1_times_28 rfl (lv_at hl 2 rfl) ?_
        refine zr_callS (rest := []) ⟨hx, hb, hml, hown, hts⟩ (mY_twice l D cA ((ztr x y k).2)) (va_cwS 1 hts (lw_S q209 q210 q31 q211) rfl rfl rfl (by decide +kernel) ⟨Nat.le_of_ble_eq_true rfl, Nat.le_of_ble_eq_true rfl⟩) hK hP hD rfl hS hA rfl hl.1 rfl (Nat.le_of_ble_eq_true rfl) dX1_times_29 ⟨Nat.zero_le _, Nat.zero_le _⟩ (fun H locs hP hS => ?_)
        refine lv_istore_n (lv' := [(3, .int (ztm ((ztr x y k).2))), (2, .int (((ztr x y k).1) ^^^ ((ztr x y k).2))), (4, .int (nI k)), (1, .int y), (0, .int x)]) hx hb dX1_times_32 rfl hl (by decide) rfl (fun ls hl => ?_)
        refine lv_iinc (v := nI (k + 1)) (lv' := [(4, .int (nI (k + 1))), (3, .int (ztm ((ztr x y k).2))), (2, .int (((ztr x y k).1) ^^^ ((ztr x y k).2))), (1, .int y), (0, .int x)]) hx hb dX1_times_33 hl (k := 2) rfl (zinc _) (by decide) rfl (fun ls hl => ?_)
        refine lv_goto (tgt := 7) hx hb dX1_times_36 (by decide) ?_
        exact ihL1 (k + 1) (by omega) H locs ls hP hS (by rw [e1]; exact (lv_sub hl [0, 1, 2, 3, 4] rfl))
  exact L1 8 0 (by omega) H locs ls hP hS (lv_sub hl [0, 1, 2, 4, 3] rfl)
theorem mY_times2 (l : Launch) (D : va_G) (cA : ClassId) (n : Nat) (hn : n < 256) : MetW l D cA yX1_times (ws_ yX1_times cX1_times 5 (some .int)) (zroom 1) [.int (nI 2), .int (nI n)] [] [] (some (nI (ztN n))) := by
  rw [← ztimes_2 hn]
  exact mY_times l D cA (nI 2) (nI n)
theorem mY_times3 (l : Launch) (D : va_G) (cA : ClassId) (n : Nat) (hn : n < 256) : MetW l D cA yX1_times (ws_ yX1_times cX1_times 5 (some .int)) (zroom 1) [.int (nI 3), .int (nI n)] [] [] (some (nI (ztN n ^^^ n))) := by
  rw [← ztimes_3 hn]
  exact mY_times l D cA (nI 3) (nI n)
set_option maxHeartbeats 4000000 in
/-- BlockSealerModel.inverse  -/
theorem mY_inverse (l : Launch) (D : va_G) (cA : ClassId) (x : Int32) : MetW l D cA yX1_inverse (ws_ yX1_inverse cX1_inverse 2 (some .int)) (zroom 2) ([.int x] : List Value) [] [] (some (nI (zinv x))) := by
  refine zr_startI RX1 rfl (by decide) (Nat.le_of_ble_eq_true rfl) ?_
  intro p e s m below meth c A ls Q hx hb hml hown hts hK hP hD hA hS hret hl
  have hl : lv_has ls 2 [(0, .int x)] := hl
  generalize hH : s.heap = H at hP
  have hS : va_S A s.heap H [] := by rw [← hH]; exact hS
  generalize hlo : ([] : List Loc) = locs at hS ⊢
  refine lv_iconst (v := nI 1) hx hb dX1_inverse_0 (by decide) ?_
  refine lv_istore_n (lv' := [(1, .int (nI 1)), (0, .int x)]) hx hb dX1_inverse_1 rfl hl (by decide) rfl (fun ls hl => ?_)
  have L1 : ∀ (nL1 i : Nat), i + nL1 = 255 → zsrch (fun y => decide (ztimes x (nI y) = nI 1)) nL1 (i + 1) = zinv x → ∀ (H : Heap) (locs : List Loc) (ls : Array Slot), va_P D Cl [] H → va_S A s.heap H locs → lv_has ls 2 [(1, .int (nI (i + 1))), (0, .int x)] → W p l e (zroom 2) s m ([.int x] : List Value).toArray below meth c H locs 0 0 Q (F0 m 2 ls []) := by
    intro nL1
    induction nL1 with
    | zero =>
      intro i hL1 hqL1 H locs ls hP hS hl
      obtain rfl : i = 255 := by omega
      refine lv_iload_n hx hb dX1_inverse_2 rfl (lv_at hl 0 rfl) ?_
      refine lv_sipush (v := nI 256) hx hb dX1_inverse_3 (by decide) ?_
      refine zr_ge_t (tgt := 26) hx hb dX1_inverse_6 (by decide) (by omega) (by omega) ?_
      refine lv_iconst (v := nI 0) hx hb dX1_inverse_26 (by decide) ?_
      exact hret _ H locs _ ls (by rw [← hqL1]; rfl) hP hS dX1_inverse_27
    | succ nL1 ihL1 =>
      intro i hL1 hqL1 H locs ls hP hS hl
      have hltL1 : i < 255 := by omega
      refine lv_iload_n hx hb dX1_inverse_2 rfl (lv_at hl 0 rfl) ?_
      refine lv_sipush (v := nI 256) hx hb dX1_inverse_3 (by decide) ?_
      refine zr_ge_f (tgt := 26) hx hb dX1_inverse_6 (by decide) (by omega) (by omega) ?_
      refine lv_iload_n hx hb dX1_inverse_9 rfl (lv_at hl 1 rfl) ?_
      refine lv_iload_n hx hb dX1_inverse_10 rfl (lv_at hl 0 rfl) ?_
      refine zr_callS (rest := []) ⟨hx, hb, hml, hown, hts⟩ (mY_times l D cA x (nI (i + 1))) (va_cwS 2 hts (lw_S q206 q207 q31 q208) rfl rfl rfl (by decide +kernel) ⟨Nat.le_of_ble_eq_true rfl, Nat.le_of_ble_eq_true rfl⟩) hK hP hD rfl hS hA rfl hl.1 rfl (Nat.le_of_ble_eq_true rfl) dX1_inverse_11 ⟨Nat.zero_le _, Nat.zero_le _⟩ (fun H locs hP hS => ?_)
      refine lv_iconst (v := nI 1) hx hb dX1_inverse_14 (by decide) ?_
      refine lv_icmp_ne (tgt := 20) hx hb dX1_inverse_15 (by decide) (fun hc => ?_) (fun hc => ?_)
      · skip
        refine lv_iinc (v := nI ((i + 1) + 1)) (lv' := [(1, .int (nI ((i + 1) + 1))), (0, .int x)]) hx hb dX1_inverse_20 hl (k := 0) rfl (zinc _) (by decide) rfl (fun ls hl => ?_)
        refine lv_goto (tgt := 2) hx hb dX1_inverse_23 (by decide) ?_
        exact ihL1 (i + 1) (by omega) (zsrch_miss (fun z => hc (of_decide_eq_true z)) hqL1) H locs ls hP hS (lv_sub hl [0, 1] rfl)
      · skip
        refine lv_iload_n hx hb dX1_inverse_18 rfl (lv_at hl 0 rfl) ?_
        exact hret _ H locs _ ls (by rw [zsrch_hit (decide_eq_true hc) hqL1]) hP hS dX1_inverse_19
  exact L1 255 0 (by omega) rfl H locs ls hP hS (lv_sub hl [0, 1] rfl)
set_option maxHeartbeats 4000000 in
/-- BlockSealerModel.spread  -/
theorem mY_spread (l : Launch) (D : va_G) (cA : ClassId) (v : Int32) : MetW l D cA yX1_spread (ws_ yX1_spread cX1_spread 4 (some .int)) (zroom 0) ([.int v] : List Value) [] [] (some (zsp v 8)) := by
  refine zr_startI RX1 rfl (by decide) (Nat.le_of_ble_eq_true rfl) ?_
  intro p e s m below meth c A ls Q hx hb hml hown hts hK hP hD hA hS hret hl
  have hl : lv_has ls 4 [(0, .int v)] := hl
  generalize hH : s.heap = H at hP
  have hS : va_S A s.heap H [] := by rw [← hH]; exact hS
  generalize hlo : ([] : List Loc) = locs at hS ⊢
  refine lv_iconst (v := nI 0) hx hb dX1_spread_0 (by decide) ?_
  refine lv_istore_n (lv' := [(1, .int (nI 0)), (0, .int v)]) hx hb dX1_spread_1 rfl hl (by decide) rfl (fun ls hl => ?_)
  refine lv_iconst (v := nI 0) hx hb dX1_spread_2 (by decide) ?_
  refine lv_istore_n (lv' := [(2, .int (nI 0)), (1, .int (nI 0)), (0, .int v)]) hx hb dX1_spread_3 rfl hl (by decide) rfl (fun ls hl => ?_)
  have L1 : ∀ (nL1 k : Nat), k + nL1 = 8 → ∀ (H : Heap) (locs : List Loc) (ls : Array Slot), va_P D Cl [] H → va_S A s.heap H locs → lv_has ls 4 [(2, .int (nI k)), (1, .int (zsp v k)), (0, .int v)] → W p l e (zroom 0) s m ([.int v] : List Value).toArray below meth c H locs 0 0 Q (F0 m 4 ls []) := by
    intro nL1
    induction nL1 with
    | zero =>
      intro k hL1 H locs ls hP hS hl
      obtain rfl : k = 8 := by omega
      refine lv_iload_n hx hb dX1_spread_4 rfl (lv_at hl 0 rfl) ?_
      refine lv_bipush (v := nI 8) hx hb dX1_spread_5 (by decide) ?_
      refine zr_ge_t (tgt := 71) hx hb dX1_spread_7 (by decide) (by omega) (by omega) ?_
      refine lv_iload_n hx hb dX1_spread_71 rfl (lv_at hl 1 rfl) ?_
      exact hret _ H locs _ ls rfl hP hS dX1_spread_72
    | succ nL1 ihL1 =>
      intro k hL1 H locs ls hP hS hl
      have hltL1 : k < 8 := by omega
      refine lv_iload_n hx hb dX1_spread_4 rfl (lv_at hl 0 rfl) ?_
      refine lv_bipush (v := nI 8) hx hb dX1_spread_5 (by decide) ?_
      refine zr_ge_f (tgt := 71) hx hb dX1_spread_7 (by decide) (by omega) (by omega) ?_
      refine lv_iload_n hx hb dX1_spread_10 rfl (lv_at hl 2 rfl) ?_
      refine lv_iload_n hx hb dX1_spread_11 rfl (lv_at hl 0 rfl) ?_
      refine zr_ishr (v := zsr v k) hx hb dX1_spread_12 rfl ?_
      refine lv_iload_n hx hb dX1_spread_13 rfl (lv_at hl 2 rfl) ?_
      refine lv_iload_n hx hb dX1_spread_14 rfl (lv_at hl 0 rfl) ?_
      refine lv_iconst (v := nI 4) hx hb dX1_spread_15 (by decide) ?_
      refine zr_iadd (v := nI (k + 4)) hx hb dX1_spread_16 (nI_add _ _) ?_
      refine lv_bipush (v := nI 8) hx hb dX1_spread_17 (by decide) ?_
      refine zr_irem hx hb dX1_spread_19 (by omega) (by decide) (by decide) ?_
      refine zr_ishr (v := zsr v ((k + 4) % 8)) hx hb dX1_spread_20 rfl ?_
      refine zr_ixor (v := (zsr v k) ^^^ (zsr v ((k + 4) % 8))) hx hb dX1_spread_21 rfl ?_
      refine lv_iload_n hx hb dX1_spread_22 rfl (lv_at hl 2 rfl) ?_
      refine lv_iload_n hx hb dX1_spread_23 rfl (lv_at hl 0 rfl) ?_
      refine lv_iconst (v := nI 5) hx hb dX1_spread_24 (by decide) ?_
      refine zr_iadd (v := nI (k + 5)) hx hb dX1_spread_25 (nI_add _ _) ?_
      refine lv_bipush (v := nI 8) hx hb dX1_spread_26 (by decide) ?_
      refine zr_irem hx hb dX1_spread_28 (by omega) (by decide) (by decide) ?_
      refine zr_ishr (v := zsr v ((k + 5) % 8)) hx hb dX1_spread_29 rfl ?_
      refine zr_ixor (v := ((zsr v k) ^^^ (zsr v ((k + 4) % 8))) ^^^ (zsr v ((k + 5) % 8))) hx hb dX1_spread_30 rfl ?_
      refine lv_iload_n hx hb dX1_spread_31 rfl (lv_at hl 2 rfl) ?_
      refine lv_iload_n hx hb dX1_spread_32 rfl (lv_at hl 0 rfl) ?_
      refine lv_bipush (v := nI 6) hx hb dX1_spread_33 (by decide) ?_
      refine zr_iadd (v := nI (k + 6)) hx hb dX1_spread_35 (nI_add _ _) ?_
      refine lv_bipush (v := nI 8) hx hb dX1_spread_36 (by decide) ?_
      refine zr_irem hx hb dX1_spread_38 (by omega) (by decide) (by decide) ?_
      refine zr_ishr (v := zsr v ((k + 6) % 8)) hx hb dX1_spread_39 rfl ?_
      refine zr_ixor (v := (((zsr v k) ^^^ (zsr v ((k + 4) % 8))) ^^^ (zsr v ((k + 5) % 8))) ^^^ (zsr v ((k + 6) % 8))) hx hb dX1_spread_40 rfl ?_
      refine lv_iload_n hx hb dX1_spread_41 rfl (lv_at hl 2 rfl) ?_
      refine lv_iload_n hx hb dX1_spread_42 rfl (lv_at hl 0 rfl) ?_
      refine lv_bipush (v := nI 7) hx hb dX1_spread_43 (by decide) ?_
      refine zr_iadd (v := nI (k + 7)) hx hb dX1_spread_45 (nI_add _ _) ?_
      refine lv_bipush (v := nI 8) hx hb dX1_spread_46 (by decide) ?_
      refine zr_irem hx hb dX1_spread_48 (by omega) (by decide) (by decide) ?_
      refine zr_ishr (v := zsr v ((k + 7) % 8)) hx hb dX1_spread_49 rfl ?_
      refine zr_ixor (v := ((((zsr v k) ^^^ (zsr v ((k + 4) % 8))) ^^^ (zsr v ((k + 5) % 8))) ^^^ (zsr v ((k + 6) % 8))) ^^^ (zsr v ((k + 7) % 8))) hx hb dX1_spread_50 rfl ?_
      refine lv_bipush (v := nI 99) hx hb dX1_spread_51 (by decide) ?_
      refine lv_iload_n hx hb dX1_spread_53 rfl (lv_at hl 0 rfl) ?_
      refine zr_ishr (v := zsr (nI 99) k) hx hb dX1_spread_54 rfl ?_
      refine zr_ixor (v := (((((zsr v k) ^^^ (zsr v ((k + 4) % 8))) ^^^ (zsr v ((k + 5) % 8))) ^^^ (zsr v ((k + 6) % 8))) ^^^ (zsr v ((k + 7) % 8))) ^^^ (zsr (nI 99) k)) hx hb dX1_spread_55 rfl ?_
      refine lv_istore_n (lv' := [(3, .int ((((((zsr v k) ^^^ (zsr v ((k + 4) % 8))) ^^^ (zsr v ((k + 5) % 8))) ^^^ (zsr v ((k + 6) % 8))) ^^^ (zsr v ((k + 7) % 8))) ^^^ (zsr (nI 99) k))), (2, .int (nI k)), (1, .int (zsp v k)), (0, .int v)]) hx hb dX1_spread_56 rfl hl (by decide) rfl (fun ls hl => ?_)
      refine lv_iload_n hx hb dX1_spread_57 rfl (lv_at hl 2 rfl) ?_
      refine lv_iload_n hx hb dX1_spread_58 rfl (lv_at hl 0 rfl) ?_
      refine lv_iconst (v := nI 1) hx hb dX1_spread_59 (by decide) ?_
      refine zr_iand (v := nI (zlo ((((((zsr v k) ^^^ (zsr v ((k + 4) % 8))) ^^^ (zsr v ((k + 5) % 8))) ^^^ (zsr v ((k + 6) % 8))) ^^^ (zsr v ((k + 7) % 8))) ^^^ (zsr (nI 99) k)) 2)) hx hb dX1_spread_60 (zl1 _) ?_
      refine lv_iload_n hx hb dX1_spread_61 rfl (lv_at hl 1 rfl) ?_
      refine zr_ishl (v := zsl (nI (zlo ((((((zsr v k) ^^^ (zsr v ((k + 4) % 8))) ^^^ (zsr v ((k + 5) % 8))) ^^^ (zsr v ((k + 6) % 8))) ^^^ (zsr v ((k + 7) % 8))) ^^^ (zsr (nI 99) k)) 2)) k) hx hb dX1_spread_62 rfl ?_
      refine zr_ior (v := (zsp v k) ||| (zsl (nI (zlo ((((((zsr v k) ^^^ (zsr v ((k + 4) % 8))) ^^^ (zsr v ((k + 5) % 8))) ^^^ (zsr v ((k + 6) % 8))) ^^^ (zsr v ((k + 7) % 8))) ^^^ (zsr (nI 99) k)) 2)) k)) hx hb dX1_spread_63 rfl ?_
      refine lv_istore_n (lv' := [(1, .int ((zsp v k) ||| (zsl (nI (zlo ((((((zsr v k) ^^^ (zsr v ((k + 4) % 8))) ^^^ (zsr v ((k + 5) % 8))) ^^^ (zsr v ((k + 6) % 8))) ^^^ (zsr v ((k + 7) % 8))) ^^^ (zsr (nI 99) k)) 2)) k))), (3, .int ((((((zsr v k) ^^^ (zsr v ((k + 4) % 8))) ^^^ (zsr v ((k + 5) % 8))) ^^^ (zsr v ((k + 6) % 8))) ^^^ (zsr v ((k + 7) % 8))) ^^^ (zsr (nI 99) k))), (2, .int (nI k)), (0, .int v)]) hx hb dX1_spread_64 rfl hl (by decide) rfl (fun ls hl => ?_)
      refine lv_iinc (v := nI (k + 1)) (lv' := [(2, .int (nI (k + 1))), (1, .int ((zsp v k) ||| (zsl (nI (zlo ((((((zsr v k) ^^^ (zsr v ((k + 4) % 8))) ^^^ (zsr v ((k + 5) % 8))) ^^^ (zsr v ((k + 6) % 8))) ^^^ (zsr v ((k + 7) % 8))) ^^^ (zsr (nI 99) k)) 2)) k))), (3, .int ((((((zsr v k) ^^^ (zsr v ((k + 4) % 8))) ^^^ (zsr v ((k + 5) % 8))) ^^^ (zsr v ((k + 6) % 8))) ^^^ (zsr v ((k + 7) % 8))) ^^^ (zsr (nI 99) k))), (0, .int v)]) hx hb dX1_spread_65 hl (k := 2) rfl (zinc _) (by decide) rfl (fun ls hl => ?_)
      refine lv_goto (tgt := 4) hx hb dX1_spread_68 (by decide) ?_
      exact ihL1 (k + 1) (by omega) H locs ls hP hS (lv_sub hl [0, 1, 3] rfl)
  exact L1 8 0 (by omega) H locs ls hP hS (lv_sub hl [0, 1, 2] rfl)
set_option maxHeartbeats 4000000 in
/-- BlockSealerModel.byteOf  -/
theorem mY_byteOf (l : Launch) (D : va_G) (cA : ClassId) (w : Int32) (i : Nat) (hi : i < 4) : MetW l D cA yX1_byteOf (ws_ yX1_byteOf cX1_byteOf 2 (some .int)) (zroom 0) ([.int w, .int (nI i)] : List Value) [] [] (some (nI (zby w i))) := by
  refine zr_startI RX1 rfl (by decide) (Nat.le_of_ble_eq_true rfl) ?_
  intro p e s m below meth c A ls Q hx hb hml hown hts hK hP hD hA hS hret hl
  have hl : lv_has ls 2 [(0, .int w), (1, .int (nI i))] := hl
  generalize hH : s.heap = H at hP
  have hS : va_S A s.heap H [] := by rw [← hH]; exact hS
  generalize hlo : ([] : List Loc) = locs at hS ⊢
  refine lv_iload_n hx hb dX1_byteOf_0 rfl (lv_at hl 0 rfl) ?_
  refine lv_bipush (v := nI 24) hx hb dX1_byteOf_1 (by decide) ?_
  refine lv_bipush (v := nI 8) hx hb dX1_byteOf_3 (by decide) ?_
  refine lv_iload_n hx hb dX1_byteOf_5 rfl (lv_at hl 1 rfl) ?_
  refine zr_imul (v := nI (8 * i)) hx hb dX1_byteOf_6 (pk_mul _ _) ?_
  refine zr_isub (v := nI (24 - (8 * i))) hx hb dX1_byteOf_7 (pk_sub (by omega)) ?_
  refine zr_ishr (v := zsr w (24 - (8 * i))) hx hb dX1_byteOf_8 rfl ?_
  refine lv_sipush (v := nI 255) hx hb dX1_byteOf_9 (by decide) ?_
  refine zr_iand (v := nI (zby w i)) hx hb dX1_byteOf_12 (zsrb w hi) ?_
  exact hret _ H locs _ ls rfl hP hS dX1_byteOf_13
set_option maxHeartbeats 4000000 in
/-- BlockSealerModel.substituted  -/
theorem mY_substituted (l : Launch) (D : va_G) (cA : ClassId) (h : Nat) (ad : Nat → Nat) (ks pre hs sq sh se mo pr : Nat → Int32) (w : Int32) : MetW l D cA yX1_substituted (ws_ yX1_substituted cX1_substituted 4 (some .int)) (zroom 1) ([.ref h, .int w] : List Value) (YG cA h ad zSub ks pre hs sq sh se mo pr) (YG cA h ad zSub ks pre hs sq sh se mo pr) (some (zsb w 4)) := by
  refine zr_startI RX1 rfl (by decide) (Nat.le_of_ble_eq_true rfl) ?_
  intro p e s m below meth c A ls Q hx hb hml hown hts hK hP hD hA hS hret hl
  have hl : lv_has ls 4 [(0, .ref h), (1, .int w)] := hl
  generalize hH : s.heap = H at hP
  have hS : va_S A s.heap H [] := by rw [← hH]; exact hS
  generalize hlo : ([] : List Loc) = locs at hS ⊢
  refine lv_iconst (v := nI 0) hx hb dX1_substituted_0 (by decide) ?_
  refine lv_istore_n (lv' := [(2, .int (nI 0)), (0, .ref h), (1, .int w)]) hx hb dX1_substituted_1 rfl hl (by decide) rfl (fun ls hl => ?_)
  refine lv_iconst (v := nI 0) hx hb dX1_substituted_2 (by decide) ?_
  refine lv_istore_n (lv' := [(3, .int (nI 0)), (2, .int (nI 0)), (0, .ref h), (1, .int w)]) hx hb dX1_substituted_3 rfl hl (by decide) rfl (fun ls hl => ?_)
  have L1 : ∀ (nL1 k : Nat), k + nL1 = 4 → ∀ (H : Heap) (locs : List Loc) (ls : Array Slot), va_P D Cl (YG cA h ad zSub ks pre hs sq sh se mo pr) H → va_S A s.heap H locs → lv_has ls 4 [(3, .int (nI k)), (2, .int (zsb w k)), (1, .int w), (0, .ref h)] → W p l e (zroom 1) s m ([.ref h, .int w] : List Value).toArray below meth c H locs 0 0 Q (F0 m 4 ls []) := by
    intro nL1
    induction nL1 with
    | zero =>
      intro k hL1 H locs ls hP hS hl
      obtain rfl : k = 4 := by omega
      refine lv_iload_n hx hb dX1_substituted_4 rfl (lv_at hl 0 rfl) ?_
      refine lv_iconst (v := nI 4) hx hb dX1_substituted_5 (by decide) ?_
      refine zr_ge_t (tgt := 31) hx hb dX1_substituted_6 (by decide) (by omega) (by omega) ?_
      refine lv_iload_n hx hb dX1_substituted_31 rfl (lv_at hl 1 rfl) ?_
      exact hret _ H locs _ ls rfl hP hS dX1_substituted_32
    | succ nL1 ihL1 =>
      intro k hL1 H locs ls hP hS hl
      have hltL1 : k < 4 := by omega
      refine lv_iload_n hx hb dX1_substituted_4 rfl (lv_at hl 0 rfl) ?_
      refine lv_iconst (v := nI 4) hx hb dX1_substituted_5 (by decide) ?_
      refine zr_ge_f (tgt := 31) hx hb dX1_substituted_6 (by decide) (by omega) (by omega) ?_
      refine lv_iload_n hx hb dX1_substituted_9 rfl (lv_at hl 1 rfl) ?_
      refine lv_bipush (v := nI 8) hx hb dX1_substituted_10 (by decide) ?_
      refine zr_ishl (v := zsl (zsb w k) 8) hx hb dX1_substituted_12 rfl ?_
      refine lv_aload_n hx hb dX1_substituted_13 rfl (lv_at hl 3 rfl) ?_
      refine zr_get (T := TX1) (N := 9) hx hb hts in_X1 hown hK hP 0 rfl rfl 0 (by decide) q226 rfl dX1_substituted_14 ?_
      refine lv_iload_n hx hb dX1_substituted_17 rfl (lv_at hl 2 rfl) ?_
      refine lv_iload_n hx hb dX1_substituted_18 rfl (lv_at hl 0 rfl) ?_
      refine zr_callS (rest := [.ref (ad 0), .int (zsl (zsb w k) 8)]) ⟨hx, hb, hml, hown, hts⟩ (mY_byteOf l D cA w k (by omega)) (va_cwS 2 hts (lw_S q223 q224 q31 q225) rfl rfl rfl (by decide +kernel) ⟨Nat.le_of_ble_eq_true rfl, Nat.le_of_ble_eq_true rfl⟩) hK hP hD rfl hS hA rfl hl.1 rfl (Nat.le_of_ble_eq_true rfl) dX1_substituted_19 ⟨Nat.zero_le _, Nat.zero_le _⟩ (fun H locs hP hS => ?_)
      refine zr_iald (v := nI (zSB (zby w k))) hx hb hK hP 1 0 rfl rfl (zby w k) rfl (zby_lt _ _) (by decide) rfl dX1_substituted_22 ?_
      refine zr_ior (v := (zsl (zsb w k) 8) ||| (nI (zSB (zby w k)))) hx hb dX1_substituted_23 rfl ?_
      refine lv_istore_n (lv' := [(2, .int ((zsl (zsb w k) 8) ||| (nI (zSB (zby w k))))), (3, .int (nI k)), (1, .int w), (0, .ref h)]) hx hb dX1_substituted_24 rfl hl (by decide) rfl (fun ls hl => ?_)
      refine lv_iinc (v := nI (k + 1)) (lv' := [(3, .int (nI (k + 1))), (2, .int ((zsl (zsb w k) 8) ||| (nI (zSB (zby w k))))), (1, .int w), (0, .ref h)]) hx hb dX1_substituted_25 hl (k := 1) rfl (zinc _) (by decide) rfl (fun ls hl => ?_)
      refine lv_goto (tgt := 4) hx hb dX1_substituted_28 (by decide) ?_
      exact ihL1 (k + 1) (by omega) H locs ls hP hS (lv_sub hl [0, 1, 2, 3] rfl)
  exact L1 4 0 (by omega) H locs ls hP hS (lv_sub hl [0, 1, 3, 2] rfl)
set_option maxHeartbeats 4000000 in
/-- BlockSealerModel.key  -/
theorem mY_key (l : Launch) (D : va_G) (cA : ClassId) (h : Nat) (ad : Nat → Nat) (ks pre hs sq sh se mo pr : Nat → Int32) (k0 k1 k2 k3 : Int32) : MetW l D cA yX1_key (ws_ yX1_key cX1_key 9 none) (zroom 2) ([.ref h, .int k0, .int k1, .int k2, .int k3] : List Value) (YG cA h ad zSub ks pre hs sq sh se mo pr) (YG cA h ad zSub ((zkx (fun w => zsb w 4) ztm (zk4 ks k0 k1 k2 k3) 40).1) pre hs sq sh se mo pr) none := by
  refine zr_startV RX1 rfl (by decide) (Nat.le_of_ble_eq_true rfl) ?_
  intro p e s m below meth c A ls Q hx hb hml hown hts hK hP hD hA hS hret hl
  have hl : lv_has ls 9 [(0, .ref h), (1, .int k0), (2, .int k1), (3, .int k2), (4, .int k3)] := hl
  generalize hH : s.heap = H at hP
  have hS : va_S A s.heap H [] := by rw [← hH]; exact hS
  generalize hlo : ([] : List Loc) = locs at hS ⊢
  refine lv_aload_n hx hb dX1_key_0 rfl (lv_at hl 0 rfl) ?_
  refine zr_get (T := TX1) (N := 9) hx hb hts in_X1 hown hK hP 0 rfl rfl 1 (by decide) q227 rfl dX1_key_1 ?_
  refine lv_iconst (v := nI 0) hx hb dX1_key_4 (by decide) ?_
  refine lv_iload_n hx hb dX1_key_5 rfl (lv_at hl 1 rfl) ?_
  refine zr_iast (f' := upd ks 0 k0) hx hb hK hP hD rfl hS 2 0 rfl rfl 0 rfl (by decide) (by decide) rfl dX1_key_6 (fun H locs hP hS => ?_)
  have hP : va_P D Cl (YG cA h ad zSub (upd ks 0 k0) pre hs sq sh se mo pr) H := hP
  refine lv_aload_n hx hb dX1_key_7 rfl (lv_at hl 0 rfl) ?_
  refine zr_get (T := TX1) (N := 9) hx hb hts in_X1 hown hK hP 0 rfl rfl 1 (by decide) q227 rfl dX1_key_8 ?_
  refine lv_iconst (v := nI 1) hx hb dX1_key_11 (by decide) ?_
  refine lv_iload_n hx hb dX1_key_12 rfl (lv_at hl 2 rfl) ?_
  refine zr_iast (f' := upd (upd ks 0 k0) 1 k1) hx hb hK hP hD rfl hS 2 0 rfl rfl 1 rfl (by decide) (by decide) rfl dX1_key_13 (fun H locs hP hS => ?_)
  have hP : va_P D Cl (YG cA h ad zSub (upd (upd ks 0 k0) 1 k1) pre hs sq sh se mo pr) H := hP
  refine lv_aload_n hx hb dX1_key_14 rfl (lv_at hl 0 rfl) ?_
  refine zr_get (T := TX1) (N := 9) hx hb hts in_X1 hown hK hP 0 rfl rfl 1 (by decide) q227 rfl dX1_key_15 ?_
  refine lv_iconst (v := nI 2) hx hb dX1_key_18 (by decide) ?_
  refine lv_iload_n hx hb dX1_key_19 rfl (lv_at hl 3 rfl) ?_
  refine zr_iast (f' := upd (upd (upd ks 0 k0) 1 k1) 2 k2) hx hb hK hP hD rfl hS 2 0 rfl rfl 2 rfl (by decide) (by decide) rfl dX1_key_20 (fun H locs hP hS => ?_)
  have hP : va_P D Cl (YG cA h ad zSub (upd (upd (upd ks 0 k0) 1 k1) 2 k2) pre hs sq sh se mo pr) H := hP
  refine lv_aload_n hx hb dX1_key_21 rfl (lv_at hl 0 rfl) ?_
  refine zr_get (T := TX1) (N := 9) hx hb hts in_X1 hown hK hP 0 rfl rfl 1 (by decide) q227 rfl dX1_key_22 ?_
  refine lv_iconst (v := nI 3) hx hb dX1_key_25 (by decide) ?_
  refine lv_iload hx hb dX1_key_26 (lv_at hl 4 rfl) ?_
  refine zr_iast (f' := upd (upd (upd (upd ks 0 k0) 1 k1) 2 k2) 3 k3) hx hb hK hP hD rfl hS 2 0 rfl rfl 3 rfl (by decide) (by decide) rfl dX1_key_28 (fun H locs hP hS => ?_)
  have hP : va_P D Cl (YG cA h ad zSub (upd (upd (upd (upd ks 0 k0) 1 k1) 2 k2) 3 k3) pre hs sq sh se mo pr) H := hP
  refine lv_iconst (v := nI 1) hx hb dX1_key_29 (by decide) ?_
  refine lv_istore (lv' := [(5, .int (nI 1)), (0, .ref h), (1, .int k0), (2, .int k1), (3, .int k2), (4, .int k3)]) hx hb dX1_key_30 hl (by decide) rfl (fun ls hl => ?_)
  refine lv_iconst (v := nI 4) hx hb dX1_key_32 (by decide) ?_
  refine lv_istore (lv' := [(6, .int (nI 4)), (5, .int (nI 1)), (0, .ref h), (1, .int k0), (2, .int k1), (3, .int k2), (4, .int k3)]) hx hb dX1_key_33 hl (by decide) rfl (fun ls hl => ?_)
  have L1 : ∀ (nL1 n : Nat), n + nL1 = 40 → ∀ (H : Heap) (locs : List Loc) (ls : Array Slot), va_P D Cl (YG cA h ad zSub ((zkx (fun w => zsb w 4) ztm (zk4 ks k0 k1 k2 k3) n).1) pre hs sq sh se mo pr) H → va_S A s.heap H locs → lv_has ls 9 [(6, .int (nI (n + 4))), (5, .int ((zkx (fun w => zsb w 4) ztm (zk4 ks k0 k1 k2 k3) n).2)), (0, .ref h)] → W p l e (zroom 2) s m ([.ref h, .int k0, .int k1, .int k2, .int k3] : List Value).toArray below meth c H locs 0 0 Q (F0 m 35 ls []) := by
    intro nL1
    induction nL1 with
    | zero =>
      intro n hL1 H locs ls hP hS hl
      obtain rfl : n = 40 := by omega
      refine lv_iload hx hb dX1_key_35 (lv_at hl 0 rfl) ?_
      refine lv_bipush (v := nI 44) hx hb dX1_key_37 (by decide) ?_
      refine zr_ge_t (tgt := 119) hx hb dX1_key_39 (by decide) (by omega) (by omega) ?_
      exact hret H locs _ ls hP hS dX1_key_119
    | succ nL1 ihL1 =>
      intro n hL1 H locs ls hP hS hl
      have hltL1 : n < 40 := by omega
      refine lv_iload hx hb dX1_key_35 (lv_at hl 0 rfl) ?_
      refine lv_bipush (v := nI 44) hx hb dX1_key_37 (by decide) ?_
      refine zr_ge_f (tgt := 119) hx hb dX1_key_39 (by decide) (by omega) (by omega) ?_
      refine lv_aload_n hx hb dX1_key_42 rfl (lv_at hl 2 rfl) ?_
      refine zr_get (T := TX1) (N := 9) hx hb hts in_X1 hown hK hP 0 rfl rfl 1 (by decide) q227 rfl dX1_key_43 ?_
      refine lv_iload hx hb dX1_key_46 (lv_at hl 0 rfl) ?_
      refine lv_iconst (v := nI 1) hx hb dX1_key_48 (by decide) ?_
      refine zr_isub (v := nI (n + 3)) hx hb dX1_key_49 (pk_sub (by omega)) ?_
      refine zr_iald (v := ((zkx (fun w => zsb w 4) ztm (zk4 ks k0 k1 k2 k3) n).1) (n + 3)) hx hb hK hP 2 0 rfl rfl (n + 3) rfl (by omega) (by decide) rfl dX1_key_50 ?_
      refine lv_istore (lv' := [(7, .int (((zkx (fun w => zsb w 4) ztm (zk4 ks k0 k1 k2 k3) n).1) (n + 3))), (6, .int (nI (n + 4))), (5, .int ((zkx (fun w => zsb w 4) ztm (zk4 ks k0 k1 k2 k3) n).2)), (0, .ref h)]) hx hb dX1_key_51 hl (by decide) rfl (fun ls hl => ?_)
      refine lv_iload hx hb dX1_key_53 (lv_at hl 1 rfl) ?_
      refine lv_iconst (v := nI 4) hx hb dX1_key_55 (by decide) ?_
      refine zr_irem hx hb dX1_key_56 (by omega) (by decide) (by decide) ?_
      refine lv_if_ne (tgt := 94) hx hb dX1_key_57 (by decide) (fun hc => ?_) (fun hc => ?_)
      · skip
        have hkx := zkx_f (S := (fun w => zsb w 4)) (T := ztm) (f := (zk4 ks k0 k1 k2 k3)) hc
        refine lv_aload_n hx hb dX1_key_94 rfl (lv_at hl 3 rfl) ?_
        refine zr_get (T := TX1) (N := 9) hx hb hts in_X1 hown hK hP 0 rfl rfl 1 (by decide) q227 rfl dX1_key_95 ?_
        refine lv_iload hx hb dX1_key_98 (lv_at hl 1 rfl) ?_
        refine lv_aload_n hx hb dX1_key_100 rfl (lv_at hl 3 rfl) ?_
        refine zr_get (T := TX1) (N := 9) hx hb hts in_X1 hown hK hP 0 rfl rfl 1 (by decide) q227 rfl dX1_key_101 ?_
        refine lv_iload hx hb dX1_key_104 (lv_at hl 1 rfl) ?_
        refine lv_iconst (v := nI 4) hx hb dX1_key_106 (by decide) ?_
        refine zr_isub (v := nI n) hx hb dX1_key_107 (pk_sub (by omega)) ?_
        refine zr_iald (v := ((zkx (fun w => zsb w 4) ztm (zk4 ks k0 k1 k2 k3) n).1) n) hx hb hK hP 2 0 rfl rfl n rfl (by omega) (by decide) rfl dX1_key_108 ?_
        refine lv_iload hx hb dX1_key_109 (lv_at hl 0 rfl) ?_
        refine zr_ixor (v := (((zkx (fun w => zsb w 4) ztm (zk4 ks k0 k1 k2 k3) n).1) n) ^^^ (((zkx (fun w => zsb w 4) ztm (zk4 ks k0 k1 k2 k3) n).1) (n + 3))) hx hb dX1_key_111 rfl ?_
        refine zr_iast (f' := upd ((zkx (fun w => zsb w 4) ztm (zk4 ks k0 k1 k2 k3) n).1) (n + 4) ((((zkx (fun w => zsb w 4) ztm (zk4 ks k0 k1 k2 k3) n).1) n) ^^^ (((zkx (fun w => zsb w 4) ztm (zk4 ks k0 k1 k2 k3) n).1) (n + 3)))) hx hb hK hP hD rfl hS 2 0 rfl rfl (n + 4) rfl (by omega) (by decide) rfl dX1_key_112 (fun H locs hP hS => ?_)
        have hP : va_P D Cl (YG cA h ad zSub (upd ((zkx (fun w => zsb w 4) ztm (zk4 ks k0 k1 k2 k3) n).1) (n + 4) ((((zkx (fun w => zsb w 4) ztm (zk4 ks k0 k1 k2 k3) n).1) n) ^^^ (((zkx (fun w => zsb w 4) ztm (zk4 ks k0 k1 k2 k3) n).1) (n + 3)))) pre hs sq sh se mo pr) H := hP
        refine lv_iinc (v := nI ((n + 4) + 1)) (lv' := [(6, .int (nI ((n + 4) + 1))), (7, .int (((zkx (fun w => zsb w 4) ztm (zk4 ks k0 k1 k2 k3) n).1) (n + 3))), (5, .int ((zkx (fun w => zsb w 4) ztm (zk4 ks k0 k1 k2 k3) n).2)), (0, .ref h)]) hx hb dX1_key_113 hl (k := 1) rfl (zinc _) (by decide) rfl (fun ls hl => ?_)
        refine lv_goto (tgt := 35) hx hb dX1_key_116 (by decide) ?_
        exact ihL1 (n + 1) (by omega) H locs ls (by rw [hkx]; exact hP) hS (by rw [hkx]; exact (lv_sub hl [0, 2, 3] rfl))
      · skip
        have hkx := zkx_t (S := (fun w => zsb w 4)) (T := ztm) (f := (zk4 ks k0 k1 k2 k3)) hc
        refine lv_iload hx hb dX1_key_60 (lv_at hl 0 rfl) ?_
        refine lv_bipush (v := nI 8) hx hb dX1_key_62 (by decide) ?_
        refine zr_ishl (v := zsl (((zkx (fun w => zsb w 4) ztm (zk4 ks k0 k1 k2 k3) n).1) (n + 3)) 8) hx hb dX1_key_64 rfl ?_
        refine lv_iload hx hb dX1_key_65 (lv_at hl 0 rfl) ?_
        refine lv_bipush (v := nI 24) hx hb dX1_key_67 (by decide) ?_
        refine zr_iushr (v := nI (zby (((zkx (fun w => zsb w 4) ztm (zk4 ks k0 k1 k2 k3) n).1) (n + 3)) 0)) hx hb dX1_key_69 (zb0 _) ?_
        refine zr_ior (v := (zsl (((zkx (fun w => zsb w 4) ztm (zk4 ks k0 k1 k2 k3) n).1) (n + 3)) 8) ||| (nI (zby (((zkx (fun w => zsb w 4) ztm (zk4 ks k0 k1 k2 k3) n).1) (n + 3)) 0))) hx hb dX1_key_70 rfl ?_
        refine lv_istore (lv' := [(8, .int ((zsl (((zkx (fun w => zsb w 4) ztm (zk4 ks k0 k1 k2 k3) n).1) (n + 3)) 8) ||| (nI (zby (((zkx (fun w => zsb w 4) ztm (zk4 ks k0 k1 k2 k3) n).1) (n + 3)) 0)))), (7, .int (((zkx (fun w => zsb w 4) ztm (zk4 ks k0 k1 k2 k3) n).1) (n + 3))), (6, .int (nI (n + 4))), (5, .int ((zkx (fun w => zsb w 4) ztm (zk4 ks k0 k1 k2 k3) n).2)), (0, .ref h)]) hx hb dX1_key_71 hl (by decide) rfl (fun ls hl => ?_)
        refine lv_aload_n hx hb dX1_key_73 rfl (lv_at hl 4 rfl) ?_
        refine lv_iload hx hb dX1_key_74 (lv_at hl 0 rfl) ?_
        refine zr_callVi (rest := []) ⟨hx, hb, hml, hown, hts⟩ (mY_substituted l D cA h ad ((zkx (fun w => zsb w 4) ztm (zk4 ks k0 k1 k2 k3) n).1) pre hs sq sh se mo pr ((zsl (((zkx (fun w => zsb w 4) ztm (zk4 ks k0 k1 k2 k3) n).1) (n + 3)) 8) ||| (nI (zby (((zkx (fun w => zsb w 4) ztm (zk4 ks k0 k1 k2 k3) n).1) (n + 3)) 0)))) (cwV 1 hts (lw_V q219 q221 qs16 q31 q222) rfl rfl rfl (by decide +kernel) ⟨Nat.le_of_ble_eq_true rfl, Nat.le_of_ble_eq_true rfl⟩) [] hK hP hD rfl hS hA (ci := 1) (q0 := 0) rfl rfl rfl rfl hl.1 rfl (Nat.le_of_ble_eq_true rfl) dX1_key_76 ⟨Nat.zero_le _, Nat.zero_le _⟩ (fun H locs hP hS => ?_)
        have hP : va_P D Cl (YG cA h ad zSub ((zkx (fun w => zsb w 4) ztm (zk4 ks k0 k1 k2 k3) n).1) pre hs sq sh se mo pr) H := hP
        refine lv_iload hx hb dX1_key_79 (lv_at hl 3 rfl) ?_
        refine lv_bipush (v := nI 24) hx hb dX1_key_81 (by decide) ?_
        refine zr_ishl (v := zsl ((zkx (fun w => zsb w 4) ztm (zk4 ks k0 k1 k2 k3) n).2) 24) hx hb dX1_key_83 rfl ?_
        refine zr_ixor (v := (zsb ((zsl (((zkx (fun w => zsb w 4) ztm (zk4 ks k0 k1 k2 k3) n).1) (n + 3)) 8) ||| (nI (zby (((zkx (fun w => zsb w 4) ztm (zk4 ks k0 k1 k2 k3) n).1) (n + 3)) 0))) 4) ^^^ (zsl ((zkx (fun w => zsb w 4) ztm (zk4 ks k0 k1 k2 k3) n).2) 24)) hx hb dX1_key_84 rfl ?_
        refine lv_istore (lv' := [(7, .int ((zsb ((zsl (((zkx (fun w => zsb w 4) ztm (zk4 ks k0 k1 k2 k3) n).1) (n + 3)) 8) ||| (nI (zby (((zkx (fun w => zsb w 4) ztm (zk4 ks k0 k1 k2 k3) n).1) (n + 3)) 0))) 4) ^^^ (zsl ((zkx (fun w => zsb w 4) ztm (zk4 ks k0 k1 k2 k3) n).2) 24))), (8, .int ((zsl (((zkx (fun w => zsb w 4) ztm (zk4 ks k0 k1 k2 k3) n).1) (n + 3)) 8) ||| (nI (zby (((zkx (fun w => zsb w 4) ztm (zk4 ks k0 k1 k2 k3) n).1) (n + 3)) 0)))), (6, .int (nI (n + 4))), (5, .int ((zkx (fun w => zsb w 4) ztm (zk4 ks k0 k1 k2 k3) n).2)), (0, .ref h)]) hx hb dX1_key_85 hl (by decide) rfl (fun ls hl => ?_)
        refine lv_iload hx hb dX1_key_87 (lv_at hl 3 rfl) ?_
        refine zr_callS (rest := []) ⟨hx, hb, hml, hown, hts⟩ (mY_twice l D cA ((zkx (fun w => zsb w 4) ztm (zk4 ks k0 k1 k2 k3) n).2)) (va_cwS 1 hts (lw_S q209 q210 q31 q211) rfl rfl rfl (by decide +kernel) ⟨Nat.le_of_ble_eq_true rfl, Nat.le_of_ble_eq_true rfl⟩) hK hP hD rfl hS hA rfl hl.1 rfl (Nat.le_of_ble_eq_true rfl) dX1_key_89 ⟨Nat.zero_le _, Nat.zero_le _⟩ (fun H locs hP hS => ?_)
        refine lv_istore (lv' := [(5, .int (ztm ((zkx (fun w => zsb w 4) ztm (zk4 ks k0 k1 k2 k3) n).2))), (7, .int ((zsb ((zsl (((zkx (fun w => zsb w 4) ztm (zk4 ks k0 k1 k2 k3) n).1) (n + 3)) 8) ||| (nI (zby (((zkx (fun w => zsb w 4) ztm (zk4 ks k0 k1 k2 k3) n).1) (n + 3)) 0))) 4) ^^^ (zsl ((zkx (fun w => zsb w 4) ztm (zk4 ks k0 k1 k2 k3) n).2) 24))), (8, .int ((zsl (((zkx (fun w => zsb w 4) ztm (zk4 ks k0 k1 k2 k3) n).1) (n + 3)) 8) ||| (nI (zby (((zkx (fun w => zsb w 4) ztm (zk4 ks k0 k1 k2 k3) n).1) (n + 3)) 0)))), (6, .int (nI (n + 4))), (0, .ref h)]) hx hb dX1_key_92 hl (by decide) rfl (fun ls hl => ?_)
        refine lv_aload_n hx hb dX1_key_94 rfl (lv_at hl 4 rfl) ?_
        refine zr_get (T := TX1) (N := 9) hx hb hts in_X1 hown hK hP 0 rfl rfl 1 (by decide) q227 rfl dX1_key_95 ?_
        refine lv_iload hx hb dX1_key_98 (lv_at hl 3 rfl) ?_
        refine lv_aload_n hx hb dX1_key_100 rfl (lv_at hl 4 rfl) ?_
        refine zr_get (T := TX1) (N := 9) hx hb hts in_X1 hown hK hP 0 rfl rfl 1 (by decide) q227 rfl dX1_key_101 ?_
        refine lv_iload hx hb dX1_key_104 (lv_at hl 3 rfl) ?_
        refine lv_iconst (v := nI 4) hx hb dX1_key_106 (by decide) ?_
        refine zr_isub (v := nI n) hx hb dX1_key_107 (pk_sub (by omega)) ?_
        refine zr_iald (v := ((zkx (fun w => zsb w 4) ztm (zk4 ks k0 k1 k2 k3) n).1) n) hx hb hK hP 2 0 rfl rfl n rfl (by omega) (by decide) rfl dX1_key_108 ?_
        refine lv_iload hx hb dX1_key_109 (lv_at hl 1 rfl) ?_
        refine zr_ixor (v := (((zkx (fun w => zsb w 4) ztm (zk4 ks k0 k1 k2 k3) n).1) n) ^^^ ((zsb ((zsl (((zkx (fun w => zsb w 4) ztm (zk4 ks k0 k1 k2 k3) n).1) (n + 3)) 8) ||| (nI (zby (((zkx (fun w => zsb w 4) ztm (zk4 ks k0 k1 k2 k3) n).1) (n + 3)) 0))) 4) ^^^ (zsl ((zkx (fun w => zsb w 4) ztm (zk4 ks k0 k1 k2 k3) n).2) 24))) hx hb dX1_key_111 rfl ?_
        refine zr_iast (f' := upd ((zkx (fun w => zsb w 4) ztm (zk4 ks k0 k1 k2 k3) n).1) (n + 4) ((((zkx (fun w => zsb w 4) ztm (zk4 ks k0 k1 k2 k3) n).1) n) ^^^ ((zsb ((zsl (((zkx (fun w => zsb w 4) ztm (zk4 ks k0 k1 k2 k3) n).1) (n + 3)) 8) ||| (nI (zby (((zkx (fun w => zsb w 4) ztm (zk4 ks k0 k1 k2 k3) n).1) (n + 3)) 0))) 4) ^^^ (zsl ((zkx (fun w => zsb w 4) ztm (zk4 ks k0 k1 k2 k3) n).2) 24)))) hx hb hK hP hD rfl hS 2 0 rfl rfl (n + 4) rfl (by omega) (by decide) rfl dX1_key_112 (fun H locs hP hS => ?_)
        have hP : va_P D Cl (YG cA h ad zSub (upd ((zkx (fun w => zsb w 4) ztm (zk4 ks k0 k1 k2 k3) n).1) (n + 4) ((((zkx (fun w => zsb w 4) ztm (zk4 ks k0 k1 k2 k3) n).1) n) ^^^ ((zsb ((zsl (((zkx (fun w => zsb w 4) ztm (zk4 ks k0 k1 k2 k3) n).1) (n + 3)) 8) ||| (nI (zby (((zkx (fun w => zsb w 4) ztm (zk4 ks k0 k1 k2 k3) n).1) (n + 3)) 0))) 4) ^^^ (zsl ((zkx (fun w => zsb w 4) ztm (zk4 ks k0 k1 k2 k3) n).2) 24)))) pre hs sq sh se mo pr) H := hP
        refine lv_iinc (v := nI ((n + 4) + 1)) (lv' := [(6, .int (nI ((n + 4) + 1))), (5, .int (ztm ((zkx (fun w => zsb w 4) ztm (zk4 ks k0 k1 k2 k3) n).2))), (7, .int ((zsb ((zsl (((zkx (fun w => zsb w 4) ztm (zk4 ks k0 k1 k2 k3) n).1) (n + 3)) 8) ||| (nI (zby (((zkx (fun w => zsb w 4) ztm (zk4 ks k0 k1 k2 k3) n).1) (n + 3)) 0))) 4) ^^^ (zsl ((zkx (fun w => zsb w 4) ztm (zk4 ks k0 k1 k2 k3) n).2) 24))), (8, .int ((zsl (((zkx (fun w => zsb w 4) ztm (zk4 ks k0 k1 k2 k3) n).1) (n + 3)) 8) ||| (nI (zby (((zkx (fun w => zsb w 4) ztm (zk4 ks k0 k1 k2 k3) n).1) (n + 3)) 0)))), (0, .ref h)]) hx hb dX1_key_113 hl (k := 3) rfl (zinc _) (by decide) rfl (fun ls hl => ?_)
        refine lv_goto (tgt := 35) hx hb dX1_key_116 (by decide) ?_
        exact ihL1 (n + 1) (by omega) H locs ls (by rw [hkx]; exact hP) hS (by rw [hkx]; exact (lv_sub hl [0, 1, 4] rfl))
  exact L1 40 0 (by omega) H locs ls hP hS (lv_sub hl [0, 1, 2] rfl)
set_option maxHeartbeats 4000000 in
/-- BlockSealerModel.block  -/
theorem mY_block (l : Launch) (D : va_G) (cA : ClassId) (h : Nat) (ad : Nat → Nat) (ks pre hs sq sh se mo pr : Nat → Int32) (k0 k1 k2 k3 : Int32) : MetW l D cA yX1_block (ws_ yX1_block cX1_block 5 none) (zroom 0) ([.ref h, .int k0, .int k1, .int k2, .int k3] : List Value) (YG cA h ad zSub ks pre hs sq sh se mo pr) (YG cA h ad zSub ks (zk4 pre k0 k1 k2 k3) hs sq sh se mo pr) none := by
  refine zr_startV RX1 rfl (by decide) (Nat.le_of_ble_eq_true rfl) ?_
  intro p e s m below meth c A ls Q hx hb hml hown hts hK hP hD hA hS hret hl
  have hl : lv_has ls 5 [(0, .ref h), (1, .int k0), (2, .int k1), (3, .int k2), (4, .int k3)] := hl
  generalize hH : s.heap = H at hP
  have hS : va_S A s.heap H [] := by rw [← hH]; exact hS
  generalize hlo : ([] : List Loc) = locs at hS ⊢
  refine lv_aload_n hx hb dX1_block_0 rfl (lv_at hl 0 rfl) ?_
  refine zr_get (T := TX1) (N := 9) hx hb hts in_X1 hown hK hP 0 rfl rfl 2 (by decide) q228 rfl dX1_block_1 ?_
  refine lv_iconst (v := nI 0) hx hb dX1_block_4 (by decide) ?_
  refine lv_iload_n hx hb dX1_block_5 rfl (lv_at hl 1 rfl) ?_
  refine zr_iast (f' := upd pre 0 k0) hx hb hK hP hD rfl hS 3 0 rfl rfl 0 rfl (by decide) (by decide) rfl dX1_block_6 (fun H locs hP hS => ?_)
  have hP : va_P D Cl (YG cA h ad zSub ks (upd pre 0 k0) hs sq sh se mo pr) H := hP
  refine lv_aload_n hx hb dX1_block_7 rfl (lv_at hl 0 rfl) ?_
  refine zr_get (T := TX1) (N := 9) hx hb hts in_X1 hown hK hP 0 rfl rfl 2 (by decide) q228 rfl dX1_block_8 ?_
  refine lv_iconst (v := nI 1) hx hb dX1_block_11 (by decide) ?_
  refine lv_iload_n hx hb dX1_block_12 rfl (lv_at hl 2 rfl) ?_
  refine zr_iast (f' := upd (upd pre 0 k0) 1 k1) hx hb hK hP hD rfl hS 3 0 rfl rfl 1 rfl (by decide) (by decide) rfl dX1_block_13 (fun H locs hP hS => ?_)
  have hP : va_P D Cl (YG cA h ad zSub ks (upd (upd pre 0 k0) 1 k1) hs sq sh se mo pr) H := hP
  refine lv_aload_n hx hb dX1_block_14 rfl (lv_at hl 0 rfl) ?_
  refine zr_get (T := TX1) (N := 9) hx hb hts in_X1 hown hK hP 0 rfl rfl 2 (by decide) q228 rfl dX1_block_15 ?_
  refine lv_iconst (v := nI 2) hx hb dX1_block_18 (by decide) ?_
  refine lv_iload_n hx hb dX1_block_19 rfl (lv_at hl 3 rfl) ?_
  refine zr_iast (f' := upd (upd (upd pre 0 k0) 1 k1) 2 k2) hx hb hK hP hD rfl hS 3 0 rfl rfl 2 rfl (by decide) (by decide) rfl dX1_block_20 (fun H locs hP hS => ?_)
  have hP : va_P D Cl (YG cA h ad zSub ks (upd (upd (upd pre 0 k0) 1 k1) 2 k2) hs sq sh se mo pr) H := hP
  refine lv_aload_n hx hb dX1_block_21 rfl (lv_at hl 0 rfl) ?_
  refine zr_get (T := TX1) (N := 9) hx hb hts in_X1 hown hK hP 0 rfl rfl 2 (by decide) q228 rfl dX1_block_22 ?_
  refine lv_iconst (v := nI 3) hx hb dX1_block_25 (by decide) ?_
  refine lv_iload hx hb dX1_block_26 (lv_at hl 4 rfl) ?_
  refine zr_iast (f' := upd (upd (upd (upd pre 0 k0) 1 k1) 2 k2) 3 k3) hx hb hK hP hD rfl hS 3 0 rfl rfl 3 rfl (by decide) (by decide) rfl dX1_block_28 (fun H locs hP hS => ?_)
  have hP : va_P D Cl (YG cA h ad zSub ks (upd (upd (upd (upd pre 0 k0) 1 k1) 2 k2) 3 k3) hs sq sh se mo pr) H := hP
  exact hret H locs _ ls hP hS dX1_block_29
set_option maxHeartbeats 4000000 in
/-- BlockSealerModel.mix  -/
theorem mY_mix (l : Launch) (D : va_G) (cA : ClassId) (h : Nat) (ad : Nat → Nat) (ks pre hs sq sh se mo pr : Nat → Int32) (k0 k1 k2 k3 : Int32) : MetW l D cA yX1_mix (ws_ yX1_mix cX1_mix 5 none) (zroom 1) ([.ref h, .int k0, .int k1, .int k2, .int k3] : List Value) (YG cA h ad zSub ks pre hs sq sh se mo pr) (YG cA h ad zSub ks (zk4 pre (pre 0 ^^^ k0) (pre 1 ^^^ k1) (pre 2 ^^^ k2) (pre 3 ^^^ k3)) hs sq sh se mo pr) none := by
  refine zr_startV RX1 rfl (by decide) (Nat.le_of_ble_eq_true rfl) ?_
  intro p e s m below meth c A ls Q hx hb hml hown hts hK hP hD hA hS hret hl
  have hl : lv_has ls 5 [(0, .ref h), (1, .int k0), (2, .int k1), (3, .int k2), (4, .int k3)] := hl
  generalize hH : s.heap = H at hP
  have hS : va_S A s.heap H [] := by rw [← hH]; exact hS
  generalize hlo : ([] : List Loc) = locs at hS ⊢
  refine lv_aload_n hx hb dX1_mix_0 rfl (lv_at hl 0 rfl) ?_
  refine lv_aload_n hx hb dX1_mix_1 rfl (lv_at hl 0 rfl) ?_
  refine zr_get (T := TX1) (N := 9) hx hb hts in_X1 hown hK hP 0 rfl rfl 2 (by decide) q228 rfl dX1_mix_2 ?_
  refine lv_iconst (v := nI 0) hx hb dX1_mix_5 (by decide) ?_
  refine zr_iald (v := pre 0) hx hb hK hP 3 0 rfl rfl 0 rfl (by decide) (by decide) rfl dX1_mix_6 ?_
  refine lv_iload_n hx hb dX1_mix_7 rfl (lv_at hl 1 rfl) ?_
  refine zr_ixor (v := (pre 0) ^^^ k0) hx hb dX1_mix_8 rfl ?_
  refine lv_aload_n hx hb dX1_mix_9 rfl (lv_at hl 0 rfl) ?_
  refine zr_get (T := TX1) (N := 9) hx hb hts in_X1 hown hK hP 0 rfl rfl 2 (by decide) q228 rfl dX1_mix_10 ?_
  refine lv_iconst (v := nI 1) hx hb dX1_mix_13 (by decide) ?_
  refine zr_iald (v := pre 1) hx hb hK hP 3 0 rfl rfl 1 rfl (by decide) (by decide) rfl dX1_mix_14 ?_
  refine lv_iload_n hx hb dX1_mix_15 rfl (lv_at hl 2 rfl) ?_
  refine zr_ixor (v := (pre 1) ^^^ k1) hx hb dX1_mix_16 rfl ?_
  refine lv_aload_n hx hb dX1_mix_17 rfl (lv_at hl 0 rfl) ?_
  refine zr_get (T := TX1) (N := 9) hx hb hts in_X1 hown hK hP 0 rfl rfl 2 (by decide) q228 rfl dX1_mix_18 ?_
  refine lv_iconst (v := nI 2) hx hb dX1_mix_21 (by decide) ?_
  refine zr_iald (v := pre 2) hx hb hK hP 3 0 rfl rfl 2 rfl (by decide) (by decide) rfl dX1_mix_22 ?_
  refine lv_iload_n hx hb dX1_mix_23 rfl (lv_at hl 3 rfl) ?_
  refine zr_ixor (v := (pre 2) ^^^ k2) hx hb dX1_mix_24 rfl ?_
  refine lv_aload_n hx hb dX1_mix_25 rfl (lv_at hl 0 rfl) ?_
  refine zr_get (T := TX1) (N := 9) hx hb hts in_X1 hown hK hP 0 rfl rfl 2 (by decide) q228 rfl dX1_mix_26 ?_
  refine lv_iconst (v := nI 3) hx hb dX1_mix_29 (by decide) ?_
  refine zr_iald (v := pre 3) hx hb hK hP 3 0 rfl rfl 3 rfl (by decide) (by decide) rfl dX1_mix_30 ?_
  refine lv_iload hx hb dX1_mix_31 (lv_at hl 4 rfl) ?_
  refine zr_ixor (v := (pre 3) ^^^ k3) hx hb dX1_mix_33 rfl ?_
  refine zr_callVv (rest := []) ⟨hx, hb, hml, hown, hts⟩ (mY_block l D cA h ad ks pre hs sq sh se mo pr ((pre 0) ^^^ k0) ((pre 1) ^^^ k1) ((pre 2) ^^^ k2) ((pre 3) ^^^ k3)) (cwV 4 hts (lw_V q263 q256 q257 q31 q258) rfl rfl rfl (by decide +kernel) ⟨Nat.le_of_ble_eq_true rfl, Nat.le_of_ble_eq_true rfl⟩) [] hK hP hD rfl hS hA (ci := 1) (q0 := 0) rfl rfl rfl rfl hl.1 rfl (Nat.le_of_ble_eq_true rfl) dX1_mix_34 ⟨Nat.zero_le _, Nat.zero_le _⟩ (fun H locs hP hS => ?_)
  have hP : va_P D Cl (YG cA h ad zSub ks (zk4 pre ((pre 0) ^^^ k0) ((pre 1) ^^^ k1) ((pre 2) ^^^ k2) ((pre 3) ^^^ k3)) hs sq sh se mo pr) H := hP
  exact hret H locs _ ls hP hS dX1_mix_37
set_option maxHeartbeats 4000000 in
/-- BlockSealerModel.next  -/
theorem mY_next (l : Launch) (D : va_G) (cA : ClassId) (h : Nat) (ad : Nat → Nat) (ks pre hs sq sh se mo pr : Nat → Int32) : MetW l D cA yX1_next (ws_ yX1_next cX1_next 1 none) (zroom 0) ([.ref h] : List Value) (YG cA h ad zSub ks pre hs sq sh se mo pr) (YG cA h ad zSub ks (upd pre 3 (pre 3 + nI 1)) hs sq sh se mo pr) none := by
  refine zr_startV RX1 rfl (by decide) (Nat.le_of_ble_eq_true rfl) ?_
  intro p e s m below meth c A ls Q hx hb hml hown hts hK hP hD hA hS hret hl
  have hl : lv_has ls 1 [(0, .ref h)] := hl
  generalize hH : s.heap = H at hP
  have hS : va_S A s.heap H [] := by rw [← hH]; exact hS
  generalize hlo : ([] : List Loc) = locs at hS ⊢
  refine lv_aload_n hx hb dX1_next_0 rfl (lv_at hl 0 rfl) ?_
  refine zr_get (T := TX1) (N := 9) hx hb hts in_X1 hown hK hP 0 rfl rfl 2 (by decide) q228 rfl dX1_next_1 ?_
  refine lv_iconst (v := nI 3) hx hb dX1_next_4 (by decide) ?_
  refine lv_dup2_11 hx hb dX1_next_5 rfl rfl ?_
  refine zr_iald (v := pre 3) hx hb hK hP 3 0 rfl rfl 3 rfl (by decide) (by decide) rfl dX1_next_6 ?_
  refine lv_iconst (v := nI 1) hx hb dX1_next_7 (by decide) ?_
  refine zr_iadd (v := (pre 3) + (nI 1)) hx hb dX1_next_8 rfl ?_
  refine zr_iast (f' := upd pre 3 ((pre 3) + (nI 1))) hx hb hK hP hD rfl hS 3 0 rfl rfl 3 rfl (by decide) (by decide) rfl dX1_next_9 (fun H locs hP hS => ?_)
  have hP : va_P D Cl (YG cA h ad zSub ks (upd pre 3 ((pre 3) + (nI 1))) hs sq sh se mo pr) H := hP
  exact hret H locs _ ls hP hS dX1_next_10
set_option maxHeartbeats 4000000 in
/-- BlockSealerModel.word  -/
theorem mY_word (l : Launch) (D : va_G) (cA : ClassId) (h : Nat) (ad : Nat → Nat) (ks pre hs sq sh se mo pr : Nat → Int32) (k : Int32) : MetW l D cA yX1_word (ws_ yX1_word cX1_word 2 (some .int)) (zroom 0) ([.ref h, .int k] : List Value) (YG cA h ad zSub ks pre hs sq sh se mo pr) (YG cA h ad zSub ks pre hs sq sh se mo pr) (some (pre (zlo k 4))) := by
  refine zr_startI RX1 rfl (by decide) (Nat.le_of_ble_eq_true rfl) ?_
  intro p e s m below meth c A ls Q hx hb hml hown hts hK hP hD hA hS hret hl
  have hl : lv_has ls 2 [(0, .ref h), (1, .int k)] := hl
  generalize hH : s.heap = H at hP
  have hS : va_S A s.heap H [] := by rw [← hH]; exact hS
  generalize hlo : ([] : List Loc) = locs at hS ⊢
  refine lv_aload_n hx hb dX1_word_0 rfl (lv_at hl 0 rfl) ?_
  refine zr_get (T := TX1) (N := 9) hx hb hts in_X1 hown hK hP 0 rfl rfl 2 (by decide) q228 rfl dX1_word_1 ?_
  refine lv_iload_n hx hb dX1_word_4 rfl (lv_at hl 1 rfl) ?_
  refine lv_iconst (v := nI 3) hx hb dX1_word_5 (by decide) ?_
  refine zr_iand (v := nI (zlo k 4)) hx hb dX1_word_6 (zl3 _) ?_
  refine zr_iald (v := pre (zlo k 4)) hx hb hK hP 3 0 rfl rfl (zlo k 4) rfl (zlo_lt _ (by decide)) (by decide) rfl dX1_word_7 ?_
  exact hret _ H locs _ ls rfl hP hS dX1_word_8
set_option maxHeartbeats 4000000 in
/-- BlockSealerModel.hash  -/
theorem mY_hash (l : Launch) (D : va_G) (cA : ClassId) (h : Nat) (ad : Nat → Nat) (ks pre hs sq sh se mo pr : Nat → Int32) (k : Int32) : MetW l D cA yX1_hash (ws_ yX1_hash cX1_hash 2 (some .int)) (zroom 0) ([.ref h, .int k] : List Value) (YG cA h ad zSub ks pre hs sq sh se mo pr) (YG cA h ad zSub ks pre hs sq sh se mo pr) (some (hs (zlo k 4))) := by
  refine zr_startI RX1 rfl (by decide) (Nat.le_of_ble_eq_true rfl) ?_
  intro p e s m below meth c A ls Q hx hb hml hown hts hK hP hD hA hS hret hl
  have hl : lv_has ls 2 [(0, .ref h), (1, .int k)] := hl
  generalize hH : s.heap = H at hP
  have hS : va_S A s.heap H [] := by rw [← hH]; exact hS
  generalize hlo : ([] : List Loc) = locs at hS ⊢
  refine lv_aload_n hx hb dX1_hash_0 rfl (lv_at hl 0 rfl) ?_
  refine zr_get (T := TX1) (N := 9) hx hb hts in_X1 hown hK hP 0 rfl rfl 3 (by decide) q229 rfl dX1_hash_1 ?_
  refine lv_iload_n hx hb dX1_hash_4 rfl (lv_at hl 1 rfl) ?_
  refine lv_iconst (v := nI 3) hx hb dX1_hash_5 (by decide) ?_
  refine zr_iand (v := nI (zlo k 4)) hx hb dX1_hash_6 (zl3 _) ?_
  refine zr_iald (v := hs (zlo k 4)) hx hb hK hP 4 0 rfl rfl (zlo k 4) rfl (zlo_lt _ (by decide)) (by decide) rfl dX1_hash_7 ?_
  exact hret _ H locs _ ls rfl hP hS dX1_hash_8
set_option maxHeartbeats 4000000 in
/-- BlockSealerModel.roundKey  -/
theorem mY_roundKey (l : Launch) (D : va_G) (cA : ClassId) (h : Nat) (ad : Nat → Nat) (ks pre hs sq sh se mo pr : Nat → Int32) (q k : Int32) : MetW l D cA yX1_roundKey (ws_ yX1_roundKey cX1_roundKey 4 (some .int)) (zroom 0) ([.ref h, .int q, .int k] : List Value) (YG cA h ad zSub ks pre hs sq sh se mo pr) (YG cA h ad zSub ks pre hs sq sh se mo pr) (some (ks (4 * zrq q + zlo k 4))) := by
  refine zr_startI RX1 rfl (by decide) (Nat.le_of_ble_eq_true rfl) ?_
  intro p e s m below meth c A ls Q hx hb hml hown hts hK hP hD hA hS hret hl
  have hl : lv_has ls 4 [(0, .ref h), (1, .int q), (2, .int k)] := hl
  generalize hH : s.heap = H at hP
  have hS : va_S A s.heap H [] := by rw [← hH]; exact hS
  generalize hlo : ([] : List Loc) = locs at hS ⊢
  refine lv_iload_n hx hb dX1_roundKey_0 rfl (lv_at hl 1 rfl) ?_
  refine lv_bipush (v := nI 11) hx hb dX1_roundKey_1 (by decide) ?_
  refine lv_irem hx hb dX1_roundKey_3 (by decide) ?_
  refine lv_istore_n (lv' := [(3, .int (q - q / nI 11 * nI 11)), (0, .ref h), (1, .int q), (2, .int k)]) hx hb dX1_roundKey_4 rfl hl (by decide) rfl (fun ls hl => ?_)
  refine lv_iload_n hx hb dX1_roundKey_5 rfl (lv_at hl 0 rfl) ?_
  have hq := zrq_lt q
  have hk : zlo k 4 < 4 := zlo_lt k (by decide)
  refine lv_if_ge (tgt := 12) hx hb dX1_roundKey_6 (by decide) (fun hc => ?_) (fun hc => ?_)
  · skip
    rw [zrq_t hc] at hl
    refine lv_aload_n hx hb dX1_roundKey_12 rfl (lv_at hl 1 rfl) ?_
    refine zr_get (T := TX1) (N := 9) hx hb hts in_X1 hown hK hP 0 rfl rfl 1 (by decide) q227 rfl dX1_roundKey_13 ?_
    refine lv_iconst (v := nI 4) hx hb dX1_roundKey_16 (by decide) ?_
    refine lv_iload_n hx hb dX1_roundKey_17 rfl (lv_at hl 0 rfl) ?_
    refine zr_imul (v := nI (4 * (zrq q))) hx hb dX1_roundKey_18 (pk_mul _ _) ?_
    refine lv_iload_n hx hb dX1_roundKey_19 rfl (lv_at hl 3 rfl) ?_
    refine lv_iconst (v := nI 3) hx hb dX1_roundKey_20 (by decide) ?_
    refine zr_iand (v := nI (zlo k 4)) hx hb dX1_roundKey_21 (zl3 _) ?_
    refine zr_iadd (v := nI ((4 * (zrq q)) + (zlo k 4))) hx hb dX1_roundKey_22 (nI_add _ _) ?_
    refine zr_iald (v := ks ((4 * (zrq q)) + (zlo k 4))) hx hb hK hP 2 0 rfl rfl ((4 * (zrq q)) + (zlo k 4)) rfl (by omega) (by decide) rfl dX1_roundKey_23 ?_
    exact hret _ H locs _ ls rfl hP hS dX1_roundKey_24
  · skip
    refine lv_iinc (v := nI (zrq q)) (lv' := [(3, .int (nI (zrq q))), (0, .ref h), (1, .int q), (2, .int k)]) hx hb dX1_roundKey_9 hl (k := 0) rfl (zrq_f hc) (by decide) rfl (fun ls hl => ?_)
    refine lv_aload_n hx hb dX1_roundKey_12 rfl (lv_at hl 1 rfl) ?_
    refine zr_get (T := TX1) (N := 9) hx hb hts in_X1 hown hK hP 0 rfl rfl 1 (by decide) q227 rfl dX1_roundKey_13 ?_
    refine lv_iconst (v := nI 4) hx hb dX1_roundKey_16 (by decide) ?_
    refine lv_iload_n hx hb dX1_roundKey_17 rfl (lv_at hl 0 rfl) ?_
    refine zr_imul (v := nI (4 * (zrq q))) hx hb dX1_roundKey_18 (pk_mul _ _) ?_
    refine lv_iload_n hx hb dX1_roundKey_19 rfl (lv_at hl 3 rfl) ?_
    refine lv_iconst (v := nI 3) hx hb dX1_roundKey_20 (by decide) ?_
    refine zr_iand (v := nI (zlo k 4)) hx hb dX1_roundKey_21 (zl3 _) ?_
    refine zr_iadd (v := nI ((4 * (zrq q)) + (zlo k 4))) hx hb dX1_roundKey_22 (nI_add _ _) ?_
    refine zr_iald (v := ks ((4 * (zrq q)) + (zlo k 4))) hx hb hK hP 2 0 rfl rfl ((4 * (zrq q)) + (zlo k 4)) rfl (by omega) (by decide) rfl dX1_roundKey_23 ?_
    exact hret _ H locs _ ls rfl hP hS dX1_roundKey_24
set_option maxHeartbeats 4000000 in
/-- BlockSealerModel.restart  -/
theorem mY_restart (l : Launch) (D : va_G) (cA : ClassId) (h : Nat) (ad : Nat → Nat) (ks pre hs sq sh se mo pr : Nat → Int32) : MetW l D cA yX1_restart (ws_ yX1_restart cX1_restart 2 none) (zroom 0) ([.ref h] : List Value) (YG cA h ad zSub ks pre hs sq sh se mo pr) (YG cA h ad zSub ks pre (fun _ => nI 0) sq sh se mo pr) none := by
  refine zr_startV RX1 rfl (by decide) (Nat.le_of_ble_eq_true rfl) ?_
  intro p e s m below meth c A ls Q hx hb hml hown hts hK hP hD hA hS hret hl
  have hl : lv_has ls 2 [(0, .ref h)] := hl
  generalize hH : s.heap = H at hP
  have hS : va_S A s.heap H [] := by rw [← hH]; exact hS
  generalize hlo : ([] : List Loc) = locs at hS ⊢
  refine lv_iconst (v := nI 0) hx hb dX1_restart_0 (by decide) ?_
  refine lv_istore_n (lv' := [(1, .int (nI 0)), (0, .ref h)]) hx hb dX1_restart_1 rfl hl (by decide) rfl (fun ls hl => ?_)
  have L1 : ∀ (nL1 i : Nat), i + nL1 = 4 → ∀ (H : Heap) (locs : List Loc) (ls : Array Slot), va_P D Cl (YG cA h ad zSub ks pre (zfil hs (fun _ => nI 0) i) sq sh se mo pr) H → va_S A s.heap H locs → lv_has ls 2 [(1, .int (nI i)), (0, .ref h)] → W p l e (zroom 0) s m ([.ref h] : List Value).toArray below meth c H locs 0 0 Q (F0 m 2 ls []) := by
    intro nL1
    induction nL1 with
    | zero =>
      intro i hL1 H locs ls hP hS hl
      obtain rfl : i = 4 := by omega
      refine lv_iload_n hx hb dX1_restart_2 rfl (lv_at hl 0 rfl) ?_
      refine lv_iconst (v := nI 4) hx hb dX1_restart_3 (by decide) ?_
      refine zr_ge_t (tgt := 20) hx hb dX1_restart_4 (by decide) (by omega) (by omega) ?_
      have hP := zP (g := (fun _ => nI 0)) hP 4 rfl (fun j hj => zfil_lt hj)
      have hP : va_P D Cl (YG cA h ad zSub ks pre (fun _ => nI 0) sq sh se mo pr) H := hP
      exact hret H locs _ ls hP hS dX1_restart_20
    | succ nL1 ihL1 =>
      intro i hL1 H locs ls hP hS hl
      have hltL1 : i < 4 := by omega
      refine lv_iload_n hx hb dX1_restart_2 rfl (lv_at hl 0 rfl) ?_
      refine lv_iconst (v := nI 4) hx hb dX1_restart_3 (by decide) ?_
      refine zr_ge_f (tgt := 20) hx hb dX1_restart_4 (by decide) (by omega) (by omega) ?_
      refine lv_aload_n hx hb dX1_restart_7 rfl (lv_at hl 1 rfl) ?_
      refine zr_get (T := TX1) (N := 9) hx hb hts in_X1 hown hK hP 0 rfl rfl 3 (by decide) q229 rfl dX1_restart_8 ?_
      refine lv_iload_n hx hb dX1_restart_11 rfl (lv_at hl 0 rfl) ?_
      refine lv_iconst (v := nI 0) hx hb dX1_restart_12 (by decide) ?_
      refine zr_iast (f' := zfil hs (fun _ => nI 0) (i + 1)) hx hb hK hP hD rfl hS 4 0 rfl rfl i rfl (by omega) (by decide) (zfil_s rfl) dX1_restart_13 (fun H locs hP hS => ?_)
      have hP : va_P D Cl (YG cA h ad zSub ks pre (zfil hs (fun _ => nI 0) (i + 1)) sq sh se mo pr) H := hP
      refine lv_iinc (v := nI (i + 1)) (lv' := [(1, .int (nI (i + 1))), (0, .ref h)]) hx hb dX1_restart_14 hl (k := 0) rfl (zinc _) (by decide) rfl (fun ls hl => ?_)
      refine lv_goto (tgt := 2) hx hb dX1_restart_17 (by decide) ?_
      exact ihL1 (i + 1) (by omega) H locs ls hP hS (lv_sub hl [0, 1] rfl)
  exact L1 4 0 (by omega) H locs ls (by rw [zfil_0]; exact hP) hS (lv_sub hl [0, 1] rfl)
end
section
set_option maxRecDepth 100000
set_option maxHeartbeats 4000000 in
/-- BlockSealerModel.addKey  -/
theorem mY_addKey (l : Launch) (D : va_G) (cA : ClassId) (h : Nat) (ad : Nat → Nat) (ks pre hs sh se mo pr : Nat → Int32) (Z : Nat → Nat) (hZ : zB Z) (q : Nat) (hq : q < 11) : MetW l D cA yX1_addKey (ws_ yX1_addKey cX1_addKey 3 none) (zroom 1) ([.ref h, .int (nI q)] : List Value) (YG cA h ad zSub ks pre hs (zbz Z) sh se mo pr) (YG cA h ad zSub ks pre hs (zbz (zak ks q Z)) sh se mo pr) none := by
  refine zr_startV RX1 rfl (by decide) (Nat.le_of_ble_eq_true rfl) ?_
  intro p e s m below meth c A ls Q hx hb hml hown hts hK hP hD hA hS hret hl
  have hl : lv_has ls 3 [(0, .ref h), (1, .int (nI q))] := hl
  generalize hH : s.heap = H at hP
  have hS : va_S A s.heap H [] := by rw [← hH]; exact hS
  generalize hlo : ([] : List Loc) = locs at hS ⊢
  refine lv_iconst (v := nI 0) hx hb dX1_addKey_0 (by decide) ?_
  refine lv_istore_n (lv' := [(2, .int (nI 0)), (0, .ref h), (1, .int (nI q))]) hx hb dX1_addKey_1 rfl hl (by decide) rfl (fun ls hl => ?_)
  have L1 : ∀ (nL1 j : Nat), j + nL1 = 16 → ∀ (H : Heap) (locs : List Loc) (ls : Array Slot), va_P D Cl (YG cA h ad zSub ks pre hs (zfil (zbz Z) (zbz (zak ks q Z)) j) sh se mo pr) H → va_S A s.heap H locs → lv_has ls 3 [(2, .int (nI j)), (1, .int (nI q)), (0, .ref h)] → W p l e (zroom 1) s m ([.ref h, .int (nI q)] : List Value).toArray below meth c H locs 0 0 Q (F0 m 2 ls []) := by
    intro nL1
    induction nL1 with
    | zero =>
      intro j hL1 H locs ls hP hS hl
      obtain rfl : j = 16 := by omega
      refine lv_iload_n hx hb dX1_addKey_2 rfl (lv_at hl 0 rfl) ?_
      refine lv_bipush (v := nI 16) hx hb dX1_addKey_3 (by decide) ?_
      refine zr_ge_t (tgt := 41) hx hb dX1_addKey_5 (by decide) (by omega) (by omega) ?_
      have hP := zP (g := (zbz (zak ks q Z))) hP 5 rfl (fun j hj => zfil_lt hj)
      have hP : va_P D Cl (YG cA h ad zSub ks pre hs (zbz (zak ks q Z)) sh se mo pr) H := hP
      exact hret H locs _ ls hP hS dX1_addKey_41
    | succ nL1 ihL1 =>
      intro j hL1 H locs ls hP hS hl
      have hltL1 : j < 16 := by omega
      refine lv_iload_n hx hb dX1_addKey_2 rfl (lv_at hl 0 rfl) ?_
      refine lv_bipush (v := nI 16) hx hb dX1_addKey_3 (by decide) ?_
      refine zr_ge_f (tgt := 41) hx hb dX1_addKey_5 (by decide) (by omega) (by omega) ?_
      refine lv_aload_n hx hb dX1_addKey_8 rfl (lv_at hl 2 rfl) ?_
      refine zr_get (T := TX1) (N := 9) hx hb hts in_X1 hown hK hP 0 rfl rfl 4 (by decide) q230 rfl dX1_addKey_9 ?_
      refine lv_iload_n hx hb dX1_addKey_12 rfl (lv_at hl 0 rfl) ?_
      refine lv_dup2_11 hx hb dX1_addKey_13 rfl rfl ?_
      refine zr_iald (v := nI (Z j)) hx hb hK hP 5 0 rfl rfl j rfl (by omega) (by decide) (zfil_self _ _ _) dX1_addKey_14 ?_
      refine lv_aload_n hx hb dX1_addKey_15 rfl (lv_at hl 2 rfl) ?_
      refine zr_get (T := TX1) (N := 9) hx hb hts in_X1 hown hK hP 0 rfl rfl 1 (by decide) q227 rfl dX1_addKey_16 ?_
      refine lv_iconst (v := nI 4) hx hb dX1_addKey_19 (by decide) ?_
      refine lv_iload_n hx hb dX1_addKey_20 rfl (lv_at hl 1 rfl) ?_
      refine zr_imul (v := nI (4 * q)) hx hb dX1_addKey_21 (pk_mul _ _) ?_
      refine lv_iload_n hx hb dX1_addKey_22 rfl (lv_at hl 0 rfl) ?_
      refine lv_iconst (v := nI 4) hx hb dX1_addKey_23 (by decide) ?_
      refine zr_idiv hx hb dX1_addKey_24 (by omega) (by decide) (by decide) ?_
      refine zr_iadd (v := nI ((4 * q) + (j / 4))) hx hb dX1_addKey_25 (nI_add _ _) ?_
      refine zr_iald (v := ks ((4 * q) + (j / 4))) hx hb hK hP 2 0 rfl rfl ((4 * q) + (j / 4)) rfl (by omega) (by decide) rfl dX1_addKey_26 ?_
      refine lv_iload_n hx hb dX1_addKey_27 rfl (lv_at hl 0 rfl) ?_
      refine lv_iconst (v := nI 4) hx hb dX1_addKey_28 (by decide) ?_
      refine zr_irem hx hb dX1_addKey_29 (by omega) (by decide) (by decide) ?_
      refine zr_callS (rest := [.int (nI (Z j)), .int (nI j), .ref (ad 4)]) ⟨hx, hb, hml, hown, hts⟩ (mY_byteOf l D cA (ks ((4 * q) + (j / 4))) (j % 4) (by omega)) (va_cwS 2 hts (lw_S q223 q224 q31 q225) rfl rfl rfl (by decide +kernel) ⟨Nat.le_of_ble_eq_true rfl, Nat.le_of_ble_eq_true rfl⟩) hK hP hD rfl hS hA rfl hl.1 rfl (Nat.le_of_ble_eq_true rfl) dX1_addKey_30 ⟨Nat.zero_le _, Nat.zero_le _⟩ (fun H locs hP hS => ?_)
      refine zr_ixor (v := (nI (Z j)) ^^^ (nI (zby (ks ((4 * q) + (j / 4))) (j % 4)))) hx hb dX1_addKey_33 rfl ?_
      refine zr_iast (f' := zfil (zbz Z) (zbz (zak ks q Z)) (j + 1)) hx hb hK hP hD rfl hS 5 0 rfl rfl j rfl (by omega) (by decide) (zfil_s (nx_xor _ _)) dX1_addKey_34 (fun H locs hP hS => ?_)
      have hP : va_P D Cl (YG cA h ad zSub ks pre hs (zfil (zbz Z) (zbz (zak ks q Z)) (j + 1)) sh se mo pr) H := hP
      refine lv_iinc (v := nI (j + 1)) (lv' := [(2, .int (nI (j + 1))), (1, .int (nI q)), (0, .ref h)]) hx hb dX1_addKey_35 hl (k := 0) rfl (zinc _) (by decide) rfl (fun ls hl => ?_)
      refine lv_goto (tgt := 2) hx hb dX1_addKey_38 (by decide) ?_
      exact ihL1 (j + 1) (by omega) H locs ls hP hS (lv_sub hl [0, 1, 2] rfl)
  exact L1 16 0 (by omega) H locs ls (by rw [zfil_0]; exact hP) hS (lv_sub hl [0, 2, 1] rfl)
set_option maxHeartbeats 4000000 in
/-- BlockSealerModel.replaceAll  -/
theorem mY_replaceAll (l : Launch) (D : va_G) (cA : ClassId) (h : Nat) (ad : Nat → Nat) (ks pre hs sh se mo pr : Nat → Int32) (Z : Nat → Nat) (hZ : zB Z) : MetW l D cA yX1_replaceAll (ws_ yX1_replaceAll cX1_replaceAll 2 none) (zroom 0) ([.ref h] : List Value) (YG cA h ad zSub ks pre hs (zbz Z) sh se mo pr) (YG cA h ad zSub ks pre hs (zbz (zrp Z)) sh se mo pr) none := by
  refine zr_startV RX1 rfl (by decide) (Nat.le_of_ble_eq_true rfl) ?_
  intro p e s m below meth c A ls Q hx hb hml hown hts hK hP hD hA hS hret hl
  have hl : lv_has ls 2 [(0, .ref h)] := hl
  generalize hH : s.heap = H at hP
  have hS : va_S A s.heap H [] := by rw [← hH]; exact hS
  generalize hlo : ([] : List Loc) = locs at hS ⊢
  refine lv_iconst (v := nI 0) hx hb dX1_replaceAll_0 (by decide) ?_
  refine lv_istore_n (lv' := [(1, .int (nI 0)), (0, .ref h)]) hx hb dX1_replaceAll_1 rfl hl (by decide) rfl (fun ls hl => ?_)
  have L1 : ∀ (nL1 j : Nat), j + nL1 = 16 → ∀ (H : Heap) (locs : List Loc) (ls : Array Slot), va_P D Cl (YG cA h ad zSub ks pre hs (zfil (zbz Z) (zbz (zrp Z)) j) sh se mo pr) H → va_S A s.heap H locs → lv_has ls 2 [(1, .int (nI j)), (0, .ref h)] → W p l e (zroom 0) s m ([.ref h] : List Value).toArray below meth c H locs 0 0 Q (F0 m 2 ls []) := by
    intro nL1
    induction nL1 with
    | zero =>
      intro j hL1 H locs ls hP hS hl
      obtain rfl : j = 16 := by omega
      refine lv_iload_n hx hb dX1_replaceAll_2 rfl (lv_at hl 0 rfl) ?_
      refine lv_bipush (v := nI 16) hx hb dX1_replaceAll_3 (by decide) ?_
      refine zr_ge_t (tgt := 31) hx hb dX1_replaceAll_5 (by decide) (by omega) (by omega) ?_
      have hP := zP (g := (zbz (zrp Z))) hP 5 rfl (fun j hj => zfil_lt hj)
      have hP : va_P D Cl (YG cA h ad zSub ks pre hs (zbz (zrp Z)) sh se mo pr) H := hP
      exact hret H locs _ ls hP hS dX1_replaceAll_31
    | succ nL1 ihL1 =>
      intro j hL1 H locs ls hP hS hl
      have hltL1 : j < 16 := by omega
      refine lv_iload_n hx hb dX1_replaceAll_2 rfl (lv_at hl 0 rfl) ?_
      refine lv_bipush (v := nI 16) hx hb dX1_replaceAll_3 (by decide) ?_
      refine zr_ge_f (tgt := 31) hx hb dX1_replaceAll_5 (by decide) (by omega) (by omega) ?_
      refine lv_aload_n hx hb dX1_replaceAll_8 rfl (lv_at hl 1 rfl) ?_
      refine zr_get (T := TX1) (N := 9) hx hb hts in_X1 hown hK hP 0 rfl rfl 4 (by decide) q230 rfl dX1_replaceAll_9 ?_
      refine lv_iload_n hx hb dX1_replaceAll_12 rfl (lv_at hl 0 rfl) ?_
      refine lv_aload_n hx hb dX1_replaceAll_13 rfl (lv_at hl 1 rfl) ?_
      refine zr_get (T := TX1) (N := 9) hx hb hts in_X1 hown hK hP 0 rfl rfl 0 (by decide) q226 rfl dX1_replaceAll_14 ?_
      refine lv_aload_n hx hb dX1_replaceAll_17 rfl (lv_at hl 1 rfl) ?_
      refine zr_get (T := TX1) (N := 9) hx hb hts in_X1 hown hK hP 0 rfl rfl 4 (by decide) q230 rfl dX1_replaceAll_18 ?_
      refine lv_iload_n hx hb dX1_replaceAll_21 rfl (lv_at hl 0 rfl) ?_
      refine zr_iald (v := nI (Z j)) hx hb hK hP 5 0 rfl rfl j rfl (by omega) (by decide) (zfil_self _ _ _) dX1_replaceAll_22 ?_
      refine zr_iald (v := nI (zSB (Z j))) hx hb hK hP 1 0 rfl rfl (Z j) rfl (hZ j hltL1) (by decide) rfl dX1_replaceAll_23 ?_
      refine zr_iast (f' := zfil (zbz Z) (zbz (zrp Z)) (j + 1)) hx hb hK hP hD rfl hS 5 0 rfl rfl j rfl (by omega) (by decide) (zfil_s rfl) dX1_replaceAll_24 (fun H locs hP hS => ?_)
      have hP : va_P D Cl (YG cA h ad zSub ks pre hs (zfil (zbz Z) (zbz (zrp Z)) (j + 1)) sh se mo pr) H := hP
      refine lv_iinc (v := nI (j + 1)) (lv' := [(1, .int (nI (j + 1))), (0, .ref h)]) hx hb dX1_replaceAll_25 hl (k := 0) rfl (zinc _) (by decide) rfl (fun ls hl => ?_)
      refine lv_goto (tgt := 2) hx hb dX1_replaceAll_28 (by decide) ?_
      exact ihL1 (j + 1) (by omega) H locs ls hP hS (lv_sub hl [0, 1] rfl)
  exact L1 16 0 (by omega) H locs ls (by rw [zfil_0]; exact hP) hS (lv_sub hl [0, 1] rfl)
set_option maxHeartbeats 4000000 in
/-- BlockSealerModel.origin  -/
theorem mY_origin (l : Launch) (D : va_G) (cA : ClassId) (h : Nat) (ad : Nat → Nat) (ks pre hs sq sh se mo pr : Nat → Int32) (x : Int32) : MetW l D cA yX1_origin (ws_ yX1_origin cX1_origin 3 (some .int)) (zroom 0) ([.ref h, .int x] : List Value) (YG cA h ad zSub ks pre hs sq sh se mo pr) (YG cA h ad zSub ks pre hs sq sh se mo pr) (some (nI (zor x))) := by
  refine zr_startI RX1 rfl (by decide) (Nat.le_of_ble_eq_true rfl) ?_
  intro p e s m below meth c A ls Q hx hb hml hown hts hK hP hD hA hS hret hl
  have hl : lv_has ls 3 [(0, .ref h), (1, .int x)] := hl
  generalize hH : s.heap = H at hP
  have hS : va_S A s.heap H [] := by rw [← hH]; exact hS
  generalize hlo : ([] : List Loc) = locs at hS ⊢
  refine lv_iconst (v := nI 0) hx hb dX1_origin_0 (by decide) ?_
  refine lv_istore_n (lv' := [(2, .int (nI 0)), (0, .ref h), (1, .int x)]) hx hb dX1_origin_1 rfl hl (by decide) rfl (fun ls hl => ?_)
  have L1 : ∀ (nL1 i : Nat), i + nL1 = 256 → zsrch (fun j => decide (nI (zSB j) = x)) nL1 i = zor x → ∀ (H : Heap) (locs : List Loc) (ls : Array Slot), va_P D Cl (YG cA h ad zSub ks pre hs sq sh se mo pr) H → va_S A s.heap H locs → lv_has ls 3 [(2, .int (nI i)), (1, .int x), (0, .ref h)] → W p l e (zroom 0) s m ([.ref h, .int x] : List Value).toArray below meth c H locs 0 0 Q (F0 m 2 ls []) := by
    intro nL1
    induction nL1 with
    | zero =>
      intro i hL1 hqL1 H locs ls hP hS hl
      obtain rfl : i = 256 := by omega
      refine lv_iload_n hx hb dX1_origin_2 rfl (lv_at hl 0 rfl) ?_
      refine lv_sipush (v := nI 256) hx hb dX1_origin_3 (by decide) ?_
      refine zr_ge_t (tgt := 27) hx hb dX1_origin_6 (by decide) (by omega) (by omega) ?_
      refine lv_iconst (v := nI 0) hx hb dX1_origin_27 (by decide) ?_
      exact hret _ H locs _ ls (by rw [← hqL1]; rfl) hP hS dX1_origin_28
    | succ nL1 ihL1 =>
      intro i hL1 hqL1 H locs ls hP hS hl
      have hltL1 : i < 256 := by omega
      refine lv_iload_n hx hb dX1_origin_2 rfl (lv_at hl 0 rfl) ?_
      refine lv_sipush (v := nI 256) hx hb dX1_origin_3 (by decide) ?_
      refine zr_ge_f (tgt := 27) hx hb dX1_origin_6 (by decide) (by omega) (by omega) ?_
      refine lv_aload_n hx hb dX1_origin_9 rfl (lv_at hl 2 rfl) ?_
      refine zr_get (T := TX1) (N := 9) hx hb hts in_X1 hown hK hP 0 rfl rfl 0 (by decide) q226 rfl dX1_origin_10 ?_
      refine lv_iload_n hx hb dX1_origin_13 rfl (lv_at hl 0 rfl) ?_
      refine zr_iald (v := nI (zSB i)) hx hb hK hP 1 0 rfl rfl i rfl (by omega) (by decide) rfl dX1_origin_14 ?_
      refine lv_iload_n hx hb dX1_origin_15 rfl (lv_at hl 1 rfl) ?_
      refine lv_icmp_ne (tgt := 21) hx hb dX1_origin_16 (by decide) (fun hc => ?_) (fun hc => ?_)
      · skip
        refine lv_iinc (v := nI (i + 1)) (lv' := [(2, .int (nI (i + 1))), (1, .int x), (0, .ref h)]) hx hb dX1_origin_21 hl (k := 0) rfl (zinc _) (by decide) rfl (fun ls hl => ?_)
        refine lv_goto (tgt := 2) hx hb dX1_origin_24 (by decide) ?_
        exact ihL1 (i + 1) (by omega) (zsrch_miss (fun z => hc (of_decide_eq_true z)) hqL1) H locs ls hP hS (lv_sub hl [0, 1, 2] rfl)
      · skip
        refine lv_iload_n hx hb dX1_origin_19 rfl (lv_at hl 0 rfl) ?_
        exact hret _ H locs _ ls (by rw [zsrch_hit (decide_eq_true hc) hqL1]) hP hS dX1_origin_20
  exact L1 256 0 (by omega) rfl H locs ls hP hS (lv_sub hl [0, 2, 1] rfl)
set_option maxHeartbeats 4000000 in
/-- BlockSealerModel.restoreAll  -/
theorem mY_restoreAll (l : Launch) (D : va_G) (cA : ClassId) (h : Nat) (ad : Nat → Nat) (ks pre hs sh se mo pr : Nat → Int32) (Z : Nat → Nat) (hZ : zB Z) : MetW l D cA yX1_restoreAll (ws_ yX1_restoreAll cX1_restoreAll 2 none) (zroom 1) ([.ref h] : List Value) (YG cA h ad zSub ks pre hs (zbz Z) sh se mo pr) (YG cA h ad zSub ks pre hs (zbz (zrs Z)) sh se mo pr) none := by
  refine zr_startV RX1 rfl (by decide) (Nat.le_of_ble_eq_true rfl) ?_
  intro p e s m below meth c A ls Q hx hb hml hown hts hK hP hD hA hS hret hl
  have hl : lv_has ls 2 [(0, .ref h)] := hl
  generalize hH : s.heap = H at hP
  have hS : va_S A s.heap H [] := by rw [← hH]; exact hS
  generalize hlo : ([] : List Loc) = locs at hS ⊢
  refine lv_iconst (v := nI 0) hx hb dX1_restoreAll_0 (by decide) ?_
  refine lv_istore_n (lv' := [(1, .int (nI 0)), (0, .ref h)]) hx hb dX1_restoreAll_1 rfl hl (by decide) rfl (fun ls hl => ?_)
  have L1 : ∀ (nL1 j : Nat), j + nL1 = 16 → ∀ (H : Heap) (locs : List Loc) (ls : Array Slot), va_P D Cl (YG cA h ad zSub ks pre hs (zfil (zbz Z) (zbz (zrs Z)) j) sh se mo pr) H → va_S A s.heap H locs → lv_has ls 2 [(1, .int (nI j)), (0, .ref h)] → W p l e (zroom 1) s m ([.ref h] : List Value).toArray below meth c H locs 0 0 Q (F0 m 2 ls []) := by
    intro nL1
    induction nL1 with
    | zero =>
      intro j hL1 H locs ls hP hS hl
      obtain rfl : j = 16 := by omega
      refine lv_iload_n hx hb dX1_restoreAll_2 rfl (lv_at hl 0 rfl) ?_
      refine lv_bipush (v := nI 16) hx hb dX1_restoreAll_3 (by decide) ?_
      refine zr_ge_t (tgt := 30) hx hb dX1_restoreAll_5 (by decide) (by omega) (by omega) ?_
      have hP := zP (g := (zbz (zrs Z))) hP 5 rfl (fun j hj => zfil_lt hj)
      have hP : va_P D Cl (YG cA h ad zSub ks pre hs (zbz (zrs Z)) sh se mo pr) H := hP
      exact hret H locs _ ls hP hS dX1_restoreAll_30
    | succ nL1 ihL1 =>
      intro j hL1 H locs ls hP hS hl
      have hltL1 : j < 16 := by omega
      refine lv_iload_n hx hb dX1_restoreAll_2 rfl (lv_at hl 0 rfl) ?_
      refine lv_bipush (v := nI 16) hx hb dX1_restoreAll_3 (by decide) ?_
      refine zr_ge_f (tgt := 30) hx hb dX1_restoreAll_5 (by decide) (by omega) (by omega) ?_
      refine lv_aload_n hx hb dX1_restoreAll_8 rfl (lv_at hl 1 rfl) ?_
      refine zr_get (T := TX1) (N := 9) hx hb hts in_X1 hown hK hP 0 rfl rfl 4 (by decide) q230 rfl dX1_restoreAll_9 ?_
      refine lv_iload_n hx hb dX1_restoreAll_12 rfl (lv_at hl 0 rfl) ?_
      refine lv_aload_n hx hb dX1_restoreAll_13 rfl (lv_at hl 1 rfl) ?_
      refine lv_aload_n hx hb dX1_restoreAll_14 rfl (lv_at hl 1 rfl) ?_
      refine zr_get (T := TX1) (N := 9) hx hb hts in_X1 hown hK hP 0 rfl rfl 4 (by decide) q230 rfl dX1_restoreAll_15 ?_
      refine lv_iload_n hx hb dX1_restoreAll_18 rfl (lv_at hl 0 rfl) ?_
      refine zr_iald (v := nI (Z j)) hx hb hK hP 5 0 rfl rfl j rfl (by omega) (by decide) (zfil_self _ _ _) dX1_restoreAll_19 ?_
      refine zr_callVi (rest := [.int (nI j), .ref (ad 4)]) ⟨hx, hb, hml, hown, hts⟩ (mY_origin l D cA h ad ks pre hs (zfil (zbz Z) (zbz (zrs Z)) j) sh se mo pr (nI (Z j))) (cwV 1 hts (lw_V q312 q314 qs27 q31 q315) rfl rfl rfl (by decide +kernel) ⟨Nat.le_of_ble_eq_true rfl, Nat.le_of_ble_eq_true rfl⟩) [] hK hP hD rfl hS hA (ci := 1) (q0 := 0) rfl rfl rfl rfl hl.1 rfl (Nat.le_of_ble_eq_true rfl) dX1_restoreAll_20 ⟨Nat.zero_le _, Nat.zero_le _⟩ (fun H locs hP hS => ?_)
      have hP : va_P D Cl (YG cA h ad zSub ks pre hs (zfil (zbz Z) (zbz (zrs Z)) j) sh se mo pr) H := hP
      refine zr_iast (f' := zfil (zbz Z) (zbz (zrs Z)) (j + 1)) hx hb hK hP hD rfl hS 5 0 rfl rfl j rfl (by omega) (by decide) (zfil_s (by rw [zor_n (hZ j hltL1)]; rfl)) dX1_restoreAll_23 (fun H locs hP hS => ?_)
      have hP : va_P D Cl (YG cA h ad zSub ks pre hs (zfil (zbz Z) (zbz (zrs Z)) (j + 1)) sh se mo pr) H := hP
      refine lv_iinc (v := nI (j + 1)) (lv' := [(1, .int (nI (j + 1))), (0, .ref h)]) hx hb dX1_restoreAll_24 hl (k := 0) rfl (zinc _) (by decide) rfl (fun ls hl => ?_)
      refine lv_goto (tgt := 2) hx hb dX1_restoreAll_27 (by decide) ?_
      exact ihL1 (j + 1) (by omega) H locs ls hP hS (lv_sub hl [0, 1] rfl)
  exact L1 16 0 (by omega) H locs ls (by rw [zfil_0]; exact hP) hS (lv_sub hl [0, 1] rfl)
set_option maxHeartbeats 4000000 in
/-- BlockSealerModel.shift  -/
theorem mY_shift (l : Launch) (D : va_G) (cA : ClassId) (h : Nat) (ad : Nat → Nat) (ks pre hs sh se mo pr : Nat → Int32) (Z : Nat → Nat) : MetW l D cA yX1_shift (ws_ yX1_shift cX1_shift 2 none) (zroom 0) ([.ref h] : List Value) (YG cA h ad zSub ks pre hs (zbz Z) sh se mo pr) (YG cA h ad zSub ks pre hs (zbz (zsh Z)) (zbz (zsh Z)) se mo pr) none := by
  refine zr_startV RX1 rfl (by decide) (Nat.le_of_ble_eq_true rfl) ?_
  intro p e s m below meth c A ls Q hx hb hml hown hts hK hP hD hA hS hret hl
  have hl : lv_has ls 2 [(0, .ref h)] := hl
  generalize hH : s.heap = H at hP
  have hS : va_S A s.heap H [] := by rw [← hH]; exact hS
  generalize hlo : ([] : List Loc) = locs at hS ⊢
  refine lv_iconst (v := nI 0) hx hb dX1_shift_0 (by decide) ?_
  refine lv_istore_n (lv' := [(1, .int (nI 0)), (0, .ref h)]) hx hb dX1_shift_1 rfl hl (by decide) rfl (fun ls hl => ?_)
  have L1 : ∀ (nL1 j : Nat), j + nL1 = 16 → ∀ (H : Heap) (locs : List Loc) (ls : Array Slot), va_P D Cl (YG cA h ad zSub ks pre hs (zbz Z) (zfil sh (zbz (zsh Z)) j) se mo pr) H → va_S A s.heap H locs → lv_has ls 2 [(1, .int (nI j)), (0, .ref h)] → W p l e (zroom 0) s m ([.ref h] : List Value).toArray below meth c H locs 0 0 Q (F0 m 2 ls []) := by
    intro nL1
    induction nL1 with
    | zero =>
      intro j hL1 H locs ls hP hS hl
      obtain rfl : j = 16 := by omega
      refine lv_iload_n hx hb dX1_shift_2 rfl (lv_at hl 0 rfl) ?_
      refine lv_bipush (v := nI 16) hx hb dX1_shift_3 (by decide) ?_
      refine zr_ge_t (tgt := 41) hx hb dX1_shift_5 (by decide) (by omega) (by omega) ?_
      have hP := zP (g := (zbz (zsh Z))) hP 6 rfl (fun j hj => zfil_lt hj)
      have hP : va_P D Cl (YG cA h ad zSub ks pre hs (zbz Z) (zbz (zsh Z)) se mo pr) H := hP
      refine lv_iconst (v := nI 0) hx hb dX1_shift_41 (by decide) ?_
      refine lv_istore_n (lv' := [(1, .int (nI 0)), (0, .ref h)]) hx hb dX1_shift_42 rfl hl (by decide) rfl (fun ls hl => ?_)
      have L2 : ∀ (nL2 j : Nat), j + nL2 = 16 → ∀ (H : Heap) (locs : List Loc) (ls : Array Slot), va_P D Cl (YG cA h ad zSub ks pre hs (zfil (zbz Z) (zbz (zsh Z)) j) (zbz (zsh Z)) se mo pr) H → va_S A s.heap H locs → lv_has ls 2 [(1, .int (nI j)), (0, .ref h)] → W p l e (zroom 0) s m ([.ref h] : List Value).toArray below meth c H locs 0 0 Q (F0 m 43 ls []) := by
        intro nL2
        induction nL2 with
        | zero =>
          intro j hL2 H locs ls hP hS hl
          obtain rfl : j = 16 := by omega
          refine lv_iload_n hx hb dX1_shift_43 rfl (lv_at hl 0 rfl) ?_
          refine lv_bipush (v := nI 16) hx hb dX1_shift_44 (by decide) ?_
          refine zr_ge_t (tgt := 67) hx hb dX1_shift_46 (by decide) (by omega) (by omega) ?_
          have hP := zP (g := (zbz (zsh Z))) hP 5 rfl (fun j hj => zfil_lt hj)
          have hP : va_P D Cl (YG cA h ad zSub ks pre hs (zbz (zsh Z)) (zbz (zsh Z)) se mo pr) H := hP
          exact hret H locs _ ls hP hS dX1_shift_67
        | succ nL2 ihL2 =>
          intro j hL2 H locs ls hP hS hl
          have hltL2 : j < 16 := by omega
          refine lv_iload_n hx hb dX1_shift_43 rfl (lv_at hl 0 rfl) ?_
          refine lv_bipush (v := nI 16) hx hb dX1_shift_44 (by decide) ?_
          refine zr_ge_f (tgt := 67) hx hb dX1_shift_46 (by decide) (by omega) (by omega) ?_
          refine lv_aload_n hx hb dX1_shift_49 rfl (lv_at hl 1 rfl) ?_
          refine zr_get (T := TX1) (N := 9) hx hb hts in_X1 hown hK hP 0 rfl rfl 4 (by decide) q230 rfl dX1_shift_50 ?_
          refine lv_iload_n hx hb dX1_shift_53 rfl (lv_at hl 0 rfl) ?_
          refine lv_aload_n hx hb dX1_shift_54 rfl (lv_at hl 1 rfl) ?_
          refine zr_get (T := TX1) (N := 9) hx hb hts in_X1 hown hK hP 0 rfl rfl 5 (by decide) q231 rfl dX1_shift_55 ?_
          refine lv_iload_n hx hb dX1_shift_58 rfl (lv_at hl 0 rfl) ?_
          refine zr_iald (v := nI ((zsh Z) j)) hx hb hK hP 6 0 rfl rfl j rfl (by omega) (by decide) rfl dX1_shift_59 ?_
          refine zr_iast (f' := zfil (zbz Z) (zbz (zsh Z)) (j + 1)) hx hb hK hP hD rfl hS 5 0 rfl rfl j rfl (by omega) (by decide) (zfil_s rfl) dX1_shift_60 (fun H locs hP hS => ?_)
          have hP : va_P D Cl (YG cA h ad zSub ks pre hs (zfil (zbz Z) (zbz (zsh Z)) (j + 1)) (zbz (zsh Z)) se mo pr) H := hP
          refine lv_iinc (v := nI (j + 1)) (lv' := [(1, .int (nI (j + 1))), (0, .ref h)]) hx hb dX1_shift_61 hl (k := 0) rfl (zinc _) (by decide) rfl (fun ls hl => ?_)
          refine lv_goto (tgt := 43) hx hb dX1_shift_64 (by decide) ?_
          exact ihL2 (j + 1) (by omega) H locs ls hP hS (lv_sub hl [0, 1] rfl)
      exact L2 16 0 (by omega) H locs ls (by rw [zfil_0]; exact hP) hS (lv_sub hl [0, 1] rfl)
    | succ nL1 ihL1 =>
      intro j hL1 H locs ls hP hS hl
      have hltL1 : j < 16 := by omega
      refine lv_iload_n hx hb dX1_shift_2 rfl (lv_at hl 0 rfl) ?_
      refine lv_bipush (v := nI 16) hx hb dX1_shift_3 (by decide) ?_
      refine zr_ge_f (tgt := 41) hx hb dX1_shift_5 (by decide) (by omega) (by omega) ?_
      refine lv_aload_n hx hb dX1_shift_8 rfl (lv_at hl 1 rfl) ?_
      refine zr_get (T := TX1) (N := 9) hx hb hts in_X1 hown hK hP 0 rfl rfl 5 (by decide) q231 rfl dX1_shift_9 ?_
      refine lv_iload_n hx hb dX1_shift_12 rfl (lv_at hl 0 rfl) ?_
      refine lv_aload_n hx hb dX1_shift_13 rfl (lv_at hl 1 rfl) ?_
      refine zr_get (T := TX1) (N := 9) hx hb hts in_X1 hown hK hP 0 rfl rfl 4 (by decide) q230 rfl dX1_shift_14 ?_
      refine lv_iload_n hx hb dX1_shift_17 rfl (lv_at hl 0 rfl) ?_
      refine lv_iconst (v := nI 4) hx hb dX1_shift_18 (by decide) ?_
      refine zr_irem hx hb dX1_shift_19 (by omega) (by decide) (by decide) ?_
      refine lv_iconst (v := nI 4) hx hb dX1_shift_20 (by decide) ?_
      refine lv_iload_n hx hb dX1_shift_21 rfl (lv_at hl 0 rfl) ?_
      refine lv_iconst (v := nI 4) hx hb dX1_shift_22 (by decide) ?_
      refine zr_idiv hx hb dX1_shift_23 (by omega) (by decide) (by decide) ?_
      refine lv_iload_n hx hb dX1_shift_24 rfl (lv_at hl 0 rfl) ?_
      refine lv_iconst (v := nI 4) hx hb dX1_shift_25 (by decide) ?_
      refine zr_irem hx hb dX1_shift_26 (by omega) (by decide) (by decide) ?_
      refine zr_iadd (v := nI ((j / 4) + (j % 4))) hx hb dX1_shift_27 (nI_add _ _) ?_
      refine zr_imul (v := nI (4 * ((j / 4) + (j % 4)))) hx hb dX1_shift_28 (pk_mul _ _) ?_
      refine zr_iadd (v := nI ((j % 4) + (4 * ((j / 4) + (j % 4))))) hx hb dX1_shift_29 (nI_add _ _) ?_
      refine lv_bipush (v := nI 16) hx hb dX1_shift_30 (by decide) ?_
      refine zr_irem hx hb dX1_shift_32 (by omega) (by decide) (by decide) ?_
      refine zr_iald (v := nI (Z (((j % 4) + (4 * ((j / 4) + (j % 4)))) % 16))) hx hb hK hP 5 0 rfl rfl (((j % 4) + (4 * ((j / 4) + (j % 4)))) % 16) rfl (by omega) (by decide) rfl dX1_shift_33 ?_
      refine zr_iast (f' := zfil sh (zbz (zsh Z)) (j + 1)) hx hb hK hP hD rfl hS 6 0 rfl rfl j rfl (by omega) (by decide) (zfil_s rfl) dX1_shift_34 (fun H locs hP hS => ?_)
      have hP : va_P D Cl (YG cA h ad zSub ks pre hs (zbz Z) (zfil sh (zbz (zsh Z)) (j + 1)) se mo pr) H := hP
      refine lv_iinc (v := nI (j + 1)) (lv' := [(1, .int (nI (j + 1))), (0, .ref h)]) hx hb dX1_shift_35 hl (k := 0) rfl (zinc _) (by decide) rfl (fun ls hl => ?_)
      refine lv_goto (tgt := 2) hx hb dX1_shift_38 (by decide) ?_
      exact ihL1 (j + 1) (by omega) H locs ls hP hS (lv_sub hl [0, 1] rfl)
  exact L1 16 0 (by omega) H locs ls (by rw [zfil_0]; exact hP) hS (lv_sub hl [0, 1] rfl)
set_option maxHeartbeats 4000000 in
/-- BlockSealerModel.mixed  -/
theorem mY_mixed (l : Launch) (D : va_G) (cA : ClassId) (h : Nat) (ad : Nat → Nat) (ks pre hs sq se mo pr : Nat → Int32) (Z : Nat → Nat) (hZ : zB Z) (j : Nat) (hj : j < 16) : MetW l D cA yX1_mixed (ws_ yX1_mixed cX1_mixed 6 (some .int)) (zroom 2) ([.ref h, .int (nI j)] : List Value) (YG cA h ad zSub ks pre hs sq (zbz Z) se mo pr) (YG cA h ad zSub ks pre hs sq (zbz Z) se mo pr) (some (nI (zmx Z j))) := by
  refine zr_startI RX1 rfl (by decide) (Nat.le_of_ble_eq_true rfl) ?_
  intro p e s m below meth c A ls Q hx hb hml hown hts hK hP hD hA hS hret hl
  have hl : lv_has ls 6 [(0, .ref h), (1, .int (nI j))] := hl
  generalize hH : s.heap = H at hP
  have hS : va_S A s.heap H [] := by rw [← hH]; exact hS
  generalize hlo : ([] : List Loc) = locs at hS ⊢
  refine lv_iload_n hx hb dX1_mixed_0 rfl (lv_at hl 1 rfl) ?_
  refine lv_iconst (v := nI 4) hx hb dX1_mixed_1 (by decide) ?_
  refine zr_idiv hx hb dX1_mixed_2 (by omega) (by decide) (by decide) ?_
  refine lv_iconst (v := nI 4) hx hb dX1_mixed_3 (by decide) ?_
  refine zr_imul (v := nI ((j / 4) * 4)) hx hb dX1_mixed_4 (pk_mul _ _) ?_
  refine lv_istore_n (lv' := [(2, .int (nI ((j / 4) * 4))), (0, .ref h), (1, .int (nI j))]) hx hb dX1_mixed_5 rfl hl (by decide) rfl (fun ls hl => ?_)
  refine lv_aload_n hx hb dX1_mixed_6 rfl (lv_at hl 1 rfl) ?_
  refine zr_get (T := TX1) (N := 9) hx hb hts in_X1 hown hK hP 0 rfl rfl 5 (by decide) q231 rfl dX1_mixed_7 ?_
  refine lv_iload_n hx hb dX1_mixed_10 rfl (lv_at hl 0 rfl) ?_
  refine lv_iload_n hx hb dX1_mixed_11 rfl (lv_at hl 2 rfl) ?_
  refine lv_iconst (v := nI 1) hx hb dX1_mixed_12 (by decide) ?_
  refine zr_iadd (v := nI (j + 1)) hx hb dX1_mixed_13 (nI_add _ _) ?_
  refine lv_iconst (v := nI 4) hx hb dX1_mixed_14 (by decide) ?_
  refine zr_irem hx hb dX1_mixed_15 (by omega) (by decide) (by decide) ?_
  refine zr_iadd (v := nI (((j / 4) * 4) + ((j + 1) % 4))) hx hb dX1_mixed_16 (nI_add _ _) ?_
  refine zr_iald (v := nI (Z (((j / 4) * 4) + ((j + 1) % 4)))) hx hb hK hP 6 0 rfl rfl (((j / 4) * 4) + ((j + 1) % 4)) rfl (by omega) (by decide) rfl dX1_mixed_17 ?_
  refine lv_istore_n (lv' := [(3, .int (nI (Z (((j / 4) * 4) + ((j + 1) % 4))))), (2, .int (nI ((j / 4) * 4))), (0, .ref h), (1, .int (nI j))]) hx hb dX1_mixed_18 rfl hl (by decide) rfl (fun ls hl => ?_)
  refine lv_aload_n hx hb dX1_mixed_19 rfl (lv_at hl 2 rfl) ?_
  refine zr_get (T := TX1) (N := 9) hx hb hts in_X1 hown hK hP 0 rfl rfl 5 (by decide) q231 rfl dX1_mixed_20 ?_
  refine lv_iload_n hx hb dX1_mixed_23 rfl (lv_at hl 1 rfl) ?_
  refine lv_iload_n hx hb dX1_mixed_24 rfl (lv_at hl 3 rfl) ?_
  refine lv_iconst (v := nI 2) hx hb dX1_mixed_25 (by decide) ?_
  refine zr_iadd (v := nI (j + 2)) hx hb dX1_mixed_26 (nI_add _ _) ?_
  refine lv_iconst (v := nI 4) hx hb dX1_mixed_27 (by decide) ?_
  refine zr_irem hx hb dX1_mixed_28 (by omega) (by decide) (by decide) ?_
  refine zr_iadd (v := nI (((j / 4) * 4) + ((j + 2) % 4))) hx hb dX1_mixed_29 (nI_add _ _) ?_
  refine zr_iald (v := nI (Z (((j / 4) * 4) + ((j + 2) % 4)))) hx hb hK hP 6 0 rfl rfl (((j / 4) * 4) + ((j + 2) % 4)) rfl (by omega) (by decide) rfl dX1_mixed_30 ?_
  refine lv_istore (lv' := [(4, .int (nI (Z (((j / 4) * 4) + ((j + 2) % 4))))), (3, .int (nI (Z (((j / 4) * 4) + ((j + 1) % 4))))), (2, .int (nI ((j / 4) * 4))), (0, .ref h), (1, .int (nI j))]) hx hb dX1_mixed_31 hl (by decide) rfl (fun ls hl => ?_)
  refine lv_aload_n hx hb dX1_mixed_33 rfl (lv_at hl 3 rfl) ?_
  refine zr_get (T := TX1) (N := 9) hx hb hts in_X1 hown hK hP 0 rfl rfl 5 (by decide) q231 rfl dX1_mixed_34 ?_
  refine lv_iload_n hx hb dX1_mixed_37 rfl (lv_at hl 2 rfl) ?_
  refine lv_iload_n hx hb dX1_mixed_38 rfl (lv_at hl 4 rfl) ?_
  refine lv_iconst (v := nI 3) hx hb dX1_mixed_39 (by decide) ?_
  refine zr_iadd (v := nI (j + 3)) hx hb dX1_mixed_40 (nI_add _ _) ?_
  refine lv_iconst (v := nI 4) hx hb dX1_mixed_41 (by decide) ?_
  refine zr_irem hx hb dX1_mixed_42 (by omega) (by decide) (by decide) ?_
  refine zr_iadd (v := nI (((j / 4) * 4) + ((j + 3) % 4))) hx hb dX1_mixed_43 (nI_add _ _) ?_
  refine zr_iald (v := nI (Z (((j / 4) * 4) + ((j + 3) % 4)))) hx hb hK hP 6 0 rfl rfl (((j / 4) * 4) + ((j + 3) % 4)) rfl (by omega) (by decide) rfl dX1_mixed_44 ?_
  refine lv_istore (lv' := [(5, .int (nI (Z (((j / 4) * 4) + ((j + 3) % 4))))), (4, .int (nI (Z (((j / 4) * 4) + ((j + 2) % 4))))), (3, .int (nI (Z (((j / 4) * 4) + ((j + 1) % 4))))), (2, .int (nI ((j / 4) * 4))), (0, .ref h), (1, .int (nI j))]) hx hb dX1_mixed_45 hl (by decide) rfl (fun ls hl => ?_)
  refine lv_iconst (v := nI 2) hx hb dX1_mixed_47 (by decide) ?_
  refine lv_aload_n hx hb dX1_mixed_48 rfl (lv_at hl 4 rfl) ?_
  refine zr_get (T := TX1) (N := 9) hx hb hts in_X1 hown hK hP 0 rfl rfl 5 (by decide) q231 rfl dX1_mixed_49 ?_
  refine lv_iload_n hx hb dX1_mixed_52 rfl (lv_at hl 5 rfl) ?_
  refine zr_iald (v := nI (Z j)) hx hb hK hP 6 0 rfl rfl j rfl (by omega) (by decide) rfl dX1_mixed_53 ?_
  refine zr_callS (rest := []) ⟨hx, hb, hml, hown, hts⟩ (mY_times2 l D cA (Z j) (hZ _ (by omega))) (va_cwS 2 hts (lw_S q206 q207 q31 q208) rfl rfl rfl (by decide +kernel) ⟨Nat.le_of_ble_eq_true rfl, Nat.le_of_ble_eq_true rfl⟩) hK hP hD rfl hS hA rfl hl.1 rfl (Nat.le_of_ble_eq_true rfl) dX1_mixed_54 ⟨Nat.zero_le _, Nat.zero_le _⟩ (fun H locs hP hS => ?_)
  refine lv_iconst (v := nI 3) hx hb dX1_mixed_57 (by decide) ?_
  refine lv_iload_n hx hb dX1_mixed_58 rfl (lv_at hl 2 rfl) ?_
  refine zr_callS (rest := [.int (nI (ztN (Z j)))]) ⟨hx, hb, hml, hown, hts⟩ (mY_times3 l D cA (Z (((j / 4) * 4) + ((j + 1) % 4))) (hZ _ (by omega))) (va_cwS 2 hts (lw_S q206 q207 q31 q208) rfl rfl rfl (by decide +kernel) ⟨Nat.le_of_ble_eq_true rfl, Nat.le_of_ble_eq_true rfl⟩) hK hP hD rfl hS hA rfl hl.1 rfl (Nat.le_of_ble_eq_true rfl) dX1_mixed_59 ⟨Nat.zero_le _, Nat.zero_le _⟩ (fun H locs hP hS => ?_)
  refine zr_ixor (v := (nI (ztN (Z j))) ^^^ (nI (ztN (Z (((j / 4) * 4) + ((j + 1) % 4))) ^^^ (Z (((j / 4) * 4) + ((j + 1) % 4)))))) hx hb dX1_mixed_62 rfl ?_
  refine lv_iload hx hb dX1_mixed_63 (lv_at hl 1 rfl) ?_
  refine zr_ixor (v := ((nI (ztN (Z j))) ^^^ (nI (ztN (Z (((j / 4) * 4) + ((j + 1) % 4))) ^^^ (Z (((j / 4) * 4) + ((j + 1) % 4)))))) ^^^ (nI (Z (((j / 4) * 4) + ((j + 2) % 4))))) hx hb dX1_mixed_65 rfl ?_
  refine lv_iload hx hb dX1_mixed_66 (lv_at hl 0 rfl) ?_
  refine zr_ixor (v := (((nI (ztN (Z j))) ^^^ (nI (ztN (Z (((j / 4) * 4) + ((j + 1) % 4))) ^^^ (Z (((j / 4) * 4) + ((j + 1) % 4)))))) ^^^ (nI (Z (((j / 4) * 4) + ((j + 2) % 4))))) ^^^ (nI (Z (((j / 4) * 4) + ((j + 3) % 4))))) hx hb dX1_mixed_68 rfl ?_
  exact hret _ H locs _ ls (by rw [nx_xor, nx_xor, nx_xor]; rfl) hP hS dX1_mixed_69
set_option maxHeartbeats 4000000 in
/-- BlockSealerModel.mixColumns  -/
theorem mY_mixColumns (l : Launch) (D : va_G) (cA : ClassId) (h : Nat) (ad : Nat → Nat) (ks pre hs sh se mo pr : Nat → Int32) (Z : Nat → Nat) (hZ : zB Z) : MetW l D cA yX1_mixColumns (ws_ yX1_mixColumns cX1_mixColumns 2 none) (zroom 3) ([.ref h] : List Value) (YG cA h ad zSub ks pre hs (zbz Z) sh se mo pr) (YG cA h ad zSub ks pre hs (zbz (zmx Z)) (zbz Z) se mo pr) none := by
  refine zr_startV RX1 rfl (by decide) (Nat.le_of_ble_eq_true rfl) ?_
  intro p e s m below meth c A ls Q hx hb hml hown hts hK hP hD hA hS hret hl
  have hl : lv_has ls 2 [(0, .ref h)] := hl
  generalize hH : s.heap = H at hP
  have hS : va_S A s.heap H [] := by rw [← hH]; exact hS
  generalize hlo : ([] : List Loc) = locs at hS ⊢
  refine lv_iconst (v := nI 0) hx hb dX1_mixColumns_0 (by decide) ?_
  refine lv_istore_n (lv' := [(1, .int (nI 0)), (0, .ref h)]) hx hb dX1_mixColumns_1 rfl hl (by decide) rfl (fun ls hl => ?_)
  have L1 : ∀ (nL1 j : Nat), j + nL1 = 16 → ∀ (H : Heap) (locs : List Loc) (ls : Array Slot), va_P D Cl (YG cA h ad zSub ks pre hs (zbz Z) (zfil sh (zbz Z) j) se mo pr) H → va_S A s.heap H locs → lv_has ls 2 [(1, .int (nI j)), (0, .ref h)] → W p l e (zroom 3) s m ([.ref h] : List Value).toArray below meth c H locs 0 0 Q (F0 m 2 ls []) := by
    intro nL1
    induction nL1 with
    | zero =>
      intro j hL1 H locs ls hP hS hl
      obtain rfl : j = 16 := by omega
      refine lv_iload_n hx hb dX1_mixColumns_2 rfl (lv_at hl 0 rfl) ?_
      refine lv_bipush (v := nI 16) hx hb dX1_mixColumns_3 (by decide) ?_
      refine zr_ge_t (tgt := 26) hx hb dX1_mixColumns_5 (by decide) (by omega) (by omega) ?_
      have hP := zP (g := zbz Z) hP 6 rfl (fun j hj => zfil_lt hj)
      have hP : va_P D Cl (YG cA h ad zSub ks pre hs (zbz Z) (zbz Z) se mo pr) H := hP
      refine lv_iconst (v := nI 0) hx hb dX1_mixColumns_26 (by decide) ?_
      refine lv_istore_n (lv' := [(1, .int (nI 0)), (0, .ref h)]) hx hb dX1_mixColumns_27 rfl hl (by decide) rfl (fun ls hl => ?_)
      have L2 : ∀ (nL2 j : Nat), j + nL2 = 16 → ∀ (H : Heap) (locs : List Loc) (ls : Array Slot), va_P D Cl (YG cA h ad zSub ks pre hs (zfil (zbz Z) (zbz (zmx Z)) j) (zbz Z) se mo pr) H → va_S A s.heap H locs → lv_has ls 2 [(1, .int (nI j)), (0, .ref h)] → W p l e (zroom 3) s m ([.ref h] : List Value).toArray below meth c H locs 0 0 Q (F0 m 28 ls []) := by
        intro nL2
        induction nL2 with
        | zero =>
          intro j hL2 H locs ls hP hS hl
          obtain rfl : j = 16 := by omega
          refine lv_iload_n hx hb dX1_mixColumns_28 rfl (lv_at hl 0 rfl) ?_
          refine lv_bipush (v := nI 16) hx hb dX1_mixColumns_29 (by decide) ?_
          refine zr_ge_t (tgt := 51) hx hb dX1_mixColumns_31 (by decide) (by omega) (by omega) ?_
          have hP := zP (g := (zbz (zmx Z))) hP 5 rfl (fun j hj => zfil_lt hj)
          have hP : va_P D Cl (YG cA h ad zSub ks pre hs (zbz (zmx Z)) (zbz Z) se mo pr) H := hP
          exact hret H locs _ ls hP hS dX1_mixColumns_51
        | succ nL2 ihL2 =>
          intro j hL2 H locs ls hP hS hl
          have hltL2 : j < 16 := by omega
          refine lv_iload_n hx hb dX1_mixColumns_28 rfl (lv_at hl 0 rfl) ?_
          refine lv_bipush (v := nI 16) hx hb dX1_mixColumns_29 (by decide) ?_
          refine zr_ge_f (tgt := 51) hx hb dX1_mixColumns_31 (by decide) (by omega) (by omega) ?_
          refine lv_aload_n hx hb dX1_mixColumns_34 rfl (lv_at hl 1 rfl) ?_
          refine zr_get (T := TX1) (N := 9) hx hb hts in_X1 hown hK hP 0 rfl rfl 4 (by decide) q230 rfl dX1_mixColumns_35 ?_
          refine lv_iload_n hx hb dX1_mixColumns_38 rfl (lv_at hl 0 rfl) ?_
          refine lv_aload_n hx hb dX1_mixColumns_39 rfl (lv_at hl 1 rfl) ?_
          refine lv_iload_n hx hb dX1_mixColumns_40 rfl (lv_at hl 0 rfl) ?_
          refine zr_callVi (rest := [.int (nI j), .ref (ad 4)]) ⟨hx, hb, hml, hown, hts⟩ (mY_mixed l D cA h ad ks pre hs (zfil (zbz Z) (zbz (zmx Z)) j) se mo pr Z (by repeat (first | assumption | apply zB_re | apply zB_rx | apply zB_rl | apply zB_ly | apply zB_rp | apply zB_rs | apply zB_rd | apply zB_bk | apply zB_ak | apply zB_sh | apply zB_mx)) j (by omega)) (cwV 1 hts (lw_V q292 q294 qs23 q31 q295) rfl rfl rfl (by decide +kernel) ⟨Nat.le_of_ble_eq_true rfl, Nat.le_of_ble_eq_true rfl⟩) [] hK hP hD rfl hS hA (ci := 1) (q0 := 0) rfl rfl rfl rfl hl.1 rfl (Nat.le_of_ble_eq_true rfl) dX1_mixColumns_41 ⟨Nat.zero_le _, Nat.zero_le _⟩ (fun H locs hP hS => ?_)
          have hP : va_P D Cl (YG cA h ad zSub ks pre hs (zfil (zbz Z) (zbz (zmx Z)) j) (zbz Z) se mo pr) H := hP
          refine zr_iast (f' := zfil (zbz Z) (zbz (zmx Z)) (j + 1)) hx hb hK hP hD rfl hS 5 0 rfl rfl j rfl (by omega) (by decide) (zfil_s rfl) dX1_mixColumns_44 (fun H locs hP hS => ?_)
          have hP : va_P D Cl (YG cA h ad zSub ks pre hs (zfil (zbz Z) (zbz (zmx Z)) (j + 1)) (zbz Z) se mo pr) H := hP
          refine lv_iinc (v := nI (j + 1)) (lv' := [(1, .int (nI (j + 1))), (0, .ref h)]) hx hb dX1_mixColumns_45 hl (k := 0) rfl (zinc _) (by decide) rfl (fun ls hl => ?_)
          refine lv_goto (tgt := 28) hx hb dX1_mixColumns_48 (by decide) ?_
          exact ihL2 (j + 1) (by omega) H locs ls hP hS (lv_sub hl [0, 1] rfl)
      exact L2 16 0 (by omega) H locs ls (by rw [zfil_0]; exact hP) hS (lv_sub hl [0, 1] rfl)
    | succ nL1 ihL1 =>
      intro j hL1 H locs ls hP hS hl
      have hltL1 : j < 16 := by omega
      refine lv_iload_n hx hb dX1_mixColumns_2 rfl (lv_at hl 0 rfl) ?_
      refine lv_bipush (v := nI 16) hx hb dX1_mixColumns_3 (by decide) ?_
      refine zr_ge_f (tgt := 26) hx hb dX1_mixColumns_5 (by decide) (by omega) (by omega) ?_
      refine lv_aload_n hx hb dX1_mixColumns_8 rfl (lv_at hl 1 rfl) ?_
      refine zr_get (T := TX1) (N := 9) hx hb hts in_X1 hown hK hP 0 rfl rfl 5 (by decide) q231 rfl dX1_mixColumns_9 ?_
      refine lv_iload_n hx hb dX1_mixColumns_12 rfl (lv_at hl 0 rfl) ?_
      refine lv_aload_n hx hb dX1_mixColumns_13 rfl (lv_at hl 1 rfl) ?_
      refine zr_get (T := TX1) (N := 9) hx hb hts in_X1 hown hK hP 0 rfl rfl 4 (by decide) q230 rfl dX1_mixColumns_14 ?_
      refine lv_iload_n hx hb dX1_mixColumns_17 rfl (lv_at hl 0 rfl) ?_
      refine zr_iald (v := nI (Z j)) hx hb hK hP 5 0 rfl rfl j rfl (by omega) (by decide) rfl dX1_mixColumns_18 ?_
      refine zr_iast (f' := zfil sh (zbz Z) (j + 1)) hx hb hK hP hD rfl hS 6 0 rfl rfl j rfl (by omega) (by decide) (zfil_s rfl) dX1_mixColumns_19 (fun H locs hP hS => ?_)
      have hP : va_P D Cl (YG cA h ad zSub ks pre hs (zbz Z) (zfil sh (zbz Z) (j + 1)) se mo pr) H := hP
      refine lv_iinc (v := nI (j + 1)) (lv' := [(1, .int (nI (j + 1))), (0, .ref h)]) hx hb dX1_mixColumns_20 hl (k := 0) rfl (zinc _) (by decide) rfl (fun ls hl => ?_)
      refine lv_goto (tgt := 2) hx hb dX1_mixColumns_23 (by decide) ?_
      exact ihL1 (j + 1) (by omega) H locs ls hP hS (lv_sub hl [0, 1] rfl)
  exact L1 16 0 (by omega) H locs ls (by rw [zfil_0]; exact hP) hS (lv_sub hl [0, 1] rfl)
set_option maxHeartbeats 4000000 in
/-- BlockSealerModel.lay  -/
theorem mY_lay (l : Launch) (D : va_G) (cA : ClassId) (h : Nat) (ad : Nat → Nat) (ks pre hs sq sh se mo pr : Nat → Int32) (k0 k1 k2 k3 : Int32) : MetW l D cA yX1_lay (ws_ yX1_lay cX1_lay 6 none) (zroom 1) ([.ref h, .int k0, .int k1, .int k2, .int k3] : List Value) (YG cA h ad zSub ks pre hs sq sh se mo pr) (YG cA h ad zSub ks pre hs (zbz (zly (zw4 k0 k1 k2 k3))) sh se mo pr) none := by
  refine zr_startV RX1 rfl (by decide) (Nat.le_of_ble_eq_true rfl) ?_
  intro p e s m below meth c A ls Q hx hb hml hown hts hK hP hD hA hS hret hl
  have hl : lv_has ls 6 [(0, .ref h), (1, .int k0), (2, .int k1), (3, .int k2), (4, .int k3)] := hl
  generalize hH : s.heap = H at hP
  have hS : va_S A s.heap H [] := by rw [← hH]; exact hS
  generalize hlo : ([] : List Loc) = locs at hS ⊢
  refine lv_iconst (v := nI 0) hx hb dX1_lay_0 (by decide) ?_
  refine lv_istore (lv' := [(5, .int (nI 0)), (0, .ref h), (1, .int k0), (2, .int k1), (3, .int k2), (4, .int k3)]) hx hb dX1_lay_1 hl (by decide) rfl (fun ls hl => ?_)
  have L1 : ∀ (nL1 j : Nat), j + nL1 = 4 → ∀ (H : Heap) (locs : List Loc) (ls : Array Slot), va_P D Cl (YG cA h ad zSub ks pre hs (zl4 sq (zw4 k0 k1 k2 k3) j) sh se mo pr) H → va_S A s.heap H locs → lv_has ls 6 [(5, .int (nI j)), (0, .ref h), (1, .int k0), (2, .int k1), (3, .int k2), (4, .int k3)] → W p l e (zroom 1) s m ([.ref h, .int k0, .int k1, .int k2, .int k3] : List Value).toArray below meth c H locs 0 0 Q (F0 m 3 ls []) := by
    intro nL1
    induction nL1 with
    | zero =>
      intro j hL1 H locs ls hP hS hl
      obtain rfl : j = 4 := by omega
      refine lv_iload hx hb dX1_lay_3 (lv_at hl 0 rfl) ?_
      refine lv_iconst (v := nI 4) hx hb dX1_lay_5 (by decide) ?_
      refine zr_ge_t (tgt := 76) hx hb dX1_lay_6 (by decide) (by omega) (by omega) ?_
      have hP := zP (g := zbz (zly (zw4 k0 k1 k2 k3))) hP 5 rfl (fun j hj => zl4_end hj)
      have hP : va_P D Cl (YG cA h ad zSub ks pre hs (zbz (zly (zw4 k0 k1 k2 k3))) sh se mo pr) H := hP
      exact hret H locs _ ls hP hS dX1_lay_76
    | succ nL1 ihL1 =>
      intro j hL1 H locs ls hP hS hl
      have hltL1 : j < 4 := by omega
      refine lv_iload hx hb dX1_lay_3 (lv_at hl 0 rfl) ?_
      refine lv_iconst (v := nI 4) hx hb dX1_lay_5 (by decide) ?_
      refine zr_ge_f (tgt := 76) hx hb dX1_lay_6 (by decide) (by omega) (by omega) ?_
      refine lv_aload_n hx hb dX1_lay_9 rfl (lv_at hl 1 rfl) ?_
      refine zr_get (T := TX1) (N := 9) hx hb hts in_X1 hown hK hP 0 rfl rfl 4 (by decide) q230 rfl dX1_lay_10 ?_
      refine lv_iload hx hb dX1_lay_13 (lv_at hl 0 rfl) ?_
      refine lv_iload_n hx hb dX1_lay_15 rfl (lv_at hl 2 rfl) ?_
      refine lv_iload hx hb dX1_lay_16 (lv_at hl 0 rfl) ?_
      refine zr_callS (rest := [.int (nI j), .ref (ad 4)]) ⟨hx, hb, hml, hown, hts⟩ (mY_byteOf l D cA k0 j (by omega)) (va_cwS 2 hts (lw_S q223 q224 q31 q225) rfl rfl rfl (by decide +kernel) ⟨Nat.le_of_ble_eq_true rfl, Nat.le_of_ble_eq_true rfl⟩) hK hP hD rfl hS hA rfl hl.1 rfl (Nat.le_of_ble_eq_true rfl) dX1_lay_18 ⟨Nat.zero_le _, Nat.zero_le _⟩ (fun H locs hP hS => ?_)
      refine zr_iast (f' := upd (zl4 sq (zw4 k0 k1 k2 k3) j) j (nI (zby k0 j))) hx hb hK hP hD rfl hS 5 0 rfl rfl j rfl (by omega) (by decide) rfl dX1_lay_21 (fun H locs hP hS => ?_)
      have hP : va_P D Cl (YG cA h ad zSub ks pre hs (upd (zl4 sq (zw4 k0 k1 k2 k3) j) j (nI (zby k0 j))) sh se mo pr) H := hP
      refine lv_aload_n hx hb dX1_lay_22 rfl (lv_at hl 1 rfl) ?_
      refine zr_get (T := TX1) (N := 9) hx hb hts in_X1 hown hK hP 0 rfl rfl 4 (by decide) q230 rfl dX1_lay_23 ?_
      refine lv_iconst (v := nI 4) hx hb dX1_lay_26 (by decide) ?_
      refine lv_iload hx hb dX1_lay_27 (lv_at hl 0 rfl) ?_
      refine zr_iadd (v := nI (4 + j)) hx hb dX1_lay_29 (nI_add _ _) ?_
      refine lv_iload_n hx hb dX1_lay_30 rfl (lv_at hl 3 rfl) ?_
      refine lv_iload hx hb dX1_lay_31 (lv_at hl 0 rfl) ?_
      refine zr_callS (rest := [.int (nI (4 + j)), .ref (ad 4)]) ⟨hx, hb, hml, hown, hts⟩ (mY_byteOf l D cA k1 j (by omega)) (va_cwS 2 hts (lw_S q223 q224 q31 q225) rfl rfl rfl (by decide +kernel) ⟨Nat.le_of_ble_eq_true rfl, Nat.le_of_ble_eq_true rfl⟩) hK hP hD rfl hS hA rfl hl.1 rfl (Nat.le_of_ble_eq_true rfl) dX1_lay_33 ⟨Nat.zero_le _, Nat.zero_le _⟩ (fun H locs hP hS => ?_)
      refine zr_iast (f' := upd (upd (zl4 sq (zw4 k0 k1 k2 k3) j) j (nI (zby k0 j))) (4 + j) (nI (zby k1 j))) hx hb hK hP hD rfl hS 5 0 rfl rfl (4 + j) rfl (by omega) (by decide) rfl dX1_lay_36 (fun H locs hP hS => ?_)
      have hP : va_P D Cl (YG cA h ad zSub ks pre hs (upd (upd (zl4 sq (zw4 k0 k1 k2 k3) j) j (nI (zby k0 j))) (4 + j) (nI (zby k1 j))) sh se mo pr) H := hP
      refine lv_aload_n hx hb dX1_lay_37 rfl (lv_at hl 1 rfl) ?_
      refine zr_get (T := TX1) (N := 9) hx hb hts in_X1 hown hK hP 0 rfl rfl 4 (by decide) q230 rfl dX1_lay_38 ?_
      refine lv_bipush (v := nI 8) hx hb dX1_lay_41 (by decide) ?_
      refine lv_iload hx hb dX1_lay_43 (lv_at hl 0 rfl) ?_
      refine zr_iadd (v := nI (8 + j)) hx hb dX1_lay_45 (nI_add _ _) ?_
      refine lv_iload_n hx hb dX1_lay_46 rfl (lv_at hl 4 rfl) ?_
      refine lv_iload hx hb dX1_lay_47 (lv_at hl 0 rfl) ?_
      refine zr_callS (rest := [.int (nI (8 + j)), .ref (ad 4)]) ⟨hx, hb, hml, hown, hts⟩ (mY_byteOf l D cA k2 j (by omega)) (va_cwS 2 hts (lw_S q223 q224 q31 q225) rfl rfl rfl (by decide +kernel) ⟨Nat.le_of_ble_eq_true rfl, Nat.le_of_ble_eq_true rfl⟩) hK hP hD rfl hS hA rfl hl.1 rfl (Nat.le_of_ble_eq_true rfl) dX1_lay_49 ⟨Nat.zero_le _, Nat.zero_le _⟩ (fun H locs hP hS => ?_)
      refine zr_iast (f' := upd (upd (upd (zl4 sq (zw4 k0 k1 k2 k3) j) j (nI (zby k0 j))) (4 + j) (nI (zby k1 j))) (8 + j) (nI (zby k2 j))) hx hb hK hP hD rfl hS 5 0 rfl rfl (8 + j) rfl (by omega) (by decide) rfl dX1_lay_52 (fun H locs hP hS => ?_)
      have hP : va_P D Cl (YG cA h ad zSub ks pre hs (upd (upd (upd (zl4 sq (zw4 k0 k1 k2 k3) j) j (nI (zby k0 j))) (4 + j) (nI (zby k1 j))) (8 + j) (nI (zby k2 j))) sh se mo pr) H := hP
      refine lv_aload_n hx hb dX1_lay_53 rfl (lv_at hl 1 rfl) ?_
      refine zr_get (T := TX1) (N := 9) hx hb hts in_X1 hown hK hP 0 rfl rfl 4 (by decide) q230 rfl dX1_lay_54 ?_
      refine lv_bipush (v := nI 12) hx hb dX1_lay_57 (by decide) ?_
      refine lv_iload hx hb dX1_lay_59 (lv_at hl 0 rfl) ?_
      refine zr_iadd (v := nI (12 + j)) hx hb dX1_lay_61 (nI_add _ _) ?_
      refine lv_iload hx hb dX1_lay_62 (lv_at hl 5 rfl) ?_
      refine lv_iload hx hb dX1_lay_64 (lv_at hl 0 rfl) ?_
      refine zr_callS (rest := [.int (nI (12 + j)), .ref (ad 4)]) ⟨hx, hb, hml, hown, hts⟩ (mY_byteOf l D cA k3 j (by omega)) (va_cwS 2 hts (lw_S q223 q224 q31 q225) rfl rfl rfl (by decide +kernel) ⟨Nat.le_of_ble_eq_true rfl, Nat.le_of_ble_eq_true rfl⟩) hK hP hD rfl hS hA rfl hl.1 rfl (Nat.le_of_ble_eq_true rfl) dX1_lay_66 ⟨Nat.zero_le _, Nat.zero_le _⟩ (fun H locs hP hS => ?_)
      refine zr_iast (f' := zl4 sq (zw4 k0 k1 k2 k3) (j + 1)) hx hb hK hP hD rfl hS 5 0 rfl rfl (12 + j) rfl (by omega) (by decide) (zl4_s hltL1) dX1_lay_69 (fun H locs hP hS => ?_)
      have hP : va_P D Cl (YG cA h ad zSub ks pre hs (zl4 sq (zw4 k0 k1 k2 k3) (j + 1)) sh se mo pr) H := hP
      refine lv_iinc (v := nI (j + 1)) (lv' := [(5, .int (nI (j + 1))), (0, .ref h), (1, .int k0), (2, .int k1), (3, .int k2), (4, .int k3)]) hx hb dX1_lay_70 hl (k := 0) rfl (zinc _) (by decide) rfl (fun ls hl => ?_)
      refine lv_goto (tgt := 3) hx hb dX1_lay_73 (by decide) ?_
      exact ihL1 (j + 1) (by omega) H locs ls hP hS (lv_sub hl [0, 1, 2, 3, 4, 5] rfl)
  exact L1 4 0 (by omega) H locs ls (by rw [zl4_0]; exact hP) hS (lv_sub hl [0, 1, 2, 3, 4, 5] rfl)
set_option maxHeartbeats 4000000 in
/-- BlockSealerModel.joined  -/
theorem mY_joined (l : Launch) (D : va_G) (cA : ClassId) (h : Nat) (ad : Nat → Nat) (ks pre hs sh se mo pr : Nat → Int32) (Z : Nat → Nat) (k : Nat) (hk : k < 4) : MetW l D cA yX1_joined (ws_ yX1_joined cX1_joined 2 (some .int)) (zroom 0) ([.ref h, .int (nI k)] : List Value) (YG cA h ad zSub ks pre hs (zbz Z) sh se mo pr) (YG cA h ad zSub ks pre hs (zbz Z) sh se mo pr) (some (zjn Z k)) := by
  refine zr_startI RX1 rfl (by decide) (Nat.le_of_ble_eq_true rfl) ?_
  intro p e s m below meth c A ls Q hx hb hml hown hts hK hP hD hA hS hret hl
  have hl : lv_has ls 2 [(0, .ref h), (1, .int (nI k))] := hl
  generalize hH : s.heap = H at hP
  have hS : va_S A s.heap H [] := by rw [← hH]; exact hS
  generalize hlo : ([] : List Loc) = locs at hS ⊢
  refine lv_aload_n hx hb dX1_joined_0 rfl (lv_at hl 0 rfl) ?_
  refine zr_get (T := TX1) (N := 9) hx hb hts in_X1 hown hK hP 0 rfl rfl 4 (by decide) q230 rfl dX1_joined_1 ?_
  refine lv_iconst (v := nI 4) hx hb dX1_joined_4 (by decide) ?_
  refine lv_iload_n hx hb dX1_joined_5 rfl (lv_at hl 1 rfl) ?_
  refine zr_imul (v := nI (4 * k)) hx hb dX1_joined_6 (pk_mul _ _) ?_
  refine zr_iald (v := nI (Z (4 * k))) hx hb hK hP 5 0 rfl rfl (4 * k) rfl (by omega) (by decide) rfl dX1_joined_7 ?_
  refine lv_bipush (v := nI 24) hx hb dX1_joined_8 (by decide) ?_
  refine zr_ishl (v := zsl (nI (Z (4 * k))) 24) hx hb dX1_joined_10 rfl ?_
  refine lv_aload_n hx hb dX1_joined_11 rfl (lv_at hl 0 rfl) ?_
  refine zr_get (T := TX1) (N := 9) hx hb hts in_X1 hown hK hP 0 rfl rfl 4 (by decide) q230 rfl dX1_joined_12 ?_
  refine lv_iconst (v := nI 4) hx hb dX1_joined_15 (by decide) ?_
  refine lv_iload_n hx hb dX1_joined_16 rfl (lv_at hl 1 rfl) ?_
  refine zr_imul (v := nI (4 * k)) hx hb dX1_joined_17 (pk_mul _ _) ?_
  refine lv_iconst (v := nI 1) hx hb dX1_joined_18 (by decide) ?_
  refine zr_iadd (v := nI ((4 * k) + 1)) hx hb dX1_joined_19 (nI_add _ _) ?_
  refine zr_iald (v := nI (Z ((4 * k) + 1))) hx hb hK hP 5 0 rfl rfl ((4 * k) + 1) rfl (by omega) (by decide) rfl dX1_joined_20 ?_
  refine lv_bipush (v := nI 16) hx hb dX1_joined_21 (by decide) ?_
  refine zr_ishl (v := zsl (nI (Z ((4 * k) + 1))) 16) hx hb dX1_joined_23 rfl ?_
  refine zr_ior (v := (zsl (nI (Z (4 * k))) 24) ||| (zsl (nI (Z ((4 * k) + 1))) 16)) hx hb dX1_joined_24 rfl ?_
  refine lv_aload_n hx hb dX1_joined_25 rfl (lv_at hl 0 rfl) ?_
  refine zr_get (T := TX1) (N := 9) hx hb hts in_X1 hown hK hP 0 rfl rfl 4 (by decide) q230 rfl dX1_joined_26 ?_
  refine lv_iconst (v := nI 4) hx hb dX1_joined_29 (by decide) ?_
  refine lv_iload_n hx hb dX1_joined_30 rfl (lv_at hl 1 rfl) ?_
  refine zr_imul (v := nI (4 * k)) hx hb dX1_joined_31 (pk_mul _ _) ?_
  refine lv_iconst (v := nI 2) hx hb dX1_joined_32 (by decide) ?_
  refine zr_iadd (v := nI ((4 * k) + 2)) hx hb dX1_joined_33 (nI_add _ _) ?_
  refine zr_iald (v := nI (Z ((4 * k) + 2))) hx hb hK hP 5 0 rfl rfl ((4 * k) + 2) rfl (by omega) (by decide) rfl dX1_joined_34 ?_
  refine lv_bipush (v := nI 8) hx hb dX1_joined_35 (by decide) ?_
  refine zr_ishl (v := zsl (nI (Z ((4 * k) + 2))) 8) hx hb dX1_joined_37 rfl ?_
  refine zr_ior (v := ((zsl (nI (Z (4 * k))) 24) ||| (zsl (nI (Z ((4 * k) + 1))) 16)) ||| (zsl (nI (Z ((4 * k) + 2))) 8)) hx hb dX1_joined_38 rfl ?_
  refine lv_aload_n hx hb dX1_joined_39 rfl (lv_at hl 0 rfl) ?_
  refine zr_get (T := TX1) (N := 9) hx hb hts in_X1 hown hK hP 0 rfl rfl 4 (by decide) q230 rfl dX1_joined_40 ?_
  refine lv_iconst (v := nI 4) hx hb dX1_joined_43 (by decide) ?_
  refine lv_iload_n hx hb dX1_joined_44 rfl (lv_at hl 1 rfl) ?_
  refine zr_imul (v := nI (4 * k)) hx hb dX1_joined_45 (pk_mul _ _) ?_
  refine lv_iconst (v := nI 3) hx hb dX1_joined_46 (by decide) ?_
  refine zr_iadd (v := nI ((4 * k) + 3)) hx hb dX1_joined_47 (nI_add _ _) ?_
  refine zr_iald (v := nI (Z ((4 * k) + 3))) hx hb hK hP 5 0 rfl rfl ((4 * k) + 3) rfl (by omega) (by decide) rfl dX1_joined_48 ?_
  refine zr_ior (v := (((zsl (nI (Z (4 * k))) 24) ||| (zsl (nI (Z ((4 * k) + 1))) 16)) ||| (zsl (nI (Z ((4 * k) + 2))) 8)) ||| (nI (Z ((4 * k) + 3)))) hx hb dX1_joined_49 rfl ?_
  exact hret _ H locs _ ls rfl hP hS dX1_joined_50
end
section
set_option maxRecDepth 100000
def zsg (sh ks : Nat → Int32) (Z : Nat → Nat) : Nat → Nat → Int32
  | 0 => sh
  | n + 1 => zbz (zsh (zrp (zrd ks Z n)))
set_option maxHeartbeats 4000000 in
/-- BlockSealerModel.rounds  -/
theorem mY_rounds (l : Launch) (D : va_G) (cA : ClassId) (h : Nat) (ad : Nat → Nat) (ks pre hs sh se mo pr : Nat → Int32) (Z : Nat → Nat) (hZ : zB Z) : MetW l D cA yX1_rounds (ws_ yX1_rounds cX1_rounds 2 none) (zroom 4) ([.ref h] : List Value) (YG cA h ad zSub ks pre hs (zbz Z) sh se mo pr) (YG cA h ad zSub ks pre hs (zbz (zre ks Z)) (zbz (zrl ks Z)) se mo pr) none := by
  refine zr_startV RX1 rfl (by decide) (Nat.le_of_ble_eq_true rfl) ?_
  intro p e s m below meth c A ls Q hx hb hml hown hts hK hP hD hA hS hret hl
  have hl : lv_has ls 2 [(0, .ref h)] := hl
  generalize hH : s.heap = H at hP
  have hS : va_S A s.heap H [] := by rw [← hH]; exact hS
  generalize hlo : ([] : List Loc) = locs at hS ⊢
  refine lv_aload_n hx hb dX1_rounds_0 rfl (lv_at hl 0 rfl) ?_
  refine lv_iconst (v := nI 0) hx hb dX1_rounds_1 (by decide) ?_
  refine zr_callVv (rest := []) ⟨hx, hb, hml, hown, hts⟩ (mY_addKey l D cA h ad ks pre hs sh se mo pr Z (by repeat (first | assumption | apply zB_re | apply zB_rx | apply zB_rl | apply zB_ly | apply zB_rp | apply zB_rs | apply zB_rd | apply zB_bk | apply zB_ak | apply zB_sh | apply zB_mx)) 0 (by omega)) (cwV 1 hts (lw_V q276 q278 qs19 q31 q279) rfl rfl rfl (by decide +kernel) ⟨Nat.le_of_ble_eq_true rfl, Nat.le_of_ble_eq_true rfl⟩) [] hK hP hD rfl hS hA (ci := 1) (q0 := 0) rfl rfl rfl rfl hl.1 rfl (Nat.le_of_ble_eq_true rfl) dX1_rounds_2 ⟨Nat.zero_le _, Nat.zero_le _⟩ (fun H locs hP hS => ?_)
  have hP : va_P D Cl (YG cA h ad zSub ks pre hs (zbz (zak ks 0 Z)) sh se mo pr) H := hP
  have hP : va_P D Cl (YG cA h ad zSub ks pre hs (zbz (zrd ks Z 0)) sh se mo pr) H := hP
  refine lv_iconst (v := nI 1) hx hb dX1_rounds_5 (by decide) ?_
  refine lv_istore_n (lv' := [(1, .int (nI 1)), (0, .ref h)]) hx hb dX1_rounds_6 rfl hl (by decide) rfl (fun ls hl => ?_)
  have L1 : ∀ (nL1 n : Nat), n + nL1 = 9 → ∀ (H : Heap) (locs : List Loc) (ls : Array Slot), va_P D Cl (YG cA h ad zSub ks pre hs (zbz (zrd ks Z n)) (zsg sh ks Z n) se mo pr) H → va_S A s.heap H locs → lv_has ls 2 [(1, .int (nI (n + 1))), (0, .ref h)] → W p l e (zroom 4) s m ([.ref h] : List Value).toArray below meth c H locs 0 0 Q (F0 m 7 ls []) := by
    intro nL1
    induction nL1 with
    | zero =>
      intro n hL1 H locs ls hP hS hl
      obtain rfl : n = 9 := by omega
      have hl : lv_has ls 2 [(1, .int (nI 10)), (0, .ref h)] := hl
      refine lv_iload_n hx hb dX1_rounds_7 rfl (lv_at hl 0 rfl) ?_
      refine lv_bipush (v := nI 10) hx hb dX1_rounds_8 (by decide) ?_
      refine zr_gt_f (tgt := 42) hx hb dX1_rounds_10 (by decide) (by omega) (by omega) ?_
      refine lv_aload_n hx hb dX1_rounds_13 rfl (lv_at hl 1 rfl) ?_
      refine zr_callVv (rest := []) ⟨hx, hb, hml, hown, hts⟩ (mY_replaceAll l D cA h ad ks pre hs (zsg sh ks Z 9) se mo pr (zrd ks Z 9) (by repeat (first | assumption | apply zB_re | apply zB_rx | apply zB_rl | apply zB_ly | apply zB_rp | apply zB_rs | apply zB_rd | apply zB_bk | apply zB_ak | apply zB_sh | apply zB_mx))) (cwV 0 hts (lw_V q280 q282 qs20 q31 q283) rfl rfl rfl (by decide +kernel) ⟨Nat.le_of_ble_eq_true rfl, Nat.le_of_ble_eq_true rfl⟩) [] hK hP hD rfl hS hA (ci := 1) (q0 := 0) rfl rfl rfl rfl hl.1 rfl (Nat.le_of_ble_eq_true rfl) dX1_rounds_14 ⟨Nat.zero_le _, Nat.zero_le _⟩ (fun H locs hP hS => ?_)
      have hP : va_P D Cl (YG cA h ad zSub ks pre hs (zbz (zrp (zrd ks Z 9))) (zsg sh ks Z 9) se mo pr) H := hP
      refine lv_aload_n hx hb dX1_rounds_17 rfl (lv_at hl 1 rfl) ?_
      refine zr_callVv (rest := []) ⟨hx, hb, hml, hown, hts⟩ (mY_shift l D cA h ad ks pre hs (zsg sh ks Z 9) se mo pr (zrp (zrd ks Z 9))) (cwV 0 hts (lw_V q284 q286 qs21 q31 q287) rfl rfl rfl (by decide +kernel) ⟨Nat.le_of_ble_eq_true rfl, Nat.le_of_ble_eq_true rfl⟩) [] hK hP hD rfl hS hA (ci := 1) (q0 := 0) rfl rfl rfl rfl hl.1 rfl (Nat.le_of_ble_eq_true rfl) dX1_rounds_18 ⟨Nat.zero_le _, Nat.zero_le _⟩ (fun H locs hP hS => ?_)
      have hP : va_P D Cl (YG cA h ad zSub ks pre hs (zbz (zsh (zrp (zrd ks Z 9)))) (zbz (zsh (zrp (zrd ks Z 9)))) se mo pr) H := hP
      refine lv_iload_n hx hb dX1_rounds_21 rfl (lv_at hl 0 rfl) ?_
      refine lv_bipush (v := nI 10) hx hb dX1_rounds_22 (by decide) ?_
      refine zr_ge_t (tgt := 31) hx hb dX1_rounds_24 (by decide) (by omega) (by omega) ?_
      refine lv_aload_n hx hb dX1_rounds_31 rfl (lv_at hl 1 rfl) ?_
      refine lv_iload_n hx hb dX1_rounds_32 rfl (lv_at hl 0 rfl) ?_
      refine zr_callVv (rest := []) ⟨hx, hb, hml, hown, hts⟩ (mY_addKey l D cA h ad ks pre hs (zbz (zsh (zrp (zrd ks Z 9)))) se mo pr (zsh (zrp (zrd ks Z 9))) (by repeat (first | assumption | apply zB_re | apply zB_rx | apply zB_rl | apply zB_ly | apply zB_rp | apply zB_rs | apply zB_rd | apply zB_bk | apply zB_ak | apply zB_sh | apply zB_mx)) 10 (by omega)) (cwV 1 hts (lw_V q276 q278 qs19 q31 q279) rfl rfl rfl (by decide +kernel) ⟨Nat.le_of_ble_eq_true rfl, Nat.le_of_ble_eq_true rfl⟩) [] hK hP hD rfl hS hA (ci := 1) (q0 := 0) rfl rfl rfl rfl hl.1 rfl (Nat.le_of_ble_eq_true rfl) dX1_rounds_33 ⟨Nat.zero_le _, Nat.zero_le _⟩ (fun H locs hP hS => ?_)
      have hP : va_P D Cl (YG cA h ad zSub ks pre hs (zbz (zak ks 10 (zsh (zrp (zrd ks Z 9))))) (zbz (zsh (zrp (zrd ks Z 9)))) se mo pr) H := hP
      refine lv_iinc (v := nI 11) (lv' := [(1, .int (nI 11)), (0, .ref h)]) hx hb dX1_rounds_36 hl (k := 0) rfl (zinc _) (by decide) rfl (fun ls hl => ?_)
      refine lv_goto (tgt := 7) hx hb dX1_rounds_39 (by decide) ?_
      refine lv_iload_n hx hb dX1_rounds_7 rfl (lv_at hl 0 rfl) ?_
      refine lv_bipush (v := nI 10) hx hb dX1_rounds_8 (by decide) ?_
      refine zr_gt_t (tgt := 42) hx hb dX1_rounds_10 (by decide) (by omega) (by omega) ?_
      exact hret H locs _ ls hP hS dX1_rounds_42
    | succ nL1 ihL1 =>
      intro n hL1 H locs ls hP hS hl
      have hltL1 : n < 9 := by omega
      refine lv_iload_n hx hb dX1_rounds_7 rfl (lv_at hl 0 rfl) ?_
      refine lv_bipush (v := nI 10) hx hb dX1_rounds_8 (by decide) ?_
      refine zr_gt_f (tgt := 42) hx hb dX1_rounds_10 (by decide) (by omega) (by omega) ?_
      refine lv_aload_n hx hb dX1_rounds_13 rfl (lv_at hl 1 rfl) ?_
      refine zr_callVv (rest := []) ⟨hx, hb, hml, hown, hts⟩ (mY_replaceAll l D cA h ad ks pre hs (zsg sh ks Z n) se mo pr (zrd ks Z n) (by repeat (first | assumption | apply zB_re | apply zB_rx | apply zB_rl | apply zB_ly | apply zB_rp | apply zB_rs | apply zB_rd | apply zB_bk | apply zB_ak | apply zB_sh | apply zB_mx))) (cwV 0 hts (lw_V q280 q282 qs20 q31 q283) rfl rfl rfl (by decide +kernel) ⟨Nat.le_of_ble_eq_true rfl, Nat.le_of_ble_eq_true rfl⟩) [] hK hP hD rfl hS hA (ci := 1) (q0 := 0) rfl rfl rfl rfl hl.1 rfl (Nat.le_of_ble_eq_true rfl) dX1_rounds_14 ⟨Nat.zero_le _, Nat.zero_le _⟩ (fun H locs hP hS => ?_)
      have hP : va_P D Cl (YG cA h ad zSub ks pre hs (zbz (zrp (zrd ks Z n))) (zsg sh ks Z n) se mo pr) H := hP
      refine lv_aload_n hx hb dX1_rounds_17 rfl (lv_at hl 1 rfl) ?_
      refine zr_callVv (rest := []) ⟨hx, hb, hml, hown, hts⟩ (mY_shift l D cA h ad ks pre hs (zsg sh ks Z n) se mo pr (zrp (zrd ks Z n))) (cwV 0 hts (lw_V q284 q286 qs21 q31 q287) rfl rfl rfl (by decide +kernel) ⟨Nat.le_of_ble_eq_true rfl, Nat.le_of_ble_eq_true rfl⟩) [] hK hP hD rfl hS hA (ci := 1) (q0 := 0) rfl rfl rfl rfl hl.1 rfl (Nat.le_of_ble_eq_true rfl) dX1_rounds_18 ⟨Nat.zero_le _, Nat.zero_le _⟩ (fun H locs hP hS => ?_)
      have hP : va_P D Cl (YG cA h ad zSub ks pre hs (zbz (zsh (zrp (zrd ks Z n)))) (zbz (zsh (zrp (zrd ks Z n)))) se mo pr) H := hP
      refine lv_iload_n hx hb dX1_rounds_21 rfl (lv_at hl 0 rfl) ?_
      refine lv_bipush (v := nI 10) hx hb dX1_rounds_22 (by decide) ?_
      refine zr_ge_f (tgt := 31) hx hb dX1_rounds_24 (by decide) (by omega) (by omega) ?_
      refine lv_aload_n hx hb dX1_rounds_27 rfl (lv_at hl 1 rfl) ?_
      refine zr_callVv (rest := []) ⟨hx, hb, hml, hown, hts⟩ (mY_mixColumns l D cA h ad ks pre hs (zbz (zsh (zrp (zrd ks Z n)))) se mo pr (zsh (zrp (zrd ks Z n))) (by repeat (first | assumption | apply zB_re | apply zB_rx | apply zB_rl | apply zB_ly | apply zB_rp | apply zB_rs | apply zB_rd | apply zB_bk | apply zB_ak | apply zB_sh | apply zB_mx))) (cwV 0 hts (lw_V q288 q290 qs22 q31 q291) rfl rfl rfl (by decide +kernel) ⟨Nat.le_of_ble_eq_true rfl, Nat.le_of_ble_eq_true rfl⟩) [] hK hP hD rfl hS hA (ci := 1) (q0 := 0) rfl rfl rfl rfl hl.1 rfl (Nat.le_of_ble_eq_true rfl) dX1_rounds_28 ⟨Nat.zero_le _, Nat.zero_le _⟩ (fun H locs hP hS => ?_)
      have hP : va_P D Cl (YG cA h ad zSub ks pre hs (zbz (zmx (zsh (zrp (zrd ks Z n))))) (zbz (zsh (zrp (zrd ks Z n)))) se mo pr) H := hP
      refine lv_aload_n hx hb dX1_rounds_31 rfl (lv_at hl 1 rfl) ?_
      refine lv_iload_n hx hb dX1_rounds_32 rfl (lv_at hl 0 rfl) ?_
      refine zr_callVv (rest := []) ⟨hx, hb, hml, hown, hts⟩ (mY_addKey l D cA h ad ks pre hs (zbz (zsh (zrp (zrd ks Z n)))) se mo pr (zmx (zsh (zrp (zrd ks Z n)))) (by repeat (first | assumption | apply zB_re | apply zB_rx | apply zB_rl | apply zB_ly | apply zB_rp | apply zB_rs | apply zB_rd | apply zB_bk | apply zB_ak | apply zB_sh | apply zB_mx)) (n + 1) (by omega)) (cwV 1 hts (lw_V q276 q278 qs19 q31 q279) rfl rfl rfl (by decide +kernel) ⟨Nat.le_of_ble_eq_true rfl, Nat.le_of_ble_eq_true rfl⟩) [] hK hP hD rfl hS hA (ci := 1) (q0 := 0) rfl rfl rfl rfl hl.1 rfl (Nat.le_of_ble_eq_true rfl) dX1_rounds_33 ⟨Nat.zero_le _, Nat.zero_le _⟩ (fun H locs hP hS => ?_)
      have hP : va_P D Cl (YG cA h ad zSub ks pre hs (zbz (zak ks (n + 1) (zmx (zsh (zrp (zrd ks Z n)))))) (zbz (zsh (zrp (zrd ks Z n)))) se mo pr) H := hP
      refine lv_iinc (v := nI ((n + 1) + 1)) (lv' := [(1, .int (nI ((n + 1) + 1))), (0, .ref h)]) hx hb dX1_rounds_36 hl (k := 0) rfl (zinc _) (by decide) rfl (fun ls hl => ?_)
      refine lv_goto (tgt := 7) hx hb dX1_rounds_39 (by decide) ?_
      exact ihL1 (n + 1) (by omega) H locs ls hP hS (lv_sub hl [0, 1] rfl)
  exact L1 9 0 (by omega) H locs ls hP hS (lv_sub hl [0, 1] rfl)
set_option maxHeartbeats 4000000 in
/-- BlockSealerModel.roundsBack  -/
theorem mY_roundsBack (l : Launch) (D : va_G) (cA : ClassId) (h : Nat) (ad : Nat → Nat) (ks pre hs sh se mo pr : Nat → Int32) (Z : Nat → Nat) (hZ : zB Z) : MetW l D cA yX1_roundsBack (ws_ yX1_roundsBack cX1_roundsBack 3 none) (zroom 4) ([.ref h] : List Value) (YG cA h ad zSub ks pre hs (zbz Z) sh se mo pr) (YG cA h ad zSub ks pre hs (zbz (zrx ks Z)) (zbz (zbk ks Z 9)) se mo pr) none := by
  refine zr_startV RX1 rfl (by decide) (Nat.le_of_ble_eq_true rfl) ?_
  intro p e s m below meth c A ls Q hx hb hml hown hts hK hP hD hA hS hret hl
  have hl : lv_has ls 3 [(0, .ref h)] := hl
  generalize hH : s.heap = H at hP
  have hS : va_S A s.heap H [] := by rw [← hH]; exact hS
  generalize hlo : ([] : List Loc) = locs at hS ⊢
  refine lv_bipush (v := nI 10) hx hb dX1_roundsBack_0 (by decide) ?_
  refine lv_istore_n (lv' := [(1, .int (nI 10)), (0, .ref h)]) hx hb dX1_roundsBack_2 rfl hl (by decide) rfl (fun ls hl => ?_)
  refine lv_iload_n hx hb dX1_roundsBack_3 rfl (lv_at hl 0 rfl) ?_
  refine lv_iconst (v := nI 1) hx hb dX1_roundsBack_4 (by decide) ?_
  refine zr_lt_f (tgt := 63) hx hb dX1_roundsBack_5 (by decide) (by omega) (by omega) ?_
  refine lv_aload_n hx hb dX1_roundsBack_8 rfl (lv_at hl 1 rfl) ?_
  refine lv_iload_n hx hb dX1_roundsBack_9 rfl (lv_at hl 0 rfl) ?_
  refine zr_callVv (rest := []) ⟨hx, hb, hml, hown, hts⟩ (mY_addKey l D cA h ad ks pre hs sh se mo pr Z (by repeat (first | assumption | apply zB_re | apply zB_rx | apply zB_rl | apply zB_ly | apply zB_rp | apply zB_rs | apply zB_rd | apply zB_bk | apply zB_ak | apply zB_sh | apply zB_mx)) 10 (by omega)) (cwV 1 hts (lw_V q276 q278 qs19 q31 q279) rfl rfl rfl (by decide +kernel) ⟨Nat.le_of_ble_eq_true rfl, Nat.le_of_ble_eq_true rfl⟩) [] hK hP hD rfl hS hA (ci := 1) (q0 := 0) rfl rfl rfl rfl hl.1 rfl (Nat.le_of_ble_eq_true rfl) dX1_roundsBack_10 ⟨Nat.zero_le _, Nat.zero_le _⟩ (fun H locs hP hS => ?_)
  have hP : va_P D Cl (YG cA h ad zSub ks pre hs (zbz (zak ks 10 Z)) sh se mo pr) H := hP
  refine lv_iconst (v := nI 0) hx hb dX1_roundsBack_13 (by decide) ?_
  refine lv_istore_n (lv' := [(2, .int (nI 0)), (1, .int (nI 10)), (0, .ref h)]) hx hb dX1_roundsBack_14 rfl hl (by decide) rfl (fun ls hl => ?_)
  refine lv_iload_n hx hb dX1_roundsBack_15 rfl (lv_at hl 0 rfl) ?_
  refine lv_iconst (v := nI 3) hx hb dX1_roundsBack_16 (by decide) ?_
  refine zr_ge_f (tgt := 36) hx hb dX1_roundsBack_17 (by decide) (by omega) (by omega) ?_
  refine lv_iload_n hx hb dX1_roundsBack_20 rfl (lv_at hl 1 rfl) ?_
  refine lv_bipush (v := nI 10) hx hb dX1_roundsBack_21 (by decide) ?_
  refine zr_ge_t (tgt := 36) hx hb dX1_roundsBack_23 (by decide) (by omega) (by omega) ?_
  refine lv_iconst (v := nI 0) hx hb dX1_roundsBack_36 (by decide) ?_
  refine lv_istore_n (lv' := [(2, .int (nI 0)), (1, .int (nI 10)), (0, .ref h)]) hx hb dX1_roundsBack_37 rfl hl (by decide) rfl (fun ls hl => ?_)
  refine lv_iload_n hx hb dX1_roundsBack_38 rfl (lv_at hl 0 rfl) ?_
  refine lv_iconst (v := nI 3) hx hb dX1_roundsBack_39 (by decide) ?_
  refine zr_ge_f (tgt := 53) hx hb dX1_roundsBack_40 (by decide) (by omega) (by omega) ?_
  refine lv_aload_n hx hb dX1_roundsBack_43 rfl (lv_at hl 2 rfl) ?_
  refine zr_callVv (rest := []) ⟨hx, hb, hml, hown, hts⟩ (mY_shift l D cA h ad ks pre hs sh se mo pr (zak ks 10 Z)) (cwV 0 hts (lw_V q284 q286 qs21 q31 q287) rfl rfl rfl (by decide +kernel) ⟨Nat.le_of_ble_eq_true rfl, Nat.le_of_ble_eq_true rfl⟩) [] hK hP hD rfl hS hA (ci := 1) (q0 := 0) rfl rfl rfl rfl hl.1 rfl (Nat.le_of_ble_eq_true rfl) dX1_roundsBack_44 ⟨Nat.zero_le _, Nat.zero_le _⟩ (fun H locs hP hS => ?_)
  have hP : va_P D Cl (YG cA h ad zSub ks pre hs (zbz (zsh (zak ks 10 Z))) (zbz (zsh (zak ks 10 Z))) se mo pr) H := hP
  refine lv_iinc (v := nI 1) (lv' := [(2, .int (nI 1)), (1, .int (nI 10)), (0, .ref h)]) hx hb dX1_roundsBack_47 hl (k := 0) rfl (zinc _) (by decide) rfl (fun ls hl => ?_)
  refine lv_goto (tgt := 38) hx hb dX1_roundsBack_50 (by decide) ?_
  refine lv_iload_n hx hb dX1_roundsBack_38 rfl (lv_at hl 0 rfl) ?_
  refine lv_iconst (v := nI 3) hx hb dX1_roundsBack_39 (by decide) ?_
  refine zr_ge_f (tgt := 53) hx hb dX1_roundsBack_40 (by decide) (by omega) (by omega) ?_
  refine lv_aload_n hx hb dX1_roundsBack_43 rfl (lv_at hl 2 rfl) ?_
  refine zr_callVv (rest := []) ⟨hx, hb, hml, hown, hts⟩ (mY_shift l D cA h ad ks pre hs (zbz (zsh (zak ks 10 Z))) se mo pr (zsh (zak ks 10 Z))) (cwV 0 hts (lw_V q284 q286 qs21 q31 q287) rfl rfl rfl (by decide +kernel) ⟨Nat.le_of_ble_eq_true rfl, Nat.le_of_ble_eq_true rfl⟩) [] hK hP hD rfl hS hA (ci := 1) (q0 := 0) rfl rfl rfl rfl hl.1 rfl (Nat.le_of_ble_eq_true rfl) dX1_roundsBack_44 ⟨Nat.zero_le _, Nat.zero_le _⟩ (fun H locs hP hS => ?_)
  have hP : va_P D Cl (YG cA h ad zSub ks pre hs (zbz (zsh (zsh (zak ks 10 Z)))) (zbz (zsh (zsh (zak ks 10 Z)))) se mo pr) H := hP
  refine lv_iinc (v := nI 2) (lv' := [(2, .int (nI 2)), (1, .int (nI 10)), (0, .ref h)]) hx hb dX1_roundsBack_47 hl (k := 0) rfl (zinc _) (by decide) rfl (fun ls hl => ?_)
  refine lv_goto (tgt := 38) hx hb dX1_roundsBack_50 (by decide) ?_
  refine lv_iload_n hx hb dX1_roundsBack_38 rfl (lv_at hl 0 rfl) ?_
  refine lv_iconst (v := nI 3) hx hb dX1_roundsBack_39 (by decide) ?_
  refine zr_ge_f (tgt := 53) hx hb dX1_roundsBack_40 (by decide) (by omega) (by omega) ?_
  refine lv_aload_n hx hb dX1_roundsBack_43 rfl (lv_at hl 2 rfl) ?_
  refine zr_callVv (rest := []) ⟨hx, hb, hml, hown, hts⟩ (mY_shift l D cA h ad ks pre hs (zbz (zsh (zsh (zak ks 10 Z)))) se mo pr (zsh (zsh (zak ks 10 Z)))) (cwV 0 hts (lw_V q284 q286 qs21 q31 q287) rfl rfl rfl (by decide +kernel) ⟨Nat.le_of_ble_eq_true rfl, Nat.le_of_ble_eq_true rfl⟩) [] hK hP hD rfl hS hA (ci := 1) (q0 := 0) rfl rfl rfl rfl hl.1 rfl (Nat.le_of_ble_eq_true rfl) dX1_roundsBack_44 ⟨Nat.zero_le _, Nat.zero_le _⟩ (fun H locs hP hS => ?_)
  have hP : va_P D Cl (YG cA h ad zSub ks pre hs (zbz (zsh (zsh (zsh (zak ks 10 Z))))) (zbz (zsh (zsh (zsh (zak ks 10 Z))))) se mo pr) H := hP
  refine lv_iinc (v := nI 3) (lv' := [(2, .int (nI 3)), (1, .int (nI 10)), (0, .ref h)]) hx hb dX1_roundsBack_47 hl (k := 0) rfl (zinc _) (by decide) rfl (fun ls hl => ?_)
  refine lv_goto (tgt := 38) hx hb dX1_roundsBack_50 (by decide) ?_
  refine lv_iload_n hx hb dX1_roundsBack_38 rfl (lv_at hl 0 rfl) ?_
  refine lv_iconst (v := nI 3) hx hb dX1_roundsBack_39 (by decide) ?_
  refine zr_ge_t (tgt := 53) hx hb dX1_roundsBack_40 (by decide) (by omega) (by omega) ?_
  have hP : va_P D Cl (YG cA h ad zSub ks pre hs (zbz (zbk ks Z 0)) (zbz (zbk ks Z 0)) se mo pr) H := hP
  refine lv_aload_n hx hb dX1_roundsBack_53 rfl (lv_at hl 2 rfl) ?_
  refine zr_callVv (rest := []) ⟨hx, hb, hml, hown, hts⟩ (mY_restoreAll l D cA h ad ks pre hs (zbz (zbk ks Z 0)) se mo pr (zbk ks Z 0) (by repeat (first | assumption | apply zB_re | apply zB_rx | apply zB_rl | apply zB_ly | apply zB_rp | apply zB_rs | apply zB_rd | apply zB_bk | apply zB_ak | apply zB_sh | apply zB_mx))) (cwV 0 hts (lw_V q308 q310 qs26 q31 q311) rfl rfl rfl (by decide +kernel) ⟨Nat.le_of_ble_eq_true rfl, Nat.le_of_ble_eq_true rfl⟩) [] hK hP hD rfl hS hA (ci := 1) (q0 := 0) rfl rfl rfl rfl hl.1 rfl (Nat.le_of_ble_eq_true rfl) dX1_roundsBack_54 ⟨Nat.zero_le _, Nat.zero_le _⟩ (fun H locs hP hS => ?_)
  have hP : va_P D Cl (YG cA h ad zSub ks pre hs (zbz (zrs (zbk ks Z 0))) (zbz (zbk ks Z 0)) se mo pr) H := hP
  refine lv_iinc (v := nI 9) (lv' := [(1, .int (nI 9)), (2, .int (nI 3)), (0, .ref h)]) hx hb dX1_roundsBack_57 hl (k := 1) rfl (zdec 9) (by decide) rfl (fun ls hl => ?_)
  refine lv_goto (tgt := 3) hx hb dX1_roundsBack_60 (by decide) ?_
  have L1 : ∀ (k : Nat), k ≤ 9 → ∀ (H : Heap) (locs : List Loc) (ls : Array Slot), va_P D Cl (YG cA h ad zSub ks pre hs (zbz (zrs (zbk ks Z (9 - k)))) (zbz (zbk ks Z (9 - k))) se mo pr) H → va_S A s.heap H locs → lv_has ls 3 [(1, .int (nI k)), (0, .ref h)] → W p l e (zroom 4) s m ([.ref h] : List Value).toArray below meth c H locs 0 0 Q (F0 m 3 ls []) := by
    intro k
    induction k with
    | zero =>
      intro hleL1 H locs ls hP hS hl
      refine lv_iload_n hx hb dX1_roundsBack_3 rfl (lv_at hl 0 rfl) ?_
      refine lv_iconst (v := nI 1) hx hb dX1_roundsBack_4 (by decide) ?_
      refine zr_lt_t (tgt := 63) hx hb dX1_roundsBack_5 (by decide) (by omega) (by omega) ?_
      refine lv_aload_n hx hb dX1_roundsBack_63 rfl (lv_at hl 1 rfl) ?_
      refine lv_iconst (v := nI 0) hx hb dX1_roundsBack_64 (by decide) ?_
      refine zr_callVv (rest := []) ⟨hx, hb, hml, hown, hts⟩ (mY_addKey l D cA h ad ks pre hs (zbz (zbk ks Z (9 - 0))) se mo pr (zrs (zbk ks Z (9 - 0))) (by repeat (first | assumption | apply zB_re | apply zB_rx | apply zB_rl | apply zB_ly | apply zB_rp | apply zB_rs | apply zB_rd | apply zB_bk | apply zB_ak | apply zB_sh | apply zB_mx)) 0 (by omega)) (cwV 1 hts (lw_V q276 q278 qs19 q31 q279) rfl rfl rfl (by decide +kernel) ⟨Nat.le_of_ble_eq_true rfl, Nat.le_of_ble_eq_true rfl⟩) [] hK hP hD rfl hS hA (ci := 1) (q0 := 0) rfl rfl rfl rfl hl.1 rfl (Nat.le_of_ble_eq_true rfl) dX1_roundsBack_65 ⟨Nat.zero_le _, Nat.zero_le _⟩ (fun H locs hP hS => ?_)
      have hP : va_P D Cl (YG cA h ad zSub ks pre hs (zbz (zak ks 0 (zrs (zbk ks Z (9 - 0))))) (zbz (zbk ks Z (9 - 0))) se mo pr) H := hP
      exact hret H locs _ ls hP hS dX1_roundsBack_68
    | succ k ihL1 =>
      intro hleL1 H locs ls hP hS hl
      refine lv_iload_n hx hb dX1_roundsBack_3 rfl (lv_at hl 0 rfl) ?_
      refine lv_iconst (v := nI 1) hx hb dX1_roundsBack_4 (by decide) ?_
      refine zr_lt_f (tgt := 63) hx hb dX1_roundsBack_5 (by decide) (by omega) (by omega) ?_
      refine lv_aload_n hx hb dX1_roundsBack_8 rfl (lv_at hl 1 rfl) ?_
      refine lv_iload_n hx hb dX1_roundsBack_9 rfl (lv_at hl 0 rfl) ?_
      refine zr_callVv (rest := []) ⟨hx, hb, hml, hown, hts⟩ (mY_addKey l D cA h ad ks pre hs (zbz (zbk ks Z (9 - (k + 1)))) se mo pr (zrs (zbk ks Z (9 - (k + 1)))) (by repeat (first | assumption | apply zB_re | apply zB_rx | apply zB_rl | apply zB_ly | apply zB_rp | apply zB_rs | apply zB_rd | apply zB_bk | apply zB_ak | apply zB_sh | apply zB_mx)) (k + 1) (by omega)) (cwV 1 hts (lw_V q276 q278 qs19 q31 q279) rfl rfl rfl (by decide +kernel) ⟨Nat.le_of_ble_eq_true rfl, Nat.le_of_ble_eq_true rfl⟩) [] hK hP hD rfl hS hA (ci := 1) (q0 := 0) rfl rfl rfl rfl hl.1 rfl (Nat.le_of_ble_eq_true rfl) dX1_roundsBack_10 ⟨Nat.zero_le _, Nat.zero_le _⟩ (fun H locs hP hS => ?_)
      have hP : va_P D Cl (YG cA h ad zSub ks pre hs (zbz (zak ks (k + 1) (zrs (zbk ks Z (9 - (k + 1)))))) (zbz (zbk ks Z (9 - (k + 1)))) se mo pr) H := hP
      refine lv_iconst (v := nI 0) hx hb dX1_roundsBack_13 (by decide) ?_
      refine lv_istore_n (lv' := [(2, .int (nI 0)), (1, .int (nI (k + 1))), (0, .ref h)]) hx hb dX1_roundsBack_14 rfl hl (by decide) rfl (fun ls hl => ?_)
      refine lv_iload_n hx hb dX1_roundsBack_15 rfl (lv_at hl 0 rfl) ?_
      refine lv_iconst (v := nI 3) hx hb dX1_roundsBack_16 (by decide) ?_
      refine zr_ge_f (tgt := 36) hx hb dX1_roundsBack_17 (by decide) (by omega) (by omega) ?_
      refine lv_iload_n hx hb dX1_roundsBack_20 rfl (lv_at hl 1 rfl) ?_
      refine lv_bipush (v := nI 10) hx hb dX1_roundsBack_21 (by decide) ?_
      refine zr_ge_f (tgt := 36) hx hb dX1_roundsBack_23 (by decide) (by omega) (by omega) ?_
      refine lv_aload_n hx hb dX1_roundsBack_26 rfl (lv_at hl 2 rfl) ?_
      refine zr_callVv (rest := []) ⟨hx, hb, hml, hown, hts⟩ (mY_mixColumns l D cA h ad ks pre hs (zbz (zbk ks Z (9 - (k + 1)))) se mo pr (zak ks (k + 1) (zrs (zbk ks Z (9 - (k + 1))))) (by repeat (first | assumption | apply zB_re | apply zB_rx | apply zB_rl | apply zB_ly | apply zB_rp | apply zB_rs | apply zB_rd | apply zB_bk | apply zB_ak | apply zB_sh | apply zB_mx))) (cwV 0 hts (lw_V q288 q290 qs22 q31 q291) rfl rfl rfl (by decide +kernel) ⟨Nat.le_of_ble_eq_true rfl, Nat.le_of_ble_eq_true rfl⟩) [] hK hP hD rfl hS hA (ci := 1) (q0 := 0) rfl rfl rfl rfl hl.1 rfl (Nat.le_of_ble_eq_true rfl) dX1_roundsBack_27 ⟨Nat.zero_le _, Nat.zero_le _⟩ (fun H locs hP hS => ?_)
      have hP : va_P D Cl (YG cA h ad zSub ks pre hs (zbz (zmx (zak ks (k + 1) (zrs (zbk ks Z (9 - (k + 1))))))) (zbz (zak ks (k + 1) (zrs (zbk ks Z (9 - (k + 1)))))) se mo pr) H := hP
      refine lv_iinc (v := nI 1) (lv' := [(2, .int (nI 1)), (1, .int (nI (k + 1))), (0, .ref h)]) hx hb dX1_roundsBack_30 hl (k := 0) rfl (zinc _) (by decide) rfl (fun ls hl => ?_)
      refine lv_goto (tgt := 15) hx hb dX1_roundsBack_33 (by decide) ?_
      refine lv_iload_n hx hb dX1_roundsBack_15 rfl (lv_at hl 0 rfl) ?_
      refine lv_iconst (v := nI 3) hx hb dX1_roundsBack_16 (by decide) ?_
      refine zr_ge_f (tgt := 36) hx hb dX1_roundsBack_17 (by decide) (by omega) (by omega) ?_
      refine lv_iload_n hx hb dX1_roundsBack_20 rfl (lv_at hl 1 rfl) ?_
      refine lv_bipush (v := nI 10) hx hb dX1_roundsBack_21 (by decide) ?_
      refine zr_ge_f (tgt := 36) hx hb dX1_roundsBack_23 (by decide) (by omega) (by omega) ?_
      refine lv_aload_n hx hb dX1_roundsBack_26 rfl (lv_at hl 2 rfl) ?_
      refine zr_callVv (rest := []) ⟨hx, hb, hml, hown, hts⟩ (mY_mixColumns l D cA h ad ks pre hs (zbz (zak ks (k + 1) (zrs (zbk ks Z (9 - (k + 1)))))) se mo pr (zmx (zak ks (k + 1) (zrs (zbk ks Z (9 - (k + 1)))))) (by repeat (first | assumption | apply zB_re | apply zB_rx | apply zB_rl | apply zB_ly | apply zB_rp | apply zB_rs | apply zB_rd | apply zB_bk | apply zB_ak | apply zB_sh | apply zB_mx))) (cwV 0 hts (lw_V q288 q290 qs22 q31 q291) rfl rfl rfl (by decide +kernel) ⟨Nat.le_of_ble_eq_true rfl, Nat.le_of_ble_eq_true rfl⟩) [] hK hP hD rfl hS hA (ci := 1) (q0 := 0) rfl rfl rfl rfl hl.1 rfl (Nat.le_of_ble_eq_true rfl) dX1_roundsBack_27 ⟨Nat.zero_le _, Nat.zero_le _⟩ (fun H locs hP hS => ?_)
      have hP : va_P D Cl (YG cA h ad zSub ks pre hs (zbz (zmx (zmx (zak ks (k + 1) (zrs (zbk ks Z (9 - (k + 1)))))))) (zbz (zmx (zak ks (k + 1) (zrs (zbk ks Z (9 - (k + 1))))))) se mo pr) H := hP
      refine lv_iinc (v := nI 2) (lv' := [(2, .int (nI 2)), (1, .int (nI (k + 1))), (0, .ref h)]) hx hb dX1_roundsBack_30 hl (k := 0) rfl (zinc _) (by decide) rfl (fun ls hl => ?_)
      refine lv_goto (tgt := 15) hx hb dX1_roundsBack_33 (by decide) ?_
      refine lv_iload_n hx hb dX1_roundsBack_15 rfl (lv_at hl 0 rfl) ?_
      refine lv_iconst (v := nI 3) hx hb dX1_roundsBack_16 (by decide) ?_
      refine zr_ge_f (tgt := 36) hx hb dX1_roundsBack_17 (by decide) (by omega) (by omega) ?_
      refine lv_iload_n hx hb dX1_roundsBack_20 rfl (lv_at hl 1 rfl) ?_
      refine lv_bipush (v := nI 10) hx hb dX1_roundsBack_21 (by decide) ?_
      refine zr_ge_f (tgt := 36) hx hb dX1_roundsBack_23 (by decide) (by omega) (by omega) ?_
      refine lv_aload_n hx hb dX1_roundsBack_26 rfl (lv_at hl 2 rfl) ?_
      refine zr_callVv (rest := []) ⟨hx, hb, hml, hown, hts⟩ (mY_mixColumns l D cA h ad ks pre hs (zbz (zmx (zak ks (k + 1) (zrs (zbk ks Z (9 - (k + 1))))))) se mo pr (zmx (zmx (zak ks (k + 1) (zrs (zbk ks Z (9 - (k + 1))))))) (by repeat (first | assumption | apply zB_re | apply zB_rx | apply zB_rl | apply zB_ly | apply zB_rp | apply zB_rs | apply zB_rd | apply zB_bk | apply zB_ak | apply zB_sh | apply zB_mx))) (cwV 0 hts (lw_V q288 q290 qs22 q31 q291) rfl rfl rfl (by decide +kernel) ⟨Nat.le_of_ble_eq_true rfl, Nat.le_of_ble_eq_true rfl⟩) [] hK hP hD rfl hS hA (ci := 1) (q0 := 0) rfl rfl rfl rfl hl.1 rfl (Nat.le_of_ble_eq_true rfl) dX1_roundsBack_27 ⟨Nat.zero_le _, Nat.zero_le _⟩ (fun H locs hP hS => ?_)
      have hP : va_P D Cl (YG cA h ad zSub ks pre hs (zbz (zmx (zmx (zmx (zak ks (k + 1) (zrs (zbk ks Z (9 - (k + 1))))))))) (zbz (zmx (zmx (zak ks (k + 1) (zrs (zbk ks Z (9 - (k + 1)))))))) se mo pr) H := hP
      refine lv_iinc (v := nI 3) (lv' := [(2, .int (nI 3)), (1, .int (nI (k + 1))), (0, .ref h)]) hx hb dX1_roundsBack_30 hl (k := 0) rfl (zinc _) (by decide) rfl (fun ls hl => ?_)
      refine lv_goto (tgt := 15) hx hb dX1_roundsBack_33 (by decide) ?_
      refine lv_iload_n hx hb dX1_roundsBack_15 rfl (lv_at hl 0 rfl) ?_
      refine lv_iconst (v := nI 3) hx hb dX1_roundsBack_16 (by decide) ?_
      refine zr_ge_t (tgt := 36) hx hb dX1_roundsBack_17 (by decide) (by omega) (by omega) ?_
      refine lv_iconst (v := nI 0) hx hb dX1_roundsBack_36 (by decide) ?_
      refine lv_istore_n (lv' := [(2, .int (nI 0)), (1, .int (nI (k + 1))), (0, .ref h)]) hx hb dX1_roundsBack_37 rfl hl (by decide) rfl (fun ls hl => ?_)
      refine lv_iload_n hx hb dX1_roundsBack_38 rfl (lv_at hl 0 rfl) ?_
      refine lv_iconst (v := nI 3) hx hb dX1_roundsBack_39 (by decide) ?_
      refine zr_ge_f (tgt := 53) hx hb dX1_roundsBack_40 (by decide) (by omega) (by omega) ?_
      refine lv_aload_n hx hb dX1_roundsBack_43 rfl (lv_at hl 2 rfl) ?_
      refine zr_callVv (rest := []) ⟨hx, hb, hml, hown, hts⟩ (mY_shift l D cA h ad ks pre hs (zbz (zmx (zmx (zak ks (k + 1) (zrs (zbk ks Z (9 - (k + 1)))))))) se mo pr (zmx (zmx (zmx (zak ks (k + 1) (zrs (zbk ks Z (9 - (k + 1))))))))) (cwV 0 hts (lw_V q284 q286 qs21 q31 q287) rfl rfl rfl (by decide +kernel) ⟨Nat.le_of_ble_eq_true rfl, Nat.le_of_ble_eq_true rfl⟩) [] hK hP hD rfl hS hA (ci := 1) (q0 := 0) rfl rfl rfl rfl hl.1 rfl (Nat.le_of_ble_eq_true rfl) dX1_roundsBack_44 ⟨Nat.zero_le _, Nat.zero_le _⟩ (fun H locs hP hS => ?_)
      have hP : va_P D Cl (YG cA h ad zSub ks pre hs (zbz (zsh (zmx (zmx (zmx (zak ks (k + 1) (zrs (zbk ks Z (9 - (k + 1)))))))))) (zbz (zsh (zmx (zmx (zmx (zak ks (k + 1) (zrs (zbk ks Z (9 - (k + 1)))))))))) se mo pr) H := hP
      refine lv_iinc (v := nI 1) (lv' := [(2, .int (nI 1)), (1, .int (nI (k + 1))), (0, .ref h)]) hx hb dX1_roundsBack_47 hl (k := 0) rfl (zinc _) (by decide) rfl (fun ls hl => ?_)
      refine lv_goto (tgt := 38) hx hb dX1_roundsBack_50 (by decide) ?_
      refine lv_iload_n hx hb dX1_roundsBack_38 rfl (lv_at hl 0 rfl) ?_
      refine lv_iconst (v := nI 3) hx hb dX1_roundsBack_39 (by decide) ?_
      refine zr_ge_f (tgt := 53) hx hb dX1_roundsBack_40 (by decide) (by omega) (by omega) ?_
      refine lv_aload_n hx hb dX1_roundsBack_43 rfl (lv_at hl 2 rfl) ?_
      refine zr_callVv (rest := []) ⟨hx, hb, hml, hown, hts⟩ (mY_shift l D cA h ad ks pre hs (zbz (zsh (zmx (zmx (zmx (zak ks (k + 1) (zrs (zbk ks Z (9 - (k + 1)))))))))) se mo pr (zsh (zmx (zmx (zmx (zak ks (k + 1) (zrs (zbk ks Z (9 - (k + 1)))))))))) (cwV 0 hts (lw_V q284 q286 qs21 q31 q287) rfl rfl rfl (by decide +kernel) ⟨Nat.le_of_ble_eq_true rfl, Nat.le_of_ble_eq_true rfl⟩) [] hK hP hD rfl hS hA (ci := 1) (q0 := 0) rfl rfl rfl rfl hl.1 rfl (Nat.le_of_ble_eq_true rfl) dX1_roundsBack_44 ⟨Nat.zero_le _, Nat.zero_le _⟩ (fun H locs hP hS => ?_)
      have hP : va_P D Cl (YG cA h ad zSub ks pre hs (zbz (zsh (zsh (zmx (zmx (zmx (zak ks (k + 1) (zrs (zbk ks Z (9 - (k + 1))))))))))) (zbz (zsh (zsh (zmx (zmx (zmx (zak ks (k + 1) (zrs (zbk ks Z (9 - (k + 1))))))))))) se mo pr) H := hP
      refine lv_iinc (v := nI 2) (lv' := [(2, .int (nI 2)), (1, .int (nI (k + 1))), (0, .ref h)]) hx hb dX1_roundsBack_47 hl (k := 0) rfl (zinc _) (by decide) rfl (fun ls hl => ?_)
      refine lv_goto (tgt := 38) hx hb dX1_roundsBack_50 (by decide) ?_
      refine lv_iload_n hx hb dX1_roundsBack_38 rfl (lv_at hl 0 rfl) ?_
      refine lv_iconst (v := nI 3) hx hb dX1_roundsBack_39 (by decide) ?_
      refine zr_ge_f (tgt := 53) hx hb dX1_roundsBack_40 (by decide) (by omega) (by omega) ?_
      refine lv_aload_n hx hb dX1_roundsBack_43 rfl (lv_at hl 2 rfl) ?_
      refine zr_callVv (rest := []) ⟨hx, hb, hml, hown, hts⟩ (mY_shift l D cA h ad ks pre hs (zbz (zsh (zsh (zmx (zmx (zmx (zak ks (k + 1) (zrs (zbk ks Z (9 - (k + 1))))))))))) se mo pr (zsh (zsh (zmx (zmx (zmx (zak ks (k + 1) (zrs (zbk ks Z (9 - (k + 1))))))))))) (cwV 0 hts (lw_V q284 q286 qs21 q31 q287) rfl rfl rfl (by decide +kernel) ⟨Nat.le_of_ble_eq_true rfl, Nat.le_of_ble_eq_true rfl⟩) [] hK hP hD rfl hS hA (ci := 1) (q0 := 0) rfl rfl rfl rfl hl.1 rfl (Nat.le_of_ble_eq_true rfl) dX1_roundsBack_44 ⟨Nat.zero_le _, Nat.zero_le _⟩ (fun H locs hP hS => ?_)
      have hP : va_P D Cl (YG cA h ad zSub ks pre hs (zbz (zsh (zsh (zsh (zmx (zmx (zmx (zak ks (k + 1) (zrs (zbk ks Z (9 - (k + 1)))))))))))) (zbz (zsh (zsh (zsh (zmx (zmx (zmx (zak ks (k + 1) (zrs (zbk ks Z (9 - (k + 1)))))))))))) se mo pr) H := hP
      refine lv_iinc (v := nI 3) (lv' := [(2, .int (nI 3)), (1, .int (nI (k + 1))), (0, .ref h)]) hx hb dX1_roundsBack_47 hl (k := 0) rfl (zinc _) (by decide) rfl (fun ls hl => ?_)
      refine lv_goto (tgt := 38) hx hb dX1_roundsBack_50 (by decide) ?_
      refine lv_iload_n hx hb dX1_roundsBack_38 rfl (lv_at hl 0 rfl) ?_
      refine lv_iconst (v := nI 3) hx hb dX1_roundsBack_39 (by decide) ?_
      refine zr_ge_t (tgt := 53) hx hb dX1_roundsBack_40 (by decide) (by omega) (by omega) ?_
      refine lv_aload_n hx hb dX1_roundsBack_53 rfl (lv_at hl 2 rfl) ?_
      refine zr_callVv (rest := []) ⟨hx, hb, hml, hown, hts⟩ (mY_restoreAll l D cA h ad ks pre hs (zbz (zsh (zsh (zsh (zmx (zmx (zmx (zak ks (k + 1) (zrs (zbk ks Z (9 - (k + 1)))))))))))) se mo pr (zsh (zsh (zsh (zmx (zmx (zmx (zak ks (k + 1) (zrs (zbk ks Z (9 - (k + 1))))))))))) (by repeat (first | assumption | apply zB_re | apply zB_rx | apply zB_rl | apply zB_ly | apply zB_rp | apply zB_rs | apply zB_rd | apply zB_bk | apply zB_ak | apply zB_sh | apply zB_mx))) (cwV 0 hts (lw_V q308 q310 qs26 q31 q311) rfl rfl rfl (by decide +kernel) ⟨Nat.le_of_ble_eq_true rfl, Nat.le_of_ble_eq_true rfl⟩) [] hK hP hD rfl hS hA (ci := 1) (q0 := 0) rfl rfl rfl rfl hl.1 rfl (Nat.le_of_ble_eq_true rfl) dX1_roundsBack_54 ⟨Nat.zero_le _, Nat.zero_le _⟩ (fun H locs hP hS => ?_)
      have hP : va_P D Cl (YG cA h ad zSub ks pre hs (zbz (zrs (zsh (zsh (zsh (zmx (zmx (zmx (zak ks (k + 1) (zrs (zbk ks Z (9 - (k + 1))))))))))))) (zbz (zsh (zsh (zsh (zmx (zmx (zmx (zak ks (k + 1) (zrs (zbk ks Z (9 - (k + 1)))))))))))) se mo pr) H := hP
      refine lv_iinc (v := nI k) (lv' := [(1, .int (nI k)), (2, .int (nI 3)), (0, .ref h)]) hx hb dX1_roundsBack_57 hl (k := 1) rfl (zdec k) (by decide) rfl (fun ls hl => ?_)
      refine lv_goto (tgt := 3) hx hb dX1_roundsBack_60 (by decide) ?_
      exact ihL1 (by omega) H locs ls (by rw [zbk_s (by omega)]; exact hP) hS (lv_sub hl [0, 2] rfl)
  exact L1 9 (by omega) H locs ls hP hS (lv_sub hl [0, 2] rfl)
set_option maxHeartbeats 4000000 in
/-- BlockSealerModel.encrypt  -/
theorem mY_encrypt (l : Launch) (D : va_G) (cA : ClassId) (h : Nat) (ad : Nat → Nat) (ks pre hs sq sh se mo pr : Nat → Int32) : MetW l D cA yX1_encrypt (ws_ yX1_encrypt cX1_encrypt 2 none) (zroom 5) ([.ref h] : List Value) (YG cA h ad zSub ks pre hs sq sh se mo pr) (YG cA h ad zSub ks (zjn (zre ks (zly pre))) hs (zbz (zre ks (zly pre))) (zbz (zrl ks (zly pre))) se mo pr) none := by
  refine zr_startV RX1 rfl (by decide) (Nat.le_of_ble_eq_true rfl) ?_
  intro p e s m below meth c A ls Q hx hb hml hown hts hK hP hD hA hS hret hl
  have hl : lv_has ls 2 [(0, .ref h)] := hl
  generalize hH : s.heap = H at hP
  have hS : va_S A s.heap H [] := by rw [← hH]; exact hS
  generalize hlo : ([] : List Loc) = locs at hS ⊢
  refine lv_aload_n hx hb dX1_encrypt_0 rfl (lv_at hl 0 rfl) ?_
  refine lv_aload_n hx hb dX1_encrypt_1 rfl (lv_at hl 0 rfl) ?_
  refine zr_get (T := TX1) (N := 9) hx hb hts in_X1 hown hK hP 0 rfl rfl 2 (by decide) q228 rfl dX1_encrypt_2 ?_
  refine lv_iconst (v := nI 0) hx hb dX1_encrypt_5 (by decide) ?_
  refine zr_iald (v := pre 0) hx hb hK hP 3 0 rfl rfl 0 rfl (by decide) (by decide) rfl dX1_encrypt_6 ?_
  refine lv_aload_n hx hb dX1_encrypt_7 rfl (lv_at hl 0 rfl) ?_
  refine zr_get (T := TX1) (N := 9) hx hb hts in_X1 hown hK hP 0 rfl rfl 2 (by decide) q228 rfl dX1_encrypt_8 ?_
  refine lv_iconst (v := nI 1) hx hb dX1_encrypt_11 (by decide) ?_
  refine zr_iald (v := pre 1) hx hb hK hP 3 0 rfl rfl 1 rfl (by decide) (by decide) rfl dX1_encrypt_12 ?_
  refine lv_aload_n hx hb dX1_encrypt_13 rfl (lv_at hl 0 rfl) ?_
  refine zr_get (T := TX1) (N := 9) hx hb hts in_X1 hown hK hP 0 rfl rfl 2 (by decide) q228 rfl dX1_encrypt_14 ?_
  refine lv_iconst (v := nI 2) hx hb dX1_encrypt_17 (by decide) ?_
  refine zr_iald (v := pre 2) hx hb hK hP 3 0 rfl rfl 2 rfl (by decide) (by decide) rfl dX1_encrypt_18 ?_
  refine lv_aload_n hx hb dX1_encrypt_19 rfl (lv_at hl 0 rfl) ?_
  refine zr_get (T := TX1) (N := 9) hx hb hts in_X1 hown hK hP 0 rfl rfl 2 (by decide) q228 rfl dX1_encrypt_20 ?_
  refine lv_iconst (v := nI 3) hx hb dX1_encrypt_23 (by decide) ?_
  refine zr_iald (v := pre 3) hx hb hK hP 3 0 rfl rfl 3 rfl (by decide) (by decide) rfl dX1_encrypt_24 ?_
  refine zr_callVv (rest := []) ⟨hx, hb, hml, hown, hts⟩ (mY_lay l D cA h ad ks pre hs sq sh se mo pr (pre 0) (pre 1) (pre 2) (pre 3)) (cwV 4 hts (lw_V q268 q270 qs17 q31 q271) rfl rfl rfl (by decide +kernel) ⟨Nat.le_of_ble_eq_true rfl, Nat.le_of_ble_eq_true rfl⟩) [] hK hP hD rfl hS hA (ci := 1) (q0 := 0) rfl rfl rfl rfl hl.1 rfl (Nat.le_of_ble_eq_true rfl) dX1_encrypt_25 ⟨Nat.zero_le _, Nat.zero_le _⟩ (fun H locs hP hS => ?_)
  have hP : va_P D Cl (YG cA h ad zSub ks pre hs (zbz (zly (zw4 (pre 0) (pre 1) (pre 2) (pre 3)))) sh se mo pr) H := hP
  have hP := zP (g := zbz (zly pre)) hP 5 rfl (fun j hj => zly_w hj)
  have hP : va_P D Cl (YG cA h ad zSub ks pre hs (zbz (zly pre)) sh se mo pr) H := hP
  refine lv_aload_n hx hb dX1_encrypt_28 rfl (lv_at hl 0 rfl) ?_
  refine zr_callVv (rest := []) ⟨hx, hb, hml, hown, hts⟩ (mY_rounds l D cA h ad ks pre hs sh se mo pr (zly pre) (by repeat (first | assumption | apply zB_re | apply zB_rx | apply zB_rl | apply zB_ly | apply zB_rp | apply zB_rs | apply zB_rd | apply zB_bk | apply zB_ak | apply zB_sh | apply zB_mx))) (cwV 0 hts (lw_V q272 q274 qs18 q31 q275) rfl rfl rfl (by decide +kernel) ⟨Nat.le_of_ble_eq_true rfl, Nat.le_of_ble_eq_true rfl⟩) [] hK hP hD rfl hS hA (ci := 1) (q0 := 0) rfl rfl rfl rfl hl.1 rfl (Nat.le_of_ble_eq_true rfl) dX1_encrypt_29 ⟨Nat.zero_le _, Nat.zero_le _⟩ (fun H locs hP hS => ?_)
  have hP : va_P D Cl (YG cA h ad zSub ks pre hs (zbz (zre ks (zly pre))) (zbz (zrl ks (zly pre))) se mo pr) H := hP
  refine lv_iconst (v := nI 0) hx hb dX1_encrypt_32 (by decide) ?_
  refine lv_istore_n (lv' := [(1, .int (nI 0)), (0, .ref h)]) hx hb dX1_encrypt_33 rfl hl (by decide) rfl (fun ls hl => ?_)
  have L1 : ∀ (nL1 i : Nat), i + nL1 = 4 → ∀ (H : Heap) (locs : List Loc) (ls : Array Slot), va_P D Cl (YG cA h ad zSub ks (zfil pre (zjn (zre ks (zly pre))) i) hs (zbz (zre ks (zly pre))) (zbz (zrl ks (zly pre))) se mo pr) H → va_S A s.heap H locs → lv_has ls 2 [(1, .int (nI i)), (0, .ref h)] → W p l e (zroom 5) s m ([.ref h] : List Value).toArray below meth c H locs 0 0 Q (F0 m 34 ls []) := by
    intro nL1
    induction nL1 with
    | zero =>
      intro i hL1 H locs ls hP hS hl
      obtain rfl : i = 4 := by omega
      refine lv_iload_n hx hb dX1_encrypt_34 rfl (lv_at hl 0 rfl) ?_
      refine lv_iconst (v := nI 4) hx hb dX1_encrypt_35 (by decide) ?_
      refine zr_ge_t (tgt := 56) hx hb dX1_encrypt_36 (by decide) (by omega) (by omega) ?_
      have hP := zP (g := (zjn (zre ks (zly pre)))) hP 3 rfl (fun j hj => zfil_lt hj)
      have hP : va_P D Cl (YG cA h ad zSub ks (zjn (zre ks (zly pre))) hs (zbz (zre ks (zly pre))) (zbz (zrl ks (zly pre))) se mo pr) H := hP
      exact hret H locs _ ls hP hS dX1_encrypt_56
    | succ nL1 ihL1 =>
      intro i hL1 H locs ls hP hS hl
      have hltL1 : i < 4 := by omega
      refine lv_iload_n hx hb dX1_encrypt_34 rfl (lv_at hl 0 rfl) ?_
      refine lv_iconst (v := nI 4) hx hb dX1_encrypt_35 (by decide) ?_
      refine zr_ge_f (tgt := 56) hx hb dX1_encrypt_36 (by decide) (by omega) (by omega) ?_
      refine lv_aload_n hx hb dX1_encrypt_39 rfl (lv_at hl 1 rfl) ?_
      refine zr_get (T := TX1) (N := 9) hx hb hts in_X1 hown hK hP 0 rfl rfl 2 (by decide) q228 rfl dX1_encrypt_40 ?_
      refine lv_iload_n hx hb dX1_encrypt_43 rfl (lv_at hl 0 rfl) ?_
      refine lv_aload_n hx hb dX1_encrypt_44 rfl (lv_at hl 1 rfl) ?_
      refine lv_iload_n hx hb dX1_encrypt_45 rfl (lv_at hl 0 rfl) ?_
      refine zr_callVi (rest := [.int (nI i), .ref (ad 2)]) ⟨hx, hb, hml, hown, hts⟩ (mY_joined l D cA h ad ks (zfil pre (zjn (zre ks (zly pre))) i) hs (zbz (zrl ks (zly pre))) se mo pr (zre ks (zly pre)) i (by omega)) (cwV 1 hts (lw_V q296 q298 qs24 q31 q299) rfl rfl rfl (by decide +kernel) ⟨Nat.le_of_ble_eq_true rfl, Nat.le_of_ble_eq_true rfl⟩) [] hK hP hD rfl hS hA (ci := 1) (q0 := 0) rfl rfl rfl rfl hl.1 rfl (Nat.le_of_ble_eq_true rfl) dX1_encrypt_46 ⟨Nat.zero_le _, Nat.zero_le _⟩ (fun H locs hP hS => ?_)
      have hP : va_P D Cl (YG cA h ad zSub ks (zfil pre (zjn (zre ks (zly pre))) i) hs (zbz (zre ks (zly pre))) (zbz (zrl ks (zly pre))) se mo pr) H := hP
      refine zr_iast (f' := zfil pre (zjn (zre ks (zly pre))) (i + 1)) hx hb hK hP hD rfl hS 3 0 rfl rfl i rfl (by omega) (by decide) (zfil_s rfl) dX1_encrypt_49 (fun H locs hP hS => ?_)
      have hP : va_P D Cl (YG cA h ad zSub ks (zfil pre (zjn (zre ks (zly pre))) (i + 1)) hs (zbz (zre ks (zly pre))) (zbz (zrl ks (zly pre))) se mo pr) H := hP
      refine lv_iinc (v := nI (i + 1)) (lv' := [(1, .int (nI (i + 1))), (0, .ref h)]) hx hb dX1_encrypt_50 hl (k := 0) rfl (zinc _) (by decide) rfl (fun ls hl => ?_)
      refine lv_goto (tgt := 34) hx hb dX1_encrypt_53 (by decide) ?_
      exact ihL1 (i + 1) (by omega) H locs ls hP hS (lv_sub hl [0, 1] rfl)
  exact L1 4 0 (by omega) H locs ls (by rw [zfil_0]; exact hP) hS (lv_sub hl [0, 1] rfl)
set_option maxHeartbeats 4000000 in
/-- BlockSealerModel.decrypt  -/
theorem mY_decrypt (l : Launch) (D : va_G) (cA : ClassId) (h : Nat) (ad : Nat → Nat) (ks pre hs sq sh se mo pr : Nat → Int32) : MetW l D cA yX1_decrypt (ws_ yX1_decrypt cX1_decrypt 2 none) (zroom 5) ([.ref h] : List Value) (YG cA h ad zSub ks pre hs sq sh se mo pr) (YG cA h ad zSub ks (zjn (zrx ks (zly pre))) hs (zbz (zrx ks (zly pre))) (zbz (zbk ks (zly pre) 9)) se mo pr) none := by
  refine zr_startV RX1 rfl (by decide) (Nat.le_of_ble_eq_true rfl) ?_
  intro p e s m below meth c A ls Q hx hb hml hown hts hK hP hD hA hS hret hl
  have hl : lv_has ls 2 [(0, .ref h)] := hl
  generalize hH : s.heap = H at hP
  have hS : va_S A s.heap H [] := by rw [← hH]; exact hS
  generalize hlo : ([] : List Loc) = locs at hS ⊢
  refine lv_aload_n hx hb dX1_decrypt_0 rfl (lv_at hl 0 rfl) ?_
  refine lv_aload_n hx hb dX1_decrypt_1 rfl (lv_at hl 0 rfl) ?_
  refine zr_get (T := TX1) (N := 9) hx hb hts in_X1 hown hK hP 0 rfl rfl 2 (by decide) q228 rfl dX1_decrypt_2 ?_
  refine lv_iconst (v := nI 0) hx hb dX1_decrypt_5 (by decide) ?_
  refine zr_iald (v := pre 0) hx hb hK hP 3 0 rfl rfl 0 rfl (by decide) (by decide) rfl dX1_decrypt_6 ?_
  refine lv_aload_n hx hb dX1_decrypt_7 rfl (lv_at hl 0 rfl) ?_
  refine zr_get (T := TX1) (N := 9) hx hb hts in_X1 hown hK hP 0 rfl rfl 2 (by decide) q228 rfl dX1_decrypt_8 ?_
  refine lv_iconst (v := nI 1) hx hb dX1_decrypt_11 (by decide) ?_
  refine zr_iald (v := pre 1) hx hb hK hP 3 0 rfl rfl 1 rfl (by decide) (by decide) rfl dX1_decrypt_12 ?_
  refine lv_aload_n hx hb dX1_decrypt_13 rfl (lv_at hl 0 rfl) ?_
  refine zr_get (T := TX1) (N := 9) hx hb hts in_X1 hown hK hP 0 rfl rfl 2 (by decide) q228 rfl dX1_decrypt_14 ?_
  refine lv_iconst (v := nI 2) hx hb dX1_decrypt_17 (by decide) ?_
  refine zr_iald (v := pre 2) hx hb hK hP 3 0 rfl rfl 2 rfl (by decide) (by decide) rfl dX1_decrypt_18 ?_
  refine lv_aload_n hx hb dX1_decrypt_19 rfl (lv_at hl 0 rfl) ?_
  refine zr_get (T := TX1) (N := 9) hx hb hts in_X1 hown hK hP 0 rfl rfl 2 (by decide) q228 rfl dX1_decrypt_20 ?_
  refine lv_iconst (v := nI 3) hx hb dX1_decrypt_23 (by decide) ?_
  refine zr_iald (v := pre 3) hx hb hK hP 3 0 rfl rfl 3 rfl (by decide) (by decide) rfl dX1_decrypt_24 ?_
  refine zr_callVv (rest := []) ⟨hx, hb, hml, hown, hts⟩ (mY_lay l D cA h ad ks pre hs sq sh se mo pr (pre 0) (pre 1) (pre 2) (pre 3)) (cwV 4 hts (lw_V q268 q270 qs17 q31 q271) rfl rfl rfl (by decide +kernel) ⟨Nat.le_of_ble_eq_true rfl, Nat.le_of_ble_eq_true rfl⟩) [] hK hP hD rfl hS hA (ci := 1) (q0 := 0) rfl rfl rfl rfl hl.1 rfl (Nat.le_of_ble_eq_true rfl) dX1_decrypt_25 ⟨Nat.zero_le _, Nat.zero_le _⟩ (fun H locs hP hS => ?_)
  have hP : va_P D Cl (YG cA h ad zSub ks pre hs (zbz (zly (zw4 (pre 0) (pre 1) (pre 2) (pre 3)))) sh se mo pr) H := hP
  have hP := zP (g := zbz (zly pre)) hP 5 rfl (fun j hj => zly_w hj)
  have hP : va_P D Cl (YG cA h ad zSub ks pre hs (zbz (zly pre)) sh se mo pr) H := hP
  refine lv_aload_n hx hb dX1_decrypt_28 rfl (lv_at hl 0 rfl) ?_
  refine zr_callVv (rest := []) ⟨hx, hb, hml, hown, hts⟩ (mY_roundsBack l D cA h ad ks pre hs sh se mo pr (zly pre) (by repeat (first | assumption | apply zB_re | apply zB_rx | apply zB_rl | apply zB_ly | apply zB_rp | apply zB_rs | apply zB_rd | apply zB_bk | apply zB_ak | apply zB_sh | apply zB_mx))) (cwV 0 hts (lw_V q304 q306 qs25 q31 q307) rfl rfl rfl (by decide +kernel) ⟨Nat.le_of_ble_eq_true rfl, Nat.le_of_ble_eq_true rfl⟩) [] hK hP hD rfl hS hA (ci := 1) (q0 := 0) rfl rfl rfl rfl hl.1 rfl (Nat.le_of_ble_eq_true rfl) dX1_decrypt_29 ⟨Nat.zero_le _, Nat.zero_le _⟩ (fun H locs hP hS => ?_)
  have hP : va_P D Cl (YG cA h ad zSub ks pre hs (zbz (zrx ks (zly pre))) (zbz (zbk ks (zly pre) 9)) se mo pr) H := hP
  refine lv_iconst (v := nI 0) hx hb dX1_decrypt_32 (by decide) ?_
  refine lv_istore_n (lv' := [(1, .int (nI 0)), (0, .ref h)]) hx hb dX1_decrypt_33 rfl hl (by decide) rfl (fun ls hl => ?_)
  have L1 : ∀ (nL1 i : Nat), i + nL1 = 4 → ∀ (H : Heap) (locs : List Loc) (ls : Array Slot), va_P D Cl (YG cA h ad zSub ks (zfil pre (zjn (zrx ks (zly pre))) i) hs (zbz (zrx ks (zly pre))) (zbz (zbk ks (zly pre) 9)) se mo pr) H → va_S A s.heap H locs → lv_has ls 2 [(1, .int (nI i)), (0, .ref h)] → W p l e (zroom 5) s m ([.ref h] : List Value).toArray below meth c H locs 0 0 Q (F0 m 34 ls []) := by
    intro nL1
    induction nL1 with
    | zero =>
      intro i hL1 H locs ls hP hS hl
      obtain rfl : i = 4 := by omega
      refine lv_iload_n hx hb dX1_decrypt_34 rfl (lv_at hl 0 rfl) ?_
      refine lv_iconst (v := nI 4) hx hb dX1_decrypt_35 (by decide) ?_
      refine zr_ge_t (tgt := 56) hx hb dX1_decrypt_36 (by decide) (by omega) (by omega) ?_
      have hP := zP (g := (zjn (zrx ks (zly pre)))) hP 3 rfl (fun j hj => zfil_lt hj)
      have hP : va_P D Cl (YG cA h ad zSub ks (zjn (zrx ks (zly pre))) hs (zbz (zrx ks (zly pre))) (zbz (zbk ks (zly pre) 9)) se mo pr) H := hP
      exact hret H locs _ ls hP hS dX1_decrypt_56
    | succ nL1 ihL1 =>
      intro i hL1 H locs ls hP hS hl
      have hltL1 : i < 4 := by omega
      refine lv_iload_n hx hb dX1_decrypt_34 rfl (lv_at hl 0 rfl) ?_
      refine lv_iconst (v := nI 4) hx hb dX1_decrypt_35 (by decide) ?_
      refine zr_ge_f (tgt := 56) hx hb dX1_decrypt_36 (by decide) (by omega) (by omega) ?_
      refine lv_aload_n hx hb dX1_decrypt_39 rfl (lv_at hl 1 rfl) ?_
      refine zr_get (T := TX1) (N := 9) hx hb hts in_X1 hown hK hP 0 rfl rfl 2 (by decide) q228 rfl dX1_decrypt_40 ?_
      refine lv_iload_n hx hb dX1_decrypt_43 rfl (lv_at hl 0 rfl) ?_
      refine lv_aload_n hx hb dX1_decrypt_44 rfl (lv_at hl 1 rfl) ?_
      refine lv_iload_n hx hb dX1_decrypt_45 rfl (lv_at hl 0 rfl) ?_
      refine zr_callVi (rest := [.int (nI i), .ref (ad 2)]) ⟨hx, hb, hml, hown, hts⟩ (mY_joined l D cA h ad ks (zfil pre (zjn (zrx ks (zly pre))) i) hs (zbz (zbk ks (zly pre) 9)) se mo pr (zrx ks (zly pre)) i (by omega)) (cwV 1 hts (lw_V q296 q298 qs24 q31 q299) rfl rfl rfl (by decide +kernel) ⟨Nat.le_of_ble_eq_true rfl, Nat.le_of_ble_eq_true rfl⟩) [] hK hP hD rfl hS hA (ci := 1) (q0 := 0) rfl rfl rfl rfl hl.1 rfl (Nat.le_of_ble_eq_true rfl) dX1_decrypt_46 ⟨Nat.zero_le _, Nat.zero_le _⟩ (fun H locs hP hS => ?_)
      have hP : va_P D Cl (YG cA h ad zSub ks (zfil pre (zjn (zrx ks (zly pre))) i) hs (zbz (zrx ks (zly pre))) (zbz (zbk ks (zly pre) 9)) se mo pr) H := hP
      refine zr_iast (f' := zfil pre (zjn (zrx ks (zly pre))) (i + 1)) hx hb hK hP hD rfl hS 3 0 rfl rfl i rfl (by omega) (by decide) (zfil_s rfl) dX1_decrypt_49 (fun H locs hP hS => ?_)
      have hP : va_P D Cl (YG cA h ad zSub ks (zfil pre (zjn (zrx ks (zly pre))) (i + 1)) hs (zbz (zrx ks (zly pre))) (zbz (zbk ks (zly pre) 9)) se mo pr) H := hP
      refine lv_iinc (v := nI (i + 1)) (lv' := [(1, .int (nI (i + 1))), (0, .ref h)]) hx hb dX1_decrypt_50 hl (k := 0) rfl (zinc _) (by decide) rfl (fun ls hl => ?_)
      refine lv_goto (tgt := 34) hx hb dX1_decrypt_53 (by decide) ?_
      exact ihL1 (i + 1) (by omega) H locs ls hP hS (lv_sub hl [0, 1] rfl)
  exact L1 4 0 (by omega) H locs ls (by rw [zfil_0]; exact hP) hS (lv_sub hl [0, 1] rfl)
set_option maxHeartbeats 4000000 in
/-- BlockSealerModel.moveBit  -/
theorem mY_moveBit (l : Launch) (D : va_G) (cA : ClassId) (h : Nat) (ad : Nat → Nat) (ks pre hs sq sh se mo pr : Nat → Int32) : MetW l D cA yX1_moveBit (ws_ yX1_moveBit cX1_moveBit 3 none) (zroom 0) ([.ref h] : List Value) (YG cA h ad zSub ks pre hs sq sh se mo pr) (YG cA h ad zSub ks pre hs sq sh se (zmo mo) pr) none := by
  refine zr_startV RX1 rfl (by decide) (Nat.le_of_ble_eq_true rfl) ?_
  intro p e s m below meth c A ls Q hx hb hml hown hts hK hP hD hA hS hret hl
  have hl : lv_has ls 3 [(0, .ref h)] := hl
  generalize hH : s.heap = H at hP
  have hS : va_S A s.heap H [] := by rw [← hH]; exact hS
  generalize hlo : ([] : List Loc) = locs at hS ⊢
  refine lv_aload_n hx hb dX1_moveBit_0 rfl (lv_at hl 0 rfl) ?_
  refine zr_get (T := TX1) (N := 9) hx hb hts in_X1 hown hK hP 0 rfl rfl 7 (by decide) q233 rfl dX1_moveBit_1 ?_
  refine lv_iconst (v := nI 3) hx hb dX1_moveBit_4 (by decide) ?_
  refine zr_iald (v := mo 3) hx hb hK hP 8 0 rfl rfl 3 rfl (by decide) (by decide) rfl dX1_moveBit_5 ?_
  refine lv_iconst (v := nI 1) hx hb dX1_moveBit_6 (by decide) ?_
  refine zr_iand (v := nI (zlo (mo 3) 2)) hx hb dX1_moveBit_7 (zl1 _) ?_
  refine lv_iconst (v := nI 1) hx hb dX1_moveBit_8 (by decide) ?_
  refine lv_icmp_ne (tgt := 16) hx hb dX1_moveBit_9 (by decide) (fun hc => ?_) (fun hc => ?_)
  · skip
    refine lv_iconst (v := nI 0) hx hb dX1_moveBit_16 (by decide) ?_
    refine lv_istore_n (lv' := [(1, .int (nI 0)), (0, .ref h)]) hx hb dX1_moveBit_17 rfl hl (by decide) rfl (fun ls hl => ?_)
    refine lv_iconst (v := nI 3) hx hb dX1_moveBit_18 (by decide) ?_
    refine lv_istore_n (lv' := [(2, .int (nI 3)), (1, .int (nI 0)), (0, .ref h)]) hx hb dX1_moveBit_19 rfl hl (by decide) rfl (fun ls hl => ?_)
    have L1 : ∀ (i : Nat), i ≤ 3 → ∀ (H : Heap) (locs : List Loc) (ls : Array Slot), va_P D Cl (YG cA h ad zSub ks pre hs sq sh se (zfid mo (zmo mo) i) pr) H → va_S A s.heap H locs → lv_has ls 3 [(2, .int (nI i)), (1, .int (nI 0)), (0, .ref h)] → W p l e (zroom 0) s m ([.ref h] : List Value).toArray below meth c H locs 0 0 Q (F0 m 20 ls []) := by
      intro i
      induction i with
      | zero =>
        intro hleL1 H locs ls hP hS hl
        refine lv_iload_n hx hb dX1_moveBit_20 rfl (lv_at hl 0 rfl) ?_
        refine zr_ifle_t (tgt := 56) hx hb dX1_moveBit_21 (by decide) ?_
        refine lv_aload_n hx hb dX1_moveBit_56 rfl (lv_at hl 2 rfl) ?_
        refine zr_get (T := TX1) (N := 9) hx hb hts in_X1 hown hK hP 0 rfl rfl 7 (by decide) q233 rfl dX1_moveBit_57 ?_
        refine lv_iconst (v := nI 0) hx hb dX1_moveBit_60 (by decide) ?_
        refine lv_aload_n hx hb dX1_moveBit_61 rfl (lv_at hl 2 rfl) ?_
        refine zr_get (T := TX1) (N := 9) hx hb hts in_X1 hown hK hP 0 rfl rfl 7 (by decide) q233 rfl dX1_moveBit_62 ?_
        refine lv_iconst (v := nI 0) hx hb dX1_moveBit_65 (by decide) ?_
        refine zr_iald (v := mo 0) hx hb hK hP 8 0 rfl rfl 0 rfl (by decide) (by decide) (zfid_le (Nat.le_refl 0)) dX1_moveBit_66 ?_
        refine lv_iconst (v := nI 1) hx hb dX1_moveBit_67 (by decide) ?_
        refine zr_iushr (v := zus (mo 0) 1) hx hb dX1_moveBit_68 rfl ?_
        refine zr_iast (f' := upd (zfid mo (zmo mo) 0) 0 (zus (mo 0) 1)) hx hb hK hP hD rfl hS 8 0 rfl rfl 0 rfl (by decide) (by decide) rfl dX1_moveBit_69 (fun H locs hP hS => ?_)
        have hP : va_P D Cl (YG cA h ad zSub ks pre hs sq sh se (upd (zfid mo (zmo mo) 0) 0 (zus (mo 0) 1)) pr) H := hP
        refine lv_iload_n hx hb dX1_moveBit_70 rfl (lv_at hl 1 rfl) ?_
        refine lv_if_eq (tgt := 85) hx hb dX1_moveBit_71 (by decide) (fun _ => ?_) (fun z => absurd rfl z)
        have hP := zP (g := zmo mo) hP 8 rfl (fun j hj => zmb_f hc)
        have hP : va_P D Cl (YG cA h ad zSub ks pre hs sq sh se (zmo mo) pr) H := hP
        exact hret H locs _ ls hP hS dX1_moveBit_85
      | succ i ihL1 =>
        intro hleL1 H locs ls hP hS hl
        refine lv_iload_n hx hb dX1_moveBit_20 rfl (lv_at hl 0 rfl) ?_
        refine zr_ifle_f (tgt := 56) hx hb dX1_moveBit_21 (by decide) (by omega) (by omega) ?_
        refine lv_aload_n hx hb dX1_moveBit_24 rfl (lv_at hl 2 rfl) ?_
        refine zr_get (T := TX1) (N := 9) hx hb hts in_X1 hown hK hP 0 rfl rfl 7 (by decide) q233 rfl dX1_moveBit_25 ?_
        refine lv_iload_n hx hb dX1_moveBit_28 rfl (lv_at hl 0 rfl) ?_
        refine lv_aload_n hx hb dX1_moveBit_29 rfl (lv_at hl 2 rfl) ?_
        refine zr_get (T := TX1) (N := 9) hx hb hts in_X1 hown hK hP 0 rfl rfl 7 (by decide) q233 rfl dX1_moveBit_30 ?_
        refine lv_iload_n hx hb dX1_moveBit_33 rfl (lv_at hl 0 rfl) ?_
        refine zr_iald (v := mo (i + 1)) hx hb hK hP 8 0 rfl rfl (i + 1) rfl (by omega) (by decide) (zfid_le (Nat.le_refl _)) dX1_moveBit_34 ?_
        refine lv_iconst (v := nI 1) hx hb dX1_moveBit_35 (by decide) ?_
        refine zr_iushr (v := zus (mo (i + 1)) 1) hx hb dX1_moveBit_36 rfl ?_
        refine lv_aload_n hx hb dX1_moveBit_37 rfl (lv_at hl 2 rfl) ?_
        refine zr_get (T := TX1) (N := 9) hx hb hts in_X1 hown hK hP 0 rfl rfl 7 (by decide) q233 rfl dX1_moveBit_38 ?_
        refine lv_iload_n hx hb dX1_moveBit_41 rfl (lv_at hl 0 rfl) ?_
        refine lv_iconst (v := nI 1) hx hb dX1_moveBit_42 (by decide) ?_
        refine zr_isub (v := nI i) hx hb dX1_moveBit_43 (nI_pred i) ?_
        refine zr_iald (v := mo i) hx hb hK hP 8 0 rfl rfl i rfl (by omega) (by decide) (zfid_le (Nat.le_succ _)) dX1_moveBit_44 ?_
        refine lv_bipush (v := nI 31) hx hb dX1_moveBit_45 (by decide) ?_
        refine zr_ishl (v := zsl (mo i) 31) hx hb dX1_moveBit_47 rfl ?_
        refine zr_ior (v := (zus (mo (i + 1)) 1) ||| (zsl (mo i) 31)) hx hb dX1_moveBit_48 rfl ?_
        refine zr_iast (f' := zfid mo (zmo mo) i) hx hb hK hP hD rfl hS 8 0 rfl rfl (i + 1) rfl (by omega) (by decide) (zfid_s rfl) dX1_moveBit_49 (fun H locs hP hS => ?_)
        have hP : va_P D Cl (YG cA h ad zSub ks pre hs sq sh se (zfid mo (zmo mo) i) pr) H := hP
        refine lv_iinc (v := nI i) (lv' := [(2, .int (nI i)), (1, .int (nI 0)), (0, .ref h)]) hx hb dX1_moveBit_50 hl (k := 0) rfl (zdec i) (by decide) rfl (fun ls hl => ?_)
        refine lv_goto (tgt := 20) hx hb dX1_moveBit_53 (by decide) ?_
        exact ihL1 (by omega) H locs ls hP hS (lv_sub hl [0, 1, 2] rfl)
    exact L1 3 (by omega) H locs ls (zP (g := zfid mo (zmo mo) 3) hP 8 rfl (fun j hj => (zfid_le (by omega)).symm)) hS (lv_sub hl [0, 1, 2] rfl)
  · skip
    refine lv_iconst (v := nI 1) hx hb dX1_moveBit_12 (by decide) ?_
    refine lv_goto (tgt := 17) hx hb dX1_moveBit_13 (by decide) ?_
    refine lv_istore_n (lv' := [(1, .int (nI 1)), (0, .ref h)]) hx hb dX1_moveBit_17 rfl hl (by decide) rfl (fun ls hl => ?_)
    refine lv_iconst (v := nI 3) hx hb dX1_moveBit_18 (by decide) ?_
    refine lv_istore_n (lv' := [(2, .int (nI 3)), (1, .int (nI 1)), (0, .ref h)]) hx hb dX1_moveBit_19 rfl hl (by decide) rfl (fun ls hl => ?_)
    have L2 : ∀ (i : Nat), i ≤ 3 → ∀ (H : Heap) (locs : List Loc) (ls : Array Slot), va_P D Cl (YG cA h ad zSub ks pre hs sq sh se (zfid mo (zmo mo) i) pr) H → va_S A s.heap H locs → lv_has ls 3 [(2, .int (nI i)), (1, .int (nI 1)), (0, .ref h)] → W p l e (zroom 0) s m ([.ref h] : List Value).toArray below meth c H locs 0 0 Q (F0 m 20 ls []) := by
      intro i
      induction i with
      | zero =>
        intro hleL2 H locs ls hP hS hl
        refine lv_iload_n hx hb dX1_moveBit_20 rfl (lv_at hl 0 rfl) ?_
        refine zr_ifle_t (tgt := 56) hx hb dX1_moveBit_21 (by decide) ?_
        refine lv_aload_n hx hb dX1_moveBit_56 rfl (lv_at hl 2 rfl) ?_
        refine zr_get (T := TX1) (N := 9) hx hb hts in_X1 hown hK hP 0 rfl rfl 7 (by decide) q233 rfl dX1_moveBit_57 ?_
        refine lv_iconst (v := nI 0) hx hb dX1_moveBit_60 (by decide) ?_
        refine lv_aload_n hx hb dX1_moveBit_61 rfl (lv_at hl 2 rfl) ?_
        refine zr_get (T := TX1) (N := 9) hx hb hts in_X1 hown hK hP 0 rfl rfl 7 (by decide) q233 rfl dX1_moveBit_62 ?_
        refine lv_iconst (v := nI 0) hx hb dX1_moveBit_65 (by decide) ?_
        refine zr_iald (v := mo 0) hx hb hK hP 8 0 rfl rfl 0 rfl (by decide) (by decide) (zfid_le (Nat.le_refl 0)) dX1_moveBit_66 ?_
        refine lv_iconst (v := nI 1) hx hb dX1_moveBit_67 (by decide) ?_
        refine zr_iushr (v := zus (mo 0) 1) hx hb dX1_moveBit_68 rfl ?_
        refine zr_iast (f' := upd (zfid mo (zmo mo) 0) 0 (zus (mo 0) 1)) hx hb hK hP hD rfl hS 8 0 rfl rfl 0 rfl (by decide) (by decide) rfl dX1_moveBit_69 (fun H locs hP hS => ?_)
        have hP : va_P D Cl (YG cA h ad zSub ks pre hs sq sh se (upd (zfid mo (zmo mo) 0) 0 (zus (mo 0) 1)) pr) H := hP
        refine lv_iload_n hx hb dX1_moveBit_70 rfl (lv_at hl 1 rfl) ?_
        refine lv_if_eq (tgt := 85) hx hb dX1_moveBit_71 (by decide) (fun z => absurd z (by decide)) (fun _ => ?_)
        refine lv_aload_n hx hb dX1_moveBit_74 rfl (lv_at hl 2 rfl) ?_
        refine zr_get (T := TX1) (N := 9) hx hb hts in_X1 hown hK hP 0 rfl rfl 7 (by decide) q233 rfl dX1_moveBit_75 ?_
        refine lv_iconst (v := nI 0) hx hb dX1_moveBit_78 (by decide) ?_
        refine lv_dup2_11 hx hb dX1_moveBit_79 rfl rfl ?_
        refine zr_iald (v := zus (mo 0) 1) hx hb hK hP 8 0 rfl rfl 0 rfl (by decide) (by decide) rfl dX1_moveBit_80 ?_
        refine lv_ldc hx hb hown (hts _ q332) dX1_moveBit_81 ?_
        refine zr_ixor (v := (zus (mo 0) 1) ^^^ (-520093696 : Int32)) hx hb dX1_moveBit_83 rfl ?_
        refine zr_iast (f' := upd (upd (zfid mo (zmo mo) 0) 0 (zus (mo 0) 1)) 0 ((zus (mo 0) 1) ^^^ (-520093696 : Int32))) hx hb hK hP hD rfl hS 8 0 rfl rfl 0 rfl (by decide) (by decide) rfl dX1_moveBit_84 (fun H locs hP hS => ?_)
        have hP : va_P D Cl (YG cA h ad zSub ks pre hs sq sh se (upd (upd (zfid mo (zmo mo) 0) 0 (zus (mo 0) 1)) 0 ((zus (mo 0) 1) ^^^ (-520093696 : Int32))) pr) H := hP
        have hP := zP (g := zmo mo) hP 8 rfl (fun j hj => zmb_t hc)
        have hP : va_P D Cl (YG cA h ad zSub ks pre hs sq sh se (zmo mo) pr) H := hP
        exact hret H locs _ ls hP hS dX1_moveBit_85
      | succ i ihL2 =>
        intro hleL2 H locs ls hP hS hl
        refine lv_iload_n hx hb dX1_moveBit_20 rfl (lv_at hl 0 rfl) ?_
        refine zr_ifle_f (tgt := 56) hx hb dX1_moveBit_21 (by decide) (by omega) (by omega) ?_
        refine lv_aload_n hx hb dX1_moveBit_24 rfl (lv_at hl 2 rfl) ?_
        refine zr_get (T := TX1) (N := 9) hx hb hts in_X1 hown hK hP 0 rfl rfl 7 (by decide) q233 rfl dX1_moveBit_25 ?_
        refine lv_iload_n hx hb dX1_moveBit_28 rfl (lv_at hl 0 rfl) ?_
        refine lv_aload_n hx hb dX1_moveBit_29 rfl (lv_at hl 2 rfl) ?_
        refine zr_get (T := TX1) (N := 9) hx hb hts in_X1 hown hK hP 0 rfl rfl 7 (by decide) q233 rfl dX1_moveBit_30 ?_
        refine lv_iload_n hx hb dX1_moveBit_33 rfl (lv_at hl 0 rfl) ?_
        refine zr_iald (v := mo (i + 1)) hx hb hK hP 8 0 rfl rfl (i + 1) rfl (by omega) (by decide) (zfid_le (Nat.le_refl _)) dX1_moveBit_34 ?_
        refine lv_iconst (v := nI 1) hx hb dX1_moveBit_35 (by decide) ?_
        refine zr_iushr (v := zus (mo (i + 1)) 1) hx hb dX1_moveBit_36 rfl ?_
        refine lv_aload_n hx hb dX1_moveBit_37 rfl (lv_at hl 2 rfl) ?_
        refine zr_get (T := TX1) (N := 9) hx hb hts in_X1 hown hK hP 0 rfl rfl 7 (by decide) q233 rfl dX1_moveBit_38 ?_
        refine lv_iload_n hx hb dX1_moveBit_41 rfl (lv_at hl 0 rfl) ?_
        refine lv_iconst (v := nI 1) hx hb dX1_moveBit_42 (by decide) ?_
        refine zr_isub (v := nI i) hx hb dX1_moveBit_43 (nI_pred i) ?_
        refine zr_iald (v := mo i) hx hb hK hP 8 0 rfl rfl i rfl (by omega) (by decide) (zfid_le (Nat.le_succ _)) dX1_moveBit_44 ?_
        refine lv_bipush (v := nI 31) hx hb dX1_moveBit_45 (by decide) ?_
        refine zr_ishl (v := zsl (mo i) 31) hx hb dX1_moveBit_47 rfl ?_
        refine zr_ior (v := (zus (mo (i + 1)) 1) ||| (zsl (mo i) 31)) hx hb dX1_moveBit_48 rfl ?_
        refine zr_iast (f' := zfid mo (zmo mo) i) hx hb hK hP hD rfl hS 8 0 rfl rfl (i + 1) rfl (by omega) (by decide) (zfid_s rfl) dX1_moveBit_49 (fun H locs hP hS => ?_)
        have hP : va_P D Cl (YG cA h ad zSub ks pre hs sq sh se (zfid mo (zmo mo) i) pr) H := hP
        refine lv_iinc (v := nI i) (lv' := [(2, .int (nI i)), (1, .int (nI 1)), (0, .ref h)]) hx hb dX1_moveBit_50 hl (k := 0) rfl (zdec i) (by decide) rfl (fun ls hl => ?_)
        refine lv_goto (tgt := 20) hx hb dX1_moveBit_53 (by decide) ?_
        exact ihL2 (by omega) H locs ls hP hS (lv_sub hl [0, 1, 2] rfl)
    exact L2 3 (by omega) H locs ls (zP (g := zfid mo (zmo mo) 3) hP 8 rfl (fun j hj => (zfid_le (by omega)).symm)) hS (lv_sub hl [0, 1, 2] rfl)
set_option maxHeartbeats 4000000 in
/-- BlockSealerModel.absorb  -/
theorem mY_absorb (l : Launch) (D : va_G) (cA : ClassId) (h : Nat) (ad : Nat → Nat) (ks pre hs sq sh se mo pr : Nat → Int32) : MetW l D cA yX1_absorb (ws_ yX1_absorb cX1_absorb 3 none) (zroom 5) ([.ref h] : List Value) (YG cA h ad zSub ks pre hs sq sh se mo pr) (YG cA h ad zSub ks pre (zpt (fun c => hs c ^^^ pre c) (zjn (zre ks (zly (fun _ => nI 0)))) 128) (zbz (zre ks (zly (fun _ => nI 0)))) (zbz (zrl ks (zly (fun _ => nI 0)))) (fun c => hs c ^^^ pre c) (zmv (zjn (zre ks (zly (fun _ => nI 0)))) 128) (zpt (fun c => hs c ^^^ pre c) (zjn (zre ks (zly (fun _ => nI 0)))) 128)) none := by
  refine zr_startV RX1 rfl (by decide) (Nat.le_of_ble_eq_true rfl) ?_
  intro p e s m below meth c A ls Q hx hb hml hown hts hK hP hD hA hS hret hl
  have hl : lv_has ls 3 [(0, .ref h)] := hl
  generalize hH : s.heap = H at hP
  have hS : va_S A s.heap H [] := by rw [← hH]; exact hS
  generalize hlo : ([] : List Loc) = locs at hS ⊢
  refine lv_aload_n hx hb dX1_absorb_0 rfl (lv_at hl 0 rfl) ?_
  refine lv_iconst (v := nI 0) hx hb dX1_absorb_1 (by decide) ?_
  refine lv_iconst (v := nI 0) hx hb dX1_absorb_2 (by decide) ?_
  refine lv_iconst (v := nI 0) hx hb dX1_absorb_3 (by decide) ?_
  refine lv_iconst (v := nI 0) hx hb dX1_absorb_4 (by decide) ?_
  refine zr_callVv (rest := []) ⟨hx, hb, hml, hown, hts⟩ (mY_lay l D cA h ad ks pre hs sq sh se mo pr (nI 0) (nI 0) (nI 0) (nI 0)) (cwV 4 hts (lw_V q268 q270 qs17 q31 q271) rfl rfl rfl (by decide +kernel) ⟨Nat.le_of_ble_eq_true rfl, Nat.le_of_ble_eq_true rfl⟩) [] hK hP hD rfl hS hA (ci := 1) (q0 := 0) rfl rfl rfl rfl hl.1 rfl (Nat.le_of_ble_eq_true rfl) dX1_absorb_5 ⟨Nat.zero_le _, Nat.zero_le _⟩ (fun H locs hP hS => ?_)
  have hP : va_P D Cl (YG cA h ad zSub ks pre hs (zbz (zly (zw4 (nI 0) (nI 0) (nI 0) (nI 0)))) sh se mo pr) H := hP
  have hP := zP (g := zbz (zly (fun _ => nI 0))) hP 5 rfl (fun j hj => zly_0)
  have hP : va_P D Cl (YG cA h ad zSub ks pre hs (zbz (zly (fun _ => nI 0))) sh se mo pr) H := hP
  refine lv_aload_n hx hb dX1_absorb_8 rfl (lv_at hl 0 rfl) ?_
  refine zr_callVv (rest := []) ⟨hx, hb, hml, hown, hts⟩ (mY_rounds l D cA h ad ks pre hs sh se mo pr (zly (fun _ => nI 0)) (by repeat (first | assumption | apply zB_re | apply zB_rx | apply zB_rl | apply zB_ly | apply zB_rp | apply zB_rs | apply zB_rd | apply zB_bk | apply zB_ak | apply zB_sh | apply zB_mx))) (cwV 0 hts (lw_V q272 q274 qs18 q31 q275) rfl rfl rfl (by decide +kernel) ⟨Nat.le_of_ble_eq_true rfl, Nat.le_of_ble_eq_true rfl⟩) [] hK hP hD rfl hS hA (ci := 1) (q0 := 0) rfl rfl rfl rfl hl.1 rfl (Nat.le_of_ble_eq_true rfl) dX1_absorb_9 ⟨Nat.zero_le _, Nat.zero_le _⟩ (fun H locs hP hS => ?_)
  have hP : va_P D Cl (YG cA h ad zSub ks pre hs (zbz (zre ks (zly (fun _ => nI 0)))) (zbz (zrl ks (zly (fun _ => nI 0)))) se mo pr) H := hP
  refine lv_iconst (v := nI 0) hx hb dX1_absorb_12 (by decide) ?_
  refine lv_istore_n (lv' := [(1, .int (nI 0)), (0, .ref h)]) hx hb dX1_absorb_13 rfl hl (by decide) rfl (fun ls hl => ?_)
  have L1 : ∀ (nL1 i : Nat), i + nL1 = 4 → ∀ (H : Heap) (locs : List Loc) (ls : Array Slot), va_P D Cl (YG cA h ad zSub ks pre hs (zbz (zre ks (zly (fun _ => nI 0)))) (zbz (zrl ks (zly (fun _ => nI 0)))) (zfil se (fun c => hs c ^^^ pre c) i) (zfil mo (zjn (zre ks (zly (fun _ => nI 0)))) i) (zfil pr (fun _ => nI 0) i)) H → va_S A s.heap H locs → lv_has ls 3 [(1, .int (nI i)), (0, .ref h)] → W p l e (zroom 5) s m ([.ref h] : List Value).toArray below meth c H locs 0 0 Q (F0 m 14 ls []) := by
    intro nL1
    induction nL1 with
    | zero =>
      intro i hL1 H locs ls hP hS hl
      obtain rfl : i = 4 := by omega
      refine lv_iload_n hx hb dX1_absorb_14 rfl (lv_at hl 0 rfl) ?_
      refine lv_iconst (v := nI 4) hx hb dX1_absorb_15 (by decide) ?_
      refine zr_ge_t (tgt := 62) hx hb dX1_absorb_16 (by decide) (by omega) (by omega) ?_
      have hP := zP (g := zmv (zjn (zre ks (zly (fun _ => nI 0)))) 0) hP 8 rfl (fun j hj => zfil_lt hj)
      have hP := zP (g := (fun c => hs c ^^^ pre c)) hP 7 rfl (fun j hj => zfil_lt hj)
      have hP := zP (g := zpt (fun c => hs c ^^^ pre c) (zjn (zre ks (zly (fun _ => nI 0)))) 0) hP 9 rfl (fun j hj => zfil_lt hj)
      have hP : va_P D Cl (YG cA h ad zSub ks pre hs (zbz (zre ks (zly (fun _ => nI 0)))) (zbz (zrl ks (zly (fun _ => nI 0)))) (fun c => hs c ^^^ pre c) (zmv (zjn (zre ks (zly (fun _ => nI 0)))) 0) (zpt (fun c => hs c ^^^ pre c) (zjn (zre ks (zly (fun _ => nI 0)))) 0)) H := hP
      refine lv_iconst (v := nI 0) hx hb dX1_absorb_62 (by decide) ?_
      refine lv_istore_n (lv' := [(1, .int (nI 0)), (0, .ref h)]) hx hb dX1_absorb_63 rfl hl (by decide) rfl (fun ls hl => ?_)
      have L2 : ∀ (nL2 k : Nat), k + nL2 = 128 → ∀ (H : Heap) (locs : List Loc) (ls : Array Slot), va_P D Cl (YG cA h ad zSub ks pre hs (zbz (zre ks (zly (fun _ => nI 0)))) (zbz (zrl ks (zly (fun _ => nI 0)))) (fun c => hs c ^^^ pre c) (zmv (zjn (zre ks (zly (fun _ => nI 0)))) k) (zpt (fun c => hs c ^^^ pre c) (zjn (zre ks (zly (fun _ => nI 0)))) k)) H → va_S A s.heap H locs → lv_has ls 3 [(1, .int (nI k)), (0, .ref h)] → W p l e (zroom 5) s m ([.ref h] : List Value).toArray below meth c H locs 0 0 Q (F0 m 64 ls []) := by
        intro nL2
        induction nL2 with
        | zero =>
          intro k hL2 H locs ls hP hS hl
          obtain rfl : k = 128 := by omega
          refine lv_iload_n hx hb dX1_absorb_64 rfl (lv_at hl 0 rfl) ?_
          refine lv_sipush (v := nI 128) hx hb dX1_absorb_65 (by decide) ?_
          refine zr_ge_t (tgt := 132) hx hb dX1_absorb_68 (by decide) (by omega) (by omega) ?_
          refine lv_iconst (v := nI 0) hx hb dX1_absorb_132 (by decide) ?_
          refine lv_istore_n (lv' := [(1, .int (nI 0)), (0, .ref h)]) hx hb dX1_absorb_133 rfl hl (by decide) rfl (fun ls hl => ?_)
          have L4 : ∀ (nL4 i : Nat), i + nL4 = 4 → ∀ (H : Heap) (locs : List Loc) (ls : Array Slot), va_P D Cl (YG cA h ad zSub ks pre (zfil hs (zpt (fun c => hs c ^^^ pre c) (zjn (zre ks (zly (fun _ => nI 0)))) 128) i) (zbz (zre ks (zly (fun _ => nI 0)))) (zbz (zrl ks (zly (fun _ => nI 0)))) (fun c => hs c ^^^ pre c) (zmv (zjn (zre ks (zly (fun _ => nI 0)))) 128) (zpt (fun c => hs c ^^^ pre c) (zjn (zre ks (zly (fun _ => nI 0)))) 128)) H → va_S A s.heap H locs → lv_has ls 3 [(1, .int (nI i)), (0, .ref h)] → W p l e (zroom 5) s m ([.ref h] : List Value).toArray below meth c H locs 0 0 Q (F0 m 134 ls []) := by
            intro nL4
            induction nL4 with
            | zero =>
              intro i hL4 H locs ls hP hS hl
              obtain rfl : i = 4 := by omega
              refine lv_iload_n hx hb dX1_absorb_134 rfl (lv_at hl 0 rfl) ?_
              refine lv_iconst (v := nI 4) hx hb dX1_absorb_135 (by decide) ?_
              refine zr_ge_t (tgt := 157) hx hb dX1_absorb_136 (by decide) (by omega) (by omega) ?_
              have hP := zP (g := zpt (fun c => hs c ^^^ pre c) (zjn (zre ks (zly (fun _ => nI 0)))) 128) hP 4 rfl (fun j hj => zfil_lt hj)
              have hP : va_P D Cl (YG cA h ad zSub ks pre (zpt (fun c => hs c ^^^ pre c) (zjn (zre ks (zly (fun _ => nI 0)))) 128) (zbz (zre ks (zly (fun _ => nI 0)))) (zbz (zrl ks (zly (fun _ => nI 0)))) (fun c => hs c ^^^ pre c) (zmv (zjn (zre ks (zly (fun _ => nI 0)))) 128) (zpt (fun c => hs c ^^^ pre c) (zjn (zre ks (zly (fun _ => nI 0)))) 128)) H := hP
              exact hret H locs _ ls hP hS dX1_absorb_157
            | succ nL4 ihL4 =>
              intro i hL4 H locs ls hP hS hl
              have hltL4 : i < 4 := by omega
              refine lv_iload_n hx hb dX1_absorb_134 rfl (lv_at hl 0 rfl) ?_
              refine lv_iconst (v := nI 4) hx hb dX1_absorb_135 (by decide) ?_
              refine zr_ge_f (tgt := 157) hx hb dX1_absorb_136 (by decide) (by omega) (by omega) ?_
              refine lv_aload_n hx hb dX1_absorb_139 rfl (lv_at hl 1 rfl) ?_
              refine zr_get (T := TX1) (N := 9) hx hb hts in_X1 hown hK hP 0 rfl rfl 3 (by decide) q229 rfl dX1_absorb_140 ?_
              refine lv_iload_n hx hb dX1_absorb_143 rfl (lv_at hl 0 rfl) ?_
              refine lv_aload_n hx hb dX1_absorb_144 rfl (lv_at hl 1 rfl) ?_
              refine zr_get (T := TX1) (N := 9) hx hb hts in_X1 hown hK hP 0 rfl rfl 8 (by decide) q234 rfl dX1_absorb_145 ?_
              refine lv_iload_n hx hb dX1_absorb_148 rfl (lv_at hl 0 rfl) ?_
              refine zr_iald (v := (zpt (fun c => hs c ^^^ pre c) (zjn (zre ks (zly (fun _ => nI 0)))) 128) i) hx hb hK hP 9 0 rfl rfl i rfl (by omega) (by decide) rfl dX1_absorb_149 ?_
              refine zr_iast (f' := zfil hs (zpt (fun c => hs c ^^^ pre c) (zjn (zre ks (zly (fun _ => nI 0)))) 128) (i + 1)) hx hb hK hP hD rfl hS 4 0 rfl rfl i rfl (by omega) (by decide) (zfil_s rfl) dX1_absorb_150 (fun H locs hP hS => ?_)
              have hP : va_P D Cl (YG cA h ad zSub ks pre (zfil hs (zpt (fun c => hs c ^^^ pre c) (zjn (zre ks (zly (fun _ => nI 0)))) 128) (i + 1)) (zbz (zre ks (zly (fun _ => nI 0)))) (zbz (zrl ks (zly (fun _ => nI 0)))) (fun c => hs c ^^^ pre c) (zmv (zjn (zre ks (zly (fun _ => nI 0)))) 128) (zpt (fun c => hs c ^^^ pre c) (zjn (zre ks (zly (fun _ => nI 0)))) 128)) H := hP
              refine lv_iinc (v := nI (i + 1)) (lv' := [(1, .int (nI (i + 1))), (0, .ref h)]) hx hb dX1_absorb_151 hl (k := 0) rfl (zinc _) (by decide) rfl (fun ls hl => ?_)
              refine lv_goto (tgt := 134) hx hb dX1_absorb_154 (by decide) ?_
              exact ihL4 (i + 1) (by omega) H locs ls hP hS (lv_sub hl [0, 1] rfl)
          exact L4 4 0 (by omega) H locs ls (by rw [zfil_0]; exact hP) hS (lv_sub hl [0, 1] rfl)
        | succ nL2 ihL2 =>
          intro k hL2 H locs ls hP hS hl
          have hltL2 : k < 128 := by omega
          refine lv_iload_n hx hb dX1_absorb_64 rfl (lv_at hl 0 rfl) ?_
          refine lv_sipush (v := nI 128) hx hb dX1_absorb_65 (by decide) ?_
          refine zr_ge_f (tgt := 132) hx hb dX1_absorb_68 (by decide) (by omega) (by omega) ?_
          refine lv_iconst (v := nI 0) hx hb dX1_absorb_71 (by decide) ?_
          refine lv_istore_n (lv' := [(2, .int (nI 0)), (1, .int (nI k)), (0, .ref h)]) hx hb dX1_absorb_72 rfl hl (by decide) rfl (fun ls hl => ?_)
          have L3 : ∀ (nL3 d : Nat), d + nL3 = 4 → ∀ (H : Heap) (locs : List Loc) (ls : Array Slot), va_P D Cl (YG cA h ad zSub ks pre hs (zbz (zre ks (zly (fun _ => nI 0)))) (zbz (zrl ks (zly (fun _ => nI 0)))) (fun c => hs c ^^^ pre c) (zmv (zjn (zre ks (zly (fun _ => nI 0)))) k) (zfil (zpt (fun c => hs c ^^^ pre c) (zjn (zre ks (zly (fun _ => nI 0)))) k) (zpt (fun c => hs c ^^^ pre c) (zjn (zre ks (zly (fun _ => nI 0)))) (k + 1)) d)) H → va_S A s.heap H locs → lv_has ls 3 [(2, .int (nI d)), (1, .int (nI k)), (0, .ref h)] → W p l e (zroom 5) s m ([.ref h] : List Value).toArray below meth c H locs 0 0 Q (F0 m 73 ls []) := by
            intro nL3
            induction nL3 with
            | zero =>
              intro d hL3 H locs ls hP hS hl
              obtain rfl : d = 4 := by omega
              refine lv_iload_n hx hb dX1_absorb_73 rfl (lv_at hl 0 rfl) ?_
              refine lv_iconst (v := nI 4) hx hb dX1_absorb_74 (by decide) ?_
              refine zr_ge_t (tgt := 122) hx hb dX1_absorb_75 (by decide) (by omega) (by omega) ?_
              have hP := zP (g := (zpt (fun c => hs c ^^^ pre c) (zjn (zre ks (zly (fun _ => nI 0)))) (k + 1))) hP 9 rfl (fun j hj => zfil_lt hj)
              have hP : va_P D Cl (YG cA h ad zSub ks pre hs (zbz (zre ks (zly (fun _ => nI 0)))) (zbz (zrl ks (zly (fun _ => nI 0)))) (fun c => hs c ^^^ pre c) (zmv (zjn (zre ks (zly (fun _ => nI 0)))) k) (zpt (fun c => hs c ^^^ pre c) (zjn (zre ks (zly (fun _ => nI 0)))) (k + 1))) H := hP
              refine lv_aload_n hx hb dX1_absorb_122 rfl (lv_at hl 2 rfl) ?_
              refine zr_callVv (rest := []) ⟨hx, hb, hml, hown, hts⟩ (mY_moveBit l D cA h ad ks pre hs (zbz (zre ks (zly (fun _ => nI 0)))) (zbz (zrl ks (zly (fun _ => nI 0)))) (fun c => hs c ^^^ pre c) (zmv (zjn (zre ks (zly (fun _ => nI 0)))) k) (zpt (fun c => hs c ^^^ pre c) (zjn (zre ks (zly (fun _ => nI 0)))) (k + 1))) (cwV 0 hts (lw_V q328 q330 qs28 q31 q331) rfl rfl rfl (by decide +kernel) ⟨Nat.le_of_ble_eq_true rfl, Nat.le_of_ble_eq_true rfl⟩) [] hK hP hD rfl hS hA (ci := 1) (q0 := 0) rfl rfl rfl rfl hl.1 rfl (Nat.le_of_ble_eq_true rfl) dX1_absorb_123 ⟨Nat.zero_le _, Nat.zero_le _⟩ (fun H locs hP hS => ?_)
              have hP : va_P D Cl (YG cA h ad zSub ks pre hs (zbz (zre ks (zly (fun _ => nI 0)))) (zbz (zrl ks (zly (fun _ => nI 0)))) (fun c => hs c ^^^ pre c) (zmo (zmv (zjn (zre ks (zly (fun _ => nI 0)))) k)) (zpt (fun c => hs c ^^^ pre c) (zjn (zre ks (zly (fun _ => nI 0)))) (k + 1))) H := hP
              refine lv_iinc (v := nI (k + 1)) (lv' := [(1, .int (nI (k + 1))), (2, .int (nI 4)), (0, .ref h)]) hx hb dX1_absorb_126 hl (k := 1) rfl (zinc _) (by decide) rfl (fun ls hl => ?_)
              refine lv_goto (tgt := 64) hx hb dX1_absorb_129 (by decide) ?_
              exact ihL2 (k + 1) (by omega) H locs ls hP hS (lv_sub hl [0, 2] rfl)
            | succ nL3 ihL3 =>
              intro d hL3 H locs ls hP hS hl
              have hltL3 : d < 4 := by omega
              refine lv_iload_n hx hb dX1_absorb_73 rfl (lv_at hl 0 rfl) ?_
              refine lv_iconst (v := nI 4) hx hb dX1_absorb_74 (by decide) ?_
              refine zr_ge_f (tgt := 122) hx hb dX1_absorb_75 (by decide) (by omega) (by omega) ?_
              refine lv_aload_n hx hb dX1_absorb_78 rfl (lv_at hl 2 rfl) ?_
              refine zr_get (T := TX1) (N := 9) hx hb hts in_X1 hown hK hP 0 rfl rfl 6 (by decide) q232 rfl dX1_absorb_79 ?_
              refine lv_iload_n hx hb dX1_absorb_82 rfl (lv_at hl 1 rfl) ?_
              refine lv_bipush (v := nI 32) hx hb dX1_absorb_83 (by decide) ?_
              refine zr_idiv hx hb dX1_absorb_85 (by omega) (by decide) (by decide) ?_
              refine zr_iald (v := hs (k / 32) ^^^ pre (k / 32)) hx hb hK hP 7 0 rfl rfl (k / 32) rfl (by omega) (by decide) rfl dX1_absorb_86 ?_
              refine lv_bipush (v := nI 31) hx hb dX1_absorb_87 (by decide) ?_
              refine lv_iload_n hx hb dX1_absorb_89 rfl (lv_at hl 1 rfl) ?_
              refine lv_bipush (v := nI 32) hx hb dX1_absorb_90 (by decide) ?_
              refine zr_irem hx hb dX1_absorb_92 (by omega) (by decide) (by decide) ?_
              refine zr_isub (v := nI (31 - (k % 32))) hx hb dX1_absorb_93 (pk_sub (by omega)) ?_
              refine zr_ishr (v := zsr (hs (k / 32) ^^^ pre (k / 32)) (31 - (k % 32))) hx hb dX1_absorb_94 rfl ?_
              refine lv_iconst (v := nI 1) hx hb dX1_absorb_95 (by decide) ?_
              refine zr_iand (v := nI (zlo (zsr (hs (k / 32) ^^^ pre (k / 32)) (31 - (k % 32))) 2)) hx hb dX1_absorb_96 (zl1 _) ?_
              refine lv_iconst (v := nI 1) hx hb dX1_absorb_97 (by decide) ?_
              refine lv_icmp_ne (tgt := 116) hx hb dX1_absorb_98 (by decide) (fun hc => ?_) (fun hc => ?_)
              · skip
                have e1 : (zpt (fun c => hs c ^^^ pre c) (zjn (zre ks (zly (fun _ => nI 0)))) (k + 1)) d = (zpt (fun c => hs c ^^^ pre c) (zjn (zre ks (zly (fun _ => nI 0)))) k) d := if_neg hc
                refine lv_iinc (v := nI (d + 1)) (lv' := [(2, .int (nI (d + 1))), (1, .int (nI k)), (0, .ref h)]) hx hb dX1_absorb_116 hl (k := 0) rfl (zinc _) (by decide) rfl (fun ls hl => ?_)
                refine lv_goto (tgt := 73) hx hb dX1_absorb_119 (by decide) ?_
                exact ihL3 (d + 1) (by omega) H locs ls (by rw [← zfil_skip e1]; exact hP) hS (lv_sub hl [0, 1, 2] rfl)
              · skip
                have e1 : (zpt (fun c => hs c ^^^ pre c) (zjn (zre ks (zly (fun _ => nI 0)))) k) d ^^^ zmv (zjn (zre ks (zly (fun _ => nI 0)))) k d = (zpt (fun c => hs c ^^^ pre c) (zjn (zre ks (zly (fun _ => nI 0)))) (k + 1)) d := (if_pos hc).symm
                refine lv_aload_n hx hb dX1_absorb_101 rfl (lv_at hl 2 rfl) ?_
                refine zr_get (T := TX1) (N := 9) hx hb hts in_X1 hown hK hP 0 rfl rfl 8 (by decide) q234 rfl dX1_absorb_102 ?_
                refine lv_iload_n hx hb dX1_absorb_105 rfl (lv_at hl 0 rfl) ?_
                refine lv_dup2_11 hx hb dX1_absorb_106 rfl rfl ?_
                refine zr_iald (v := (zpt (fun c => hs c ^^^ pre c) (zjn (zre ks (zly (fun _ => nI 0)))) k) d) hx hb hK hP 9 0 rfl rfl d rfl (by omega) (by decide) (zfil_self _ _ _) dX1_absorb_107 ?_
                refine lv_aload_n hx hb dX1_absorb_108 rfl (lv_at hl 2 rfl) ?_
                refine zr_get (T := TX1) (N := 9) hx hb hts in_X1 hown hK hP 0 rfl rfl 7 (by decide) q233 rfl dX1_absorb_109 ?_
                refine lv_iload_n hx hb dX1_absorb_112 rfl (lv_at hl 0 rfl) ?_
                refine zr_iald (v := (zmv (zjn (zre ks (zly (fun _ => nI 0)))) k) d) hx hb hK hP 8 0 rfl rfl d rfl (by omega) (by decide) rfl dX1_absorb_113 ?_
                refine zr_ixor (v := ((zpt (fun c => hs c ^^^ pre c) (zjn (zre ks (zly (fun _ => nI 0)))) k) d) ^^^ ((zmv (zjn (zre ks (zly (fun _ => nI 0)))) k) d)) hx hb dX1_absorb_114 rfl ?_
                refine zr_iast (f' := zfil (zpt (fun c => hs c ^^^ pre c) (zjn (zre ks (zly (fun _ => nI 0)))) k) (zpt (fun c => hs c ^^^ pre c) (zjn (zre ks (zly (fun _ => nI 0)))) (k + 1)) (d + 1)) hx hb hK hP hD rfl hS 9 0 rfl rfl d rfl (by omega) (by decide) (zfil_s e1) dX1_absorb_115 (fun H locs hP hS => ?_)
                have hP : va_P D Cl (YG cA h ad zSub ks pre hs (zbz (zre ks (zly (fun _ => nI 0)))) (zbz (zrl ks (zly (fun _ => nI 0)))) (fun c => hs c ^^^ pre c) (zmv (zjn (zre ks (zly (fun _ => nI 0)))) k) (zfil (zpt (fun c => hs c ^^^ pre c) (zjn (zre ks (zly (fun _ => nI 0)))) k) (zpt (fun c => hs c ^^^ pre c) (zjn (zre ks (zly (fun _ => nI 0)))) (k + 1)) (d + 1))) H := hP
                refine lv_iinc (v := nI (d + 1)) (lv' := [(2, .int (nI (d + 1))), (1, .int (nI k)), (0, .ref h)]) hx hb dX1_absorb_116 hl (k := 0) rfl (zinc _) (by decide) rfl (fun ls hl => ?_)
                refine lv_goto (tgt := 73) hx hb dX1_absorb_119 (by decide) ?_
                exact ihL3 (d + 1) (by omega) H locs ls hP hS (lv_sub hl [0, 1, 2] rfl)
          exact L3 4 0 (by omega) H locs ls (by rw [zfil_0]; exact hP) hS (lv_sub hl [0, 1, 2] rfl)
      exact L2 128 0 (by omega) H locs ls hP hS (lv_sub hl [0, 1] rfl)
    | succ nL1 ihL1 =>
      intro i hL1 H locs ls hP hS hl
      have hltL1 : i < 4 := by omega
      refine lv_iload_n hx hb dX1_absorb_14 rfl (lv_at hl 0 rfl) ?_
      refine lv_iconst (v := nI 4) hx hb dX1_absorb_15 (by decide) ?_
      refine zr_ge_f (tgt := 62) hx hb dX1_absorb_16 (by decide) (by omega) (by omega) ?_
      refine lv_aload_n hx hb dX1_absorb_19 rfl (lv_at hl 1 rfl) ?_
      refine zr_get (T := TX1) (N := 9) hx hb hts in_X1 hown hK hP 0 rfl rfl 7 (by decide) q233 rfl dX1_absorb_20 ?_
      refine lv_iload_n hx hb dX1_absorb_23 rfl (lv_at hl 0 rfl) ?_
      refine lv_aload_n hx hb dX1_absorb_24 rfl (lv_at hl 1 rfl) ?_
      refine lv_iload_n hx hb dX1_absorb_25 rfl (lv_at hl 0 rfl) ?_
      refine zr_callVi (rest := [.int (nI i), .ref (ad 7)]) ⟨hx, hb, hml, hown, hts⟩ (mY_joined l D cA h ad ks pre hs (zbz (zrl ks (zly (fun _ => nI 0)))) (zfil se (fun c => hs c ^^^ pre c) i) (zfil mo (zjn (zre ks (zly (fun _ => nI 0)))) i) (zfil pr (fun _ => nI 0) i) (zre ks (zly (fun _ => nI 0))) i (by omega)) (cwV 1 hts (lw_V q296 q298 qs24 q31 q299) rfl rfl rfl (by decide +kernel) ⟨Nat.le_of_ble_eq_true rfl, Nat.le_of_ble_eq_true rfl⟩) [] hK hP hD rfl hS hA (ci := 1) (q0 := 0) rfl rfl rfl rfl hl.1 rfl (Nat.le_of_ble_eq_true rfl) dX1_absorb_26 ⟨Nat.zero_le _, Nat.zero_le _⟩ (fun H locs hP hS => ?_)
      have hP : va_P D Cl (YG cA h ad zSub ks pre hs (zbz (zre ks (zly (fun _ => nI 0)))) (zbz (zrl ks (zly (fun _ => nI 0)))) (zfil se (fun c => hs c ^^^ pre c) i) (zfil mo (zjn (zre ks (zly (fun _ => nI 0)))) i) (zfil pr (fun _ => nI 0) i)) H := hP
      refine zr_iast (f' := zfil mo (zjn (zre ks (zly (fun _ => nI 0)))) (i + 1)) hx hb hK hP hD rfl hS 8 0 rfl rfl i rfl (by omega) (by decide) (zfil_s rfl) dX1_absorb_29 (fun H locs hP hS => ?_)
      have hP : va_P D Cl (YG cA h ad zSub ks pre hs (zbz (zre ks (zly (fun _ => nI 0)))) (zbz (zrl ks (zly (fun _ => nI 0)))) (zfil se (fun c => hs c ^^^ pre c) i) (zfil mo (zjn (zre ks (zly (fun _ => nI 0)))) (i + 1)) (zfil pr (fun _ => nI 0) i)) H := hP
      refine lv_aload_n hx hb dX1_absorb_30 rfl (lv_at hl 1 rfl) ?_
      refine zr_get (T := TX1) (N := 9) hx hb hts in_X1 hown hK hP 0 rfl rfl 6 (by decide) q232 rfl dX1_absorb_31 ?_
      refine lv_iload_n hx hb dX1_absorb_34 rfl (lv_at hl 0 rfl) ?_
      refine lv_aload_n hx hb dX1_absorb_35 rfl (lv_at hl 1 rfl) ?_
      refine zr_get (T := TX1) (N := 9) hx hb hts in_X1 hown hK hP 0 rfl rfl 3 (by decide) q229 rfl dX1_absorb_36 ?_
      refine lv_iload_n hx hb dX1_absorb_39 rfl (lv_at hl 0 rfl) ?_
      refine zr_iald (v := hs i) hx hb hK hP 4 0 rfl rfl i rfl (by omega) (by decide) rfl dX1_absorb_40 ?_
      refine lv_aload_n hx hb dX1_absorb_41 rfl (lv_at hl 1 rfl) ?_
      refine zr_get (T := TX1) (N := 9) hx hb hts in_X1 hown hK hP 0 rfl rfl 2 (by decide) q228 rfl dX1_absorb_42 ?_
      refine lv_iload_n hx hb dX1_absorb_45 rfl (lv_at hl 0 rfl) ?_
      refine zr_iald (v := pre i) hx hb hK hP 3 0 rfl rfl i rfl (by omega) (by decide) rfl dX1_absorb_46 ?_
      refine zr_ixor (v := (hs i) ^^^ (pre i)) hx hb dX1_absorb_47 rfl ?_
      refine zr_iast (f' := zfil se (fun c => hs c ^^^ pre c) (i + 1)) hx hb hK hP hD rfl hS 7 0 rfl rfl i rfl (by omega) (by decide) (zfil_s rfl) dX1_absorb_48 (fun H locs hP hS => ?_)
      have hP : va_P D Cl (YG cA h ad zSub ks pre hs (zbz (zre ks (zly (fun _ => nI 0)))) (zbz (zrl ks (zly (fun _ => nI 0)))) (zfil se (fun c => hs c ^^^ pre c) (i + 1)) (zfil mo (zjn (zre ks (zly (fun _ => nI 0)))) (i + 1)) (zfil pr (fun _ => nI 0) i)) H := hP
      refine lv_aload_n hx hb dX1_absorb_49 rfl (lv_at hl 1 rfl) ?_
      refine zr_get (T := TX1) (N := 9) hx hb hts in_X1 hown hK hP 0 rfl rfl 8 (by decide) q234 rfl dX1_absorb_50 ?_
      refine lv_iload_n hx hb dX1_absorb_53 rfl (lv_at hl 0 rfl) ?_
      refine lv_iconst (v := nI 0) hx hb dX1_absorb_54 (by decide) ?_
      refine zr_iast (f' := zfil pr (fun _ => nI 0) (i + 1)) hx hb hK hP hD rfl hS 9 0 rfl rfl i rfl (by omega) (by decide) (zfil_s rfl) dX1_absorb_55 (fun H locs hP hS => ?_)
      have hP : va_P D Cl (YG cA h ad zSub ks pre hs (zbz (zre ks (zly (fun _ => nI 0)))) (zbz (zrl ks (zly (fun _ => nI 0)))) (zfil se (fun c => hs c ^^^ pre c) (i + 1)) (zfil mo (zjn (zre ks (zly (fun _ => nI 0)))) (i + 1)) (zfil pr (fun _ => nI 0) (i + 1))) H := hP
      refine lv_iinc (v := nI (i + 1)) (lv' := [(1, .int (nI (i + 1))), (0, .ref h)]) hx hb dX1_absorb_56 hl (k := 0) rfl (zinc _) (by decide) rfl (fun ls hl => ?_)
      refine lv_goto (tgt := 14) hx hb dX1_absorb_59 (by decide) ?_
      exact ihL1 (i + 1) (by omega) H locs ls hP hS (lv_sub hl [0, 1] rfl)
  exact L1 4 0 (by omega) H locs ls (by rw [zfil_0, zfil_0, zfil_0]; exact hP) hS (lv_sub hl [0, 1] rfl)
end
section
set_option maxRecDepth 100000
set_option maxHeartbeats 8000000 in
/-- BlockSealerModel(): the arrays are made, the tables built, the key is all zeros -/
theorem mY_init (l : Launch) (D : va_G) (h : Nat) (sz : Nat) : Met l yX1_init (ws_ yX1_init cX1_init 3 none) ({ frames := 5, cells := 9, slots := 352, locals := 200 } : Room) (va_Pc [.ref h] (fun U => U.heap.size = sz ∧ va_P D Cl [(h, .inr (1, [.null, .null, .null, .null, .null, .null, .null, .null, .null]))] U.heap ∧ va_K D Cl [] U ∧ va_D (fun _ => True) [(h, .inr (1, [.null, .null, .null, .null, .null, .null, .null, .null, .null]))])) (va_Qv (fun (_ : ClassId × (Nat → Nat)) => True) (fun u t => va_P D Cl (YG u.1 h u.2 zSub (zkx (fun w => zsb w 4) ztm (zk4 (fun _ => 0) (nI 0) (nI 0) (nI 0) (nI 0)) 40).1 (fun _ => 0) (fun _ => 0) (fun _ => 0) (fun _ => 0) (fun _ => 0) (fun _ => 0) (fun _ => 0)) t.heap ∧ va_K D Cl [(u.1, .int)] t ∧ va_D (va_A [(h, .inr (1, [.null, .null, .null, .null, .null, .null, .null, .null, .null]))] sz) (YG u.1 h u.2 zSub (zkx (fun w => zsb w 4) ztm (zk4 (fun _ => 0) (nI 0) (nI 0) (nI 0) (nI 0)) 40).1 (fun _ => 0) (fun _ => 0) (fun _ => 0) (fun _ => 0) (fun _ => 0) (fun _ => 0) (fun _ => 0))) (va_A [(h, .inr (1, [.null, .null, .null, .null, .null, .null, .null, .null, .null]))] sz)) 9 352 (va_A [(h, .inr (1, [.null, .null, .null, .null, .null, .null, .null, .null, .null]))] sz) := by
  refine Met.ofW (cc := cX1_init) (maxL := 3) (ret := none) (by decide) rfl ?_
  intro p e s m args below meth c s₁ B hml hv
  obtain ⟨rfl, hsz, hP, hK, hD0⟩ := hv
  have hx := B.exec
  have hb := B.bytes
  have hr := B.returns
  have hts := atoms_spec (ws := ws_ yX1_init cX1_init 3 none) B.pre
  have hts : ∀ w ∈ lw_all, w.before _ s = true := fun w h => hts w (List.mem_cons_of_mem _ h)
  have hown : s.vm.findClass RX1 = some m.cls := findClass_of_methodNamed B.named
  have hlocks := B.notSynchronized
  have hin : meth.name = "<init>" := (name_of_methodNamed B.named B.method).1
  subst hsz
  have hD := hD0.self (sz := s.heap.size)
  generalize hAe : va_A [(h, .inr (1, [.null, .null, .null, .null, .null, .null, .null, .null, .null]))] s.heap.size = A at hD ⊢
  have hA : ∀ q : Nat, s.heap.size ≤ q → A q := fun q h => by rw [← hAe]; exact Or.inr h
  have hS : va_S A s.heap s.heap [] := va_S.rf
  have hl := lv_entry ([.ref h]) (n := 3) (Nat.le_of_ble_eq_true rfl)
  rw [lg_entry_eq]
  generalize (lg_sl ([.ref h]) ++ List.replicate (3 - (lg_sl ([.ref h])).length) Slot.unset).toArray = ls at hl ⊢
  have hl : lv_has ls 3 [(0, .ref h)] := hl
  refine lv_aload_n hx hb dX1_init_0 rfl (lv_at hl 0 rfl) ?_
  refine W.objInit hx hb hown (hts _ q202) (hts _ q38) (hts _ q39) rfl (by rw [hml]; exact hl.1) rfl dX1_init_1 (Nat.le_of_ble_eq_true rfl) (Nat.le_of_ble_eq_true rfl) ?_
  refine W.eq (g2 := F0 m 4 ls []) rfl ?_
  refine lv_aload_n hx hb dX1_init_4 rfl (lv_at hl 0 rfl) ?_
  refine lv_sipush (v := nI 256) hx hb dX1_init_5 (by decide) ?_
  refine va_newa (atype := .int) (ty := .int) (a0 := (256, .inl (fun _ => 0))) (N' := 256) hx hb (hts _ q135) rfl hK hP hD hS hA (fun _ => rfl) (by decide) (by decide) (by decide) (Nat.le_of_ble_eq_true rfl) (Nat.le_of_ble_eq_true rfl) dX1_init_8 (fun q0 cA H hK hP hD hS => ?_)
  refine W.widen (k := 1) (n := 256) (by decide) (by decide) ?_
  have hK : va_K D Cl [(cA, .int)] s := hK
  have hP : va_P D Cl [(h, .inr (1, [.null, .null, .null, .null, .null, .null, .null, .null, .null])), (q0, .inl (cA, 256, .inl (fun _ => 0)))] H := hP
  have hD : va_D A [(h, .inr (1, [.null, .null, .null, .null, .null, .null, .null, .null, .null])), (q0, .inl (cA, 256, .inl (fun _ => 0)))] := hD
  refine va_putF (D := D) (ci := 1) (v := .ref q0) (ty := .array .int) (C := RX1) (T := TX1) (N := 9) hx hb hts in_X1 tyX1 tyX1_ok nmX1 hown hK hP hD hS 0 rfl rfl 0 (by decide) (hts _ q226) (fun _ h9 => h9) rfl hin rfl (by decide +kernel) rfl rfl (Nat.le_of_ble_eq_true rfl) dX1_init_10 (fun H locs hP hD hS => ?_)
  have hP : va_P D Cl [(h, .inr (1, [.ref q0, .null, .null, .null, .null, .null, .null, .null, .null])), (q0, .inl (cA, 256, .inl (fun _ => 0)))] H := hP
  have hD : va_D A [(h, .inr (1, [.ref q0, .null, .null, .null, .null, .null, .null, .null, .null])), (q0, .inl (cA, 256, .inl (fun _ => 0)))] := hD
  refine lv_aload_n hx hb dX1_init_13 rfl (lv_at hl 0 rfl) ?_
  refine lv_bipush (v := nI 44) hx hb dX1_init_14 (by decide) ?_
  refine va_newa (atype := .int) (ty := .int) (a0 := (44, .inl (fun _ => 0))) (N' := 44) hx hb (hts _ q135) rfl hK hP hD hS hA (fun _ => rfl) (by decide) (by decide) (by decide) (Nat.le_of_ble_eq_true rfl) (Nat.le_of_ble_eq_true rfl) dX1_init_16 (fun q1 cB H hK hP hD hS => ?_)
  refine W.widen (k := 2) (n := 300) (by decide) (by decide) ?_
  have hK : va_K D Cl [(cA, .int), (cB, .int)] s := hK
  have ecb : cB = cA := Option.some.inj ((hK.2 1 _ rfl).2.symm.trans (hK.2 0 _ rfl).2)
  rw [ecb] at hP hD
  have hK : va_K D Cl [(cA, .int)] s := hK.sub [0] rfl
  have hP : va_P D Cl [(h, .inr (1, [.ref q0, .null, .null, .null, .null, .null, .null, .null, .null])), (q0, .inl (cA, 256, .inl (fun _ => 0))), (q1, .inl (cA, 44, .inl (fun _ => 0)))] H := hP
  have hD : va_D A [(h, .inr (1, [.ref q0, .null, .null, .null, .null, .null, .null, .null, .null])), (q0, .inl (cA, 256, .inl (fun _ => 0))), (q1, .inl (cA, 44, .inl (fun _ => 0)))] := hD
  refine va_putF (D := D) (ci := 1) (v := .ref q1) (ty := .array .int) (C := RX1) (T := TX1) (N := 9) hx hb hts in_X1 tyX1 tyX1_ok nmX1 hown hK hP hD hS 0 rfl rfl 1 (by decide) (hts _ q227) (fun _ h9 => h9) rfl hin rfl (by decide +kernel) rfl rfl (Nat.le_of_ble_eq_true rfl) dX1_init_18 (fun H locs hP hD hS => ?_)
  have hP : va_P D Cl [(h, .inr (1, [.ref q0, .ref q1, .null, .null, .null, .null, .null, .null, .null])), (q0, .inl (cA, 256, .inl (fun _ => 0))), (q1, .inl (cA, 44, .inl (fun _ => 0)))] H := hP
  have hD : va_D A [(h, .inr (1, [.ref q0, .ref q1, .null, .null, .null, .null, .null, .null, .null])), (q0, .inl (cA, 256, .inl (fun _ => 0))), (q1, .inl (cA, 44, .inl (fun _ => 0)))] := hD
  refine lv_aload_n hx hb dX1_init_21 rfl (lv_at hl 0 rfl) ?_
  refine lv_iconst (v := nI 4) hx hb dX1_init_22 (by decide) ?_
  refine va_newa (atype := .int) (ty := .int) (a0 := (4, .inl (fun _ => 0))) (N' := 4) hx hb (hts _ q135) rfl hK hP hD hS hA (fun _ => rfl) (by decide) (by decide) (by decide) (Nat.le_of_ble_eq_true rfl) (Nat.le_of_ble_eq_true rfl) dX1_init_23 (fun q2 cB H hK hP hD hS => ?_)
  refine W.widen (k := 3) (n := 304) (by decide) (by decide) ?_
  have hK : va_K D Cl [(cA, .int), (cB, .int)] s := hK
  have ecb : cB = cA := Option.some.inj ((hK.2 1 _ rfl).2.symm.trans (hK.2 0 _ rfl).2)
  rw [ecb] at hP hD
  have hK : va_K D Cl [(cA, .int)] s := hK.sub [0] rfl
  have hP : va_P D Cl [(h, .inr (1, [.ref q0, .ref q1, .null, .null, .null, .null, .null, .null, .null])), (q0, .inl (cA, 256, .inl (fun _ => 0))), (q1, .inl (cA, 44, .inl (fun _ => 0))), (q2, .inl (cA, 4, .inl (fun _ => 0)))] H := hP
  have hD : va_D A [(h, .inr (1, [.ref q0, .ref q1, .null, .null, .null, .null, .null, .null, .null])), (q0, .inl (cA, 256, .inl (fun _ => 0))), (q1, .inl (cA, 44, .inl (fun _ => 0))), (q2, .inl (cA, 4, .inl (fun _ => 0)))] := hD
  refine va_putF (D := D) (ci := 1) (v := .ref q2) (ty := .array .int) (C := RX1) (T := TX1) (N := 9) hx hb hts in_X1 tyX1 tyX1_ok nmX1 hown hK hP hD hS 0 rfl rfl 2 (by decide) (hts _ q228) (fun _ h9 => h9) rfl hin rfl (by decide +kernel) rfl rfl (Nat.le_of_ble_eq_true rfl) dX1_init_25 (fun H locs hP hD hS => ?_)
  have hP : va_P D Cl [(h, .inr (1, [.ref q0, .ref q1, .ref q2, .null, .null, .null, .null, .null, .null])), (q0, .inl (cA, 256, .inl (fun _ => 0))), (q1, .inl (cA, 44, .inl (fun _ => 0))), (q2, .inl (cA, 4, .inl (fun _ => 0)))] H := hP
  have hD : va_D A [(h, .inr (1, [.ref q0, .ref q1, .ref q2, .null, .null, .null, .null, .null, .null])), (q0, .inl (cA, 256, .inl (fun _ => 0))), (q1, .inl (cA, 44, .inl (fun _ => 0))), (q2, .inl (cA, 4, .inl (fun _ => 0)))] := hD
  refine lv_aload_n hx hb dX1_init_28 rfl (lv_at hl 0 rfl) ?_
  refine lv_iconst (v := nI 4) hx hb dX1_init_29 (by decide) ?_
  refine va_newa (atype := .int) (ty := .int) (a0 := (4, .inl (fun _ => 0))) (N' := 4) hx hb (hts _ q135) rfl hK hP hD hS hA (fun _ => rfl) (by decide) (by decide) (by decide) (Nat.le_of_ble_eq_true rfl) (Nat.le_of_ble_eq_true rfl) dX1_init_30 (fun q3 cB H hK hP hD hS => ?_)
  refine W.widen (k := 4) (n := 308) (by decide) (by decide) ?_
  have hK : va_K D Cl [(cA, .int), (cB, .int)] s := hK
  have ecb : cB = cA := Option.some.inj ((hK.2 1 _ rfl).2.symm.trans (hK.2 0 _ rfl).2)
  rw [ecb] at hP hD
  have hK : va_K D Cl [(cA, .int)] s := hK.sub [0] rfl
  have hP : va_P D Cl [(h, .inr (1, [.ref q0, .ref q1, .ref q2, .null, .null, .null, .null, .null, .null])), (q0, .inl (cA, 256, .inl (fun _ => 0))), (q1, .inl (cA, 44, .inl (fun _ => 0))), (q2, .inl (cA, 4, .inl (fun _ => 0))), (q3, .inl (cA, 4, .inl (fun _ => 0)))] H := hP
  have hD : va_D A [(h, .inr (1, [.ref q0, .ref q1, .ref q2, .null, .null, .null, .null, .null, .null])), (q0, .inl (cA, 256, .inl (fun _ => 0))), (q1, .inl (cA, 44, .inl (fun _ => 0))), (q2, .inl (cA, 4, .inl (fun _ => 0))), (q3, .inl (cA, 4, .inl (fun _ => 0)))] := hD
  refine va_putF (D := D) (ci := 1) (v := .ref q3) (ty := .array .int) (C := RX1) (T := TX1) (N := 9) hx hb hts in_X1 tyX1 tyX1_ok nmX1 hown hK hP hD hS 0 rfl rfl 3 (by decide) (hts _ q229) (fun _ h9 => h9) rfl hin rfl (by decide +kernel) rfl rfl (Nat.le_of_ble_eq_true rfl) dX1_init_32 (fun H locs hP hD hS => ?_)
  have hP : va_P D Cl [(h, .inr (1, [.ref q0, .ref q1, .ref q2, .ref q3, .null, .null, .null, .null, .null])), (q0, .inl (cA, 256, .inl (fun _ => 0))), (q1, .inl (cA, 44, .inl (fun _ => 0))), (q2, .inl (cA, 4, .inl (fun _ => 0))), (q3, .inl (cA, 4, .inl (fun _ => 0)))] H := hP
  have hD : va_D A [(h, .inr (1, [.ref q0, .ref q1, .ref q2, .ref q3, .null, .null, .null, .null, .null])), (q0, .inl (cA, 256, .inl (fun _ => 0))), (q1, .inl (cA, 44, .inl (fun _ => 0))), (q2, .inl (cA, 4, .inl (fun _ => 0))), (q3, .inl (cA, 4, .inl (fun _ => 0)))] := hD
  refine lv_aload_n hx hb dX1_init_35 rfl (lv_at hl 0 rfl) ?_
  refine lv_bipush (v := nI 16) hx hb dX1_init_36 (by decide) ?_
  refine va_newa (atype := .int) (ty := .int) (a0 := (16, .inl (fun _ => 0))) (N' := 16) hx hb (hts _ q135) rfl hK hP hD hS hA (fun _ => rfl) (by decide) (by decide) (by decide) (Nat.le_of_ble_eq_true rfl) (Nat.le_of_ble_eq_true rfl) dX1_init_38 (fun q4 cB H hK hP hD hS => ?_)
  refine W.widen (k := 5) (n := 324) (by decide) (by decide) ?_
  have hK : va_K D Cl [(cA, .int), (cB, .int)] s := hK
  have ecb : cB = cA := Option.some.inj ((hK.2 1 _ rfl).2.symm.trans (hK.2 0 _ rfl).2)
  rw [ecb] at hP hD
  have hK : va_K D Cl [(cA, .int)] s := hK.sub [0] rfl
  have hP : va_P D Cl [(h, .inr (1, [.ref q0, .ref q1, .ref q2, .ref q3, .null, .null, .null, .null, .null])), (q0, .inl (cA, 256, .inl (fun _ => 0))), (q1, .inl (cA, 44, .inl (fun _ => 0))), (q2, .inl (cA, 4, .inl (fun _ => 0))), (q3, .inl (cA, 4, .inl (fun _ => 0))), (q4, .inl (cA, 16, .inl (fun _ => 0)))] H := hP
  have hD : va_D A [(h, .inr (1, [.ref q0, .ref q1, .ref q2, .ref q3, .null, .null, .null, .null, .null])), (q0, .inl (cA, 256, .inl (fun _ => 0))), (q1, .inl (cA, 44, .inl (fun _ => 0))), (q2, .inl (cA, 4, .inl (fun _ => 0))), (q3, .inl (cA, 4, .inl (fun _ => 0))), (q4, .inl (cA, 16, .inl (fun _ => 0)))] := hD
  refine va_putF (D := D) (ci := 1) (v := .ref q4) (ty := .array .int) (C := RX1) (T := TX1) (N := 9) hx hb hts in_X1 tyX1 tyX1_ok nmX1 hown hK hP hD hS 0 rfl rfl 4 (by decide) (hts _ q230) (fun _ h9 => h9) rfl hin rfl (by decide +kernel) rfl rfl (Nat.le_of_ble_eq_true rfl) dX1_init_40 (fun H locs hP hD hS => ?_)
  have hP : va_P D Cl [(h, .inr (1, [.ref q0, .ref q1, .ref q2, .ref q3, .ref q4, .null, .null, .null, .null])), (q0, .inl (cA, 256, .inl (fun _ => 0))), (q1, .inl (cA, 44, .inl (fun _ => 0))), (q2, .inl (cA, 4, .inl (fun _ => 0))), (q3, .inl (cA, 4, .inl (fun _ => 0))), (q4, .inl (cA, 16, .inl (fun _ => 0)))] H := hP
  have hD : va_D A [(h, .inr (1, [.ref q0, .ref q1, .ref q2, .ref q3, .ref q4, .null, .null, .null, .null])), (q0, .inl (cA, 256, .inl (fun _ => 0))), (q1, .inl (cA, 44, .inl (fun _ => 0))), (q2, .inl (cA, 4, .inl (fun _ => 0))), (q3, .inl (cA, 4, .inl (fun _ => 0))), (q4, .inl (cA, 16, .inl (fun _ => 0)))] := hD
  refine lv_aload_n hx hb dX1_init_43 rfl (lv_at hl 0 rfl) ?_
  refine lv_bipush (v := nI 16) hx hb dX1_init_44 (by decide) ?_
  refine va_newa (atype := .int) (ty := .int) (a0 := (16, .inl (fun _ => 0))) (N' := 16) hx hb (hts _ q135) rfl hK hP hD hS hA (fun _ => rfl) (by decide) (by decide) (by decide) (Nat.le_of_ble_eq_true rfl) (Nat.le_of_ble_eq_true rfl) dX1_init_46 (fun q5 cB H hK hP hD hS => ?_)
  refine W.widen (k := 6) (n := 340) (by decide) (by decide) ?_
  have hK : va_K D Cl [(cA, .int), (cB, .int)] s := hK
  have ecb : cB = cA := Option.some.inj ((hK.2 1 _ rfl).2.symm.trans (hK.2 0 _ rfl).2)
  rw [ecb] at hP hD
  have hK : va_K D Cl [(cA, .int)] s := hK.sub [0] rfl
  have hP : va_P D Cl [(h, .inr (1, [.ref q0, .ref q1, .ref q2, .ref q3, .ref q4, .null, .null, .null, .null])), (q0, .inl (cA, 256, .inl (fun _ => 0))), (q1, .inl (cA, 44, .inl (fun _ => 0))), (q2, .inl (cA, 4, .inl (fun _ => 0))), (q3, .inl (cA, 4, .inl (fun _ => 0))), (q4, .inl (cA, 16, .inl (fun _ => 0))), (q5, .inl (cA, 16, .inl (fun _ => 0)))] H := hP
  have hD : va_D A [(h, .inr (1, [.ref q0, .ref q1, .ref q2, .ref q3, .ref q4, .null, .null, .null, .null])), (q0, .inl (cA, 256, .inl (fun _ => 0))), (q1, .inl (cA, 44, .inl (fun _ => 0))), (q2, .inl (cA, 4, .inl (fun _ => 0))), (q3, .inl (cA, 4, .inl (fun _ => 0))), (q4, .inl (cA, 16, .inl (fun _ => 0))), (q5, .inl (cA, 16, .inl (fun _ => 0)))] := hD
  refine va_putF (D := D) (ci := 1) (v := .ref q5) (ty := .array .int) (C := RX1) (T := TX1) (N := 9) hx hb hts in_X1 tyX1 tyX1_ok nmX1 hown hK hP hD hS 0 rfl rfl 5 (by decide) (hts _ q231) (fun _ h9 => h9) rfl hin rfl (by decide +kernel) rfl rfl (Nat.le_of_ble_eq_true rfl) dX1_init_48 (fun H locs hP hD hS => ?_)
  have hP : va_P D Cl [(h, .inr (1, [.ref q0, .ref q1, .ref q2, .ref q3, .ref q4, .ref q5, .null, .null, .null])), (q0, .inl (cA, 256, .inl (fun _ => 0))), (q1, .inl (cA, 44, .inl (fun _ => 0))), (q2, .inl (cA, 4, .inl (fun _ => 0))), (q3, .inl (cA, 4, .inl (fun _ => 0))), (q4, .inl (cA, 16, .inl (fun _ => 0))), (q5, .inl (cA, 16, .inl (fun _ => 0)))] H := hP
  have hD : va_D A [(h, .inr (1, [.ref q0, .ref q1, .ref q2, .ref q3, .ref q4, .ref q5, .null, .null, .null])), (q0, .inl (cA, 256, .inl (fun _ => 0))), (q1, .inl (cA, 44, .inl (fun _ => 0))), (q2, .inl (cA, 4, .inl (fun _ => 0))), (q3, .inl (cA, 4, .inl (fun _ => 0))), (q4, .inl (cA, 16, .inl (fun _ => 0))), (q5, .inl (cA, 16, .inl (fun _ => 0)))] := hD
  refine lv_aload_n hx hb dX1_init_51 rfl (lv_at hl 0 rfl) ?_
  refine lv_iconst (v := nI 4) hx hb dX1_init_52 (by decide) ?_
  refine va_newa (atype := .int) (ty := .int) (a0 := (4, .inl (fun _ => 0))) (N' := 4) hx hb (hts _ q135) rfl hK hP hD hS hA (fun _ => rfl) (by decide) (by decide) (by decide) (Nat.le_of_ble_eq_true rfl) (Nat.le_of_ble_eq_true rfl) dX1_init_53 (fun q6 cB H hK hP hD hS => ?_)
  refine W.widen (k := 7) (n := 344) (by decide) (by decide) ?_
  have hK : va_K D Cl [(cA, .int), (cB, .int)] s := hK
  have ecb : cB = cA := Option.some.inj ((hK.2 1 _ rfl).2.symm.trans (hK.2 0 _ rfl).2)
  rw [ecb] at hP hD
  have hK : va_K D Cl [(cA, .int)] s := hK.sub [0] rfl
  have hP : va_P D Cl [(h, .inr (1, [.ref q0, .ref q1, .ref q2, .ref q3, .ref q4, .ref q5, .null, .null, .null])), (q0, .inl (cA, 256, .inl (fun _ => 0))), (q1, .inl (cA, 44, .inl (fun _ => 0))), (q2, .inl (cA, 4, .inl (fun _ => 0))), (q3, .inl (cA, 4, .inl (fun _ => 0))), (q4, .inl (cA, 16, .inl (fun _ => 0))), (q5, .inl (cA, 16, .inl (fun _ => 0))), (q6, .inl (cA, 4, .inl (fun _ => 0)))] H := hP
  have hD : va_D A [(h, .inr (1, [.ref q0, .ref q1, .ref q2, .ref q3, .ref q4, .ref q5, .null, .null, .null])), (q0, .inl (cA, 256, .inl (fun _ => 0))), (q1, .inl (cA, 44, .inl (fun _ => 0))), (q2, .inl (cA, 4, .inl (fun _ => 0))), (q3, .inl (cA, 4, .inl (fun _ => 0))), (q4, .inl (cA, 16, .inl (fun _ => 0))), (q5, .inl (cA, 16, .inl (fun _ => 0))), (q6, .inl (cA, 4, .inl (fun _ => 0)))] := hD
  refine va_putF (D := D) (ci := 1) (v := .ref q6) (ty := .array .int) (C := RX1) (T := TX1) (N := 9) hx hb hts in_X1 tyX1 tyX1_ok nmX1 hown hK hP hD hS 0 rfl rfl 6 (by decide) (hts _ q232) (fun _ h9 => h9) rfl hin rfl (by decide +kernel) rfl rfl (Nat.le_of_ble_eq_true rfl) dX1_init_55 (fun H locs hP hD hS => ?_)
  have hP : va_P D Cl [(h, .inr (1, [.ref q0, .ref q1, .ref q2, .ref q3, .ref q4, .ref q5, .ref q6, .null, .null])), (q0, .inl (cA, 256, .inl (fun _ => 0))), (q1, .inl (cA, 44, .inl (fun _ => 0))), (q2, .inl (cA, 4, .inl (fun _ => 0))), (q3, .inl (cA, 4, .inl (fun _ => 0))), (q4, .inl (cA, 16, .inl (fun _ => 0))), (q5, .inl (cA, 16, .inl (fun _ => 0))), (q6, .inl (cA, 4, .inl (fun _ => 0)))] H := hP
  have hD : va_D A [(h, .inr (1, [.ref q0, .ref q1, .ref q2, .ref q3, .ref q4, .ref q5, .ref q6, .null, .null])), (q0, .inl (cA, 256, .inl (fun _ => 0))), (q1, .inl (cA, 44, .inl (fun _ => 0))), (q2, .inl (cA, 4, .inl (fun _ => 0))), (q3, .inl (cA, 4, .inl (fun _ => 0))), (q4, .inl (cA, 16, .inl (fun _ => 0))), (q5, .inl (cA, 16, .inl (fun _ => 0))), (q6, .inl (cA, 4, .inl (fun _ => 0)))] := hD
  refine lv_aload_n hx hb dX1_init_58 rfl (lv_at hl 0 rfl) ?_
  refine lv_iconst (v := nI 4) hx hb dX1_init_59 (by decide) ?_
  refine va_newa (atype := .int) (ty := .int) (a0 := (4, .inl (fun _ => 0))) (N' := 4) hx hb (hts _ q135) rfl hK hP hD hS hA (fun _ => rfl) (by decide) (by decide) (by decide) (Nat.le_of_ble_eq_true rfl) (Nat.le_of_ble_eq_true rfl) dX1_init_60 (fun q7 cB H hK hP hD hS => ?_)
  refine W.widen (k := 8) (n := 348) (by decide) (by decide) ?_
  have hK : va_K D Cl [(cA, .int), (cB, .int)] s := hK
  have ecb : cB = cA := Option.some.inj ((hK.2 1 _ rfl).2.symm.trans (hK.2 0 _ rfl).2)
  rw [ecb] at hP hD
  have hK : va_K D Cl [(cA, .int)] s := hK.sub [0] rfl
  have hP : va_P D Cl [(h, .inr (1, [.ref q0, .ref q1, .ref q2, .ref q3, .ref q4, .ref q5, .ref q6, .null, .null])), (q0, .inl (cA, 256, .inl (fun _ => 0))), (q1, .inl (cA, 44, .inl (fun _ => 0))), (q2, .inl (cA, 4, .inl (fun _ => 0))), (q3, .inl (cA, 4, .inl (fun _ => 0))), (q4, .inl (cA, 16, .inl (fun _ => 0))), (q5, .inl (cA, 16, .inl (fun _ => 0))), (q6, .inl (cA, 4, .inl (fun _ => 0))), (q7, .inl (cA, 4, .inl (fun _ => 0)))] H := hP
  have hD : va_D A [(h, .inr (1, [.ref q0, .ref q1, .ref q2, .ref q3, .ref q4, .ref q5, .ref q6, .null, .null])), (q0, .inl (cA, 256, .inl (fun _ => 0))), (q1, .inl (cA, 44, .inl (fun _ => 0))), (q2, .inl (cA, 4, .inl (fun _ => 0))), (q3, .inl (cA, 4, .inl (fun _ => 0))), (q4, .inl (cA, 16, .inl (fun _ => 0))), (q5, .inl (cA, 16, .inl (fun _ => 0))), (q6, .inl (cA, 4, .inl (fun _ => 0))), (q7, .inl (cA, 4, .inl (fun _ => 0)))] := hD
  refine va_putF (D := D) (ci := 1) (v := .ref q7) (ty := .array .int) (C := RX1) (T := TX1) (N := 9) hx hb hts in_X1 tyX1 tyX1_ok nmX1 hown hK hP hD hS 0 rfl rfl 7 (by decide) (hts _ q233) (fun _ h9 => h9) rfl hin rfl (by decide +kernel) rfl rfl (Nat.le_of_ble_eq_true rfl) dX1_init_62 (fun H locs hP hD hS => ?_)
  have hP : va_P D Cl [(h, .inr (1, [.ref q0, .ref q1, .ref q2, .ref q3, .ref q4, .ref q5, .ref q6, .ref q7, .null])), (q0, .inl (cA, 256, .inl (fun _ => 0))), (q1, .inl (cA, 44, .inl (fun _ => 0))), (q2, .inl (cA, 4, .inl (fun _ => 0))), (q3, .inl (cA, 4, .inl (fun _ => 0))), (q4, .inl (cA, 16, .inl (fun _ => 0))), (q5, .inl (cA, 16, .inl (fun _ => 0))), (q6, .inl (cA, 4, .inl (fun _ => 0))), (q7, .inl (cA, 4, .inl (fun _ => 0)))] H := hP
  have hD : va_D A [(h, .inr (1, [.ref q0, .ref q1, .ref q2, .ref q3, .ref q4, .ref q5, .ref q6, .ref q7, .null])), (q0, .inl (cA, 256, .inl (fun _ => 0))), (q1, .inl (cA, 44, .inl (fun _ => 0))), (q2, .inl (cA, 4, .inl (fun _ => 0))), (q3, .inl (cA, 4, .inl (fun _ => 0))), (q4, .inl (cA, 16, .inl (fun _ => 0))), (q5, .inl (cA, 16, .inl (fun _ => 0))), (q6, .inl (cA, 4, .inl (fun _ => 0))), (q7, .inl (cA, 4, .inl (fun _ => 0)))] := hD
  refine lv_aload_n hx hb dX1_init_65 rfl (lv_at hl 0 rfl) ?_
  refine lv_iconst (v := nI 4) hx hb dX1_init_66 (by decide) ?_
  refine va_newa (atype := .int) (ty := .int) (a0 := (4, .inl (fun _ => 0))) (N' := 4) hx hb (hts _ q135) rfl hK hP hD hS hA (fun _ => rfl) (by decide) (by decide) (by decide) (Nat.le_of_ble_eq_true rfl) (Nat.le_of_ble_eq_true rfl) dX1_init_67 (fun q8 cB H hK hP hD hS => ?_)
  refine W.widen (k := 9) (n := 352) (by decide) (by decide) ?_
  have hK : va_K D Cl [(cA, .int), (cB, .int)] s := hK
  have ecb : cB = cA := Option.some.inj ((hK.2 1 _ rfl).2.symm.trans (hK.2 0 _ rfl).2)
  rw [ecb] at hP hD
  have hK : va_K D Cl [(cA, .int)] s := hK.sub [0] rfl
  have hP : va_P D Cl [(h, .inr (1, [.ref q0, .ref q1, .ref q2, .ref q3, .ref q4, .ref q5, .ref q6, .ref q7, .null])), (q0, .inl (cA, 256, .inl (fun _ => 0))), (q1, .inl (cA, 44, .inl (fun _ => 0))), (q2, .inl (cA, 4, .inl (fun _ => 0))), (q3, .inl (cA, 4, .inl (fun _ => 0))), (q4, .inl (cA, 16, .inl (fun _ => 0))), (q5, .inl (cA, 16, .inl (fun _ => 0))), (q6, .inl (cA, 4, .inl (fun _ => 0))), (q7, .inl (cA, 4, .inl (fun _ => 0))), (q8, .inl (cA, 4, .inl (fun _ => 0)))] H := hP
  have hD : va_D A [(h, .inr (1, [.ref q0, .ref q1, .ref q2, .ref q3, .ref q4, .ref q5, .ref q6, .ref q7, .null])), (q0, .inl (cA, 256, .inl (fun _ => 0))), (q1, .inl (cA, 44, .inl (fun _ => 0))), (q2, .inl (cA, 4, .inl (fun _ => 0))), (q3, .inl (cA, 4, .inl (fun _ => 0))), (q4, .inl (cA, 16, .inl (fun _ => 0))), (q5, .inl (cA, 16, .inl (fun _ => 0))), (q6, .inl (cA, 4, .inl (fun _ => 0))), (q7, .inl (cA, 4, .inl (fun _ => 0))), (q8, .inl (cA, 4, .inl (fun _ => 0)))] := hD
  refine va_putF (D := D) (ci := 1) (v := .ref q8) (ty := .array .int) (C := RX1) (T := TX1) (N := 9) hx hb hts in_X1 tyX1 tyX1_ok nmX1 hown hK hP hD hS 0 rfl rfl 8 (by decide) (hts _ q234) (fun _ h9 => h9) rfl hin rfl (by decide +kernel) rfl rfl (Nat.le_of_ble_eq_true rfl) dX1_init_69 (fun H locs hP hD hS => ?_)
  have hP : va_P D Cl [(h, .inr (1, [.ref q0, .ref q1, .ref q2, .ref q3, .ref q4, .ref q5, .ref q6, .ref q7, .ref q8])), (q0, .inl (cA, 256, .inl (fun _ => 0))), (q1, .inl (cA, 44, .inl (fun _ => 0))), (q2, .inl (cA, 4, .inl (fun _ => 0))), (q3, .inl (cA, 4, .inl (fun _ => 0))), (q4, .inl (cA, 16, .inl (fun _ => 0))), (q5, .inl (cA, 16, .inl (fun _ => 0))), (q6, .inl (cA, 4, .inl (fun _ => 0))), (q7, .inl (cA, 4, .inl (fun _ => 0))), (q8, .inl (cA, 4, .inl (fun _ => 0)))] H := hP
  have hD : va_D A [(h, .inr (1, [.ref q0, .ref q1, .ref q2, .ref q3, .ref q4, .ref q5, .ref q6, .ref q7, .ref q8])), (q0, .inl (cA, 256, .inl (fun _ => 0))), (q1, .inl (cA, 44, .inl (fun _ => 0))), (q2, .inl (cA, 4, .inl (fun _ => 0))), (q3, .inl (cA, 4, .inl (fun _ => 0))), (q4, .inl (cA, 16, .inl (fun _ => 0))), (q5, .inl (cA, 16, .inl (fun _ => 0))), (q6, .inl (cA, 4, .inl (fun _ => 0))), (q7, .inl (cA, 4, .inl (fun _ => 0))), (q8, .inl (cA, 4, .inl (fun _ => 0)))] := hD
  obtain ⟨ad, e0, e1, e2, e3, e4, e5, e6, e7, e8⟩ : ∃ ad : Nat → Nat, q0 = ad 0 ∧ q1 = ad 1 ∧ q2 = ad 2 ∧ q3 = ad 3 ∧ q4 = ad 4 ∧ q5 = ad 5 ∧ q6 = ad 6 ∧ q7 = ad 7 ∧ q8 = ad 8 := ⟨fun k => [q0, q1, q2, q3, q4, q5, q6, q7, q8].getD k 0, rfl, rfl, rfl, rfl, rfl, rfl, rfl, rfl, rfl⟩
  subst e0
  subst e1
  subst e2
  subst e3
  subst e4
  subst e5
  subst e6
  subst e7
  subst e8
  have hP : va_P D Cl (YG cA h ad (fun _ => 0) (fun _ => 0) (fun _ => 0) (fun _ => 0) (fun _ => 0) (fun _ => 0) (fun _ => 0) (fun _ => 0) (fun _ => 0)) H := hP
  have hD : va_D A (YG cA h ad (fun _ => 0) (fun _ => 0) (fun _ => 0) (fun _ => 0) (fun _ => 0) (fun _ => 0) (fun _ => 0) (fun _ => 0) (fun _ => 0)) := hD
  refine lv_iconst (v := nI 0) hx hb dX1_init_72 (by decide) ?_
  refine lv_istore_n (lv' := [(1, .int (nI 0)), (0, .ref h)]) hx hb dX1_init_73 rfl hl (by decide) rfl (fun ls hl => ?_)
  have L1 : ∀ (nL1 x : Nat), x + nL1 = 256 → ∀ (H : Heap) (locs : List Loc) (ls : Array Slot), va_P D Cl (YG cA h ad (zfil (fun _ => 0) (fun x => zsp (nI (zinv (nI x))) 8) x) (fun _ => 0) (fun _ => 0) (fun _ => 0) (fun _ => 0) (fun _ => 0) (fun _ => 0) (fun _ => 0) (fun _ => 0)) H → va_S A s.heap H locs → lv_has ls 3 [(1, .int (nI x)), (0, .ref h)] → W p l e ({ frames := 5, cells := 9, slots := 352, locals := 200 } : Room) s m ([.ref h] : List Value).toArray below meth c H locs 9 352 (MQ below (va_Qv (fun (_ : ClassId × (Nat → Nat)) => True) (fun u t => va_P D Cl (YG u.1 h u.2 zSub (zkx (fun w => zsb w 4) ztm (zk4 (fun _ => 0) (nI 0) (nI 0) (nI 0) (nI 0)) 40).1 (fun _ => 0) (fun _ => 0) (fun _ => 0) (fun _ => 0) (fun _ => 0) (fun _ => 0) (fun _ => 0)) t.heap ∧ va_K D Cl [(u.1, .int)] t ∧ va_D A (YG u.1 h u.2 zSub (zkx (fun w => zsb w 4) ztm (zk4 (fun _ => 0) (nI 0) (nI 0) (nI 0) (nI 0)) 40).1 (fun _ => 0) (fun _ => 0) (fun _ => 0) (fun _ => 0) (fun _ => 0) (fun _ => 0) (fun _ => 0))) A) ([.ref h] : List Value).toArray s 9 352 A) (F0 m 74 ls []) := by
    intro nL1
    induction nL1 with
    | zero =>
      intro x hL1 H locs ls hP hS hl
      obtain rfl : x = 256 := by omega
      refine lv_iload_n hx hb dX1_init_74 rfl (lv_at hl 0 rfl) ?_
      refine lv_sipush (v := nI 256) hx hb dX1_init_75 (by decide) ?_
      refine zr_ge_t (tgt := 102) hx hb dX1_init_78 (by decide) (by omega) (by omega) ?_
      have hP := zP (g := zSub) hP 1 rfl (fun j hj => by rw [zfil_lt hj, zinv_n hj, zsp_n j hj]; rfl)
      have hP : va_P D Cl (YG cA h ad zSub (fun _ => 0) (fun _ => 0) (fun _ => 0) (fun _ => 0) (fun _ => 0) (fun _ => 0) (fun _ => 0) (fun _ => 0)) H := hP
      refine lv_aload_n hx hb dX1_init_102 rfl (lv_at hl 1 rfl) ?_
      refine lv_iconst (v := nI 0) hx hb dX1_init_103 (by decide) ?_
      refine lv_iconst (v := nI 0) hx hb dX1_init_104 (by decide) ?_
      refine lv_iconst (v := nI 0) hx hb dX1_init_105 (by decide) ?_
      refine lv_iconst (v := nI 0) hx hb dX1_init_106 (by decide) ?_
      refine zr_callVv (rest := []) ⟨hx, hb, hml, hown, hts⟩ (mY_key l D cA h ad (fun _ => 0) (fun _ => 0) (fun _ => 0) (fun _ => 0) (fun _ => 0) (fun _ => 0) (fun _ => 0) (fun _ => 0) (nI 0) (nI 0) (nI 0) (nI 0)) (cwV 4 hts (lw_V q215 q216 q217 q31 q218) rfl rfl rfl (by decide +kernel) ⟨Nat.le_of_ble_eq_true rfl, Nat.le_of_ble_eq_true rfl⟩) [] hK hP hD rfl hS hA (ci := 1) (q0 := 0) rfl rfl rfl rfl hl.1 rfl (Nat.le_of_ble_eq_true rfl) dX1_init_107 ⟨Nat.le_of_ble_eq_true rfl, Nat.le_of_ble_eq_true rfl⟩ (fun H locs hP hS => ?_)
      have hP : va_P D Cl (YG cA h ad zSub ((zkx (fun w => zsb w 4) ztm (zk4 (fun _ => 0) (nI 0) (nI 0) (nI 0) (nI 0)) 40).1) (fun _ => 0) (fun _ => 0) (fun _ => 0) (fun _ => 0) (fun _ => 0) (fun _ => 0) (fun _ => 0)) H := hP
      exact W.vret hx hb hr (fun t ht hW => ⟨⟨(cA, ad), rfl, trivial, by rw [ht]; exact hP, va_K.moved hW.alike hK, zD hD rfl⟩, hS.F ht⟩) hS.2.2 dX1_init_110
    | succ nL1 ihL1 =>
      intro x hL1 H locs ls hP hS hl
      have hltL1 : x < 256 := by omega
      refine lv_iload_n hx hb dX1_init_74 rfl (lv_at hl 0 rfl) ?_
      refine lv_sipush (v := nI 256) hx hb dX1_init_75 (by decide) ?_
      refine zr_ge_f (tgt := 102) hx hb dX1_init_78 (by decide) (by omega) (by omega) ?_
      refine lv_iload_n hx hb dX1_init_81 rfl (lv_at hl 0 rfl) ?_
      refine zr_callS (rest := []) ⟨hx, hb, hml, hown, hts⟩ (mY_inverse l D cA (nI x)) (va_cwS 1 hts (lw_S q203 q204 q31 q205) rfl rfl rfl (by decide +kernel) ⟨Nat.le_of_ble_eq_true rfl, Nat.le_of_ble_eq_true rfl⟩) hK hP hD rfl hS hA rfl hl.1 rfl (Nat.le_of_ble_eq_true rfl) dX1_init_82 ⟨Nat.le_of_ble_eq_true rfl, Nat.le_of_ble_eq_true rfl⟩ (fun H locs hP hS => ?_)
      refine lv_istore_n (lv' := [(2, .int (nI (zinv (nI x)))), (1, .int (nI x)), (0, .ref h)]) hx hb dX1_init_85 rfl hl (by decide) rfl (fun ls hl => ?_)
      refine lv_aload_n hx hb dX1_init_86 rfl (lv_at hl 2 rfl) ?_
      refine zr_get (T := TX1) (N := 9) hx hb hts in_X1 hown hK hP 0 rfl rfl 0 (by decide) q226 rfl dX1_init_87 ?_
      refine lv_iload_n hx hb dX1_init_90 rfl (lv_at hl 1 rfl) ?_
      refine lv_iload_n hx hb dX1_init_91 rfl (lv_at hl 0 rfl) ?_
      refine zr_callS (rest := [.int (nI x), .ref (ad 0)]) ⟨hx, hb, hml, hown, hts⟩ (mY_spread l D cA (nI (zinv (nI x)))) (va_cwS 1 hts (lw_S q212 q213 q31 q214) rfl rfl rfl (by decide +kernel) ⟨Nat.le_of_ble_eq_true rfl, Nat.le_of_ble_eq_true rfl⟩) hK hP hD rfl hS hA rfl hl.1 rfl (Nat.le_of_ble_eq_true rfl) dX1_init_92 ⟨Nat.le_of_ble_eq_true rfl, Nat.le_of_ble_eq_true rfl⟩ (fun H locs hP hS => ?_)
      refine zr_iast (f' := zfil (fun _ => 0) (fun x => zsp (nI (zinv (nI x))) 8) (x + 1)) hx hb hK hP hD rfl hS 1 0 rfl rfl x rfl (by omega) (by decide) (zfil_s rfl) dX1_init_95 (fun H locs hP hS => ?_)
      have hP : va_P D Cl (YG cA h ad (zfil (fun _ => 0) (fun x => zsp (nI (zinv (nI x))) 8) (x + 1)) (fun _ => 0) (fun _ => 0) (fun _ => 0) (fun _ => 0) (fun _ => 0) (fun _ => 0) (fun _ => 0) (fun _ => 0)) H := hP
      refine lv_iinc (v := nI (x + 1)) (lv' := [(1, .int (nI (x + 1))), (2, .int (nI (zinv (nI x)))), (0, .ref h)]) hx hb dX1_init_96 hl (k := 1) rfl (zinc _) (by decide) rfl (fun ls hl => ?_)
      refine lv_goto (tgt := 74) hx hb dX1_init_99 (by decide) ?_
      exact ihL1 (x + 1) (by omega) H locs ls hP hS (lv_sub hl [0, 2] rfl)
  exact L1 256 0 (by omega) H locs ls (by rw [zfil_0]; exact hP) hS (lv_sub hl [0, 1] rfl)
end
section
/-! THE PLAIN LAW: words by their bytes -/
set_option maxRecDepth 100000
theorem zw_ext {x y : Int32} (h : ∀ r, r < 4 → zby x r = zby y r) : x = y := by
  apply b_ext
  intro i hi
  have h1 := congrArg (fun n => n.testBit (i % 8)) (h (3 - i / 8) (by omega))
  have e : 24 - 8 * (3 - i / 8) + i % 8 = i := by omega
  have e8 : i % 8 < 8 := Nat.mod_lt _ (by decide)
  simpa only [zby_bit, e, e8, decide_true, Bool.true_and] using h1
theorem zby_xor (x y : Int32) (r : Nat) : zby (x ^^^ y) r = zby x r ^^^ zby y r := by
  apply Nat.eq_of_testBit_eq
  intro i
  rw [zby_bit, Nat.testBit_xor, zby_bit, zby_bit, b_xor]
  cases decide (i < 8) <;> simp
theorem tb_lt {n i : Nat} (h : n < 256) (hi : 8 ≤ i) : n.testBit i = false := Nat.testBit_lt_two_pow (Nat.lt_of_lt_of_le h (Nat.pow_le_pow_right (n := 2) (by decide) hi))
/-- four bytes put together -/
def zpk (a b c d : Nat) : Int32 := ((zsl (nI a) 24 ||| zsl (nI b) 16) ||| zsl (nI c) 8) ||| nI d
theorem zpk_bt (a b c d : Nat) {j : Nat} (hj : j < 32) : bt (zpk a b c d) j = ((((decide (24 ≤ j) && a.testBit (j - 24)) || (decide (16 ≤ j) && b.testBit (j - 16))) || (decide (8 ≤ j) && c.testBit (j - 8))) || d.testBit j) := by
  unfold zpk
  rw [b_or, b_or, b_or, b_shl 24 (by decide) _ hj, b_shl 16 (by decide) _ hj, b_shl 8 (by decide) _ hj, b_nI, b_nI, b_nI, b_nI]
  have h1 : j - 24 < 32 := by omega
  have h2 : j - 16 < 32 := by omega
  have h3 : j - 8 < 32 := by omega
  simp only [h1, h2, h3, hj, decide_true, Bool.true_and]
theorem zpk_0 {a b c d : Nat} (ha : a < 256) (hb : b < 256) (hc : c < 256) (hd : d < 256) : zby (zpk a b c d) 0 = a := by
  apply Nat.eq_of_testBit_eq
  intro i
  rw [zby_bit]
  by_cases h : i < 8
  · rw [show 24 - 8 * 0 + i = 24 + i by omega, zpk_bt a b c d (by omega), tb_lt hb (by omega), tb_lt hc (by omega), tb_lt hd (by omega), show 24 + i - 24 = i by omega]
    simp [h]
  · rw [tb_lt ha (by omega)]
    simp [h]
theorem zpk_1 {a b c d : Nat} (hb : b < 256) (hc : c < 256) (hd : d < 256) : zby (zpk a b c d) 1 = b := by
  apply Nat.eq_of_testBit_eq
  intro i
  rw [zby_bit]
  by_cases h : i < 8
  · rw [show 24 - 8 * 1 + i = 16 + i by omega, zpk_bt a b c d (by omega), tb_lt hc (by omega), tb_lt hd (by omega), show 16 + i - 16 = i by omega]
    have h1 : ¬ 24 ≤ 16 + i := by omega
    simp [h, h1]
  · rw [tb_lt hb (by omega)]
    simp [h]
theorem zpk_2 {a b c d : Nat} (hc : c < 256) (hd : d < 256) : zby (zpk a b c d) 2 = c := by
  apply Nat.eq_of_testBit_eq
  intro i
  rw [zby_bit]
  by_cases h : i < 8
  · rw [show 24 - 8 * 2 + i = 8 + i by omega, zpk_bt a b c d (by omega), tb_lt hd (by omega), show 8 + i - 8 = i by omega]
    have h1 : ¬ 24 ≤ 8 + i := by omega
    have h2 : ¬ 16 ≤ 8 + i := by omega
    simp [h, h1, h2]
  · rw [tb_lt hc (by omega)]
    simp [h]
theorem zpk_3 {a b c d : Nat} (hd : d < 256) : zby (zpk a b c d) 3 = d := by
  apply Nat.eq_of_testBit_eq
  intro i
  rw [zby_bit]
  by_cases h : i < 8
  · rw [show 24 - 8 * 3 + i = i by omega, zpk_bt a b c d (by omega)]
    have h1 : ¬ 24 ≤ i := by omega
    have h2 : ¬ 16 ≤ i := by omega
    have h3 : ¬ 8 ≤ i := by omega
    simp [h, h1, h2, h3]
  · rw [tb_lt hd (by omega)]
    simp [h]
theorem zpk_self (w : Int32) : zpk (zby w 0) (zby w 1) (zby w 2) (zby w 3) = w := by
  apply zw_ext
  intro r hr
  have h := zby_lt w
  rcases (by omega : r = 0 ∨ r = 1 ∨ r = 2 ∨ r = 3) with rfl | rfl | rfl | rfl
  · exact zpk_0 (h 0) (h 1) (h 2) (h 3)
  · exact zpk_1 (h 1) (h 2) (h 3)
  · exact zpk_2 (h 2) (h 3)
  · exact zpk_3 (h 3)
theorem zrr_bt (w : Int32) {n j : Nat} (h0 : 0 < n) (hn : n < 32) (hj : j < 32) : bt (zrr w n) j = if n + j < 32 then bt w (n + j) else bt w (n + j - 32) := by
  unfold zrr
  rw [b_or, b_ushr n hn, b_shl (32 - n) (by omega) _ hj]
  by_cases h : n + j < 32
  · have h1 : ¬ 32 - n ≤ j := by omega
    simp [h, h1]
  · have h1 : 32 - n ≤ j := by omega
    rw [if_neg h, b_big (by omega : 32 ≤ n + j), show j - (32 - n) = n + j - 32 by omega]
    simp [h1]
theorem zrr_by (w : Int32) {m r : Nat} (h0 : 0 < m) (hm : m < 4) (hr : r < 4) : zby (zrr w (8 * m)) r = zby w ((r + 4 - m) % 4) := by
  apply Nat.eq_of_testBit_eq
  intro i
  rw [zby_bit, zby_bit]
  by_cases h : i < 8
  · rw [zrr_bt w (by omega) (by omega) (by omega)]
    simp only [h, decide_true, Bool.true_and]
    by_cases h2 : 8 * m + (24 - 8 * r + i) < 32
    · rw [if_pos h2]
      congr 1
      omega
    · rw [if_neg h2]
      congr 1
      omega
  · simp [h]
theorem zrr8 (w : Int32) {r : Nat} (hr : r < 4) : zby (zrr w 8) r = zby w ((r + 3) % 4) := zrr_by w (m := 1) (by decide) (by decide) hr
theorem zrr16 (w : Int32) {r : Nat} (hr : r < 4) : zby (zrr w 16) r = zby w ((r + 2) % 4) := zrr_by w (m := 2) (by decide) (by decide) hr
theorem zrr24 (w : Int32) {r : Nat} (hr : r < 4) : zby (zrr w 24) r = zby w ((r + 1) % 4) := zrr_by w (m := 3) (by decide) (by decide) hr
/-! the key schedule -/
theorem zsw_sb (w : Int32) : zsb w 4 = zsw w := by
  have h := fun k => zSB_lt (zby w k)
  show zsl (zsl (zsl (zsl (nI 0) 8 ||| nI (zSB (zby w 0))) 8 ||| nI (zSB (zby w 1))) 8 ||| nI (zSB (zby w 2))) 8 ||| nI (zSB (zby w 3)) = zpk (zSB (zby w 0)) (zSB (zby w 1)) (zSB (zby w 2)) (zSB (zby w 3))
  apply b_ext
  intro j hj
  rw [zpk_bt _ _ _ _ hj]
  rw [b_or, b_nI, b_shl 8 (by decide) _ hj]
  have e1 : j - 8 < 32 := by omega
  have e2 : j - 8 - 8 < 32 := by omega
  have e3 : j - 8 - 8 - 8 < 32 := by omega
  have e4 : j - 8 - 8 - 8 - 8 < 32 := by omega
  rw [b_or, b_nI, b_shl 8 (by decide) _ e1, b_or, b_nI, b_shl 8 (by decide) _ e2, b_or, b_nI, b_shl 8 (by decide) _ e3]
  rw [show nI 0 = 0 from rfl, b_0]
  simp only [hj, e1, e2, e3, decide_true, Bool.true_and, Bool.and_false, Bool.false_or]
  rw [show j - 8 - 8 = j - 16 by omega, show j - 16 - 8 = j - 24 by omega]
  by_cases h1 : 8 ≤ j
  · by_cases h2 : 16 ≤ j
    · have h2' : 8 ≤ j - 8 := by omega
      by_cases h3 : 24 ≤ j
      · have h3' : 8 ≤ j - 16 := by omega
        simp [h1, h2, h3, h2', h3']
      · have h3' : ¬ 8 ≤ j - 16 := by omega
        simp [h1, h2, h3, h2', h3']
    · have h2' : ¬ 8 ≤ j - 8 := by omega
      have h3 : ¬ 24 ≤ j := by omega
      simp [h1, h2, h3, h2']
  · have h2 : ¬ 16 ≤ j := by omega
    have h3 : ¬ 24 ≤ j := by omega
    simp [h1, h2, h3]
theorem zkx_eq (f : Nat → Int32) (n : Nat) : zkx (fun w => zsb w 4) ztm f n = zkx zsw ztw f n ∧ ∃ k, k < 256 ∧ (zkx zsw ztw f n).2 = nI k := by
  induction n with
  | zero => exact ⟨rfl, 1, by decide, rfl⟩
  | succ n ih =>
    obtain ⟨e, k, hk, ek⟩ := ih
    by_cases h : nI ((n + 4) % 4) = 0
    · rw [zkx_t h, zkx_t h, e, ek]
      refine ⟨?_, ztN k, ztN_lt k hk, ?_⟩
      · rw [ztm_n k hk, ztw_n k hk]
        simp only [zsw_sb]
      · show ztw (nI k) = _
        exact ztw_n k hk
    · rw [zkx_f h, zkx_f h, e]
      exact ⟨rfl, k, hk, ek⟩
theorem zz_key (f : Nat → Int32) (j : Nat) : (zkx (fun w => zsb w 4) ztm f 40).1 j = (zkx zsw ztw f 40).1 j := by rw [(zkx_eq f 40).1]
end
section
/-! THE PLAIN LAW: encryption -/
set_option maxRecDepth 100000
theorem zmF_n {n : Nat} (h : n < 256) : zmF (nI n) = zpk (ztN n) n n (ztN n ^^^ n) := by
  unfold zmF
  rw [ztw_n n h, nx_xor]
  rfl
theorem zFwd_0 (x : Nat) : zby (zFwd x) 0 = ztN (zSB x) := by
  show zby (zmF (nI (zSB x))) 0 = _
  have h := zSB_lt x
  rw [zmF_n h]
  exact zpk_0 (ztN_lt _ h) h h (zxor_lt (ztN_lt _ h) h)
theorem zFwd_1 (x : Nat) : zby (zFwd x) 1 = zSB x := by
  show zby (zmF (nI (zSB x))) 1 = _
  have h := zSB_lt x
  rw [zmF_n h]
  exact zpk_1 h h (zxor_lt (ztN_lt _ h) h)
theorem zFwd_2 (x : Nat) : zby (zFwd x) 2 = zSB x := by
  show zby (zmF (nI (zSB x))) 2 = _
  have h := zSB_lt x
  rw [zmF_n h]
  exact zpk_2 h (zxor_lt (ztN_lt _ h) h)
theorem zFwd_3 (x : Nat) : zby (zFwd x) 3 = ztN (zSB x) ^^^ zSB x := by
  show zby (zmF (nI (zSB x))) 3 = _
  have h := zSB_lt x
  rw [zmF_n h]
  exact zpk_3 (zxor_lt (ztN_lt _ h) h)
/-- the same sixteen bytes -/
def zE (Z Z' : Nat → Nat) : Prop := ∀ j, j < 16 → Z j = Z' j
theorem zE_ak {ks : Nat → Int32} {q : Nat} {Z Z' : Nat → Nat} (h : zE Z Z') : zE (zak ks q Z) (zak ks q Z') := fun j hj => by unfold zak; rw [h j hj]
theorem zE_rp {Z Z' : Nat → Nat} (h : zE Z Z') : zE (zrp Z) (zrp Z') := fun j hj => by unfold zrp; rw [h j hj]
theorem zE_rs {Z Z' : Nat → Nat} (h : zE Z Z') : zE (zrs Z) (zrs Z') := fun j hj => by unfold zrs; rw [h j hj]
theorem zE_sh {Z Z' : Nat → Nat} (h : zE Z Z') : zE (zsh Z) (zsh Z') := fun j hj => by unfold zsh; rw [h _ (Nat.mod_lt _ (by decide))]
theorem zE_mx {Z Z' : Nat → Nat} (h : zE Z Z') : zE (zmx Z) (zmx Z') := fun j hj => by
  unfold zmx
  rw [h j hj, h (j / 4 * 4 + (j + 1) % 4) (by omega), h (j / 4 * 4 + (j + 2) % 4) (by omega), h (j / 4 * 4 + (j + 3) % 4) (by omega)]
theorem zE_tr {Z1 Z2 Z3 : Nat → Nat} (h : zE Z1 Z2) (h2 : zE Z2 Z3) : zE Z1 Z3 := fun j hj => (h j hj).trans (h2 j hj)
theorem zly_at (w : Nat → Int32) {x r : Nat} (hr : r < 4) : zly w (4 * x + r) = zby (w x) r := by
  unfold zly
  rw [show (4 * x + r) / 4 = x by omega, show (4 * x + r) % 4 = r by omega]
theorem zE_of {Z Z' : Nat → Nat} (h : ∀ c r, c < 4 → r < 4 → Z (4 * c + r) = Z' (4 * c + r)) : zE Z Z' := fun j hj => by
  have e := h (j / 4) (j % 4) (by omega) (Nat.mod_lt _ (by decide))
  rw [show 4 * (j / 4) + j % 4 = j by omega] at e
  exact e
theorem zak_at (ks : Nat → Int32) (q : Nat) (Z : Nat → Nat) {c r : Nat} (hr : r < 4) : zak ks q Z (4 * c + r) = Z (4 * c + r) ^^^ zby (ks (4 * q + c)) r := by
  unfold zak
  rw [show (4 * c + r) / 4 = c by omega, show (4 * c + r) % 4 = r by omega]
theorem zshp_at (st : Nat → Int32) {c k : Nat} (hc : c < 4) (hk : k < 4) : zsh (zrp (zly st)) (4 * c + k) = zSB (zby (st ((c + k) % 4)) k) := by
  unfold zsh zrp
  rw [show ((4 * c + k) % 4 + 4 * ((4 * c + k) / 4 + (4 * c + k) % 4)) % 16 = 4 * ((c + k) % 4) + k by omega, zly_at st hk]
theorem zmx_at (W : Nat → Nat) {c r : Nat} (hr : r < 4) : zmx W (4 * c + r) = ((ztN (W (4 * c + r)) ^^^ (ztN (W (4 * c + (r + 1) % 4)) ^^^ W (4 * c + (r + 1) % 4))) ^^^ W (4 * c + (r + 2) % 4)) ^^^ W (4 * c + (r + 3) % 4) := by
  unfold zmx
  rw [show (4 * c + r) / 4 * 4 + (4 * c + r + 1) % 4 = 4 * c + (r + 1) % 4 by omega, show (4 * c + r) / 4 * 4 + (4 * c + r + 2) % 4 = 4 * c + (r + 2) % 4 by omega, show (4 * c + r) / 4 * 4 + (4 * c + r + 3) % 4 = 4 * c + (r + 3) % 4 by omega]
theorem zfc_by (st : Nat → Int32) {c r : Nat} (hc : c < 4) (hr : r < 4) : zby (zfc st c) r = zmx (zsh (zrp (zly st))) (4 * c + r) := by
  have h0 := zshp_at st (c := c) (k := 0) hc (by decide)
  have h1 := zshp_at st (c := c) (k := 1) hc (by decide)
  have h2 := zshp_at st (c := c) (k := 2) hc (by decide)
  have h3 := zshp_at st (c := c) (k := 3) hc (by decide)
  rw [show (c + 0) % 4 = c by omega] at h0
  unfold zfc
  rw [zmx_at _ hr, zby_xor, zby_xor, zby_xor, zrr8 _ hr, zrr16 _ hr, zrr24 _ hr]
  rcases (by omega : r = 0 ∨ r = 1 ∨ r = 2 ∨ r = 3) with rfl | rfl | rfl | rfl
  · simp only [Nat.reduceAdd, Nat.reduceMod, h0, h1, h2, h3, zFwd_0, zFwd_1, zFwd_2, zFwd_3]
  · simp only [Nat.reduceAdd, Nat.reduceMod, h0, h1, h2, h3, zFwd_0, zFwd_1, zFwd_2, zFwd_3]
    ac_rfl
  · simp only [Nat.reduceAdd, Nat.reduceMod, h0, h1, h2, h3, zFwd_0, zFwd_1, zFwd_2, zFwd_3]
    ac_rfl
  · simp only [Nat.reduceAdd, Nat.reduceMod, h0, h1, h2, h3, zFwd_0, zFwd_1, zFwd_2, zFwd_3]
    ac_rfl
theorem zlc_by (st : Nat → Int32) {c r : Nat} (hc : c < 4) (hr : r < 4) : zby (zlc st c) r = zsh (zrp (zly st)) (4 * c + r) := by
  have e : zlc st c = zpk (zSB (zby (st c) 0)) (zSB (zby (st ((c + 1) % 4)) 1)) (zSB (zby (st ((c + 2) % 4)) 2)) (zSB (zby (st ((c + 3) % 4)) 3)) := by
    unfold zlc zpk
    rw [← Int32.or_assoc]
  rw [e, zshp_at st hc hr]
  have hS := zSB_lt
  rcases (by omega : r = 0 ∨ r = 1 ∨ r = 2 ∨ r = 3) with rfl | rfl | rfl | rfl
  · rw [zpk_0 (hS _) (hS _) (hS _) (hS _), show (c + 0) % 4 = c by omega]
  · rw [zpk_1 (hS _) (hS _) (hS _)]
  · rw [zpk_2 (hS _) (hS _)]
  · rw [zpk_3 (hS _)]
theorem zrf_ly (K P : Nat → Int32) (n : Nat) : zE (zly (zrf K P n)) (zrd K (zly P) n) := by
  induction n with
  | zero =>
    apply zE_of
    intro c r hc hr
    show zly (fun j => P j ^^^ K j) (4 * c + r) = zak K 0 (zly P) (4 * c + r)
    rw [zly_at _ hr, zak_at _ _ _ hr, zly_at _ hr, zby_xor, show 4 * 0 + c = c by omega]
  | succ n ih =>
    refine zE_tr ?_ (zE_ak (zE_mx (zE_sh (zE_rp ih))))
    apply zE_of
    intro c r hc hr
    show zly (fun c => zfc (zrf K P n) c ^^^ K (4 * (n + 1) + c)) (4 * c + r) = zak K (n + 1) _ (4 * c + r)
    rw [zly_at _ hr, zak_at _ _ _ hr, zby_xor, zfc_by _ hc hr]
theorem zen_ly (K P : Nat → Int32) : zE (zly (zen K P)) (zre K (zly P)) := by
  refine zE_tr ?_ (zE_ak (zE_sh (zE_rp (zrf_ly K P 9))))
  apply zE_of
  intro c r hc hr
  show zly (fun c => zlc (zrf K P 9) c ^^^ K (40 + c)) (4 * c + r) = zak K 10 _ (4 * c + r)
  rw [zly_at _ hr, zak_at _ _ _ hr, zby_xor, zlc_by _ hc hr]
theorem zjn_E {Z Z' : Nat → Nat} (h : zE Z Z') {c : Nat} (hc : c < 4) : zjn Z c = zjn Z' c := by
  unfold zjn
  rw [h (4 * c) (by omega), h (4 * c + 1) (by omega), h (4 * c + 2) (by omega), h (4 * c + 3) (by omega)]
theorem zjn_ly (w : Nat → Int32) (c : Nat) : zjn (zly w) c = w c := by
  have h0 := zly_at w (x := c) (r := 0) (by decide)
  rw [show 4 * c + 0 = 4 * c by omega] at h0
  show zpk (zly w (4 * c)) (zly w (4 * c + 1)) (zly w (4 * c + 2)) (zly w (4 * c + 3)) = w c
  rw [h0, zly_at w (by decide), zly_at w (by decide), zly_at w (by decide)]
  exact zpk_self (w c)
theorem zz_enc (K P : Nat → Int32) {j : Nat} (hj : j < 4) : zen K P j = zjn (zre K (zly P)) j := by
  rw [← zjn_ly (zen K P) j]
  exact zjn_E (zen_ly K P) hj
end
section
/-! THE PLAIN LAW: decryption -/
set_option maxRecDepth 100000
/-- doubling of a byte, linear on all numbers -/
def ztL (n : Nat) : Nat := (2 * n) ^^^ (if n.testBit 7 = true then 283 else 0)
theorem ztN_L : ∀ n, n < 256 → ztN n = ztL n := by decide +kernel
theorem xx1 (a b : Nat) : a ^^^ (a ^^^ b) = b := by rw [← Nat.xor_assoc, Nat.xor_self, Nat.zero_xor]
theorem xlc (a b c : Nat) : a ^^^ (b ^^^ c) = b ^^^ (a ^^^ c) := by rw [← Nat.xor_assoc, Nat.xor_comm a b, Nat.xor_assoc]
theorem x2m (a b : Nat) : 2 * (a ^^^ b) = (2 * a) ^^^ (2 * b) := by
  have h := Nat.shiftLeft_xor_distrib (a := a) (b := b) (i := 1)
  simp only [Nat.shiftLeft_eq, Nat.pow_one] at h
  rw [Nat.mul_comm 2, Nat.mul_comm 2, Nat.mul_comm 2]
  exact h
theorem ztL_xor (a b : Nat) : ztL (a ^^^ b) = ztL a ^^^ ztL b := by
  unfold ztL
  rw [x2m, Nat.testBit_xor]
  cases ha : a.testBit 7 <;> cases hb : b.testBit 7 <;> simp [Nat.xor_assoc, Nat.xor_comm, xlc, xx1]
def zmcL (a b c d : Nat) : Nat := ((ztL a ^^^ (ztL b ^^^ b)) ^^^ c) ^^^ d
/-- 14 a + 11 b + 13 c + 9 d -/
def zim (a b c d : Nat) : Nat := ((((ztL (ztL (ztL a)) ^^^ ztL (ztL a)) ^^^ ztL a) ^^^ ((ztL (ztL (ztL b)) ^^^ ztL b) ^^^ b)) ^^^ ((ztL (ztL (ztL c)) ^^^ ztL (ztL c)) ^^^ c)) ^^^ (ztL (ztL (ztL d)) ^^^ d)
theorem zmc_2 (a b c d : Nat) : zmcL (zmcL a b c d) (zmcL b c d a) (zmcL c d a b) (zmcL d a b c) = (ztL (ztL a) ^^^ a) ^^^ ztL (ztL c) := by
  simp only [zmcL, ztL_xor]
  generalize ztL (ztL a) = a2
  generalize ztL (ztL b) = b2
  generalize ztL (ztL c) = c2
  generalize ztL (ztL d) = d2
  generalize ztL a = a1
  generalize ztL b = b1
  generalize ztL c = c1
  generalize ztL d = d1
  simp only [Nat.xor_assoc, Nat.xor_comm, xlc, xx1, Nat.xor_self, Nat.xor_zero, Nat.zero_xor]
theorem zmc_3 (a b c d : Nat) : zmcL ((ztL (ztL a) ^^^ a) ^^^ ztL (ztL c)) ((ztL (ztL b) ^^^ b) ^^^ ztL (ztL d)) ((ztL (ztL c) ^^^ c) ^^^ ztL (ztL a)) ((ztL (ztL d) ^^^ d) ^^^ ztL (ztL b)) = zim a b c d := by
  simp only [zmcL, zim, ztL_xor]
  generalize ztL (ztL (ztL a)) = a3
  generalize ztL (ztL (ztL b)) = b3
  generalize ztL (ztL (ztL c)) = c3
  generalize ztL (ztL (ztL d)) = d3
  generalize ztL (ztL a) = a2
  generalize ztL (ztL b) = b2
  generalize ztL (ztL c) = c2
  generalize ztL (ztL d) = d2
  generalize ztL a = a1
  generalize ztL b = b1
  generalize ztL c = c1
  generalize ztL d = d1
  simp only [Nat.xor_assoc, Nat.xor_comm, xlc, xx1, Nat.xor_self, Nat.xor_zero, Nat.zero_xor]
theorem zim_xor (a b c d a' b' c' d' : Nat) : zim (a ^^^ a') (b ^^^ b') (c ^^^ c') (d ^^^ d') = zim a b c d ^^^ zim a' b' c' d' := by
  simp only [zim, ztL_xor]
  ac_rfl
theorem zmx_L {W : Nat → Nat} (h : zB W) {c r : Nat} (hc : c < 4) (hr : r < 4) : zmx W (4 * c + r) = zmcL (W (4 * c + r)) (W (4 * c + (r + 1) % 4)) (W (4 * c + (r + 2) % 4)) (W (4 * c + (r + 3) % 4)) := by
  rw [zmx_at W hr, ztN_L _ (h _ (by omega)), ztN_L _ (h _ (by omega))]
  rfl
theorem zmx2_at {Z : Nat → Nat} (h : zB Z) {c r : Nat} (hc : c < 4) (hr : r < 4) : zmx (zmx Z) (4 * c + r) = (ztL (ztL (Z (4 * c + r))) ^^^ Z (4 * c + r)) ^^^ ztL (ztL (Z (4 * c + (r + 2) % 4))) := by
  rw [zmx_L (zB_mx h) hc hr, zmx_L h hc hr, zmx_L h hc (Nat.mod_lt _ (by decide)), zmx_L h hc (Nat.mod_lt _ (by decide)), zmx_L h hc (Nat.mod_lt _ (by decide))]
  rcases (by omega : r = 0 ∨ r = 1 ∨ r = 2 ∨ r = 3) with rfl | rfl | rfl | rfl <;> simp only [Nat.reduceAdd, Nat.reduceMod] <;> exact zmc_2 _ _ _ _
theorem zmx3_at {Z : Nat → Nat} (h : zB Z) {c r : Nat} (hc : c < 4) (hr : r < 4) : zmx3 Z (4 * c + r) = zim (Z (4 * c + r)) (Z (4 * c + (r + 1) % 4)) (Z (4 * c + (r + 2) % 4)) (Z (4 * c + (r + 3) % 4)) := by
  unfold zmx3
  rw [zmx_L (zB_mx (zB_mx h)) hc hr, zmx2_at h hc hr, zmx2_at h hc (Nat.mod_lt _ (by decide)), zmx2_at h hc (Nat.mod_lt _ (by decide)), zmx2_at h hc (Nat.mod_lt _ (by decide))]
  rcases (by omega : r = 0 ∨ r = 1 ∨ r = 2 ∨ r = 3) with rfl | rfl | rfl | rfl <;> simp only [Nat.reduceAdd, Nat.reduceMod] <;> exact zmc_3 _ _ _ _
theorem zsh_at (Z : Nat → Nat) {c k : Nat} (hc : c < 4) (hk : k < 4) : zsh Z (4 * c + k) = Z (4 * ((c + k) % 4) + k) := by
  unfold zsh
  rw [show ((4 * c + k) % 4 + 4 * ((4 * c + k) / 4 + (4 * c + k) % 4)) % 16 = 4 * ((c + k) % 4) + k by omega]
theorem zsh3_at (Z : Nat → Nat) {c k : Nat} (hc : c < 4) (hk : k < 4) : zsh3 Z (4 * c + k) = Z (4 * ((c + 3 * k) % 4) + k) := by
  unfold zsh3
  rw [zsh_at _ hc hk, zsh_at _ (Nat.mod_lt _ (by decide)) hk, zsh_at _ (Nat.mod_lt _ (by decide)) hk, show (((c + k) % 4 + k) % 4 + k) % 4 = (c + 3 * k) % 4 by omega]
/-! the table of the inverse mixing -/
theorem zmB_n {n : Nat} (h : n < 256) : zmB (nI n) = zpk ((ztL (ztL (ztL n)) ^^^ ztL (ztL n)) ^^^ ztL n) (ztL (ztL (ztL n)) ^^^ n) ((ztL (ztL (ztL n)) ^^^ ztL (ztL n)) ^^^ n) ((ztL (ztL (ztL n)) ^^^ ztL n) ^^^ n) := by
  have h1 := ztN_lt n h
  have h2 := ztN_lt _ h1
  have h3 := ztN_lt _ h2
  unfold zmB
  rw [ztw_n n h, ztw_n _ h1, ztw_n _ h2]
  simp only [nx_xor]
  rw [← ztN_L n h, ← ztN_L _ h1, ← ztN_L _ h2]
  rfl
theorem zL_lt {n : Nat} (h : n < 256) : ztL n < 256 := by rw [← ztN_L n h]; exact ztN_lt n h
theorem zB14 {n : Nat} (h : n < 256) : (ztL (ztL (ztL n)) ^^^ ztL (ztL n)) ^^^ ztL n < 256 := zxor_lt (zxor_lt (zL_lt (zL_lt (zL_lt h))) (zL_lt (zL_lt h))) (zL_lt h)
theorem zB9 {n : Nat} (h : n < 256) : ztL (ztL (ztL n)) ^^^ n < 256 := zxor_lt (zL_lt (zL_lt (zL_lt h))) h
theorem zB13 {n : Nat} (h : n < 256) : (ztL (ztL (ztL n)) ^^^ ztL (ztL n)) ^^^ n < 256 := zxor_lt (zxor_lt (zL_lt (zL_lt (zL_lt h))) (zL_lt (zL_lt h))) h
theorem zB11 {n : Nat} (h : n < 256) : (ztL (ztL (ztL n)) ^^^ ztL n) ^^^ n < 256 := zxor_lt (zxor_lt (zL_lt (zL_lt (zL_lt h))) (zL_lt h)) h
theorem zBwd_0 (x : Nat) : zby (zBwd x) 0 = (ztL (ztL (ztL (zRS x))) ^^^ ztL (ztL (zRS x))) ^^^ ztL (zRS x) := by
  show zby (zmB (nI (zRS x))) 0 = _
  have h := zRS_lt x
  rw [zmB_n h]
  exact zpk_0 (zB14 h) (zB9 h) (zB13 h) (zB11 h)
theorem zBwd_1 (x : Nat) : zby (zBwd x) 1 = ztL (ztL (ztL (zRS x))) ^^^ zRS x := by
  show zby (zmB (nI (zRS x))) 1 = _
  have h := zRS_lt x
  rw [zmB_n h]
  exact zpk_1 (zB9 h) (zB13 h) (zB11 h)
theorem zBwd_2 (x : Nat) : zby (zBwd x) 2 = (ztL (ztL (ztL (zRS x))) ^^^ ztL (ztL (zRS x))) ^^^ zRS x := by
  show zby (zmB (nI (zRS x))) 2 = _
  have h := zRS_lt x
  rw [zmB_n h]
  exact zpk_2 (zB13 h) (zB11 h)
theorem zBwd_3 (x : Nat) : zby (zBwd x) 3 = (ztL (ztL (ztL (zRS x))) ^^^ ztL (zRS x)) ^^^ zRS x := by
  show zby (zmB (nI (zRS x))) 3 = _
  have h := zRS_lt x
  rw [zmB_n h]
  exact zpk_3 (zB11 h)
theorem zbw4 (x0 x1 x2 x3 : Nat) (v : Nat → Nat) (e0 : zRS x0 = v 0) (e1 : zRS x1 = v 1) (e2 : zRS x2 = v 2) (e3 : zRS x3 = v 3) {r : Nat} (hr : r < 4) : zby (((zBwd x0 ^^^ zrr (zBwd x1) 8) ^^^ zrr (zBwd x2) 16) ^^^ zrr (zBwd x3) 24) r = zim (v r) (v ((r + 1) % 4)) (v ((r + 2) % 4)) (v ((r + 3) % 4)) := by
  rw [zby_xor, zby_xor, zby_xor, zrr8 _ hr, zrr16 _ hr, zrr24 _ hr]
  rcases (by omega : r = 0 ∨ r = 1 ∨ r = 2 ∨ r = 3) with rfl | rfl | rfl | rfl <;> simp only [Nat.reduceAdd, Nat.reduceMod, zBwd_0, zBwd_1, zBwd_2, zBwd_3, e0, e1, e2, e3, zim] <;> ac_rfl
theorem zbc_by (st : Nat → Int32) {c r : Nat} (hc : c < 4) (hr : r < 4) : zby (zbc st c) r = zim (zrs (zsh3 (zly st)) (4 * c + r)) (zrs (zsh3 (zly st)) (4 * c + (r + 1) % 4)) (zrs (zsh3 (zly st)) (4 * c + (r + 2) % 4)) (zrs (zsh3 (zly st)) (4 * c + (r + 3) % 4)) := by
  have h : ∀ k, k < 4 → zrs (zsh3 (zly st)) (4 * c + k) = zRS (zby (st ((c + 3 * k) % 4)) k) := by
    intro k hk
    unfold zrs
    rw [zsh3_at _ hc hk, zly_at st hk]
  unfold zbc
  refine zbw4 _ _ _ _ (fun k => zrs (zsh3 (zly st)) (4 * c + k)) ?_ ?_ ?_ ?_ hr
  · show _ = zrs (zsh3 (zly st)) (4 * c + 0)
    rw [h 0 (by decide), show (c + 3 * 0) % 4 = c by omega]
  · show _ = zrs (zsh3 (zly st)) (4 * c + 1)
    rw [h 1 (by decide)]
  · show _ = zrs (zsh3 (zly st)) (4 * c + 2)
    rw [h 2 (by decide), show (c + 3 * 2) % 4 = (c + 2) % 4 by omega]
  · show _ = zrs (zsh3 (zly st)) (4 * c + 3)
    rw [h 3 (by decide), show (c + 3 * 3) % 4 = (c + 1) % 4 by omega]
theorem ztx_by (w : Int32) {r : Nat} (hr : r < 4) : zby (ztx w) r = zim (zby w r) (zby w ((r + 1) % 4)) (zby w ((r + 2) % 4)) (zby w ((r + 3) % 4)) := by
  unfold ztx
  exact zbw4 _ _ _ _ (zby w) (zRS_SB _ (zby_lt w 0)) (zRS_SB _ (zby_lt w 1)) (zRS_SB _ (zby_lt w 2)) (zRS_SB _ (zby_lt w 3)) hr
theorem zTK_mid (K : Nat → Int32) {i : Nat} (h1 : 4 ≤ i) (h2 : i < 40) : zTK K i = ztx (K i) := by
  unfold zTK
  rw [if_neg (by omega)]
theorem zTK_lo (K : Nat → Int32) {i : Nat} (h : i < 4) : zTK K i = K i := by
  unfold zTK
  rw [if_pos (Or.inl h)]
theorem zTK_hi (K : Nat → Int32) {i : Nat} (h : 40 ≤ i) : zTK K i = K i := by
  unfold zTK
  rw [if_pos (Or.inr h)]
theorem zE_sh3 {Z Z' : Nat → Nat} (h : zE Z Z') : zE (zsh3 Z) (zsh3 Z') := zE_sh (zE_sh (zE_sh h))
theorem zE_mx3 {Z Z' : Nat → Nat} (h : zE Z Z') : zE (zmx3 Z) (zmx3 Z') := zE_mx (zE_mx (zE_mx h))
theorem zrb_ly (K P : Nat → Int32) (n : Nat) (hn : n ≤ 9) : zE (zsh3 (zly (zrb (zTK K) P n))) (zbk K (zly P) n) := by
  induction n with
  | zero =>
    refine zE_sh3 ?_
    apply zE_of
    intro c r hc hr
    show zly (fun j => P j ^^^ zTK K (40 + j)) (4 * c + r) = zak K 10 (zly P) (4 * c + r)
    rw [zly_at _ hr, zak_at _ _ _ hr, zly_at _ hr, zby_xor, zTK_hi K (by omega)]
  | succ n ih =>
    have ih := ih (by omega)
    refine zE_sh3 ?_
    refine zE_tr ?_ (zE_mx3 (zE_ak (zE_rs ih)))
    apply zE_of
    intro c r hc hr
    show zly (fun c => zbc (zrb (zTK K) P n) c ^^^ zTK K (4 * (9 - n) + c)) (4 * c + r) = _
    rw [zly_at _ hr, zby_xor, zTK_mid K (by omega) (by omega), zbc_by _ hc hr, ztx_by _ hr, ← zim_xor, zmx3_at (zB_ak zB_rs) hc hr, zak_at _ _ _ hr, zak_at _ _ _ (Nat.mod_lt _ (by decide)), zak_at _ _ _ (Nat.mod_lt _ (by decide)), zak_at _ _ _ (Nat.mod_lt _ (by decide))]
theorem zlb_by (st : Nat → Int32) {c r : Nat} (hc : c < 4) (hr : r < 4) : zby (zlb st c) r = zrs (zsh3 (zly st)) (4 * c + r) := by
  have e : zlb st c = zpk (zRS (zby (st c) 0)) (zRS (zby (st ((c + 3) % 4)) 1)) (zRS (zby (st ((c + 2) % 4)) 2)) (zRS (zby (st ((c + 1) % 4)) 3)) := by
    unfold zlb zpk
    rw [← Int32.or_assoc]
    rfl
  have h : zrs (zsh3 (zly st)) (4 * c + r) = zRS (zby (st ((c + 3 * r) % 4)) r) := by
    unfold zrs
    rw [zsh3_at _ hc hr, zly_at st hr]
  rw [e, h]
  have hS := zRS_lt
  rcases (by omega : r = 0 ∨ r = 1 ∨ r = 2 ∨ r = 3) with rfl | rfl | rfl | rfl
  · rw [zpk_0 (hS _) (hS _) (hS _) (hS _), show (c + 3 * 0) % 4 = c by omega]
  · rw [zpk_1 (hS _) (hS _) (hS _)]
  · rw [zpk_2 (hS _) (hS _), show (c + 3 * 2) % 4 = (c + 2) % 4 by omega]
  · rw [zpk_3 (hS _), show (c + 3 * 3) % 4 = (c + 1) % 4 by omega]
theorem zde_ly (K P : Nat → Int32) : zE (zly (zde (zTK K) P)) (zrx K (zly P)) := by
  refine zE_tr ?_ (zE_ak (zE_rs (zrb_ly K P 9 (Nat.le_refl 9))))
  apply zE_of
  intro c r hc hr
  show zly (fun c => zlb (zrb (zTK K) P 9) c ^^^ zTK K c) (4 * c + r) = zak K 0 _ (4 * c + r)
  rw [zly_at _ hr, zak_at _ _ _ hr, zby_xor, zlb_by _ hc hr, zTK_lo K hc, show 4 * 0 + c = c by omega]
theorem zz_dec (K P : Nat → Int32) {j : Nat} (hj : j < 4) : zde (zTK K) P j = zjn (zrx K (zly P)) j := by
  rw [← zjn_ly (zde (zTK K) P) j]
  exact zjn_E (zde_ly K P) hj
end
section
/-! THE PLAIN LAW: the hash -/
set_option maxRecDepth 100000
def zRb (b : Bool) : Int32 := if b = true then (-520093696 : Int32) else nI 0
def zsel (b : Bool) (x : Int32) : Int32 := if b = true then x else nI 0
theorem z0x (x : Int32) : nI 0 ^^^ x = x := by rw [Int32.xor_comm, zx0]
theorem zxx (x : Int32) : x ^^^ x = nI 0 := by
  apply b_ext
  intro i hi
  rw [b_xor, show nI 0 = 0 from rfl, b_0, Bool.xor_self]
theorem zlo2 (x : Int32) : zlo x 2 = if bt x 0 = true then 1 else 0 := by
  have h := zlo_bit x 1 0
  rw [show 2 ^ 1 = 2 from rfl] at h
  simp only [Nat.lt_succ_self, decide_true, Bool.true_and] at h
  rcases zlo_2 x with e | e
  · rw [e] at h ⊢
    rw [← h]
    rfl
  · rw [e] at h ⊢
    rw [← h]
    rfl
theorem zRb_of (x : Int32) : (if nI (zlo x 2) = 0 then nI 0 else (-520093696 : Int32)) = zRb (bt x 0) := by
  rw [zlo2]
  unfold zRb
  cases bt x 0 <;> decide
theorem zRb_xor (a b : Bool) : zRb (a ^^ b) = zRb a ^^^ zRb b := by cases a <;> cases b <;> decide
theorem zus_xor (x y : Int32) {n : Nat} (hn : n < 32) : zus (x ^^^ y) n = zus x n ^^^ zus y n := by
  apply b_ext
  intro i hi
  rw [b_ushr n hn, b_xor, b_xor, b_ushr n hn, b_ushr n hn]
theorem zsl_xor (x y : Int32) {n : Nat} (hn : n < 32) : zsl (x ^^^ y) n = zsl x n ^^^ zsl y n := by
  apply b_ext
  intro i hi
  rw [b_shl n hn _ hi, b_xor, b_xor, b_shl n hn _ hi, b_shl n hn _ hi]
  cases decide (n ≤ i) <;> simp
theorem zor_x (x y : Int32) {n : Nat} (h0 : 0 < n) (hn : n < 32) : zus x n ||| zsl y (32 - n) = zus x n ^^^ zsl y (32 - n) := by
  apply b_ext
  intro i hi
  rw [b_or, b_xor, b_ushr n hn, b_shl (32 - n) (by omega) _ hi]
  by_cases h : n + i < 32
  · have h1 : ¬ 32 - n ≤ i := by omega
    simp [h1]
  · rw [b_big (by omega : 32 ≤ n + i)]
    simp
theorem zmo_0 (s : Nat → Int32) : zmo s 0 = zus (s 0) 1 ^^^ zRb (bt (s 3) 0) := by
  show zus (s 0) 1 ^^^ (if nI (zlo (s 3) 2) = 0 then nI 0 else (-520093696 : Int32)) = _
  rw [zRb_of]
theorem zmo_c (s : Nat → Int32) {c : Nat} (h : c ≠ 0) : zmo s c = zus (s c) 1 ^^^ zsl (s (c - 1)) 31 := by
  unfold zmo
  rw [if_neg h]
  exact zor_x _ _ (n := 1) (by decide) (by decide)
theorem zx4 (a b c d : Int32) : (a ^^^ b) ^^^ (c ^^^ d) = (a ^^^ c) ^^^ (b ^^^ d) := by ac_rfl
theorem zmo_lin (s t : Nat → Int32) : zmo (fun c => s c ^^^ t c) = fun c => zmo s c ^^^ zmo t c := by
  funext c
  by_cases h : c = 0
  · subst h
    rw [zmo_0, zmo_0, zmo_0, zus_xor _ _ (by decide), b_xor, zRb_xor]
    exact zx4 _ _ _ _
  · rw [zmo_c _ h, zmo_c _ h, zmo_c _ h, zus_xor _ _ (by decide), zsl_xor _ _ (by decide)]
    exact zx4 _ _ _ _
theorem zmo_zero : zmo (fun _ => nI 0) = fun _ => nI 0 := by
  have h := zmo_lin (fun _ => nI 0) (fun _ => nI 0)
  simp only [zxx] at h
  exact h
theorem zmo_sel (b : Bool) (s : Nat → Int32) : zmo (fun c => zsel b (s c)) = fun c => zsel b (zmo s c) := by
  cases b
  · exact zmo_zero
  · rfl
theorem zmv_lin (s t : Nat → Int32) (n : Nat) : zmv (fun c => s c ^^^ t c) n = fun c => zmv s n c ^^^ zmv t n c := by
  induction n with
  | zero => rfl
  | succ n ih =>
    show zmo (zmv (fun c => s c ^^^ t c) n) = fun c => zmo (zmv s n) c ^^^ zmo (zmv t n) c
    rw [ih, zmo_lin]
theorem zmv_zero (n : Nat) : zmv (fun _ => nI 0) n = fun _ => nI 0 := by
  induction n with
  | zero => rfl
  | succ n ih =>
    show zmo (zmv (fun _ => nI 0) n) = _
    rw [ih, zmo_zero]
theorem zmv_sel (b : Bool) (s : Nat → Int32) (n : Nat) : zmv (fun c => zsel b (s c)) n = fun c => zsel b (zmv s n c) := by
  cases b
  · exact zmv_zero n
  · rfl
theorem zmv_zmo (s : Nat → Int32) (n : Nat) : zmv (zmo s) n = zmv s (n + 1) := by
  induction n with
  | zero => rfl
  | succ n ih =>
    show zmo (zmv (zmo s) n) = zmo (zmv s (n + 1))
    rw [ih]
/-! four single moves are one move by four -/
theorem zfb_low : ∀ b, b < 16 → ∀ k, k < 4 → bt (zfb b k) 0 = false := by decide +kernel
theorem zus_us (x : Int32) {k : Nat} (hk : k + 1 < 32) : zus (zus x k) 1 = zus x (k + 1) := by
  apply b_ext
  intro i hi
  rw [b_ushr 1 (by decide), b_ushr k (by omega), b_ushr (k + 1) hk]
  congr 1
  omega
theorem zmv_4 (s : Nat → Int32) (k : Nat) (hk : k ≤ 4) : (∀ c, c ≠ 0 → ∀ j, j < 32 → bt (zmv s k c) j = if k + j < 32 then bt (s c) (k + j) else bt (s (c - 1)) (k + j - 32)) ∧ zmv s k 0 = zus (s 0) k ^^^ zfb (zlo (s 3) 16) k := by
  induction k with
  | zero =>
    refine ⟨fun c _ j hj => ?_, ?_⟩
    · rw [Nat.zero_add, if_pos hj]
      rfl
    · show s 0 = zus (s 0) 0 ^^^ nI 0
      rw [zx0]
      apply b_ext
      intro i hi
      rw [b_ushr 0 (by decide), Nat.zero_add]
  | succ k ih =>
    obtain ⟨h1, h2⟩ := ih (by omega)
    have hb : zlo (s 3) 16 < 16 := zlo_lt _ (by decide)
    refine ⟨fun c hc j hj => ?_, ?_⟩
    · show bt (zmo (zmv s k) c) j = _
      rw [zmo_c _ hc, b_xor, b_ushr 1 (by decide), b_shl 31 (by decide) _ hj]
      by_cases h31 : j = 31
      · subst h31
        rw [b_big (by decide : 32 ≤ 1 + 31), if_neg (by omega), show k + 1 + 31 - 32 = k by omega]
        have h0 : bt (zmv s k (c - 1)) 0 = bt (s (c - 1)) k := by
          by_cases hc1 : c - 1 = 0
          · rw [hc1, h2, b_xor, b_ushr k (by omega), zfb_low _ hb k (by omega), Nat.add_zero, Bool.xor_false]
          · rw [h1 (c - 1) hc1 0 (by decide), if_pos (by omega), Nat.add_zero]
        rw [show 31 - 31 = 0 from rfl, h0]
        simp
      · have h3 : ¬ 31 ≤ j := by omega
        rw [h1 c hc (1 + j) (by omega), show k + (1 + j) = k + 1 + j by omega]
        simp [h3]
    · show zmo (zmv s k) 0 = _
      rw [zmo_0, h2, zus_xor _ _ (by decide), zus_us _ (by omega)]
      show _ = zus (s 0) (k + 1) ^^^ (zus (zfb (zlo (s 3) 16) k) 1 ^^^ (if nI (zlo (zus (nI (zlo (s 3) 16)) k) 2) = 0 then nI 0 else (-520093696 : Int32)))
      rw [zRb_of, h1 3 (by decide) 0 (by decide), if_pos (by omega), b_ushr k (by omega), b_nI, show (16 : Nat) = 2 ^ 4 from rfl, zlo_bit, ← Int32.xor_assoc]
      have e1 : k < 32 := by omega
      have e2 : k < 4 := by omega
      simp only [Nat.add_zero, e1, e2, decide_true, Bool.true_and]
theorem zms_4 (s : Nat → Int32) (c : Nat) : zms s c = zmv s 4 c := by
  obtain ⟨h1, h2⟩ := zmv_4 s 4 (Nat.le_refl 4)
  by_cases hc : c = 0
  · subst hc
    rw [h2]
    rfl
  · unfold zms
    rw [if_neg hc]
    apply b_ext
    intro j hj
    rw [h1 c hc j hj, b_or, b_ushr 4 (by decide), b_shl 28 (by decide) _ hj]
    by_cases h : 4 + j < 32
    · have h3 : ¬ 28 ≤ j := by omega
      simp [h, h3]
    · have h3 : 28 ≤ j := by omega
      rw [if_neg h, b_big (by omega : 32 ≤ 4 + j), show 4 + j - 32 = j - 28 by omega]
      simp [h3]
theorem zms_E {s t : Nat → Int32} (h : ∀ c, c < 4 → s c = t c) {c : Nat} (hc : c < 4) : zms s c = zms t c := by
  unfold zms
  rw [h 0 (by decide), h 3 (by decide), h c hc, h (c - 1) (by omega)]
theorem zmo_E {s t : Nat → Int32} (h : ∀ c, c < 4 → s c = t c) {c : Nat} (hc : c < 4) : zmo s c = zmo t c := by
  unfold zmo
  rw [h 0 (by decide), h 3 (by decide), h c hc, h (c - 1) (by omega)]
theorem zmv_E {s t : Nat → Int32} (h : ∀ c, c < 4 → s c = t c) (n : Nat) : ∀ c, c < 4 → zmv s n c = zmv t n c := by
  induction n with
  | zero => exact h
  | succ n ih => exact fun c hc => zmo_E ih hc
theorem zpt_E {X s t : Nat → Int32} (h : ∀ c, c < 4 → s c = t c) (n : Nat) : ∀ c, c < 4 → zpt X s n c = zpt X t n c := by
  induction n with
  | zero => exact fun _ _ => rfl
  | succ n ih =>
    intro c hc
    show (if _ then zpt X s n c ^^^ zmv s n c else zpt X s n c) = (if _ then zpt X t n c ^^^ zmv t n c else zpt X t n c)
    rw [ih c hc, zmv_E h n c hc]
/-! the multiples of the hash key by four bits -/
def zsM (h : Nat → Nat → Int32) (b c : Nat) : Int32 := ((zsel (b.testBit 3) (h 0 c) ^^^ zsel (b.testBit 2) (h 1 c)) ^^^ zsel (b.testBit 1) (h 2 c)) ^^^ zsel (b.testBit 0) (h 3 c)
theorem zpm_in {m s : Nat → Int32} {b c : Nat} (hc : c < 4) : zpm m b s 4 (4 * b + c) = s c := by
  unfold zpm
  rw [if_pos (by omega), show 4 * b + c - 4 * b = c by omega]
theorem zpm_ne {m s : Nat → Int32} {b b' c : Nat} (hc : c < 4) (h : b' ≠ b) : zpm m b s 4 (4 * b' + c) = m (4 * b' + c) := by
  unfold zpm
  rw [if_neg (by omega)]
theorem zsel_xor (a b : Bool) (x : Int32) : zsel (a ^^ b) x = zsel a x ^^^ zsel b x := by
  cases a <;> cases b
  · exact (zx0 (nI 0)).symm
  · exact (z0x x).symm
  · exact (zx0 x).symm
  · exact (zxx x).symm
theorem zlw_bits : ∀ b, b < 16 → 0 < b → (∀ e, e < 4 → b.testBit e = ((zlw b).testBit e ^^ (b - zlw b).testBit e)) ∧ zlw (zlw b) = zlw b := by decide +kernel
theorem zsM_add (h : Nat → Nat → Int32) {b : Nat} (hb : b < 16) (h0 : 0 < b) (c : Nat) : zsM h b c = zsM h (zlw b) c ^^^ zsM h (b - zlw b) c := by
  obtain ⟨hz, -⟩ := zlw_bits b hb h0
  unfold zsM
  rw [hz 3 (by decide), hz 2 (by decide), hz 1 (by decide), hz 0 (by decide), zsel_xor, zsel_xor, zsel_xor, zsel_xor]
  ac_rfl
theorem zcb_ok {m : Nat → Int32} {h : Nat → Nat → Int32} (hm : ∀ b, b < 16 → (b < 3 ∨ zlw b = b) → ∀ c, c < 4 → m (4 * b + c) = zsM h b c) (k : Nat) (hk : k ≤ 13) : ∀ b, b < 16 → (b < k + 3 ∨ zlw b = b) → ∀ c, c < 4 → zcb m k (4 * b + c) = zsM h b c := by
  induction k with
  | zero => exact hm
  | succ k ih =>
    have ih := ih (by omega)
    intro b hb hor c hc
    obtain ⟨-, hw2, hw3⟩ := zlw_n (k + 3) (by omega) (by omega)
    show (if nI (zlw (k + 3)) = nI (k + 3) then zcb m k else zpm (zcb m k) (k + 3) _ 4) (4 * b + c) = _
    by_cases he : nI (zlw (k + 3)) = nI (k + 3)
    · rw [if_pos he]
      refine ih b hb ?_ c hc
      have he := (nI_eq (by omega) (by omega)).mp he
      rcases hor with h1 | h1
      · by_cases h2 : b = k + 3
        · subst h2
          exact Or.inr he
        · exact Or.inl (by omega)
      · exact Or.inr h1
    · rw [if_neg he]
      have hlt : zlw (k + 3) < k + 3 := Nat.lt_of_le_of_ne hw2 (fun z => he (by rw [z]))
      by_cases h2 : b = k + 3
      · subst h2
        rw [zpm_in hc, zsM_add h hb (by omega) c, ih _ (by omega) (Or.inr (zlw_bits (k + 3) hb (by omega)).2) c hc, ih _ (by omega) (Or.inl (by omega)) c hc]
      · rw [zpm_ne hc h2]
        refine ih b hb ?_ c hc
        rcases hor with h1 | h1
        · exact Or.inl (by omega)
        · exact Or.inr h1
theorem zmm_ok (K m0 : Nat → Int32) {b c : Nat} (hb : b < 16) (hc : c < 4) : zmm K m0 (4 * b + c) = zsM (zmv (zH K)) b c := by
  unfold zmm
  refine zcb_ok (h := zmv (zH K)) ?_ 13 (Nat.le_refl 13) b hb (Or.inl (by omega)) c hc
  intro b hb hor c hc
  have hl : b = 0 ∨ b = 1 ∨ b = 2 ∨ b = 4 ∨ b = 8 := by
    revert hor
    revert hb
    revert b
    decide +kernel
  rcases hl with rfl | rfl | rfl | rfl | rfl
  · rw [zpm_ne hc (by decide), zpm_ne hc (by decide), zpm_ne hc (by decide), zpm_ne hc (by decide), zfil_lt (by omega)]
    show nI 0 = ((nI 0 ^^^ nI 0) ^^^ nI 0) ^^^ nI 0
    decide
  · rw [zpm_in hc]
    show zmo (zmo (zmo (zH K))) c = ((nI 0 ^^^ nI 0) ^^^ nI 0) ^^^ zmv (zH K) 3 c
    rw [zx0, zx0, z0x]
    rfl
  · rw [zpm_ne hc (by decide), zpm_in hc]
    show zmo (zmo (zH K)) c = ((nI 0 ^^^ nI 0) ^^^ zmv (zH K) 2 c) ^^^ nI 0
    rw [zx0, zx0, z0x]
    rfl
  · rw [zpm_ne hc (by decide), zpm_ne hc (by decide), zpm_in hc]
    show zmo (zH K) c = ((nI 0 ^^^ zmv (zH K) 1 c) ^^^ nI 0) ^^^ nI 0
    rw [zx0, zx0, z0x]
    rfl
  · rw [zpm_ne hc (by decide), zpm_ne hc (by decide), zpm_ne hc (by decide), zpm_in hc]
    show zH K c = ((zmv (zH K) 0 c ^^^ nI 0) ^^^ nI 0) ^^^ nI 0
    rw [zx0, zx0, zx0]
    rfl
/-! Horner -/
def zgb (X : Nat → Int32) (i : Nat) : Bool := bt (X (i / 32)) (31 - i % 32)
def zAh (X H : Nat → Int32) : Nat → Nat → Int32
  | 0 => fun _ => nI 0
  | n + 1 => fun c => zsel (zgb X (127 - n)) (H c) ^^^ zmo (zAh X H n) c
theorem znb_bit (X : Nat → Int32) {k e : Nat} (he : e < 4) : (znb X k).testBit e = bt (X (k / 8)) (28 - 4 * (k % 8) + e) := by
  unfold znb
  rw [show (16 : Nat) = 2 ^ 4 from rfl, zlo_bit, b_ushr _ (by omega)]
  simp [he]
theorem znb_g (X : Nat → Int32) {k e : Nat} (he : e < 4) : (znb X k).testBit e = zgb X (4 * k + (3 - e)) := by
  rw [znb_bit X he]
  unfold zgb
  rw [show (4 * k + (3 - e)) / 32 = k / 8 by omega, show 31 - (4 * k + (3 - e)) % 32 = 28 - 4 * (k % 8) + e by omega]
theorem zmo_step (b : Bool) (H A : Nat → Int32) : zmo (fun c => zsel b (H c) ^^^ A c) = fun c => zsel b (zmo H c) ^^^ zmo A c := by rw [zmo_lin, zmo_sel]
theorem zAh_4 (X H : Nat → Int32) (n c : Nat) : zAh X H (n + 4) c = zsel (zgb X (127 - (n + 3))) (H c) ^^^ (zsel (zgb X (127 - (n + 2))) (zmv H 1 c) ^^^ (zsel (zgb X (127 - (n + 1))) (zmv H 2 c) ^^^ (zsel (zgb X (127 - n)) (zmv H 3 c) ^^^ zmv (zAh X H n) 4 c))) := by
  show zsel (zgb X (127 - (n + 3))) (H c) ^^^ zmo (fun c => zsel (zgb X (127 - (n + 2))) (H c) ^^^ zmo (fun c => zsel (zgb X (127 - (n + 1))) (H c) ^^^ zmo (fun c => zsel (zgb X (127 - n)) (H c) ^^^ zmo (zAh X H n) c) c) c) c = _
  simp only [zmo_step]
  rfl
theorem zab_A {K m0 X : Nat → Int32} (n : Nat) (hn : n ≤ 32) : ∀ c, c < 4 → zab (zmm K m0) X n c = zAh X (zH K) (4 * n) c := by
  induction n with
  | zero => exact fun _ _ => rfl
  | succ n ih =>
    intro c hc
    have ih := ih (by omega)
    have hnb : znb X (31 - n) < 16 := zlo_lt _ (by decide)
    show zms (zab (zmm K m0) X n) c ^^^ zmm K m0 (4 * znb X (31 - n) + c) = _
    rw [zms_E ih hc, zms_4, zmm_ok K m0 hnb hc, show 4 * (n + 1) = 4 * n + 4 by omega, zAh_4]
    unfold zsM
    rw [znb_g X (e := 3) (by decide), znb_g X (e := 2) (by decide), znb_g X (e := 1) (by decide), znb_g X (e := 0) (by decide)]
    rw [show 4 * (31 - n) + (3 - 3) = 127 - (4 * n + 3) by omega, show 4 * (31 - n) + (3 - 2) = 127 - (4 * n + 2) by omega, show 4 * (31 - n) + (3 - 1) = 127 - (4 * n + 1) by omega, show 4 * (31 - n) + (3 - 0) = 127 - 4 * n by omega]
    show _ = zsel (zgb X (127 - (4 * n + 3))) (zmv (zH K) 0 c) ^^^ _
    ac_rfl
theorem zgb_c (X : Nat → Int32) (i : Nat) : (nI (zlo (zsr (X (i / 32)) (31 - i % 32)) 2) = nI 1) ↔ zgb X i = true := by
  have h : bt (zsr (X (i / 32)) (31 - i % 32)) 0 = zgb X i := by
    rw [b_sshr _ (by omega) _ (by decide), if_pos (by omega)]
    rfl
  rw [zlo2, h]
  cases zgb X i <;> decide
theorem zpt_s (X H : Nat → Int32) (i c : Nat) : zpt X H (i + 1) c = zpt X H i c ^^^ zsel (zgb X i) (zmv H i c) := by
  show (if nI (zlo (zsr (X (i / 32)) (31 - i % 32)) 2) = nI 1 then zpt X H i c ^^^ zmv H i c else zpt X H i c) = _
  by_cases h : nI (zlo (zsr (X (i / 32)) (31 - i % 32)) 2) = nI 1
  · rw [if_pos h, (zgb_c X i).mp h]
    rfl
  · rw [if_neg h]
    have hf : zgb X i = false := by
      cases hz : zgb X i
      · rfl
      · exact absurd ((zgb_c X i).mpr hz) h
    rw [hf]
    exact (zx0 _).symm
theorem zpt_A (X H : Nat → Int32) (i : Nat) (hi : i ≤ 128) (c : Nat) : zpt X H i c ^^^ zmv (zAh X H (128 - i)) i c = zAh X H 128 c := by
  induction i with
  | zero => exact z0x _
  | succ i ih =>
    rw [← ih (by omega), zpt_s]
    obtain ⟨n, hn⟩ : ∃ n, 128 - i = n + 1 := ⟨127 - i, by omega⟩
    rw [hn, show 128 - (i + 1) = n by omega]
    show _ = zpt X H i c ^^^ zmv (fun c => zsel (zgb X (127 - n)) (H c) ^^^ zmo (zAh X H n) c) i c
    rw [zmv_lin, zmv_sel, zmv_zmo, show 127 - n = i by omega, Int32.xor_assoc]
theorem zpt_end (X H : Nat → Int32) (c : Nat) : zpt X H 128 c = zAh X H 128 c := by
  have h := zpt_A X H 128 (Nat.le_refl 128) c
  rw [show 128 - 128 = 0 from rfl, show zAh X H 0 = fun _ => nI 0 from rfl, zmv_zero, zx0] at h
  exact h
theorem zz_hash (K m0 X : Nat → Int32) {j : Nat} (hj : j < 4) : zab (zmm K m0) X 32 j = zpt X (zjn (zre K (zly (fun _ => nI 0)))) 128 j := by
  rw [zab_A 32 (Nat.le_refl 32) j hj, show 4 * 32 = 128 from rfl, ← zpt_end]
  exact zpt_E (fun c hc => zz_enc K (fun _ => nI 0) hc) 128 j hj
end
section
set_option maxRecDepth 100000
/-! THE CLAIM OUT OF ONE WALK OF THE LAW'S BODY. Your part is whole_start (and what it stands on); all else here is the same for every law, but numbers. -/
def R_law : String := "BlockSealerLaw"
def lw_P (b : Addr) (xs : List Int32) (args : Array Value) (s : State) : Prop := args = #[.ref b] ∧ s.IntsAt b xs ∧ xs.length ≤ 320 ∧ (Jvm.Cond.and given_1 narrow_1).before args s = true
def lw_Q (_ : Array Value) (s : State) (o : Outcome) (t : State) : Prop := o = .returned (some (.int 1)) ∧ Framed s o t [] 600000 7290000
def lw_Z (below : List Frame) (a : Array Value) (s : State) : State → Prop := fun t => ∃ o, t.status = .running ∧ Ended t below o ∧ lw_Q a s o t
/-- the law's own end, with 1 on the stack, nothing written that was there before, its room as the claim has it -/
theorem lw_ret {p : Program} {l : Launch} {e : Env} {s : State} {m : MethodId} {below : List Frame} {meth : Method} {c : Code} {b : Nat} (hx : p.tables.exec = Jvm.exec) (hb : c.code = code) (hr : meth.sig.returnType = ret) (hlocks : meth.locks = false) {pc : Nat} {H : Heap} {ls : Array Slot} (hdg : decode code pc = .ok (.ireturn, 1)) : W p l e room_1 s m #[Value.ref b] below meth c H [] 600000 7290000 (lw_Z below #[Value.ref b] s) (F0 m pc ls [.int 1]) := by
  intro T hT X
  obtain ⟨fs, hret, hrun, hended, hW, hframe⟩ := X.leave (v := some (.int 1)) (hlocks := hlocks) (fun h => by rw [hr] at h; cases h)
  have hmeth' : T.vm.method? m = some meth := X.method'
  refine ⟨T.setFrames fs, ?_, .returned (some (.int 1)), hrun, hended, rfl, ⟨_, rfl⟩, hW, hframe⟩
  jvm_step X.here [X.here.top, hx, hb, hdg, hmeth', hr, ret, narrow_b1]
  (try refine ⟨rfl, ?_⟩); (try refine ⟨rfl, ?_⟩)
  first | (intro acts; rw [hret _ acts rfl rfl rfl]) | rw [hret _ _ rfl rfl rfl]
  exact Steps.refl _
/-- what holds at the law's entry: the machine, the code, the tables' words (any of lw_tbl by 'hts w (by decide +kernel)'), the script of L ints xs at the cell b, what the Statement gives of the start (any of its parts by flat_of_before) -/
def lw_At (p : Program) (s : State) (m : MethodId) (meth : Method) (c : Code) (b L : Nat) (xs : Nat → Int32) : Prop :=
  p.tables.exec = Jvm.exec ∧ c.code = code ∧ meth.sig.returnType = ret ∧ c.maxLocals = 4 ∧ s.vm.findClass R_law = some m.cls ∧ (∀ w ∈ lw_tbl, w.before #[Value.ref b] s = true) ∧ va_X b L xs s s.heap ∧ b < s.heap.size ∧ meth.locks = false ∧ (Jvm.Cond.and given_1 narrow_1).before #[Value.ref b] s = true
end
section
set_option maxRecDepth 100000
/-! the two worlds side by side -/
section ZL
variable {p : Program} {l : Launch} {e : Env} {R : Room} {s : State} {m : MethodId} {args : Array Value} {below : List Frame} {meth : Method} {c : Code} {H H0 : Heap} {locs : List Loc} {cells slots : Nat} {Q : State → Prop}
variable {cc : ByteArray} {pc : Nat} {ls : Array Slot} {rest : List Value} {A : Nat → Prop}
theorem zP2 {D : va_G} {w1 w2 : va_W} (hP : va_P D Cl (w1 ++ w2) H) : va_P D Cl w2 H := fun k q h => hP (w1.length + k) q (by rw [List.getElem?_append_right (by omega), Nat.add_sub_cancel_left]; exact h)
theorem zswP {D : va_G} {w1 w2 : va_W} (hP : va_P D Cl (w1 ++ w2) H) : va_P D Cl (w2 ++ w1) H := va_P.app (zP2 hP) (zP1 hP)
theorem zswD {w1 w2 : va_W} (hD : va_D A (w1 ++ w2)) : va_D A (w2 ++ w1) := by
  have k1 : ∀ (k : Nat) (q : Nat × va_E), w1[k]? = some q → (w1 ++ w2)[k]? = some q := fun k q h => by
    rw [List.getElem?_append_left (List.getElem?_eq_some_iff.mp h).1]
    exact h
  have k2 : ∀ (k : Nat) (q : Nat × va_E), w2[k]? = some q → (w1 ++ w2)[w1.length + k]? = some q := fun k q h => by
    rw [List.getElem?_append_right (by omega), Nat.add_sub_cancel_left]
    exact h
  refine va_D.app ⟨fun i j p q hi hj hpq => ?_, fun k q h => hD.2 _ q (k2 k q h)⟩ ⟨fun i j p q hi hj hpq => hD.1 i j p q (k1 i p hi) (k1 j q hj) hpq, fun k q h => hD.2 _ q (k1 k q h)⟩ (fun i j p q hi hj hpq => ?_)
  · have := hD.1 _ _ p q (k2 i p hi) (k2 j q hj) hpq
    omega
  · have := hD.1 _ _ p q (k2 i p hi) (k1 j q hj) hpq
    have hl := (List.getElem?_eq_some_iff.mp hj).1
    omega
theorem zr_sld (hx : p.tables.exec = Jvm.exec) (hb : c.code = cc) {b L : Nat} {xs : Nat → Int32} (hX : va_X b L xs s H0) (hbl : b < H0.size) (hbA : ¬ A b) (hS : va_S A H0 H locs) {i : Int32} (k : Nat) (hi : i = nI k) (hk : k < L) (hL : L < 2 ^ 31) (hd : decode cc pc = .ok (.iaload, 1))
    (kk : W p l e R s m args below meth c H locs cells slots Q (F0 m (pc + 1) ls (.int (xs k) :: rest))) : W p l e R s m args below meth c H locs cells slots Q (F0 m pc ls (.int i :: .ref b :: rest)) := by
  subst hi
  refine va_sld hx hb hX hbl hbA hS (vp_in_nI hk hL) hd ?_
  rw [nI_clamp (Nat.lt_trans hk hL)]
  exact kk
end ZL
theorem zl_cmp {L i : Nat} (hL : L ≤ 320) (hi : i ≤ 320) : nI L - nI 5 < nI i ↔ L < i + 5 := by
  rw [Int32.lt_iff_toInt_lt, pk_sub_toInt (by omega) (by omega), nI_toInt (by omega)]
  omega

set_option maxHeartbeats 16000000 in
/-- the law's loop at its head: both hold the same round keys, block and hash -/
theorem law_loop {p : Program} {l : Launch} {e : Env} {s : State} {m : MethodId} {below : List Frame} {meth : Method} {c : Code} {D : va_G} {cA : ClassId} {ox oy : Nat} {ax ay : Nat → Nat} {b L : Nat} {xs : Nat → Int32} (hL : L ≤ 320) (C0 : lw_At p s m meth c b L xs) (hK : va_K D Cl [(cA, .int)] s)
    (hDe : ∀ (f0 f1 f2 f3 f4 f5 f6 f7 f8 f9 f10 f11 g0 g1 g2 g3 g4 g5 g6 g7 g8 : Nat → Int32), va_D (fun q : Nat => s.heap.size ≤ q) (XG cA ox ax f0 f1 f2 f3 f4 f5 f6 f7 f8 f9 f10 f11 ++ YG cA oy ay g0 g1 g2 g3 g4 g5 g6 g7 g8)) :
    ∀ (n i : Nat), i ≤ L → L + 1 ≤ i + n → ∀ (K P S m0 st fr sq sh se mo pr : Nat → Int32) (H : Heap) (locs : List Loc) (ls : Array Slot), va_P D Cl ((XG cA ox ax zSub zRes zFwd zBwd K (zTK K) P S st fr (zmm K m0) zFal) ++ (YG cA oy ay zSub K P S sq sh se mo pr)) H → va_S (fun q : Nat => s.heap.size ≤ q) s.heap H locs → lv_has ls 4 [(3, .int (nI i)), (2, .ref oy), (1, .ref ox), (0, .ref b)] → W p l e room_1 s m #[Value.ref b] below meth c H locs 23 1581 (lw_Z below #[Value.ref b] s) (F0 m 18 ls []) := by
  obtain ⟨hx, hb, hr, hml, hown, hts0, hX, hbl, hlocks, hgv⟩ := id C0
  have hts : ∀ w ∈ lw_all, w.before #[Value.ref b] s = true := fun w h => hts0 w (lw_all_tbl h)
  have hA : ∀ q : Nat, s.heap.size ≤ q → (fun q : Nat => s.heap.size ≤ q) q := fun _ h => h
  have hbA : ¬ (fun q : Nat => s.heap.size ≤ q) b := Nat.not_le.mpr hbl
  have hD := hDe zSub zSub zSub zSub zSub zSub zSub zSub zSub zSub zSub zSub zSub zSub zSub zSub zSub zSub zSub zSub zSub
  have hDs := zswD hD
  intro n
  induction n with
  | zero =>
    intro i h1 h2
    omega
  | succ n ih =>
    intro i hi hin K P S m0 st fr sq sh se mo pr H locs ls hP hS hl
    refine lv_iload_n hx hb dL_law_18 rfl (lv_at hl 0 rfl) ?_
    refine lv_aload_n hx hb dL_law_19 rfl (lv_at hl 3 rfl) ?_
    refine va_slen hx hb hX hbl hbA hS dL_law_20 ?_
    refine lv_iconst (v := nI 5) hx hb dL_law_21 (by decide) ?_
    refine zr_isub (v := nI L - nI 5) hx hb dL_law_22 rfl ?_
    refine lv_icmp_gt (tgt := 385) hx hb dL_law_23 (by decide) (fun hc => ?_) (fun hc => ?_)
    · refine lv_iconst (v := 1) hx hb dL_law_385 (by decide) ?_
      refine va_forget (fun q hq => hS.2.2 q hq) ?_
      refine W.widen (k := 600000) (n := 7290000) (Nat.le_of_ble_eq_true rfl) (Nat.le_of_ble_eq_true rfl) ?_
      exact lw_ret hx hb hr hlocks dL_law_386
    · rw [zl_cmp hL (by omega)] at hc
      refine lv_aload_n hx hb dL_law_26 rfl (lv_at hl 3 rfl) ?_
      refine lv_iload_n hx hb dL_law_27 rfl (lv_at hl 0 rfl) ?_
      refine zr_sld hx hb hX hbl hbA hS i rfl (by omega) (by omega) dL_law_28 ?_
      refine lv_bipush (v := nI 15) hx hb dL_law_29 (by decide) ?_
      refine zr_iand (v := nI (zlo (xs i) 16)) hx hb dL_law_31 (zl15 _) ?_
      have hd := zlo_lt (xs i) (k := 16) (by decide)
      generalize zlo (xs i) 16 = d at hd ⊢
      have hcs : d = 0 ∨ d = 1 ∨ d = 2 ∨ d = 3 ∨ d = 4 ∨ d = 5 ∨ d = 6 ∨ d = 7 ∨ d = 8 ∨ d = 9 ∨ d = 10 ∨ d = 11 ∨ d = 12 ∨ d = 13 ∨ d = 14 ∨ d = 15 := by omega
      rcases hcs with rfl | rfl | rfl | rfl | rfl | rfl | rfl | rfl | rfl | rfl | rfl | rfl | rfl | rfl | rfl | rfl
      · refine lv_tableIn (tgt := 92) (off := 60) hx hb dL_law_32 (by decide) (by decide) (by decide) (by decide) ?_
        refine lv_aload_n hx hb dL_law_92 rfl (lv_at hl 2 rfl) ?_
        refine lv_aload_n hx hb dL_law_93 rfl (lv_at hl 3 rfl) ?_
        refine lv_iload_n hx hb dL_law_94 rfl (lv_at hl 0 rfl) ?_
        refine lv_iconst (v := nI 1) hx hb dL_law_95 (by decide) ?_
        refine zr_iadd (v := nI (i + 1)) hx hb dL_law_96 (nI_add _ _) ?_
        refine zr_sld hx hb hX hbl hbA hS (i + 1) rfl (by omega) (by omega) dL_law_97 ?_
        refine lv_aload_n hx hb dL_law_98 rfl (lv_at hl 3 rfl) ?_
        refine lv_iload_n hx hb dL_law_99 rfl (lv_at hl 0 rfl) ?_
        refine lv_iconst (v := nI 2) hx hb dL_law_100 (by decide) ?_
        refine zr_iadd (v := nI (i + 2)) hx hb dL_law_101 (nI_add _ _) ?_
        refine zr_sld hx hb hX hbl hbA hS (i + 2) rfl (by omega) (by omega) dL_law_102 ?_
        refine lv_aload_n hx hb dL_law_103 rfl (lv_at hl 3 rfl) ?_
        refine lv_iload_n hx hb dL_law_104 rfl (lv_at hl 0 rfl) ?_
        refine lv_iconst (v := nI 3) hx hb dL_law_105 (by decide) ?_
        refine zr_iadd (v := nI (i + 3)) hx hb dL_law_106 (nI_add _ _) ?_
        refine zr_sld hx hb hX hbl hbA hS (i + 3) rfl (by omega) (by omega) dL_law_107 ?_
        refine lv_aload_n hx hb dL_law_108 rfl (lv_at hl 3 rfl) ?_
        refine lv_iload_n hx hb dL_law_109 rfl (lv_at hl 0 rfl) ?_
        refine lv_iconst (v := nI 4) hx hb dL_law_110 (by decide) ?_
        refine zr_iadd (v := nI (i + 4)) hx hb dL_law_111 (nI_add _ _) ?_
        refine zr_sld hx hb hX hbl hbA hS (i + 4) rfl (by omega) (by omega) dL_law_112 ?_
        refine zr_callVv (rest := []) ⟨hx, hb, hml, hown, hts⟩ (mX_key l D cA ox ax K (zTK K) P S st fr (zmm K m0) (xs (i + 1)) (xs (i + 2)) (xs (i + 3)) (xs (i + 4))) (cwV 4 hts (lw_V q136 q64 q65 q30 q66) rfl rfl rfl (by decide +kernel) ⟨Nat.le_of_ble_eq_true rfl, Nat.le_of_ble_eq_true rfl⟩) (YG cA oy ay zSub K P S sq sh se mo pr) hK hP hD rfl hS hA (ci := 0) (q0 := 0) rfl rfl rfl rfl hl.1 rfl (Nat.le_of_ble_eq_true rfl) dL_law_113 ⟨Nat.le_of_ble_eq_true rfl, Nat.le_of_ble_eq_true rfl⟩ (fun H locs hP hS => ?_)
        have hP : va_P D Cl ((XG cA ox ax zSub zRes zFwd zBwd ((zkx zsw ztw (zk4 K (xs (i + 1)) (xs (i + 2)) (xs (i + 3)) (xs (i + 4))) 40).1) (zTK ((zkx zsw ztw (zk4 K (xs (i + 1)) (xs (i + 2)) (xs (i + 3)) (xs (i + 4))) 40).1)) P S (zmo (zmo (zmo (zmo (zH (zkx zsw ztw (zk4 K (xs (i + 1)) (xs (i + 2)) (xs (i + 3)) (xs (i + 4))) 40).1))))) (zH (zkx zsw ztw (zk4 K (xs (i + 1)) (xs (i + 2)) (xs (i + 3)) (xs (i + 4))) 40).1) (zmm ((zkx zsw ztw (zk4 K (xs (i + 1)) (xs (i + 2)) (xs (i + 3)) (xs (i + 4))) 40).1) (zmm K m0)) zFal) ++ (YG cA oy ay zSub K P S sq sh se mo pr)) H := hP
        refine lv_aload_n hx hb dL_law_116 rfl (lv_at hl 1 rfl) ?_
        refine lv_aload_n hx hb dL_law_117 rfl (lv_at hl 3 rfl) ?_
        refine lv_iload_n hx hb dL_law_118 rfl (lv_at hl 0 rfl) ?_
        refine lv_iconst (v := nI 1) hx hb dL_law_119 (by decide) ?_
        refine zr_iadd (v := nI (i + 1)) hx hb dL_law_120 (nI_add _ _) ?_
        refine zr_sld hx hb hX hbl hbA hS (i + 1) rfl (by omega) (by omega) dL_law_121 ?_
        refine lv_aload_n hx hb dL_law_122 rfl (lv_at hl 3 rfl) ?_
        refine lv_iload_n hx hb dL_law_123 rfl (lv_at hl 0 rfl) ?_
        refine lv_iconst (v := nI 2) hx hb dL_law_124 (by decide) ?_
        refine zr_iadd (v := nI (i + 2)) hx hb dL_law_125 (nI_add _ _) ?_
        refine zr_sld hx hb hX hbl hbA hS (i + 2) rfl (by omega) (by omega) dL_law_126 ?_
        refine lv_aload_n hx hb dL_law_127 rfl (lv_at hl 3 rfl) ?_
        refine lv_iload_n hx hb dL_law_128 rfl (lv_at hl 0 rfl) ?_
        refine lv_iconst (v := nI 3) hx hb dL_law_129 (by decide) ?_
        refine zr_iadd (v := nI (i + 3)) hx hb dL_law_130 (nI_add _ _) ?_
        refine zr_sld hx hb hX hbl hbA hS (i + 3) rfl (by omega) (by omega) dL_law_131 ?_
        refine lv_aload_n hx hb dL_law_132 rfl (lv_at hl 3 rfl) ?_
        refine lv_iload_n hx hb dL_law_133 rfl (lv_at hl 0 rfl) ?_
        refine lv_iconst (v := nI 4) hx hb dL_law_134 (by decide) ?_
        refine zr_iadd (v := nI (i + 4)) hx hb dL_law_135 (nI_add _ _) ?_
        refine zr_sld hx hb hX hbl hbA hS (i + 4) rfl (by omega) (by omega) dL_law_136 ?_
        have hP := zswP hP
        refine zr_callVv (rest := []) ⟨hx, hb, hml, hown, hts⟩ (mY_key l D cA oy ay K P S sq sh se mo pr (xs (i + 1)) (xs (i + 2)) (xs (i + 3)) (xs (i + 4))) (cwV 4 hts (lw_V q254 q216 q217 q31 q218) rfl rfl rfl (by decide +kernel) ⟨Nat.le_of_ble_eq_true rfl, Nat.le_of_ble_eq_true rfl⟩) (XG cA ox ax zSub zRes zFwd zBwd ((zkx zsw ztw (zk4 K (xs (i + 1)) (xs (i + 2)) (xs (i + 3)) (xs (i + 4))) 40).1) (zTK ((zkx zsw ztw (zk4 K (xs (i + 1)) (xs (i + 2)) (xs (i + 3)) (xs (i + 4))) 40).1)) P S (zmo (zmo (zmo (zmo (zH (zkx zsw ztw (zk4 K (xs (i + 1)) (xs (i + 2)) (xs (i + 3)) (xs (i + 4))) 40).1))))) (zH (zkx zsw ztw (zk4 K (xs (i + 1)) (xs (i + 2)) (xs (i + 3)) (xs (i + 4))) 40).1) (zmm ((zkx zsw ztw (zk4 K (xs (i + 1)) (xs (i + 2)) (xs (i + 3)) (xs (i + 4))) 40).1) (zmm K m0)) zFal) hK hP hDs rfl hS hA (ci := 1) (q0 := 0) rfl rfl rfl rfl hl.1 rfl (Nat.le_of_ble_eq_true rfl) dL_law_137 ⟨Nat.le_of_ble_eq_true rfl, Nat.le_of_ble_eq_true rfl⟩ (fun H locs hP hS => ?_)
        have hP : va_P D Cl ((YG cA oy ay zSub ((zkx (fun w => zsb w 4) ztm (zk4 K (xs (i + 1)) (xs (i + 2)) (xs (i + 3)) (xs (i + 4))) 40).1) P S sq sh se mo pr) ++ (XG cA ox ax zSub zRes zFwd zBwd ((zkx zsw ztw (zk4 K (xs (i + 1)) (xs (i + 2)) (xs (i + 3)) (xs (i + 4))) 40).1) (zTK ((zkx zsw ztw (zk4 K (xs (i + 1)) (xs (i + 2)) (xs (i + 3)) (xs (i + 4))) 40).1)) P S (zmo (zmo (zmo (zmo (zH (zkx zsw ztw (zk4 K (xs (i + 1)) (xs (i + 2)) (xs (i + 3)) (xs (i + 4))) 40).1))))) (zH (zkx zsw ztw (zk4 K (xs (i + 1)) (xs (i + 2)) (xs (i + 3)) (xs (i + 4))) 40).1) (zmm ((zkx zsw ztw (zk4 K (xs (i + 1)) (xs (i + 2)) (xs (i + 3)) (xs (i + 4))) 40).1) (zmm K m0)) zFal)) H := hP
        have hP := zP (g := (zkx zsw ztw (zk4 K (xs (i + 1)) (xs (i + 2)) (xs (i + 3)) (xs (i + 4))) 40).1) hP 2 rfl (fun j hj => zz_key _ j)
        have hP : va_P D Cl ((YG cA oy ay zSub ((zkx zsw ztw (zk4 K (xs (i + 1)) (xs (i + 2)) (xs (i + 3)) (xs (i + 4))) 40).1) P S sq sh se mo pr) ++ (XG cA ox ax zSub zRes zFwd zBwd ((zkx zsw ztw (zk4 K (xs (i + 1)) (xs (i + 2)) (xs (i + 3)) (xs (i + 4))) 40).1) (zTK ((zkx zsw ztw (zk4 K (xs (i + 1)) (xs (i + 2)) (xs (i + 3)) (xs (i + 4))) 40).1)) P S (zmo (zmo (zmo (zmo (zH (zkx zsw ztw (zk4 K (xs (i + 1)) (xs (i + 2)) (xs (i + 3)) (xs (i + 4))) 40).1))))) (zH (zkx zsw ztw (zk4 K (xs (i + 1)) (xs (i + 2)) (xs (i + 3)) (xs (i + 4))) 40).1) (zmm ((zkx zsw ztw (zk4 K (xs (i + 1)) (xs (i + 2)) (xs (i + 3)) (xs (i + 4))) 40).1) (zmm K m0)) zFal)) H := hP
        refine lv_goto (tgt := 379) hx hb dL_law_140 (by decide) ?_
        refine lv_iinc (v := nI (i + 5)) (lv' := [(3, .int (nI (i + 5))), (2, .ref oy), (1, .ref ox), (0, .ref b)]) hx hb dL_law_379 hl (k := 0) rfl (nI_add i 5) (by decide) rfl (fun ls hl => ?_)
        refine lv_goto (tgt := 18) hx hb dL_law_382 (by decide) ?_
        exact ih (i + 5) (by omega) (by omega) ((zkx zsw ztw (zk4 K (xs (i + 1)) (xs (i + 2)) (xs (i + 3)) (xs (i + 4))) 40).1) P S (zmm K m0) _ _ _ _ _ _ _ H locs ls (zswP hP) hS hl
      · refine lv_tableIn (tgt := 143) (off := 111) hx hb dL_law_32 (by decide) (by decide) (by decide) (by decide) ?_
        refine lv_aload_n hx hb dL_law_143 rfl (lv_at hl 2 rfl) ?_
        refine lv_aload_n hx hb dL_law_144 rfl (lv_at hl 3 rfl) ?_
        refine lv_iload_n hx hb dL_law_145 rfl (lv_at hl 0 rfl) ?_
        refine lv_iconst (v := nI 1) hx hb dL_law_146 (by decide) ?_
        refine zr_iadd (v := nI (i + 1)) hx hb dL_law_147 (nI_add _ _) ?_
        refine zr_sld hx hb hX hbl hbA hS (i + 1) rfl (by omega) (by omega) dL_law_148 ?_
        refine lv_aload_n hx hb dL_law_149 rfl (lv_at hl 3 rfl) ?_
        refine lv_iload_n hx hb dL_law_150 rfl (lv_at hl 0 rfl) ?_
        refine lv_iconst (v := nI 2) hx hb dL_law_151 (by decide) ?_
        refine zr_iadd (v := nI (i + 2)) hx hb dL_law_152 (nI_add _ _) ?_
        refine zr_sld hx hb hX hbl hbA hS (i + 2) rfl (by omega) (by omega) dL_law_153 ?_
        refine lv_aload_n hx hb dL_law_154 rfl (lv_at hl 3 rfl) ?_
        refine lv_iload_n hx hb dL_law_155 rfl (lv_at hl 0 rfl) ?_
        refine lv_iconst (v := nI 3) hx hb dL_law_156 (by decide) ?_
        refine zr_iadd (v := nI (i + 3)) hx hb dL_law_157 (nI_add _ _) ?_
        refine zr_sld hx hb hX hbl hbA hS (i + 3) rfl (by omega) (by omega) dL_law_158 ?_
        refine lv_aload_n hx hb dL_law_159 rfl (lv_at hl 3 rfl) ?_
        refine lv_iload_n hx hb dL_law_160 rfl (lv_at hl 0 rfl) ?_
        refine lv_iconst (v := nI 4) hx hb dL_law_161 (by decide) ?_
        refine zr_iadd (v := nI (i + 4)) hx hb dL_law_162 (nI_add _ _) ?_
        refine zr_sld hx hb hX hbl hbA hS (i + 4) rfl (by omega) (by omega) dL_law_163 ?_
        refine zr_callVv (rest := []) ⟨hx, hb, hml, hown, hts⟩ (mX_block l D cA ox ax K (zTK K) P S st fr (zmm K m0) (xs (i + 1)) (xs (i + 2)) (xs (i + 3)) (xs (i + 4))) (cwV 4 hts (lw_V q137 q138 q139 q30 q140) rfl rfl rfl (by decide +kernel) ⟨Nat.le_of_ble_eq_true rfl, Nat.le_of_ble_eq_true rfl⟩) (YG cA oy ay zSub K P S sq sh se mo pr) hK hP hD rfl hS hA (ci := 0) (q0 := 0) rfl rfl rfl rfl hl.1 rfl (Nat.le_of_ble_eq_true rfl) dL_law_164 ⟨Nat.le_of_ble_eq_true rfl, Nat.le_of_ble_eq_true rfl⟩ (fun H locs hP hS => ?_)
        have hP : va_P D Cl ((XG cA ox ax zSub zRes zFwd zBwd K (zTK K) (zk4 P (xs (i + 1)) (xs (i + 2)) (xs (i + 3)) (xs (i + 4))) S st fr (zmm K m0) zFal) ++ (YG cA oy ay zSub K P S sq sh se mo pr)) H := hP
        refine lv_aload_n hx hb dL_law_167 rfl (lv_at hl 1 rfl) ?_
        refine lv_aload_n hx hb dL_law_168 rfl (lv_at hl 3 rfl) ?_
        refine lv_iload_n hx hb dL_law_169 rfl (lv_at hl 0 rfl) ?_
        refine lv_iconst (v := nI 1) hx hb dL_law_170 (by decide) ?_
        refine zr_iadd (v := nI (i + 1)) hx hb dL_law_171 (nI_add _ _) ?_
        refine zr_sld hx hb hX hbl hbA hS (i + 1) rfl (by omega) (by omega) dL_law_172 ?_
        refine lv_aload_n hx hb dL_law_173 rfl (lv_at hl 3 rfl) ?_
        refine lv_iload_n hx hb dL_law_174 rfl (lv_at hl 0 rfl) ?_
        refine lv_iconst (v := nI 2) hx hb dL_law_175 (by decide) ?_
        refine zr_iadd (v := nI (i + 2)) hx hb dL_law_176 (nI_add _ _) ?_
        refine zr_sld hx hb hX hbl hbA hS (i + 2) rfl (by omega) (by omega) dL_law_177 ?_
        refine lv_aload_n hx hb dL_law_178 rfl (lv_at hl 3 rfl) ?_
        refine lv_iload_n hx hb dL_law_179 rfl (lv_at hl 0 rfl) ?_
        refine lv_iconst (v := nI 3) hx hb dL_law_180 (by decide) ?_
        refine zr_iadd (v := nI (i + 3)) hx hb dL_law_181 (nI_add _ _) ?_
        refine zr_sld hx hb hX hbl hbA hS (i + 3) rfl (by omega) (by omega) dL_law_182 ?_
        refine lv_aload_n hx hb dL_law_183 rfl (lv_at hl 3 rfl) ?_
        refine lv_iload_n hx hb dL_law_184 rfl (lv_at hl 0 rfl) ?_
        refine lv_iconst (v := nI 4) hx hb dL_law_185 (by decide) ?_
        refine zr_iadd (v := nI (i + 4)) hx hb dL_law_186 (nI_add _ _) ?_
        refine zr_sld hx hb hX hbl hbA hS (i + 4) rfl (by omega) (by omega) dL_law_187 ?_
        have hP := zswP hP
        refine zr_callVv (rest := []) ⟨hx, hb, hml, hown, hts⟩ (mY_block l D cA oy ay K P S sq sh se mo pr (xs (i + 1)) (xs (i + 2)) (xs (i + 3)) (xs (i + 4))) (cwV 4 hts (lw_V q255 q256 q257 q31 q258) rfl rfl rfl (by decide +kernel) ⟨Nat.le_of_ble_eq_true rfl, Nat.le_of_ble_eq_true rfl⟩) (XG cA ox ax zSub zRes zFwd zBwd K (zTK K) (zk4 P (xs (i + 1)) (xs (i + 2)) (xs (i + 3)) (xs (i + 4))) S st fr (zmm K m0) zFal) hK hP hDs rfl hS hA (ci := 1) (q0 := 0) rfl rfl rfl rfl hl.1 rfl (Nat.le_of_ble_eq_true rfl) dL_law_188 ⟨Nat.le_of_ble_eq_true rfl, Nat.le_of_ble_eq_true rfl⟩ (fun H locs hP hS => ?_)
        have hP : va_P D Cl ((YG cA oy ay zSub K (zk4 P (xs (i + 1)) (xs (i + 2)) (xs (i + 3)) (xs (i + 4))) S sq sh se mo pr) ++ (XG cA ox ax zSub zRes zFwd zBwd K (zTK K) (zk4 P (xs (i + 1)) (xs (i + 2)) (xs (i + 3)) (xs (i + 4))) S st fr (zmm K m0) zFal)) H := hP
        refine lv_goto (tgt := 379) hx hb dL_law_191 (by decide) ?_
        refine lv_iinc (v := nI (i + 5)) (lv' := [(3, .int (nI (i + 5))), (2, .ref oy), (1, .ref ox), (0, .ref b)]) hx hb dL_law_379 hl (k := 0) rfl (nI_add i 5) (by decide) rfl (fun ls hl => ?_)
        refine lv_goto (tgt := 18) hx hb dL_law_382 (by decide) ?_
        exact ih (i + 5) (by omega) (by omega) K (zk4 P (xs (i + 1)) (xs (i + 2)) (xs (i + 3)) (xs (i + 4))) S m0 _ _ _ _ _ _ _ H locs ls (zswP hP) hS hl
      · refine lv_tableIn (tgt := 194) (off := 162) hx hb dL_law_32 (by decide) (by decide) (by decide) (by decide) ?_
        refine lv_aload_n hx hb dL_law_194 rfl (lv_at hl 2 rfl) ?_
        refine lv_aload_n hx hb dL_law_195 rfl (lv_at hl 3 rfl) ?_
        refine lv_iload_n hx hb dL_law_196 rfl (lv_at hl 0 rfl) ?_
        refine lv_iconst (v := nI 1) hx hb dL_law_197 (by decide) ?_
        refine zr_iadd (v := nI (i + 1)) hx hb dL_law_198 (nI_add _ _) ?_
        refine zr_sld hx hb hX hbl hbA hS (i + 1) rfl (by omega) (by omega) dL_law_199 ?_
        refine lv_aload_n hx hb dL_law_200 rfl (lv_at hl 3 rfl) ?_
        refine lv_iload_n hx hb dL_law_201 rfl (lv_at hl 0 rfl) ?_
        refine lv_iconst (v := nI 2) hx hb dL_law_202 (by decide) ?_
        refine zr_iadd (v := nI (i + 2)) hx hb dL_law_203 (nI_add _ _) ?_
        refine zr_sld hx hb hX hbl hbA hS (i + 2) rfl (by omega) (by omega) dL_law_204 ?_
        refine lv_aload_n hx hb dL_law_205 rfl (lv_at hl 3 rfl) ?_
        refine lv_iload_n hx hb dL_law_206 rfl (lv_at hl 0 rfl) ?_
        refine lv_iconst (v := nI 3) hx hb dL_law_207 (by decide) ?_
        refine zr_iadd (v := nI (i + 3)) hx hb dL_law_208 (nI_add _ _) ?_
        refine zr_sld hx hb hX hbl hbA hS (i + 3) rfl (by omega) (by omega) dL_law_209 ?_
        refine lv_aload_n hx hb dL_law_210 rfl (lv_at hl 3 rfl) ?_
        refine lv_iload_n hx hb dL_law_211 rfl (lv_at hl 0 rfl) ?_
        refine lv_iconst (v := nI 4) hx hb dL_law_212 (by decide) ?_
        refine zr_iadd (v := nI (i + 4)) hx hb dL_law_213 (nI_add _ _) ?_
        refine zr_sld hx hb hX hbl hbA hS (i + 4) rfl (by omega) (by omega) dL_law_214 ?_
        refine zr_callVv (rest := []) ⟨hx, hb, hml, hown, hts⟩ (mX_mix l D cA ox ax K (zTK K) P S st fr (zmm K m0) (xs (i + 1)) (xs (i + 2)) (xs (i + 3)) (xs (i + 4))) (cwV 4 hts (lw_V q141 q142 q143 q30 q144) rfl rfl rfl (by decide +kernel) ⟨Nat.le_of_ble_eq_true rfl, Nat.le_of_ble_eq_true rfl⟩) (YG cA oy ay zSub K P S sq sh se mo pr) hK hP hD rfl hS hA (ci := 0) (q0 := 0) rfl rfl rfl rfl hl.1 rfl (Nat.le_of_ble_eq_true rfl) dL_law_215 ⟨Nat.le_of_ble_eq_true rfl, Nat.le_of_ble_eq_true rfl⟩ (fun H locs hP hS => ?_)
        have hP : va_P D Cl ((XG cA ox ax zSub zRes zFwd zBwd K (zTK K) (zk4 P (P 0 ^^^ xs (i + 1)) (P 1 ^^^ xs (i + 2)) (P 2 ^^^ xs (i + 3)) (P 3 ^^^ xs (i + 4))) S st fr (zmm K m0) zFal) ++ (YG cA oy ay zSub K P S sq sh se mo pr)) H := hP
        refine lv_aload_n hx hb dL_law_218 rfl (lv_at hl 1 rfl) ?_
        refine lv_aload_n hx hb dL_law_219 rfl (lv_at hl 3 rfl) ?_
        refine lv_iload_n hx hb dL_law_220 rfl (lv_at hl 0 rfl) ?_
        refine lv_iconst (v := nI 1) hx hb dL_law_221 (by decide) ?_
        refine zr_iadd (v := nI (i + 1)) hx hb dL_law_222 (nI_add _ _) ?_
        refine zr_sld hx hb hX hbl hbA hS (i + 1) rfl (by omega) (by omega) dL_law_223 ?_
        refine lv_aload_n hx hb dL_law_224 rfl (lv_at hl 3 rfl) ?_
        refine lv_iload_n hx hb dL_law_225 rfl (lv_at hl 0 rfl) ?_
        refine lv_iconst (v := nI 2) hx hb dL_law_226 (by decide) ?_
        refine zr_iadd (v := nI (i + 2)) hx hb dL_law_227 (nI_add _ _) ?_
        refine zr_sld hx hb hX hbl hbA hS (i + 2) rfl (by omega) (by omega) dL_law_228 ?_
        refine lv_aload_n hx hb dL_law_229 rfl (lv_at hl 3 rfl) ?_
        refine lv_iload_n hx hb dL_law_230 rfl (lv_at hl 0 rfl) ?_
        refine lv_iconst (v := nI 3) hx hb dL_law_231 (by decide) ?_
        refine zr_iadd (v := nI (i + 3)) hx hb dL_law_232 (nI_add _ _) ?_
        refine zr_sld hx hb hX hbl hbA hS (i + 3) rfl (by omega) (by omega) dL_law_233 ?_
        refine lv_aload_n hx hb dL_law_234 rfl (lv_at hl 3 rfl) ?_
        refine lv_iload_n hx hb dL_law_235 rfl (lv_at hl 0 rfl) ?_
        refine lv_iconst (v := nI 4) hx hb dL_law_236 (by decide) ?_
        refine zr_iadd (v := nI (i + 4)) hx hb dL_law_237 (nI_add _ _) ?_
        refine zr_sld hx hb hX hbl hbA hS (i + 4) rfl (by omega) (by omega) dL_law_238 ?_
        have hP := zswP hP
        refine zr_callVv (rest := []) ⟨hx, hb, hml, hown, hts⟩ (mY_mix l D cA oy ay K P S sq sh se mo pr (xs (i + 1)) (xs (i + 2)) (xs (i + 3)) (xs (i + 4))) (cwV 4 hts (lw_V q259 q260 q261 q31 q262) rfl rfl rfl (by decide +kernel) ⟨Nat.le_of_ble_eq_true rfl, Nat.le_of_ble_eq_true rfl⟩) (XG cA ox ax zSub zRes zFwd zBwd K (zTK K) (zk4 P (P 0 ^^^ xs (i + 1)) (P 1 ^^^ xs (i + 2)) (P 2 ^^^ xs (i + 3)) (P 3 ^^^ xs (i + 4))) S st fr (zmm K m0) zFal) hK hP hDs rfl hS hA (ci := 1) (q0 := 0) rfl rfl rfl rfl hl.1 rfl (Nat.le_of_ble_eq_true rfl) dL_law_239 ⟨Nat.le_of_ble_eq_true rfl, Nat.le_of_ble_eq_true rfl⟩ (fun H locs hP hS => ?_)
        have hP : va_P D Cl ((YG cA oy ay zSub K (zk4 P (P 0 ^^^ xs (i + 1)) (P 1 ^^^ xs (i + 2)) (P 2 ^^^ xs (i + 3)) (P 3 ^^^ xs (i + 4))) S sq sh se mo pr) ++ (XG cA ox ax zSub zRes zFwd zBwd K (zTK K) (zk4 P (P 0 ^^^ xs (i + 1)) (P 1 ^^^ xs (i + 2)) (P 2 ^^^ xs (i + 3)) (P 3 ^^^ xs (i + 4))) S st fr (zmm K m0) zFal)) H := hP
        refine lv_goto (tgt := 379) hx hb dL_law_242 (by decide) ?_
        refine lv_iinc (v := nI (i + 5)) (lv' := [(3, .int (nI (i + 5))), (2, .ref oy), (1, .ref ox), (0, .ref b)]) hx hb dL_law_379 hl (k := 0) rfl (nI_add i 5) (by decide) rfl (fun ls hl => ?_)
        refine lv_goto (tgt := 18) hx hb dL_law_382 (by decide) ?_
        exact ih (i + 5) (by omega) (by omega) K (zk4 P (P 0 ^^^ xs (i + 1)) (P 1 ^^^ xs (i + 2)) (P 2 ^^^ xs (i + 3)) (P 3 ^^^ xs (i + 4))) S m0 _ _ _ _ _ _ _ H locs ls (zswP hP) hS hl
      · refine lv_tableIn (tgt := 245) (off := 213) hx hb dL_law_32 (by decide) (by decide) (by decide) (by decide) ?_
        refine lv_aload_n hx hb dL_law_245 rfl (lv_at hl 2 rfl) ?_
        refine zr_callVv (rest := []) ⟨hx, hb, hml, hown, hts⟩ (mX_encrypt l D cA ox ax K (zTK K) P S st fr (zmm K m0)) (cwV 0 hts (lw_V q145 q146 q147 q30 q148) rfl rfl rfl (by decide +kernel) ⟨Nat.le_of_ble_eq_true rfl, Nat.le_of_ble_eq_true rfl⟩) (YG cA oy ay zSub K P S sq sh se mo pr) hK hP hD rfl hS hA (ci := 0) (q0 := 0) rfl rfl rfl rfl hl.1 rfl (Nat.le_of_ble_eq_true rfl) dL_law_246 ⟨Nat.le_of_ble_eq_true rfl, Nat.le_of_ble_eq_true rfl⟩ (fun H locs hP hS => ?_)
        have hP : va_P D Cl ((XG cA ox ax zSub zRes zFwd zBwd K (zTK K) (zen K P) S (zen K P) (zen K P) (zmm K m0) zFal) ++ (YG cA oy ay zSub K P S sq sh se mo pr)) H := hP
        refine lv_aload_n hx hb dL_law_249 rfl (lv_at hl 1 rfl) ?_
        have hP := zswP hP
        refine zr_callVv (rest := []) ⟨hx, hb, hml, hown, hts⟩ (mY_encrypt l D cA oy ay K P S sq sh se mo pr) (cwV 0 hts (lw_V q264 q265 q266 q31 q267) rfl rfl rfl (by decide +kernel) ⟨Nat.le_of_ble_eq_true rfl, Nat.le_of_ble_eq_true rfl⟩) (XG cA ox ax zSub zRes zFwd zBwd K (zTK K) (zen K P) S (zen K P) (zen K P) (zmm K m0) zFal) hK hP hDs rfl hS hA (ci := 1) (q0 := 0) rfl rfl rfl rfl hl.1 rfl (Nat.le_of_ble_eq_true rfl) dL_law_250 ⟨Nat.le_of_ble_eq_true rfl, Nat.le_of_ble_eq_true rfl⟩ (fun H locs hP hS => ?_)
        have hP : va_P D Cl ((YG cA oy ay zSub K (zjn (zre K (zly P))) S (zbz (zre K (zly P))) (zbz (zrl K (zly P))) se mo pr) ++ (XG cA ox ax zSub zRes zFwd zBwd K (zTK K) (zen K P) S (zen K P) (zen K P) (zmm K m0) zFal)) H := hP
        have hP := zP (g := zen K P) hP 3 rfl (fun j hj => (zz_enc K P hj).symm)
        have hP : va_P D Cl ((YG cA oy ay zSub K (zen K P) S (zbz (zre K (zly P))) (zbz (zrl K (zly P))) se mo pr) ++ (XG cA ox ax zSub zRes zFwd zBwd K (zTK K) (zen K P) S (zen K P) (zen K P) (zmm K m0) zFal)) H := hP
        refine lv_goto (tgt := 379) hx hb dL_law_253 (by decide) ?_
        refine lv_iinc (v := nI (i + 5)) (lv' := [(3, .int (nI (i + 5))), (2, .ref oy), (1, .ref ox), (0, .ref b)]) hx hb dL_law_379 hl (k := 0) rfl (nI_add i 5) (by decide) rfl (fun ls hl => ?_)
        refine lv_goto (tgt := 18) hx hb dL_law_382 (by decide) ?_
        exact ih (i + 5) (by omega) (by omega) K (zen K P) S m0 _ _ _ _ _ _ _ H locs ls (zswP hP) hS hl
      · refine lv_tableIn (tgt := 256) (off := 224) hx hb dL_law_32 (by decide) (by decide) (by decide) (by decide) ?_
        refine lv_aload_n hx hb dL_law_256 rfl (lv_at hl 2 rfl) ?_
        refine zr_callVv (rest := []) ⟨hx, hb, hml, hown, hts⟩ (mX_decrypt l D cA ox ax K (zTK K) P S st fr (zmm K m0)) (cwV 0 hts (lw_V q157 q158 q159 q30 q160) rfl rfl rfl (by decide +kernel) ⟨Nat.le_of_ble_eq_true rfl, Nat.le_of_ble_eq_true rfl⟩) (YG cA oy ay zSub K P S sq sh se mo pr) hK hP hD rfl hS hA (ci := 0) (q0 := 0) rfl rfl rfl rfl hl.1 rfl (Nat.le_of_ble_eq_true rfl) dL_law_257 ⟨Nat.le_of_ble_eq_true rfl, Nat.le_of_ble_eq_true rfl⟩ (fun H locs hP hS => ?_)
        have hP : va_P D Cl ((XG cA ox ax zSub zRes zFwd zBwd K (zTK K) (zde (zTK K) P) S (zde (zTK K) P) (zde (zTK K) P) (zmm K m0) zFal) ++ (YG cA oy ay zSub K P S sq sh se mo pr)) H := hP
        refine lv_aload_n hx hb dL_law_260 rfl (lv_at hl 1 rfl) ?_
        have hP := zswP hP
        refine zr_callVv (rest := []) ⟨hx, hb, hml, hown, hts⟩ (mY_decrypt l D cA oy ay K P S sq sh se mo pr) (cwV 0 hts (lw_V q300 q301 q302 q31 q303) rfl rfl rfl (by decide +kernel) ⟨Nat.le_of_ble_eq_true rfl, Nat.le_of_ble_eq_true rfl⟩) (XG cA ox ax zSub zRes zFwd zBwd K (zTK K) (zde (zTK K) P) S (zde (zTK K) P) (zde (zTK K) P) (zmm K m0) zFal) hK hP hDs rfl hS hA (ci := 1) (q0 := 0) rfl rfl rfl rfl hl.1 rfl (Nat.le_of_ble_eq_true rfl) dL_law_261 ⟨Nat.le_of_ble_eq_true rfl, Nat.le_of_ble_eq_true rfl⟩ (fun H locs hP hS => ?_)
        have hP : va_P D Cl ((YG cA oy ay zSub K (zjn (zrx K (zly P))) S (zbz (zrx K (zly P))) (zbz (zbk K (zly P) 9)) se mo pr) ++ (XG cA ox ax zSub zRes zFwd zBwd K (zTK K) (zde (zTK K) P) S (zde (zTK K) P) (zde (zTK K) P) (zmm K m0) zFal)) H := hP
        have hP := zP (g := zde (zTK K) P) hP 3 rfl (fun j hj => (zz_dec K P hj).symm)
        have hP : va_P D Cl ((YG cA oy ay zSub K (zde (zTK K) P) S (zbz (zrx K (zly P))) (zbz (zbk K (zly P) 9)) se mo pr) ++ (XG cA ox ax zSub zRes zFwd zBwd K (zTK K) (zde (zTK K) P) S (zde (zTK K) P) (zde (zTK K) P) (zmm K m0) zFal)) H := hP
        refine lv_goto (tgt := 379) hx hb dL_law_264 (by decide) ?_
        refine lv_iinc (v := nI (i + 5)) (lv' := [(3, .int (nI (i + 5))), (2, .ref oy), (1, .ref ox), (0, .ref b)]) hx hb dL_law_379 hl (k := 0) rfl (nI_add i 5) (by decide) rfl (fun ls hl => ?_)
        refine lv_goto (tgt := 18) hx hb dL_law_382 (by decide) ?_
        exact ih (i + 5) (by omega) (by omega) K (zde (zTK K) P) S m0 _ _ _ _ _ _ _ H locs ls (zswP hP) hS hl
      · refine lv_tableIn (tgt := 267) (off := 235) hx hb dL_law_32 (by decide) (by decide) (by decide) (by decide) ?_
        refine lv_aload_n hx hb dL_law_267 rfl (lv_at hl 2 rfl) ?_
        refine zr_callVv (rest := []) ⟨hx, hb, hml, hown, hts⟩ (mX_next l D cA ox ax K (zTK K) P S st fr (zmm K m0)) (cwV 0 hts (lw_V q169 q170 q171 q30 q172) rfl rfl rfl (by decide +kernel) ⟨Nat.le_of_ble_eq_true rfl, Nat.le_of_ble_eq_true rfl⟩) (YG cA oy ay zSub K P S sq sh se mo pr) hK hP hD rfl hS hA (ci := 0) (q0 := 0) rfl rfl rfl rfl hl.1 rfl (Nat.le_of_ble_eq_true rfl) dL_law_268 ⟨Nat.le_of_ble_eq_true rfl, Nat.le_of_ble_eq_true rfl⟩ (fun H locs hP hS => ?_)
        have hP : va_P D Cl ((XG cA ox ax zSub zRes zFwd zBwd K (zTK K) (upd P 3 (P 3 + nI 1)) S st fr (zmm K m0) zFal) ++ (YG cA oy ay zSub K P S sq sh se mo pr)) H := hP
        refine lv_aload_n hx hb dL_law_271 rfl (lv_at hl 1 rfl) ?_
        have hP := zswP hP
        refine zr_callVv (rest := []) ⟨hx, hb, hml, hown, hts⟩ (mY_next l D cA oy ay K P S sq sh se mo pr) (cwV 0 hts (lw_V q316 q317 q318 q31 q319) rfl rfl rfl (by decide +kernel) ⟨Nat.le_of_ble_eq_true rfl, Nat.le_of_ble_eq_true rfl⟩) (XG cA ox ax zSub zRes zFwd zBwd K (zTK K) (upd P 3 (P 3 + nI 1)) S st fr (zmm K m0) zFal) hK hP hDs rfl hS hA (ci := 1) (q0 := 0) rfl rfl rfl rfl hl.1 rfl (Nat.le_of_ble_eq_true rfl) dL_law_272 ⟨Nat.le_of_ble_eq_true rfl, Nat.le_of_ble_eq_true rfl⟩ (fun H locs hP hS => ?_)
        have hP : va_P D Cl ((YG cA oy ay zSub K (upd P 3 (P 3 + nI 1)) S sq sh se mo pr) ++ (XG cA ox ax zSub zRes zFwd zBwd K (zTK K) (upd P 3 (P 3 + nI 1)) S st fr (zmm K m0) zFal)) H := hP
        refine lv_goto (tgt := 379) hx hb dL_law_275 (by decide) ?_
        refine lv_iinc (v := nI (i + 5)) (lv' := [(3, .int (nI (i + 5))), (2, .ref oy), (1, .ref ox), (0, .ref b)]) hx hb dL_law_379 hl (k := 0) rfl (nI_add i 5) (by decide) rfl (fun ls hl => ?_)
        refine lv_goto (tgt := 18) hx hb dL_law_382 (by decide) ?_
        exact ih (i + 5) (by omega) (by omega) K (upd P 3 (P 3 + nI 1)) S m0 _ _ _ _ _ _ _ H locs ls (zswP hP) hS hl
      · refine lv_tableIn (tgt := 278) (off := 246) hx hb dL_law_32 (by decide) (by decide) (by decide) (by decide) ?_
        refine lv_aload_n hx hb dL_law_278 rfl (lv_at hl 2 rfl) ?_
        refine lv_aload_n hx hb dL_law_279 rfl (lv_at hl 3 rfl) ?_
        refine lv_iload_n hx hb dL_law_280 rfl (lv_at hl 0 rfl) ?_
        refine lv_iconst (v := nI 1) hx hb dL_law_281 (by decide) ?_
        refine zr_iadd (v := nI (i + 1)) hx hb dL_law_282 (nI_add _ _) ?_
        refine zr_sld hx hb hX hbl hbA hS (i + 1) rfl (by omega) (by omega) dL_law_283 ?_
        refine zr_callVi (rest := []) ⟨hx, hb, hml, hown, hts⟩ (mX_word l D cA ox ax K (zTK K) P S st fr (zmm K m0) (xs (i + 1))) (cwV 1 hts (lw_V q173 q174 q175 q30 q176) rfl rfl rfl (by decide +kernel) ⟨Nat.le_of_ble_eq_true rfl, Nat.le_of_ble_eq_true rfl⟩) (YG cA oy ay zSub K P S sq sh se mo pr) hK hP hD rfl hS hA (ci := 0) (q0 := 0) rfl rfl rfl rfl hl.1 rfl (Nat.le_of_ble_eq_true rfl) dL_law_284 ⟨Nat.le_of_ble_eq_true rfl, Nat.le_of_ble_eq_true rfl⟩ (fun H locs hP hS => ?_)
        have hP : va_P D Cl ((XG cA ox ax zSub zRes zFwd zBwd K (zTK K) P S st fr (zmm K m0) zFal) ++ (YG cA oy ay zSub K P S sq sh se mo pr)) H := hP
        refine lv_aload_n hx hb dL_law_287 rfl (lv_at hl 1 rfl) ?_
        refine lv_aload_n hx hb dL_law_288 rfl (lv_at hl 3 rfl) ?_
        refine lv_iload_n hx hb dL_law_289 rfl (lv_at hl 0 rfl) ?_
        refine lv_iconst (v := nI 1) hx hb dL_law_290 (by decide) ?_
        refine zr_iadd (v := nI (i + 1)) hx hb dL_law_291 (nI_add _ _) ?_
        refine zr_sld hx hb hX hbl hbA hS (i + 1) rfl (by omega) (by omega) dL_law_292 ?_
        have hP := zswP hP
        refine zr_callVi (rest := [.int (P (zlo (xs (i + 1)) 4))]) ⟨hx, hb, hml, hown, hts⟩ (mY_word l D cA oy ay K P S sq sh se mo pr (xs (i + 1))) (cwV 1 hts (lw_V q320 q321 q322 q31 q323) rfl rfl rfl (by decide +kernel) ⟨Nat.le_of_ble_eq_true rfl, Nat.le_of_ble_eq_true rfl⟩) (XG cA ox ax zSub zRes zFwd zBwd K (zTK K) P S st fr (zmm K m0) zFal) hK hP hDs rfl hS hA (ci := 1) (q0 := 0) rfl rfl rfl rfl hl.1 rfl (Nat.le_of_ble_eq_true rfl) dL_law_293 ⟨Nat.le_of_ble_eq_true rfl, Nat.le_of_ble_eq_true rfl⟩ (fun H locs hP hS => ?_)
        have hP : va_P D Cl ((YG cA oy ay zSub K P S sq sh se mo pr) ++ (XG cA ox ax zSub zRes zFwd zBwd K (zTK K) P S st fr (zmm K m0) zFal)) H := hP
        refine lv_icmp_eq (tgt := 379) hx hb dL_law_296 (by decide) (fun _ => ?_) (fun z => absurd rfl z)
        refine lv_iinc (v := nI (i + 5)) (lv' := [(3, .int (nI (i + 5))), (2, .ref oy), (1, .ref ox), (0, .ref b)]) hx hb dL_law_379 hl (k := 0) rfl (nI_add i 5) (by decide) rfl (fun ls hl => ?_)
        refine lv_goto (tgt := 18) hx hb dL_law_382 (by decide) ?_
        exact ih (i + 5) (by omega) (by omega) K P S m0 _ _ _ _ _ _ _ H locs ls (zswP hP) hS hl
      · refine lv_tableIn (tgt := 301) (off := 269) hx hb dL_law_32 (by decide) (by decide) (by decide) (by decide) ?_
        refine lv_aload_n hx hb dL_law_301 rfl (lv_at hl 2 rfl) ?_
        refine zr_callVv (rest := []) ⟨hx, hb, hml, hown, hts⟩ (mX_absorb l D cA ox ax K (zTK K) P S st fr (zmm K m0)) (cwV 0 hts (lw_V q177 q178 q179 q30 q180) rfl rfl rfl (by decide +kernel) ⟨Nat.le_of_ble_eq_true rfl, Nat.le_of_ble_eq_true rfl⟩) (YG cA oy ay zSub K P S sq sh se mo pr) hK hP hD rfl hS hA (ci := 0) (q0 := 0) rfl rfl rfl rfl hl.1 rfl (Nat.le_of_ble_eq_true rfl) dL_law_302 ⟨Nat.le_of_ble_eq_true rfl, Nat.le_of_ble_eq_true rfl⟩ (fun H locs hP hS => ?_)
        have hP : va_P D Cl ((XG cA ox ax zSub zRes zFwd zBwd K (zTK K) P (zab (zmm K m0) (fun c => S c ^^^ P c) 32) (fun c => S c ^^^ P c) fr (zmm K m0) zFal) ++ (YG cA oy ay zSub K P S sq sh se mo pr)) H := hP
        refine lv_aload_n hx hb dL_law_305 rfl (lv_at hl 1 rfl) ?_
        have hP := zswP hP
        refine zr_callVv (rest := []) ⟨hx, hb, hml, hown, hts⟩ (mY_absorb l D cA oy ay K P S sq sh se mo pr) (cwV 0 hts (lw_V q324 q325 q326 q31 q327) rfl rfl rfl (by decide +kernel) ⟨Nat.le_of_ble_eq_true rfl, Nat.le_of_ble_eq_true rfl⟩) (XG cA ox ax zSub zRes zFwd zBwd K (zTK K) P (zab (zmm K m0) (fun c => S c ^^^ P c) 32) (fun c => S c ^^^ P c) fr (zmm K m0) zFal) hK hP hDs rfl hS hA (ci := 1) (q0 := 0) rfl rfl rfl rfl hl.1 rfl (Nat.le_of_ble_eq_true rfl) dL_law_306 ⟨Nat.le_of_ble_eq_true rfl, Nat.le_of_ble_eq_true rfl⟩ (fun H locs hP hS => ?_)
        have hP : va_P D Cl ((YG cA oy ay zSub K P (zpt (fun c => S c ^^^ P c) (zjn (zre K (zly (fun _ => nI 0)))) 128) (zbz (zre K (zly (fun _ => nI 0)))) (zbz (zrl K (zly (fun _ => nI 0)))) (fun c => S c ^^^ P c) (zmv (zjn (zre K (zly (fun _ => nI 0)))) 128) (zpt (fun c => S c ^^^ P c) (zjn (zre K (zly (fun _ => nI 0)))) 128)) ++ (XG cA ox ax zSub zRes zFwd zBwd K (zTK K) P (zab (zmm K m0) (fun c => S c ^^^ P c) 32) (fun c => S c ^^^ P c) fr (zmm K m0) zFal)) H := hP
        have hP := zP (g := zab (zmm K m0) (fun c => S c ^^^ P c) 32) hP 4 rfl (fun j hj => (zz_hash K m0 (fun c => S c ^^^ P c) hj).symm)
        have hP : va_P D Cl ((YG cA oy ay zSub K P (zab (zmm K m0) (fun c => S c ^^^ P c) 32) (zbz (zre K (zly (fun _ => nI 0)))) (zbz (zrl K (zly (fun _ => nI 0)))) (fun c => S c ^^^ P c) (zmv (zjn (zre K (zly (fun _ => nI 0)))) 128) (zpt (fun c => S c ^^^ P c) (zjn (zre K (zly (fun _ => nI 0)))) 128)) ++ (XG cA ox ax zSub zRes zFwd zBwd K (zTK K) P (zab (zmm K m0) (fun c => S c ^^^ P c) 32) (fun c => S c ^^^ P c) fr (zmm K m0) zFal)) H := hP
        refine lv_goto (tgt := 379) hx hb dL_law_309 (by decide) ?_
        refine lv_iinc (v := nI (i + 5)) (lv' := [(3, .int (nI (i + 5))), (2, .ref oy), (1, .ref ox), (0, .ref b)]) hx hb dL_law_379 hl (k := 0) rfl (nI_add i 5) (by decide) rfl (fun ls hl => ?_)
        refine lv_goto (tgt := 18) hx hb dL_law_382 (by decide) ?_
        exact ih (i + 5) (by omega) (by omega) K P (zab (zmm K m0) (fun c => S c ^^^ P c) 32) m0 _ _ _ _ _ _ _ H locs ls (zswP hP) hS hl
      · refine lv_tableIn (tgt := 312) (off := 280) hx hb dL_law_32 (by decide) (by decide) (by decide) (by decide) ?_
        refine lv_aload_n hx hb dL_law_312 rfl (lv_at hl 2 rfl) ?_
        refine zr_callVv (rest := []) ⟨hx, hb, hml, hown, hts⟩ (mX_restart l D cA ox ax K (zTK K) P S st fr (zmm K m0)) (cwV 0 hts (lw_V q185 q186 q187 q30 q188) rfl rfl rfl (by decide +kernel) ⟨Nat.le_of_ble_eq_true rfl, Nat.le_of_ble_eq_true rfl⟩) (YG cA oy ay zSub K P S sq sh se mo pr) hK hP hD rfl hS hA (ci := 0) (q0 := 0) rfl rfl rfl rfl hl.1 rfl (Nat.le_of_ble_eq_true rfl) dL_law_313 ⟨Nat.le_of_ble_eq_true rfl, Nat.le_of_ble_eq_true rfl⟩ (fun H locs hP hS => ?_)
        have hP : va_P D Cl ((XG cA ox ax zSub zRes zFwd zBwd K (zTK K) P (fun _ => nI 0) st fr (zmm K m0) zFal) ++ (YG cA oy ay zSub K P S sq sh se mo pr)) H := hP
        refine lv_aload_n hx hb dL_law_316 rfl (lv_at hl 1 rfl) ?_
        have hP := zswP hP
        refine zr_callVv (rest := []) ⟨hx, hb, hml, hown, hts⟩ (mY_restart l D cA oy ay K P S sq sh se mo pr) (cwV 0 hts (lw_V q333 q334 q335 q31 q336) rfl rfl rfl (by decide +kernel) ⟨Nat.le_of_ble_eq_true rfl, Nat.le_of_ble_eq_true rfl⟩) (XG cA ox ax zSub zRes zFwd zBwd K (zTK K) P (fun _ => nI 0) st fr (zmm K m0) zFal) hK hP hDs rfl hS hA (ci := 1) (q0 := 0) rfl rfl rfl rfl hl.1 rfl (Nat.le_of_ble_eq_true rfl) dL_law_317 ⟨Nat.le_of_ble_eq_true rfl, Nat.le_of_ble_eq_true rfl⟩ (fun H locs hP hS => ?_)
        have hP : va_P D Cl ((YG cA oy ay zSub K P (fun _ => nI 0) sq sh se mo pr) ++ (XG cA ox ax zSub zRes zFwd zBwd K (zTK K) P (fun _ => nI 0) st fr (zmm K m0) zFal)) H := hP
        refine lv_goto (tgt := 379) hx hb dL_law_320 (by decide) ?_
        refine lv_iinc (v := nI (i + 5)) (lv' := [(3, .int (nI (i + 5))), (2, .ref oy), (1, .ref ox), (0, .ref b)]) hx hb dL_law_379 hl (k := 0) rfl (nI_add i 5) (by decide) rfl (fun ls hl => ?_)
        refine lv_goto (tgt := 18) hx hb dL_law_382 (by decide) ?_
        exact ih (i + 5) (by omega) (by omega) K P (fun _ => nI 0) m0 _ _ _ _ _ _ _ H locs ls (zswP hP) hS hl
      · refine lv_tableIn (tgt := 323) (off := 291) hx hb dL_law_32 (by decide) (by decide) (by decide) (by decide) ?_
        refine lv_aload_n hx hb dL_law_323 rfl (lv_at hl 2 rfl) ?_
        refine lv_aload_n hx hb dL_law_324 rfl (lv_at hl 3 rfl) ?_
        refine lv_iload_n hx hb dL_law_325 rfl (lv_at hl 0 rfl) ?_
        refine lv_iconst (v := nI 1) hx hb dL_law_326 (by decide) ?_
        refine zr_iadd (v := nI (i + 1)) hx hb dL_law_327 (nI_add _ _) ?_
        refine zr_sld hx hb hX hbl hbA hS (i + 1) rfl (by omega) (by omega) dL_law_328 ?_
        refine zr_callVi (rest := []) ⟨hx, hb, hml, hown, hts⟩ (mX_hash l D cA ox ax K (zTK K) P S st fr (zmm K m0) (xs (i + 1))) (cwV 1 hts (lw_V q189 q190 q191 q30 q192) rfl rfl rfl (by decide +kernel) ⟨Nat.le_of_ble_eq_true rfl, Nat.le_of_ble_eq_true rfl⟩) (YG cA oy ay zSub K P S sq sh se mo pr) hK hP hD rfl hS hA (ci := 0) (q0 := 0) rfl rfl rfl rfl hl.1 rfl (Nat.le_of_ble_eq_true rfl) dL_law_329 ⟨Nat.le_of_ble_eq_true rfl, Nat.le_of_ble_eq_true rfl⟩ (fun H locs hP hS => ?_)
        have hP : va_P D Cl ((XG cA ox ax zSub zRes zFwd zBwd K (zTK K) P S st fr (zmm K m0) zFal) ++ (YG cA oy ay zSub K P S sq sh se mo pr)) H := hP
        refine lv_aload_n hx hb dL_law_332 rfl (lv_at hl 1 rfl) ?_
        refine lv_aload_n hx hb dL_law_333 rfl (lv_at hl 3 rfl) ?_
        refine lv_iload_n hx hb dL_law_334 rfl (lv_at hl 0 rfl) ?_
        refine lv_iconst (v := nI 1) hx hb dL_law_335 (by decide) ?_
        refine zr_iadd (v := nI (i + 1)) hx hb dL_law_336 (nI_add _ _) ?_
        refine zr_sld hx hb hX hbl hbA hS (i + 1) rfl (by omega) (by omega) dL_law_337 ?_
        have hP := zswP hP
        refine zr_callVi (rest := [.int (S (zlo (xs (i + 1)) 4))]) ⟨hx, hb, hml, hown, hts⟩ (mY_hash l D cA oy ay K P S sq sh se mo pr (xs (i + 1))) (cwV 1 hts (lw_V q337 q338 q339 q31 q340) rfl rfl rfl (by decide +kernel) ⟨Nat.le_of_ble_eq_true rfl, Nat.le_of_ble_eq_true rfl⟩) (XG cA ox ax zSub zRes zFwd zBwd K (zTK K) P S st fr (zmm K m0) zFal) hK hP hDs rfl hS hA (ci := 1) (q0 := 0) rfl rfl rfl rfl hl.1 rfl (Nat.le_of_ble_eq_true rfl) dL_law_338 ⟨Nat.le_of_ble_eq_true rfl, Nat.le_of_ble_eq_true rfl⟩ (fun H locs hP hS => ?_)
        have hP : va_P D Cl ((YG cA oy ay zSub K P S sq sh se mo pr) ++ (XG cA ox ax zSub zRes zFwd zBwd K (zTK K) P S st fr (zmm K m0) zFal)) H := hP
        refine lv_icmp_eq (tgt := 379) hx hb dL_law_341 (by decide) (fun _ => ?_) (fun z => absurd rfl z)
        refine lv_iinc (v := nI (i + 5)) (lv' := [(3, .int (nI (i + 5))), (2, .ref oy), (1, .ref ox), (0, .ref b)]) hx hb dL_law_379 hl (k := 0) rfl (nI_add i 5) (by decide) rfl (fun ls hl => ?_)
        refine lv_goto (tgt := 18) hx hb dL_law_382 (by decide) ?_
        exact ih (i + 5) (by omega) (by omega) K P S m0 _ _ _ _ _ _ _ H locs ls (zswP hP) hS hl
      · refine lv_tableIn (tgt := 346) (off := 314) hx hb dL_law_32 (by decide) (by decide) (by decide) (by decide) ?_
        refine lv_aload_n hx hb dL_law_346 rfl (lv_at hl 2 rfl) ?_
        refine lv_aload_n hx hb dL_law_347 rfl (lv_at hl 3 rfl) ?_
        refine lv_iload_n hx hb dL_law_348 rfl (lv_at hl 0 rfl) ?_
        refine lv_iconst (v := nI 1) hx hb dL_law_349 (by decide) ?_
        refine zr_iadd (v := nI (i + 1)) hx hb dL_law_350 (nI_add _ _) ?_
        refine zr_sld hx hb hX hbl hbA hS (i + 1) rfl (by omega) (by omega) dL_law_351 ?_
        refine lv_aload_n hx hb dL_law_352 rfl (lv_at hl 3 rfl) ?_
        refine lv_iload_n hx hb dL_law_353 rfl (lv_at hl 0 rfl) ?_
        refine lv_iconst (v := nI 2) hx hb dL_law_354 (by decide) ?_
        refine zr_iadd (v := nI (i + 2)) hx hb dL_law_355 (nI_add _ _) ?_
        refine zr_sld hx hb hX hbl hbA hS (i + 2) rfl (by omega) (by omega) dL_law_356 ?_
        refine zr_callVi (rest := []) ⟨hx, hb, hml, hown, hts⟩ (mX_roundKey l D cA ox ax K (zTK K) P S st fr (zmm K m0) (xs (i + 1)) (xs (i + 2))) (cwV 2 hts (lw_V q193 q194 q195 q30 q196) rfl rfl rfl (by decide +kernel) ⟨Nat.le_of_ble_eq_true rfl, Nat.le_of_ble_eq_true rfl⟩) (YG cA oy ay zSub K P S sq sh se mo pr) hK hP hD rfl hS hA (ci := 0) (q0 := 0) rfl rfl rfl rfl hl.1 rfl (Nat.le_of_ble_eq_true rfl) dL_law_357 ⟨Nat.le_of_ble_eq_true rfl, Nat.le_of_ble_eq_true rfl⟩ (fun H locs hP hS => ?_)
        have hP : va_P D Cl ((XG cA ox ax zSub zRes zFwd zBwd K (zTK K) P S st fr (zmm K m0) zFal) ++ (YG cA oy ay zSub K P S sq sh se mo pr)) H := hP
        refine lv_aload_n hx hb dL_law_360 rfl (lv_at hl 1 rfl) ?_
        refine lv_aload_n hx hb dL_law_361 rfl (lv_at hl 3 rfl) ?_
        refine lv_iload_n hx hb dL_law_362 rfl (lv_at hl 0 rfl) ?_
        refine lv_iconst (v := nI 1) hx hb dL_law_363 (by decide) ?_
        refine zr_iadd (v := nI (i + 1)) hx hb dL_law_364 (nI_add _ _) ?_
        refine zr_sld hx hb hX hbl hbA hS (i + 1) rfl (by omega) (by omega) dL_law_365 ?_
        refine lv_aload_n hx hb dL_law_366 rfl (lv_at hl 3 rfl) ?_
        refine lv_iload_n hx hb dL_law_367 rfl (lv_at hl 0 rfl) ?_
        refine lv_iconst (v := nI 2) hx hb dL_law_368 (by decide) ?_
        refine zr_iadd (v := nI (i + 2)) hx hb dL_law_369 (nI_add _ _) ?_
        refine zr_sld hx hb hX hbl hbA hS (i + 2) rfl (by omega) (by omega) dL_law_370 ?_
        have hP := zswP hP
        refine zr_callVi (rest := [.int (K (4 * zrq (xs (i + 1)) + zlo (xs (i + 2)) 4))]) ⟨hx, hb, hml, hown, hts⟩ (mY_roundKey l D cA oy ay K P S sq sh se mo pr (xs (i + 1)) (xs (i + 2))) (cwV 2 hts (lw_V q341 q342 q343 q31 q344) rfl rfl rfl (by decide +kernel) ⟨Nat.le_of_ble_eq_true rfl, Nat.le_of_ble_eq_true rfl⟩) (XG cA ox ax zSub zRes zFwd zBwd K (zTK K) P S st fr (zmm K m0) zFal) hK hP hDs rfl hS hA (ci := 1) (q0 := 0) rfl rfl rfl rfl hl.1 rfl (Nat.le_of_ble_eq_true rfl) dL_law_371 ⟨Nat.le_of_ble_eq_true rfl, Nat.le_of_ble_eq_true rfl⟩ (fun H locs hP hS => ?_)
        have hP : va_P D Cl ((YG cA oy ay zSub K P S sq sh se mo pr) ++ (XG cA ox ax zSub zRes zFwd zBwd K (zTK K) P S st fr (zmm K m0) zFal)) H := hP
        refine lv_icmp_eq (tgt := 379) hx hb dL_law_374 (by decide) (fun _ => ?_) (fun z => absurd rfl z)
        refine lv_iinc (v := nI (i + 5)) (lv' := [(3, .int (nI (i + 5))), (2, .ref oy), (1, .ref ox), (0, .ref b)]) hx hb dL_law_379 hl (k := 0) rfl (nI_add i 5) (by decide) rfl (fun ls hl => ?_)
        refine lv_goto (tgt := 18) hx hb dL_law_382 (by decide) ?_
        exact ih (i + 5) (by omega) (by omega) K P S m0 _ _ _ _ _ _ _ H locs ls (zswP hP) hS hl
      · refine lv_tableOut (tgt := 379) hx hb dL_law_32 (by decide) (by decide) ?_
        refine lv_iinc (v := nI (i + 5)) (lv' := [(3, .int (nI (i + 5))), (2, .ref oy), (1, .ref ox), (0, .ref b)]) hx hb dL_law_379 hl (k := 0) rfl (nI_add i 5) (by decide) rfl (fun ls hl => ?_)
        refine lv_goto (tgt := 18) hx hb dL_law_382 (by decide) ?_
        exact ih (i + 5) (by omega) (by omega) K P S m0 _ _ _ _ _ _ _ H locs ls (hP) hS hl
      · refine lv_tableOut (tgt := 379) hx hb dL_law_32 (by decide) (by decide) ?_
        refine lv_iinc (v := nI (i + 5)) (lv' := [(3, .int (nI (i + 5))), (2, .ref oy), (1, .ref ox), (0, .ref b)]) hx hb dL_law_379 hl (k := 0) rfl (nI_add i 5) (by decide) rfl (fun ls hl => ?_)
        refine lv_goto (tgt := 18) hx hb dL_law_382 (by decide) ?_
        exact ih (i + 5) (by omega) (by omega) K P S m0 _ _ _ _ _ _ _ H locs ls (hP) hS hl
      · refine lv_tableOut (tgt := 379) hx hb dL_law_32 (by decide) (by decide) ?_
        refine lv_iinc (v := nI (i + 5)) (lv' := [(3, .int (nI (i + 5))), (2, .ref oy), (1, .ref ox), (0, .ref b)]) hx hb dL_law_379 hl (k := 0) rfl (nI_add i 5) (by decide) rfl (fun ls hl => ?_)
        refine lv_goto (tgt := 18) hx hb dL_law_382 (by decide) ?_
        exact ih (i + 5) (by omega) (by omega) K P S m0 _ _ _ _ _ _ _ H locs ls (hP) hS hl
      · refine lv_tableOut (tgt := 379) hx hb dL_law_32 (by decide) (by decide) ?_
        refine lv_iinc (v := nI (i + 5)) (lv' := [(3, .int (nI (i + 5))), (2, .ref oy), (1, .ref ox), (0, .ref b)]) hx hb dL_law_379 hl (k := 0) rfl (nI_add i 5) (by decide) rfl (fun ls hl => ?_)
        refine lv_goto (tgt := 18) hx hb dL_law_382 (by decide) ?_
        exact ih (i + 5) (by omega) (by omega) K P S m0 _ _ _ _ _ _ _ H locs ls (hP) hS hl
      · refine lv_tableOut (tgt := 379) hx hb dL_law_32 (by decide) (by decide) ?_
        refine lv_iinc (v := nI (i + 5)) (lv' := [(3, .int (nI (i + 5))), (2, .ref oy), (1, .ref ox), (0, .ref b)]) hx hb dL_law_379 hl (k := 0) rfl (nI_add i 5) (by decide) rfl (fun ls hl => ?_)
        refine lv_goto (tgt := 18) hx hb dL_law_382 (by decide) ?_
        exact ih (i + 5) (by omega) (by omega) K P S m0 _ _ _ _ _ _ _ H locs ls (hP) hS hl
end
section
set_option maxRecDepth 100000
set_option maxHeartbeats 16000000 in
theorem whole_start {p : Program} {e : Env} {s : State} {m : MethodId} {below : List Frame} {meth : Method} {c : Code} (l : Launch) {b L : Nat} {xs : Nat → Int32} (hL : L ≤ 320) (C0 : lw_At p s m meth c b L xs) : W p l e room_1 s m #[Value.ref b] below meth c s.heap [] 0 0 (lw_Z below #[Value.ref b] s) (entryFrame m ([Value.ref b] : List Value).toArray 4) := by
  obtain ⟨hx, hb, hr, hml, hown, hts0, hX, hbl, hlocks, hgv⟩ := id C0
  have hts : ∀ w ∈ lw_all, w.before #[Value.ref b] s = true := fun w h => hts0 w (lw_all_tbl h)
  have hA : ∀ q : Nat, s.heap.size ≤ q → (fun q : Nat => s.heap.size ≤ q) q := fun _ h => h
  obtain ⟨c0, iS0, hKn0⟩ := u_known (C := RX0) (T := TX0) (N := 12) (n := 12) hts in_X0 (hts _ q33)
  obtain ⟨c1, iS1, hKn1⟩ := u_known (C := RX1) (T := TX1) (N := 9) (n := 9) hts in_X1 (hts _ q198)
  obtain ⟨D, hKc⟩ : ∃ D : va_G, ∀ (k : Nat) (q : vw_C), Cl[k]? = some q → u_Kn s q.1 q.2.1 q.2.2 (D.1 k) (D.2 k) := by
    refine ⟨(fun k => if k = 0 then c0 else c1, fun k => if k = 0 then iS0 else iS1), ?_⟩
    intro k q hq
    match k, hq with
    | 0, hq => cases hq; exact hKn0
    | 1, hq => cases hq; exact hKn1
    | k + 2, hq => simp [Cl] at hq
  have hS : va_S (fun q : Nat => s.heap.size ≤ q) s.heap s.heap [] := va_S.rf
  have hK : va_K D Cl [] s := ⟨hKc, fun k q h => by simp at h⟩
  have hP : va_P D Cl [] s.heap := fun k q h => by simp at h
  have hD : va_D (fun q : Nat => s.heap.size ≤ q) [] := ⟨fun i j p q h => by simp at h, fun k q h => by simp at h⟩
  have hl := lv_entry ([.ref b]) (n := 4) (Nat.le_of_ble_eq_true rfl)
  rw [lg_entry_eq]
  generalize (lg_sl ([.ref b]) ++ List.replicate (4 - (lg_sl ([.ref b])).length) Slot.unset).toArray = ls at hl ⊢
  have hl : lv_has ls 4 [(0, .ref b)] := hl
  refine va_new (ci := 0) (fs := [.null, .null, .null, .null, .null, .null, .null, .null, .null, .null, .null, .null]) (C := RX0) (T := TX0) (N := 12) hx hb hts in_X0 tyX0 tyX0_ok hown (hts _ q32) (hts _ q33) (hts _ q30) hK hP hD hS hA rfl (fun j hj => by rcases (show j = 0 ∨ j = 1 ∨ j = 2 ∨ j = 3 ∨ j = 4 ∨ j = 5 ∨ j = 6 ∨ j = 7 ∨ j = 8 ∨ j = 9 ∨ j = 10 ∨ j = 11 by omega) with rfl | rfl | rfl | rfl | rfl | rfl | rfl | rfl | rfl | rfl | rfl | rfl <;> rfl) (Nat.le_of_ble_eq_true rfl) (Nat.le_of_ble_eq_true rfl) dL_law_0 (fun ox H hP hD hS => ?_)
  have hP : va_P D Cl [(ox, .inr (0, [.null, .null, .null, .null, .null, .null, .null, .null, .null, .null, .null, .null]))] H := hP
  have hD : va_D (fun q : Nat => s.heap.size ≤ q) [(ox, .inr (0, [.null, .null, .null, .null, .null, .null, .null, .null, .null, .null, .null, .null]))] := hD
  refine W.widen (k := 1) (n := 12) (Nat.le_of_ble_eq_true rfl) (Nat.le_of_ble_eq_true rfl) ?_
  refine lv_dup hx hb dL_law_3 rfl ?_
  have hPc := hP.sub (ws' := [(ox, .inr (0, [.null, .null, .null, .null, .null, .null, .null, .null, .null, .null, .null, .null]))]) [0] rfl
  have hDc := hD.sub (ws' := [(ox, .inr (0, [.null, .null, .null, .null, .null, .null, .null, .null, .null, .null, .null, .null]))]) [0] (by decide) rfl
  have hKc := hK.sub (tys' := []) [] rfl
  have hFc := va_free (wc := [(ox, .inr (0, [.null, .null, .null, .null, .null, .null, .null, .null, .null, .null, .null, .null]))]) hD hS hA [0] rfl
  refine va_callv (va_runI (As := []) (rest := [.ref ox]) ⟨hx, hb, hml, hown, hts⟩ (mX_init l D ox H.size) (cwI 0 hts (lw_meth q36) rfl rfl rfl (hts _ q30) (hts _ q34) (hts _ q35) rfl (by decide +kernel) ⟨Nat.le_of_ble_eq_true rfl, Nat.le_of_ble_eq_true rfl⟩) ⟨fun a U g mk q => by obtain ⟨q0, q1, qP, qK, qD⟩ := q; exact ⟨q0, q1, qP, va_K.moved (u := U) (U := U.calling g mk a) (Vm.Alike.refl U.vm) qK, qD⟩, fun U hU hW => ⟨rfl, by rw [hU], by rw [hU]; exact hPc, va_K.moved hW.alike hKc, hDc.weaken (fun _ _ _ _ => trivial)⟩⟩ rfl rfl hl.1 rfl (lv_room (Nat.le_of_ble_eq_true rfl)) dL_law_4 ⟨Nat.le_of_ble_eq_true rfl, Nat.le_of_ble_eq_true rfl⟩) hS (fun q _ h => hFc q h) hFc (fun u t H1 locs ht hvm hw hB hz1 hk1 hS => ?_)
  obtain ⟨cA, ax⟩ := u
  obtain ⟨hP1, hK1, hD1⟩ := hB
  rw [ht] at hP1
  have hK1 := va_K.moved hvm.symm hK1
  obtain ⟨hP, hD⟩ := va_join (wr := []) (w1 := (XG cA ox ax zSub zRes zFwd zBwd (zkx zsw ztw (zk4 (fun _ => 0) (nI 0) (nI 0) (nI 0) (nI 0)) 40).1 (zTK (zkx zsw ztw (zk4 (fun _ => 0) (nI 0) (nI 0) (nI 0) (nI 0)) 40).1) (fun _ => 0) (fun _ => 0) (zmo (zmo (zmo (zmo (zH (zkx zsw ztw (zk4 (fun _ => 0) (nI 0) (nI 0) (nI 0) (nI 0)) 40).1))))) (zH (zkx zsw ztw (zk4 (fun _ => 0) (nI 0) (nI 0) (nI 0) (nI 0)) 40).1) (zmm (zkx zsw ztw (zk4 (fun _ => 0) (nI 0) (nI 0) (nI 0) (nI 0)) 40).1 (fun _ => 0)) zFal)) hP hD [0] [] rfl rfl (by decide) (by decide) hk1 hFc hP1 hD1
  have hK : va_K D Cl [(cA, .int)] s := hK1
  generalize H1 = H at hP hS ⊢
  have hP : va_P D Cl (XG cA ox ax zSub zRes zFwd zBwd (zkx zsw ztw (zk4 (fun _ => 0) (nI 0) (nI 0) (nI 0) (nI 0)) 40).1 (zTK (zkx zsw ztw (zk4 (fun _ => 0) (nI 0) (nI 0) (nI 0) (nI 0)) 40).1) (fun _ => 0) (fun _ => 0) (zmo (zmo (zmo (zmo (zH (zkx zsw ztw (zk4 (fun _ => 0) (nI 0) (nI 0) (nI 0) (nI 0)) 40).1))))) (zH (zkx zsw ztw (zk4 (fun _ => 0) (nI 0) (nI 0) (nI 0) (nI 0)) 40).1) (zmm (zkx zsw ztw (zk4 (fun _ => 0) (nI 0) (nI 0) (nI 0) (nI 0)) 40).1 (fun _ => 0)) zFal) H := hP
  have hD : va_D (fun q : Nat => s.heap.size ≤ q) (XG cA ox ax zSub zRes zFwd zBwd (zkx zsw ztw (zk4 (fun _ => 0) (nI 0) (nI 0) (nI 0) (nI 0)) 40).1 (zTK (zkx zsw ztw (zk4 (fun _ => 0) (nI 0) (nI 0) (nI 0) (nI 0)) 40).1) (fun _ => 0) (fun _ => 0) (zmo (zmo (zmo (zmo (zH (zkx zsw ztw (zk4 (fun _ => 0) (nI 0) (nI 0) (nI 0) (nI 0)) 40).1))))) (zH (zkx zsw ztw (zk4 (fun _ => 0) (nI 0) (nI 0) (nI 0) (nI 0)) 40).1) (zmm (zkx zsw ztw (zk4 (fun _ => 0) (nI 0) (nI 0) (nI 0) (nI 0)) 40).1 (fun _ => 0)) zFal) := hD
  refine W.widen (k := 13) (n := 1220) (Nat.le_of_ble_eq_true rfl) (Nat.le_of_ble_eq_true rfl) ?_
  refine lv_astore_n (lv' := [(1, .ref ox), (0, .ref b)]) hx hb dL_law_7 rfl hl (by decide) rfl (fun ls hl => ?_)
  refine va_new (ci := 1) (fs := [.null, .null, .null, .null, .null, .null, .null, .null, .null]) (C := RX1) (T := TX1) (N := 9) hx hb hts in_X1 tyX1 tyX1_ok hown (hts _ q197) (hts _ q198) (hts _ q31) hK hP hD hS hA rfl (fun j hj => by rcases (show j = 0 ∨ j = 1 ∨ j = 2 ∨ j = 3 ∨ j = 4 ∨ j = 5 ∨ j = 6 ∨ j = 7 ∨ j = 8 by omega) with rfl | rfl | rfl | rfl | rfl | rfl | rfl | rfl | rfl <;> rfl) (Nat.le_of_ble_eq_true rfl) (Nat.le_of_ble_eq_true rfl) dL_law_8 (fun oy H hP hD hS => ?_)
  have hP : va_P D Cl ((XG cA ox ax zSub zRes zFwd zBwd (zkx zsw ztw (zk4 (fun _ => 0) (nI 0) (nI 0) (nI 0) (nI 0)) 40).1 (zTK (zkx zsw ztw (zk4 (fun _ => 0) (nI 0) (nI 0) (nI 0) (nI 0)) 40).1) (fun _ => 0) (fun _ => 0) (zmo (zmo (zmo (zmo (zH (zkx zsw ztw (zk4 (fun _ => 0) (nI 0) (nI 0) (nI 0) (nI 0)) 40).1))))) (zH (zkx zsw ztw (zk4 (fun _ => 0) (nI 0) (nI 0) (nI 0) (nI 0)) 40).1) (zmm (zkx zsw ztw (zk4 (fun _ => 0) (nI 0) (nI 0) (nI 0) (nI 0)) 40).1 (fun _ => 0)) zFal) ++ [(oy, .inr (1, [.null, .null, .null, .null, .null, .null, .null, .null, .null]))]) H := hP
  have hD : va_D (fun q : Nat => s.heap.size ≤ q) ((XG cA ox ax zSub zRes zFwd zBwd (zkx zsw ztw (zk4 (fun _ => 0) (nI 0) (nI 0) (nI 0) (nI 0)) 40).1 (zTK (zkx zsw ztw (zk4 (fun _ => 0) (nI 0) (nI 0) (nI 0) (nI 0)) 40).1) (fun _ => 0) (fun _ => 0) (zmo (zmo (zmo (zmo (zH (zkx zsw ztw (zk4 (fun _ => 0) (nI 0) (nI 0) (nI 0) (nI 0)) 40).1))))) (zH (zkx zsw ztw (zk4 (fun _ => 0) (nI 0) (nI 0) (nI 0) (nI 0)) 40).1) (zmm (zkx zsw ztw (zk4 (fun _ => 0) (nI 0) (nI 0) (nI 0) (nI 0)) 40).1 (fun _ => 0)) zFal) ++ [(oy, .inr (1, [.null, .null, .null, .null, .null, .null, .null, .null, .null]))]) := hD
  refine W.widen (k := 14) (n := 1229) (Nat.le_of_ble_eq_true rfl) (Nat.le_of_ble_eq_true rfl) ?_
  refine lv_dup hx hb dL_law_11 rfl ?_
  have hPc := hP.sub (ws' := [(oy, .inr (1, [.null, .null, .null, .null, .null, .null, .null, .null, .null]))]) [13] rfl
  have hDc := hD.sub (ws' := [(oy, .inr (1, [.null, .null, .null, .null, .null, .null, .null, .null, .null]))]) [13] (by decide) rfl
  have hKc := hK.sub (tys' := []) [] rfl
  have hFc := va_free (wc := [(oy, .inr (1, [.null, .null, .null, .null, .null, .null, .null, .null, .null]))]) hD hS hA [13] rfl
  refine va_callv (va_runI (As := []) (rest := [.ref oy]) ⟨hx, hb, hml, hown, hts⟩ (mY_init l D oy H.size) (cwI 0 hts (lw_meth q201) rfl rfl rfl (hts _ q31) (hts _ q199) (hts _ q200) rfl (by decide +kernel) ⟨Nat.le_of_ble_eq_true rfl, Nat.le_of_ble_eq_true rfl⟩) ⟨fun a U g mk q => by obtain ⟨q0, q1, qP, qK, qD⟩ := q; exact ⟨q0, q1, qP, va_K.moved (u := U) (U := U.calling g mk a) (Vm.Alike.refl U.vm) qK, qD⟩, fun U hU hW => ⟨rfl, by rw [hU], by rw [hU]; exact hPc, va_K.moved hW.alike hKc, hDc.weaken (fun _ _ _ _ => trivial)⟩⟩ rfl rfl hl.1 rfl (lv_room (Nat.le_of_ble_eq_true rfl)) dL_law_12 ⟨Nat.le_of_ble_eq_true rfl, Nat.le_of_ble_eq_true rfl⟩) hS (fun q _ h => hFc q h) hFc (fun u t H1 locs ht hvm hw hB hz1 hk1 hS => ?_)
  obtain ⟨cB, ay⟩ := u
  obtain ⟨hPy, hKy, hDy⟩ := hB
  rw [ht] at hPy
  have hKy := va_K.moved hvm.symm hKy
  have ecb : cB = cA := Option.some.inj ((hKy.2 0 _ rfl).2.symm.trans (hK.2 0 _ rfl).2)
  replace ecb : cB = cA := ecb
  subst ecb
  obtain ⟨hP, hD⟩ := va_join (wr := (XG cB ox ax zSub zRes zFwd zBwd (zkx zsw ztw (zk4 (fun _ => 0) (nI 0) (nI 0) (nI 0) (nI 0)) 40).1 (zTK (zkx zsw ztw (zk4 (fun _ => 0) (nI 0) (nI 0) (nI 0) (nI 0)) 40).1) (fun _ => 0) (fun _ => 0) (zmo (zmo (zmo (zmo (zH (zkx zsw ztw (zk4 (fun _ => 0) (nI 0) (nI 0) (nI 0) (nI 0)) 40).1))))) (zH (zkx zsw ztw (zk4 (fun _ => 0) (nI 0) (nI 0) (nI 0) (nI 0)) 40).1) (zmm (zkx zsw ztw (zk4 (fun _ => 0) (nI 0) (nI 0) (nI 0) (nI 0)) 40).1 (fun _ => 0)) zFal)) (w1 := (YG cB oy ay zSub (zkx (fun w => zsb w 4) ztm (zk4 (fun _ => 0) (nI 0) (nI 0) (nI 0) (nI 0)) 40).1 (fun _ => 0) (fun _ => 0) (fun _ => 0) (fun _ => 0) (fun _ => 0) (fun _ => 0) (fun _ => 0))) hP hD [13] [0, 1, 2, 3, 4, 5, 6, 7, 8, 9, 10, 11, 12] rfl rfl (by decide) (by decide) hk1 hFc hPy hDy
  generalize H1 = H at hP hS ⊢
  have hP : va_P D Cl ((XG cB ox ax zSub zRes zFwd zBwd (zkx zsw ztw (zk4 (fun _ => 0) (nI 0) (nI 0) (nI 0) (nI 0)) 40).1 (zTK (zkx zsw ztw (zk4 (fun _ => 0) (nI 0) (nI 0) (nI 0) (nI 0)) 40).1) (fun _ => 0) (fun _ => 0) (zmo (zmo (zmo (zmo (zH (zkx zsw ztw (zk4 (fun _ => 0) (nI 0) (nI 0) (nI 0) (nI 0)) 40).1))))) (zH (zkx zsw ztw (zk4 (fun _ => 0) (nI 0) (nI 0) (nI 0) (nI 0)) 40).1) (zmm (zkx zsw ztw (zk4 (fun _ => 0) (nI 0) (nI 0) (nI 0) (nI 0)) 40).1 (fun _ => 0)) zFal) ++ (YG cB oy ay zSub (zkx (fun w => zsb w 4) ztm (zk4 (fun _ => 0) (nI 0) (nI 0) (nI 0) (nI 0)) 40).1 (fun _ => 0) (fun _ => 0) (fun _ => 0) (fun _ => 0) (fun _ => 0) (fun _ => 0) (fun _ => 0))) H := hP
  have hD : va_D (fun q : Nat => s.heap.size ≤ q) ((XG cB ox ax zSub zRes zFwd zBwd (zkx zsw ztw (zk4 (fun _ => 0) (nI 0) (nI 0) (nI 0) (nI 0)) 40).1 (zTK (zkx zsw ztw (zk4 (fun _ => 0) (nI 0) (nI 0) (nI 0) (nI 0)) 40).1) (fun _ => 0) (fun _ => 0) (zmo (zmo (zmo (zmo (zH (zkx zsw ztw (zk4 (fun _ => 0) (nI 0) (nI 0) (nI 0) (nI 0)) 40).1))))) (zH (zkx zsw ztw (zk4 (fun _ => 0) (nI 0) (nI 0) (nI 0) (nI 0)) 40).1) (zmm (zkx zsw ztw (zk4 (fun _ => 0) (nI 0) (nI 0) (nI 0) (nI 0)) 40).1 (fun _ => 0)) zFal) ++ (YG cB oy ay zSub (zkx (fun w => zsb w 4) ztm (zk4 (fun _ => 0) (nI 0) (nI 0) (nI 0) (nI 0)) 40).1 (fun _ => 0) (fun _ => 0) (fun _ => 0) (fun _ => 0) (fun _ => 0) (fun _ => 0) (fun _ => 0))) := hD
  refine W.widen (k := 23) (n := 1581) (Nat.le_of_ble_eq_true rfl) (Nat.le_of_ble_eq_true rfl) ?_
  refine lv_astore_n (lv' := [(2, .ref oy), (1, .ref ox), (0, .ref b)]) hx hb dL_law_15 rfl hl (by decide) rfl (fun ls hl => ?_)
  refine lv_iconst (v := nI 0) hx hb dL_law_16 (by decide) ?_
  refine lv_istore_n (lv' := [(3, .int (nI 0)), (2, .ref oy), (1, .ref ox), (0, .ref b)]) hx hb dL_law_17 rfl hl (by decide) rfl (fun ls hl => ?_)
  have hP := zP (g := (zkx zsw ztw (zk4 (fun _ => 0) (nI 0) (nI 0) (nI 0) (nI 0)) 40).1) hP 15 rfl (fun j hj => zz_key (zk4 (fun _ => 0) (nI 0) (nI 0) (nI 0) (nI 0)) j)
  exact law_loop hL C0 hK (fun f0 f1 f2 f3 f4 f5 f6 f7 f8 f9 f10 f11 g0 g1 g2 g3 g4 g5 g6 g7 g8 => zD hD rfl) (L + 1) 0 (Nat.zero_le L) (by omega) ((zkx zsw ztw (zk4 (fun _ => 0) (nI 0) (nI 0) (nI 0) (nI 0)) 40).1) (fun _ => 0) (fun _ => 0) (fun _ => 0) _ _ _ _ _ _ _ H locs ls hP hS hl
end
section
set_option maxRecDepth 100000
set_option maxHeartbeats 4000000 in
theorem lw_walk (l : Launch) (b : Addr) (xs : List Int32) : MetFree l x (headSpec (Jvm.Cond.code x code maxLocals ret :: tables_1) room_1) (lw_P b xs) (fun _ _ _ _ _ => True) lw_Q := by
  refine MetFree.of_bodyS (code := code) (maxLocals := maxLocals) (ret := ret) (by decide) ?_ ?_
  · intro args s m h hn
    obtain ⟨meth, c, h1, h2, h3, h4, h5, h6, -, -⟩ := Cond.code_spec hn (atoms_spec (ws := Jvm.Cond.code x code maxLocals ret :: tables_1) h _ List.mem_cons_self)
    exact ⟨meth, c, h1, h2, h3, h4, h5, h6⟩
  · intro p e s m args below meth c s₁ B hml0 hP _
    obtain ⟨rfl, hx, hbd, hgv⟩ := hP
    obtain ⟨scr, harrAt, hlist, hof, hsmall⟩ := hx
    obtain ⟨hcb, hkn, -, -⟩ := State.arrayAt?_spec harrAt
    have hown : s.vm.findClass R_law = some m.cls := findClass_of_methodNamed B.named
    have hts0 : ∀ c ∈ (Jvm.Cond.code x code maxLocals ret :: tables_1), c.before #[Value.ref b] s = true := atoms_spec (ws := Jvm.Cond.code x code maxLocals ret :: tables_1) B.pre
    have hts : ∀ w ∈ lw_tbl, w.before #[Value.ref b] s = true := k2_hts_sels lw_privs (fun w hw => hts0 w (List.mem_cons_of_mem _ hw)) lw_privs_ok
    have hml : c.maxLocals = 4 := B.maxLocals_eq (hts0 _ List.mem_cons_self)
    have X₀ : Stand p l e room_1 s m #[Value.ref b] below meth c s₁ [] 0 0 := Stand.of_body B
    have hh0 : s₁.heap = s.heap := by rw [B.state]; rfl
    have hsz : scr.slots.size = xs.length := by rw [← Array.length_toList, hlist, List.length_map]
    have hval : ∀ j : Nat, j < xs.length → scr.slots[j]? = some (.int (xs.getD j 0)) := fun j hj => by
      rw [← Array.getElem?_toList, hlist]
      simp [hj]
    have hbl : b < s.heap.size := (Array.getElem?_eq_some_iff.mp hcb).1
    have hX : va_X b xs.length (fun j => xs.getD j 0) s s.heap := ⟨scr, hcb, hof, hkn, hsz, hval⟩
    have K : W p l e room_1 s m #[Value.ref b] below meth c s₁.heap [] 0 0 (lw_Z below #[Value.ref b] s) (entryFrame m ([Value.ref b] : List Value).toArray 4) := by
      rw [hh0]
      exact whole_start l hbd ⟨B.exec, B.bytes, B.returns, hml, hown, hts, hX, hbl, B.notSynchronized, hgv⟩
    obtain ⟨t, a1, o, b1, b2, b3⟩ := K s₁ rfl X₀
    exact ⟨t, o, a1, b1, b2, b3⟩
theorem lw_pre_spec {args : Array Value} {s : State} (h : (Jvm.Cond.and given_1 narrow_1).before args s = true) (hr : rest_1_c.before args s = true) : ∃ (b : Addr) (xs : List Int32), lw_P b xs args s := by
  have hs := flat_of_before _ h
  have hq := flat_of_before _ hr
  have hc : (Cond.count 1).before args s = true := hs _ (by decide +kernel)
  have harr : (Cond.arrayOf (.arg 0) .int).before args s = true := hs _ (by decide +kernel)
  have hle : (Cond.le (.length (.arg 0)) (.int 320)).before args s = true := hs _ (by decide +kernel)
  have hlen : (Cond.isInt (.length (.arg 0))).before args s = true := hq _ (by decide +kernel)
  have hall : (Cond.all (.arg 0) (.isInt (.elem (.arg 0) (.index 0)))).before args s = true := hq _ (by decide +kernel)
  obtain ⟨b, xs, hb, hx⟩ := State.ints_of_pre rfl harr hlen hall
  have hsm : xs.length < 2 ^ 31 := hx.choose_spec.2.2.2
  have hev : (Term.length (.arg 0)).eval args s none [] s = some (.int xs.length.toInt32) := hx.length_eval hb
  have hv := Cond.le_ints hev (show (Term.int 320).eval args s none [] s = some (.int 320) from rfl)
  have hd : xs.length.toInt32 ≤ 320 := by
    simpa [Cond.before, Cond.holds, hv] using hle
  have hN : xs.length ≤ 320 := (Int32.ofNat_le_ofNat hsm (by decide)).mp (show Int32.ofNat xs.length ≤ Int32.ofNat 320 from hd)
  exact ⟨b, xs, Cond.one_arg hc (show args[0]? = some (.ref b) from hb), hx, hN, h⟩
theorem lw_comes (l : Launch) : Comes l x (Jvm.Cond.code x code maxLocals ret :: tables_1) room_1 (fun tb e args s => Calls_1 tb e args s ∧ rest_1 tb e args s ∧ Pre_1 tb e args s)
    (fun _ _ args s o t => lw_Q args s o t) := by
  intro p e ha hc hk s m args below hf hfit hheap happ hpre
  obtain ⟨b, xs, hP⟩ := lw_pre_spec hpre.2.2 hpre.2.1
  obtain ⟨k, o, h1, h2, h3, hQ⟩ := lw_walk l b xs p e ha hc hk s m args below hf ((Spec.applies_iff_loose hf).mp happ).1 hP trivial
  exact ⟨k, o, h1, h2, h3, hQ⟩
theorem lw_frame {s t : State} {o : Outcome} {args : Array Value} (h : Framed s o t [] 600000 7290000) :
    Framed s o t (fieldLocs frame_1_writes args s ++ arrayLocs frame_1_arrays args s ++ staticLocs frame_1_statics s) 600000 7290000 := h
theorem lw_limb (L : Cond) (hL : ∀ (args : Array Value) (s t : State), L.after args s (.returned (some (.int 1))) t = true) :
    ArmFor flags0 classFile x code maxLocals ret World_1 tables_1 room_1 Calls_1 rest_1 Pre_1
      (fun tb e a s o t => postC L tb e a s o t ∧ Framed s o t (fieldLocs frame_1_writes a s ++ arrayLocs frame_1_arrays a s ++ staticLocs frame_1_statics s) 600000 7290000) := by
  intro l _ _ _ p e ha hc hk s m args below hf hfit hheap happ hpre
  obtain ⟨k, o, h1, h2, h3, rfl, hF⟩ := lw_comes l p e ha hc hk s m args below hf hfit hheap happ hpre
  exact ⟨k, _, h1, h2, h3, hL args s _, lw_frame hF⟩
theorem i_vc : Claimed_1_1 ∧ Claimed_1_2 := ⟨lw_limb limb_1_1 (fun args s t => by simp [limb_1_1, Cond.after, Cond.holds, Cond.value]), lw_limb limb_1_2 (fun args s t => Cond.after_iff.mpr (by
  first | (rw [show limb_1_2 = Cond.eq .result (.int 1) from rfl, Cond.eq_ints (x := 1) (y := 1) rfl rfl]; simp; done) | (simp [limb_1_2, Cond.value, Term.eval]; done)))⟩
end
