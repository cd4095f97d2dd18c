section
-- ===== PART A: goes FIRST, ahead of the names: the tables' words, and 'selects' of the private methods out of them =====
/-- a private method of a class that the tables say can be made, by its rows of tables_1 -/
def lw_okq (q : MethodName × Nat) : Prop := (q.1.cls ≠ "java/lang/invoke/MethodHandle" ∧ q.1.cls ≠ "java/lang/invoke/VarHandle") ∧ Cond.instantiable q.1.cls q.2 ∈ tables_1 ∧ Cond.privateMethod q.1 ∈ tables_1 ∧ Cond.instanceMethod q.1 ∈ tables_1
set_option maxRecDepth 100000
theorem lw_t1 {w : Cond} (h : w ∈ tables_1_1) : w ∈ tables_1 := List.mem_append_left _ h
theorem lw_t2 {w : Cond} (h : w ∈ tables_1_2) : w ∈ tables_1 := List.mem_append_right _ h
theorem lw_p0 : lw_okq (⟨"LaneLoops", "noStatement", "(I)Z"⟩, 12) := ⟨⟨by decide +kernel, by decide +kernel⟩, lw_t1 (List.mem_of_getElem? (i := 4) rfl), lw_t1 (List.mem_of_getElem? (i := 69) rfl), lw_t1 (List.mem_of_getElem? (i := 70) rfl)⟩
theorem lw_p1 : lw_okq (⟨"LaneLoops", "outside", "(II)Z"⟩, 12) := ⟨⟨by decide +kernel, by decide +kernel⟩, lw_t1 (List.mem_of_getElem? (i := 4) rfl), lw_t1 (List.mem_of_getElem? (i := 85) rfl), lw_t1 (List.mem_of_getElem? (i := 86) rfl)⟩
theorem lw_p2 : lw_okq (⟨"LaneLoops", "shiftOf", "(II)I"⟩, 12) := ⟨⟨by decide +kernel, by decide +kernel⟩, lw_t1 (List.mem_of_getElem? (i := 4) rfl), lw_t1 (List.mem_of_getElem? (i := 89) rfl), lw_t1 (List.mem_of_getElem? (i := 90) rfl)⟩
theorem lw_p3 : lw_okq (⟨"LaneLoops", "plan", "()V"⟩, 12) := ⟨⟨by decide +kernel, by decide +kernel⟩, lw_t1 (List.mem_of_getElem? (i := 4) rfl), lw_t1 (List.mem_of_getElem? (i := 93) rfl), lw_t1 (List.mem_of_getElem? (i := 94) rfl)⟩
theorem lw_p4 : lw_okq (⟨"LaneLoops", "findBehind", "()V"⟩, 12) := ⟨⟨by decide +kernel, by decide +kernel⟩, lw_t1 (List.mem_of_getElem? (i := 4) rfl), lw_t1 (List.mem_of_getElem? (i := 97) rfl), lw_t1 (List.mem_of_getElem? (i := 98) rfl)⟩
theorem lw_p5 : lw_okq (⟨"LaneLoops", "precedesAtAll", "(II)Z"⟩, 12) := ⟨⟨by decide +kernel, by decide +kernel⟩, lw_t1 (List.mem_of_getElem? (i := 4) rfl), lw_t1 (List.mem_of_getElem? (i := 101) rfl), lw_t1 (List.mem_of_getElem? (i := 102) rfl)⟩
theorem lw_p6 : lw_okq (⟨"LaneLoops", "precedes", "(III)Z"⟩, 12) := ⟨⟨by decide +kernel, by decide +kernel⟩, lw_t1 (List.mem_of_getElem? (i := 4) rfl), lw_t1 (List.mem_of_getElem? (i := 105) rfl), lw_t1 (List.mem_of_getElem? (i := 106) rfl)⟩
theorem lw_p7 : lw_okq (⟨"LaneLoops", "meets", "(IIIII)Z"⟩, 12) := ⟨⟨by decide +kernel, by decide +kernel⟩, lw_t1 (List.mem_of_getElem? (i := 4) rfl), lw_t1 (List.mem_of_getElem? (i := 109) rfl), lw_t1 (List.mem_of_getElem? (i := 110) rfl)⟩
theorem lw_p8 : lw_okq (⟨"LaneLoops", "arrayOf", "(II)I"⟩, 12) := ⟨⟨by decide +kernel, by decide +kernel⟩, lw_t1 (List.mem_of_getElem? (i := 4) rfl), lw_t1 (List.mem_of_getElem? (i := 113) rfl), lw_t1 (List.mem_of_getElem? (i := 114) rfl)⟩
theorem lw_p9 : lw_okq (⟨"LaneLoops", "feeds", "(III)Z"⟩, 12) := ⟨⟨by decide +kernel, by decide +kernel⟩, lw_t1 (List.mem_of_getElem? (i := 4) rfl), lw_t1 (List.mem_of_getElem? (i := 117) rfl), lw_t1 (List.mem_of_getElem? (i := 118) rfl)⟩
theorem lw_p10 : lw_okq (⟨"LaneLoops", "reads", "(II)Z"⟩, 12) := ⟨⟨by decide +kernel, by decide +kernel⟩, lw_t1 (List.mem_of_getElem? (i := 4) rfl), lw_t1 (List.mem_of_getElem? (i := 121) rfl), lw_t1 (List.mem_of_getElem? (i := 122) rfl)⟩
theorem lw_p11 : lw_okq (⟨"LaneLoops", "spoils", "(III)Z"⟩, 12) := ⟨⟨by decide +kernel, by decide +kernel⟩, lw_t1 (List.mem_of_getElem? (i := 4) rfl), lw_t1 (List.mem_of_getElem? (i := 125) rfl), lw_t1 (List.mem_of_getElem? (i := 126) rfl)⟩
theorem lw_p12 : lw_okq (⟨"LaneLoops", "nextGroup", "(I)I"⟩, 12) := ⟨⟨by decide +kernel, by decide +kernel⟩, lw_t1 (List.mem_of_getElem? (i := 4) rfl), lw_t1 (List.mem_of_getElem? (i := 129) rfl), lw_t1 (List.mem_of_getElem? (i := 130) rfl)⟩
theorem lw_p13 : lw_okq (⟨"LaneLoops", "circleOf", "(I)I"⟩, 12) := ⟨⟨by decide +kernel, by decide +kernel⟩, lw_t1 (List.mem_of_getElem? (i := 4) rfl), lw_t1 (List.mem_of_getElem? (i := 133) rfl), lw_t1 (List.mem_of_getElem? (i := 134) rfl)⟩
theorem lw_p14 : lw_okq (⟨"LaneLoops", "free", "(II)Z"⟩, 12) := ⟨⟨by decide +kernel, by decide +kernel⟩, lw_t1 (List.mem_of_getElem? (i := 4) rfl), lw_t1 (List.mem_of_getElem? (i := 137) rfl), lw_t1 (List.mem_of_getElem? (i := 138) rfl)⟩
theorem lw_p15 : lw_okq (⟨"LaneLoops", "oneStatement", "(I)Z"⟩, 12) := ⟨⟨by decide +kernel, by decide +kernel⟩, lw_t1 (List.mem_of_getElem? (i := 4) rfl), lw_t1 (List.mem_of_getElem? (i := 141) rfl), lw_t1 (List.mem_of_getElem? (i := 142) rfl)⟩
def lw_privs_1 : List (MethodName × Nat) := [(⟨"LaneLoops", "noStatement", "(I)Z"⟩, 12), (⟨"LaneLoops", "outside", "(II)Z"⟩, 12), (⟨"LaneLoops", "shiftOf", "(II)I"⟩, 12), (⟨"LaneLoops", "plan", "()V"⟩, 12), (⟨"LaneLoops", "findBehind", "()V"⟩, 12), (⟨"LaneLoops", "precedesAtAll", "(II)Z"⟩, 12), (⟨"LaneLoops", "precedes", "(III)Z"⟩, 12), (⟨"LaneLoops", "meets", "(IIIII)Z"⟩, 12), (⟨"LaneLoops", "arrayOf", "(II)I"⟩, 12), (⟨"LaneLoops", "feeds", "(III)Z"⟩, 12), (⟨"LaneLoops", "reads", "(II)Z"⟩, 12), (⟨"LaneLoops", "spoils", "(III)Z"⟩, 12), (⟨"LaneLoops", "nextGroup", "(I)I"⟩, 12), (⟨"LaneLoops", "circleOf", "(I)I"⟩, 12), (⟨"LaneLoops", "free", "(II)Z"⟩, 12), (⟨"LaneLoops", "oneStatement", "(I)Z"⟩, 12)]
theorem lw_r1 : ∀ q ∈ lw_privs_1, lw_okq q := List.forall_mem_cons.mpr ⟨lw_p0, List.forall_mem_cons.mpr ⟨lw_p1, List.forall_mem_cons.mpr ⟨lw_p2, List.forall_mem_cons.mpr ⟨lw_p3, List.forall_mem_cons.mpr ⟨lw_p4, List.forall_mem_cons.mpr ⟨lw_p5, List.forall_mem_cons.mpr ⟨lw_p6, List.forall_mem_cons.mpr ⟨lw_p7, List.forall_mem_cons.mpr ⟨lw_p8, List.forall_mem_cons.mpr ⟨lw_p9, List.forall_mem_cons.mpr ⟨lw_p10, List.forall_mem_cons.mpr ⟨lw_p11, List.forall_mem_cons.mpr ⟨lw_p12, List.forall_mem_cons.mpr ⟨lw_p13, List.forall_mem_cons.mpr ⟨lw_p14, List.forall_mem_cons.mpr ⟨lw_p15, fun _ h => absurd h List.not_mem_nil⟩⟩⟩⟩⟩⟩⟩⟩⟩⟩⟩⟩⟩⟩⟩⟩
theorem lw_p16 : lw_okq (⟨"LaneLoops", "fitsLanes", "(I)Z"⟩, 12) := ⟨⟨by decide +kernel, by decide +kernel⟩, lw_t1 (List.mem_of_getElem? (i := 4) rfl), lw_t1 (List.mem_of_getElem? (i := 148) rfl), lw_t1 (List.mem_of_getElem? (i := 149) rfl)⟩
theorem lw_p17 : lw_okq (⟨"LaneLoops", "runInLanes", "(III)V"⟩, 12) := ⟨⟨by decide +kernel, by decide +kernel⟩, lw_t1 (List.mem_of_getElem? (i := 4) rfl), lw_t1 (List.mem_of_getElem? (i := 152) rfl), lw_t1 (List.mem_of_getElem? (i := 153) rfl)⟩
theorem lw_p18 : lw_okq (⟨"LaneLoops", "result", "(II)I"⟩, 12) := ⟨⟨by decide +kernel, by decide +kernel⟩, lw_t1 (List.mem_of_getElem? (i := 4) rfl), lw_t1 (List.mem_of_getElem? (i := 156) rfl), lw_t1 (List.mem_of_getElem? (i := 157) rfl)⟩
theorem lw_p19 : lw_okq (⟨"LaneLoops", "source", "(III)I"⟩, 12) := ⟨⟨by decide +kernel, by decide +kernel⟩, lw_t1 (List.mem_of_getElem? (i := 4) rfl), lw_t1 (List.mem_of_getElem? (i := 160) rfl), lw_t1 (List.mem_of_getElem? (i := 161) rfl)⟩
theorem lw_p20 : lw_okq (⟨"LaneLoops", "store", "(III)V"⟩, 12) := ⟨⟨by decide +kernel, by decide +kernel⟩, lw_t1 (List.mem_of_getElem? (i := 4) rfl), lw_t1 (List.mem_of_getElem? (i := 164) rfl), lw_t1 (List.mem_of_getElem? (i := 165) rfl)⟩
theorem lw_p21 : lw_okq (⟨"LaneLoops", "runPlain", "(III)V"⟩, 12) := ⟨⟨by decide +kernel, by decide +kernel⟩, lw_t1 (List.mem_of_getElem? (i := 4) rfl), lw_t1 (List.mem_of_getElem? (i := 168) rfl), lw_t1 (List.mem_of_getElem? (i := 169) rfl)⟩
theorem lw_p22 : lw_okq (⟨"LaneLoopsModel", "noStatement", "(I)Z"⟩, 6) := ⟨⟨by decide +kernel, by decide +kernel⟩, lw_t1 (List.mem_of_getElem? (i := 192) rfl), lw_t1 (List.mem_of_getElem? (i := 229) rfl), lw_t1 (List.mem_of_getElem? (i := 230) rfl)⟩
theorem lw_p23 : lw_okq (⟨"LaneLoopsModel", "badArray", "(I)Z"⟩, 6) := ⟨⟨by decide +kernel, by decide +kernel⟩, lw_t1 (List.mem_of_getElem? (i := 192) rfl), lw_t1 (List.mem_of_getElem? (i := 237) rfl), lw_t1 (List.mem_of_getElem? (i := 238) rfl)⟩
theorem lw_p24 : lw_okq (⟨"LaneLoopsModel", "badCell", "(I)Z"⟩, 6) := ⟨⟨by decide +kernel, by decide +kernel⟩, lw_t1 (List.mem_of_getElem? (i := 192) rfl), lw_t2 (List.mem_of_getElem? (i := 1) rfl), lw_t2 (List.mem_of_getElem? (i := 2) rfl)⟩
theorem lw_p25 : lw_okq (⟨"LaneLoopsModel", "carryOut", "(II)V"⟩, 6) := ⟨⟨by decide +kernel, by decide +kernel⟩, lw_t1 (List.mem_of_getElem? (i := 192) rfl), lw_t2 (List.mem_of_getElem? (i := 13) rfl), lw_t2 (List.mem_of_getElem? (i := 14) rfl)⟩
theorem lw_p26 : lw_okq (⟨"LaneLoopsModel", "looks", "(II)Z"⟩, 6) := ⟨⟨by decide +kernel, by decide +kernel⟩, lw_t1 (List.mem_of_getElem? (i := 192) rfl), lw_t2 (List.mem_of_getElem? (i := 37) rfl), lw_t2 (List.mem_of_getElem? (i := 38) rfl)⟩
def lw_privs_2 : List (MethodName × Nat) := [(⟨"LaneLoops", "fitsLanes", "(I)Z"⟩, 12), (⟨"LaneLoops", "runInLanes", "(III)V"⟩, 12), (⟨"LaneLoops", "result", "(II)I"⟩, 12), (⟨"LaneLoops", "source", "(III)I"⟩, 12), (⟨"LaneLoops", "store", "(III)V"⟩, 12), (⟨"LaneLoops", "runPlain", "(III)V"⟩, 12), (⟨"LaneLoopsModel", "noStatement", "(I)Z"⟩, 6), (⟨"LaneLoopsModel", "badArray", "(I)Z"⟩, 6), (⟨"LaneLoopsModel", "badCell", "(I)Z"⟩, 6), (⟨"LaneLoopsModel", "carryOut", "(II)V"⟩, 6), (⟨"LaneLoopsModel", "looks", "(II)Z"⟩, 6)]
theorem lw_r2 : ∀ q ∈ lw_privs_2, lw_okq q := List.forall_mem_cons.mpr ⟨lw_p16, List.forall_mem_cons.mpr ⟨lw_p17, List.forall_mem_cons.mpr ⟨lw_p18, List.forall_mem_cons.mpr ⟨lw_p19, List.forall_mem_cons.mpr ⟨lw_p20, List.forall_mem_cons.mpr ⟨lw_p21, List.forall_mem_cons.mpr ⟨lw_p22, List.forall_mem_cons.mpr ⟨lw_p23, List.forall_mem_cons.mpr ⟨lw_p24, List.forall_mem_cons.mpr ⟨lw_p25, List.forall_mem_cons.mpr ⟨lw_p26, fun _ h => absurd h List.not_mem_nil⟩⟩⟩⟩⟩⟩⟩⟩⟩⟩⟩
def lw_privs : List (MethodName × Nat) := lw_privs_1 ++ (lw_privs_2)
def lw_tbl : List Cond := k2_sels lw_privs ++ tables_1
theorem lw_privs_ok : ∀ q ∈ lw_privs, lw_okq q := by
  show ∀ q ∈ lw_privs_1 ++ (lw_privs_2), lw_okq q
  exact List.forall_mem_append.mpr ⟨lw_r1, lw_r2⟩
-- ===== ONE list of words for every method: the tables' words that hold all through a run =====
def lw_all : List Cond := lw_tbl.filter goodWord
/-- a word of the tables by its place: claim/WORDS.tsv -/
theorem lw_w {w : Cond} (i : Nat) (h : lw_tbl[i]? = some w) (g : goodWord w = true) : w ∈ lw_all := List.mem_filter.mpr ⟨List.mem_of_getElem? h, g⟩
theorem lw_all_tbl {w : Cond} (h : w ∈ lw_all) : w ∈ lw_tbl := (List.mem_filter.mp h).1
theorem lw_self : GoodIn lw_all lw_all := fun w h => ⟨h, good_of_word (List.mem_filter.mp h).2⟩
/-- a class's field words, by their places -/
theorem lw_in (ws : List Cond) (ps : List Nat) (hp : ws = ps.filterMap (fun i => lw_tbl[i]?)) (hg : ws.all goodWord = true) : ∀ w ∈ ws, w ∈ lw_all := by
  intro w h
  have h1 := List.all_eq_true.mp hg w h
  rw [hp] at h
  obtain ⟨i, -, hi⟩ := List.mem_filterMap.mp h
  exact lw_w i hi h1
/-- the words of a contract for the method y with code b, L locals, answer r -/
abbrev ws_ (y : MethodName) (b : ByteArray) (L : Nat) (r : Option FieldType) : List Cond := Cond.code y b L r :: lw_all
theorem lw_meth {y : MethodName} {b : ByteArray} {L : Nat} {r : Option FieldType} (h : Cond.code y b L r ∈ lw_all) : GoodIn lw_all (ws_ y b L r) := by
  intro w hw
  rcases List.mem_cons.mp hw with e | e
  · rw [e]
    exact lw_self _ h
  · exact lw_self _ e
theorem lw_app {a c : List Cond} (ha : ∀ w ∈ a, w ∈ lw_all) (hc : GoodIn lw_all c) : GoodIn lw_all (a ++ c) := by
  intro w hw
  rcases List.mem_append.mp hw with e | e
  · exact lw_self w (ha w e)
  · exact hc w e
/-- what a call through an object asks: cwV n hts (lw_V ..) -/
theorem lw_V {own : String} {idx : Nat} {C : String} {y : MethodName} {b : ByteArray} {L : Nat} {r : Option FieldType} (h1 : Cond.methodLink own idx y ∈ lw_all) (h2 : Cond.instanceMethod y ∈ lw_all) (h3 : Cond.selects C y y ∈ lw_all) (h4 : Cond.initialized C ∈ lw_all) (h5 : Cond.code y b L r ∈ lw_all) : GoodIn lw_all (wsV own idx C y (ws_ y b L r)) := by
  refine lw_app ?_ (lw_meth h5)
  intro w hw
  simp only [List.mem_cons, List.not_mem_nil, or_false] at hw
  rcases hw with e | e | e | e
  · rw [e]; exact h1
  · rw [e]; exact h2
  · rw [e]; exact h3
  · rw [e]; exact h4
/-- what a static call asks: va_cwS n hts (lw_S ..) -/
theorem lw_S {own : String} {idx : Nat} {y : MethodName} {b : ByteArray} {L : Nat} {r : Option FieldType} (h1 : Cond.methodLink own idx y ∈ lw_all) (h2 : Cond.static y ∈ lw_all) (h3 : Cond.initialized y.cls ∈ lw_all) (h4 : Cond.code y b L r ∈ lw_all) : GoodIn lw_all (va_wsS own idx y (ws_ y b L r)) := by
  refine lw_app ?_ (lw_meth h4)
  intro w hw
  simp only [List.mem_cons, List.not_mem_nil, or_false] at hw
  rcases hw with e | e | e
  · rw [e]; exact h1
  · rw [e]; exact h2
  · rw [e]; exact h3
/-- the words of a contract for a method WITH HANDLERS (hh: its table) -/
abbrev wsW_ (y : MethodName) (b : ByteArray) (L : Nat) (r : Option FieldType) (hh : List (Nat × Nat × Nat × Nat)) : List Cond := Cond.codeWith y b L r hh :: lw_all
theorem lw_methW {y : MethodName} {b : ByteArray} {L : Nat} {r : Option FieldType} {hh : List (Nat × Nat × Nat × Nat)} (h : Cond.codeWith y b L r hh ∈ lw_all) : GoodIn lw_all (wsW_ y b L r hh) := by
  intro w hw
  rcases List.mem_cons.mp hw with e | e
  · rw [e]
    exact lw_self _ h
  · exact lw_self _ e
/-- any list of words by their places (lw_in), good -/
theorem lw_good {ws : List Cond} (h : ∀ w ∈ ws, w ∈ lw_all) : GoodIn lw_all ws := fun w hw => lw_self w (h w hw)
/-- what a call of a method with handlers asks: vx_cwVW n hts (lw_VW ..), vx_cwSW n hts (lw_SW ..) -/
theorem lw_VW {own : String} {idx : Nat} {C : String} {y : MethodName} {b : ByteArray} {L : Nat} {r : Option FieldType} {hh : List (Nat × Nat × Nat × Nat)} (h1 : Cond.methodLink own idx y ∈ lw_all) (h2 : Cond.instanceMethod y ∈ lw_all) (h3 : Cond.selects C y y ∈ lw_all) (h4 : Cond.initialized C ∈ lw_all) (h5 : Cond.codeWith y b L r hh ∈ lw_all) : GoodIn lw_all (wsV own idx C y (wsW_ y b L r hh)) := by
  refine lw_app ?_ (lw_methW h5)
  intro w hw
  simp only [List.mem_cons, List.not_mem_nil, or_false] at hw
  rcases hw with e | e | e | e
  · rw [e]; exact h1
  · rw [e]; exact h2
  · rw [e]; exact h3
  · rw [e]; exact h4
theorem lw_SW {own : String} {idx : Nat} {y : MethodName} {b : ByteArray} {L : Nat} {r : Option FieldType} {hh : List (Nat × Nat × Nat × Nat)} (h1 : Cond.methodLink own idx y ∈ lw_all) (h2 : Cond.static y ∈ lw_all) (h3 : Cond.initialized y.cls ∈ lw_all) (h4 : Cond.codeWith y b L r hh ∈ lw_all) : GoodIn lw_all (va_wsS own idx y (wsW_ y b L r hh)) := by
  refine lw_app ?_ (lw_methW h4)
  intro w hw
  simp only [List.mem_cons, List.not_mem_nil, or_false] at hw
  rcases hw with e | e | e
  · rw [e]; exact h1
  · rw [e]; exact h2
  · rw [e]; exact h3
/-- a word by its place in its run of the tables -/
theorem lw_at {r : List Cond} (hr : ∀ w ∈ r, w ∈ lw_tbl) {w : Cond} (i : Nat) (h : r[i]? = some w) : w ∈ lw_tbl := hr w (List.mem_of_getElem? h)
theorem lw_g {w : Cond} (h : w ∈ lw_tbl) (g : goodWord w = true) : w ∈ lw_all := List.mem_filter.mpr ⟨h, g⟩
theorem lw_ms : ∀ w ∈ k2_sels lw_privs, w ∈ lw_tbl := fun w h => show w ∈ k2_sels lw_privs ++ tables_1 from List.mem_append_left _ h
theorem lw_m1 : ∀ w ∈ tables_1_1, w ∈ lw_tbl := fun w h => show w ∈ k2_sels lw_privs ++ tables_1 from List.mem_append_right (k2_sels lw_privs) (show w ∈ tables_1 from List.mem_append_left _ h)
theorem lw_m2 : ∀ w ∈ tables_1_2, w ∈ lw_tbl := fun w h => show w ∈ k2_sels lw_privs ++ tables_1 from List.mem_append_right (k2_sels lw_privs) (show w ∈ tables_1 from List.mem_append_right _ h)
theorem qs0 : (Cond.selects "LaneLoops" ⟨"LaneLoops", "noStatement", "(I)Z"⟩ ⟨"LaneLoops", "noStatement", "(I)Z"⟩) ∈ lw_all := lw_g (lw_at lw_ms 0 rfl) rfl
theorem qs1 : (Cond.selects "LaneLoops" ⟨"LaneLoops", "outside", "(II)Z"⟩ ⟨"LaneLoops", "outside", "(II)Z"⟩) ∈ lw_all := lw_g (lw_at lw_ms 1 rfl) rfl
theorem qs2 : (Cond.selects "LaneLoops" ⟨"LaneLoops", "shiftOf", "(II)I"⟩ ⟨"LaneLoops", "shiftOf", "(II)I"⟩) ∈ lw_all := lw_g (lw_at lw_ms 2 rfl) rfl
theorem qs3 : (Cond.selects "LaneLoops" ⟨"LaneLoops", "plan", "()V"⟩ ⟨"LaneLoops", "plan", "()V"⟩) ∈ lw_all := lw_g (lw_at lw_ms 3 rfl) rfl
theorem qs4 : (Cond.selects "LaneLoops" ⟨"LaneLoops", "findBehind", "()V"⟩ ⟨"LaneLoops", "findBehind", "()V"⟩) ∈ lw_all := lw_g (lw_at lw_ms 4 rfl) rfl
theorem qs5 : (Cond.selects "LaneLoops" ⟨"LaneLoops", "precedesAtAll", "(II)Z"⟩ ⟨"LaneLoops", "precedesAtAll", "(II)Z"⟩) ∈ lw_all := lw_g (lw_at lw_ms 5 rfl) rfl
theorem qs6 : (Cond.selects "LaneLoops" ⟨"LaneLoops", "precedes", "(III)Z"⟩ ⟨"LaneLoops", "precedes", "(III)Z"⟩) ∈ lw_all := lw_g (lw_at lw_ms 6 rfl) rfl
theorem qs7 : (Cond.selects "LaneLoops" ⟨"LaneLoops", "meets", "(IIIII)Z"⟩ ⟨"LaneLoops", "meets", "(IIIII)Z"⟩) ∈ lw_all := lw_g (lw_at lw_ms 7 rfl) rfl
theorem qs8 : (Cond.selects "LaneLoops" ⟨"LaneLoops", "arrayOf", "(II)I"⟩ ⟨"LaneLoops", "arrayOf", "(II)I"⟩) ∈ lw_all := lw_g (lw_at lw_ms 8 rfl) rfl
theorem qs9 : (Cond.selects "LaneLoops" ⟨"LaneLoops", "feeds", "(III)Z"⟩ ⟨"LaneLoops", "feeds", "(III)Z"⟩) ∈ lw_all := lw_g (lw_at lw_ms 9 rfl) rfl
theorem qs10 : (Cond.selects "LaneLoops" ⟨"LaneLoops", "reads", "(II)Z"⟩ ⟨"LaneLoops", "reads", "(II)Z"⟩) ∈ lw_all := lw_g (lw_at lw_ms 10 rfl) rfl
theorem qs11 : (Cond.selects "LaneLoops" ⟨"LaneLoops", "spoils", "(III)Z"⟩ ⟨"LaneLoops", "spoils", "(III)Z"⟩) ∈ lw_all := lw_g (lw_at lw_ms 11 rfl) rfl
theorem qs12 : (Cond.selects "LaneLoops" ⟨"LaneLoops", "nextGroup", "(I)I"⟩ ⟨"LaneLoops", "nextGroup", "(I)I"⟩) ∈ lw_all := lw_g (lw_at lw_ms 12 rfl) rfl
theorem qs13 : (Cond.selects "LaneLoops" ⟨"LaneLoops", "circleOf", "(I)I"⟩ ⟨"LaneLoops", "circleOf", "(I)I"⟩) ∈ lw_all := lw_g (lw_at lw_ms 13 rfl) rfl
theorem qs14 : (Cond.selects "LaneLoops" ⟨"LaneLoops", "free", "(II)Z"⟩ ⟨"LaneLoops", "free", "(II)Z"⟩) ∈ lw_all := lw_g (lw_at lw_ms 14 rfl) rfl
theorem qs15 : (Cond.selects "LaneLoops" ⟨"LaneLoops", "oneStatement", "(I)Z"⟩ ⟨"LaneLoops", "oneStatement", "(I)Z"⟩) ∈ lw_all := lw_g (lw_at lw_ms 15 rfl) rfl
theorem qs16 : (Cond.selects "LaneLoops" ⟨"LaneLoops", "fitsLanes", "(I)Z"⟩ ⟨"LaneLoops", "fitsLanes", "(I)Z"⟩) ∈ lw_all := lw_g (lw_at lw_ms 16 rfl) rfl
theorem qs17 : (Cond.selects "LaneLoops" ⟨"LaneLoops", "runInLanes", "(III)V"⟩ ⟨"LaneLoops", "runInLanes", "(III)V"⟩) ∈ lw_all := lw_g (lw_at lw_ms 17 rfl) rfl
theorem qs18 : (Cond.selects "LaneLoops" ⟨"LaneLoops", "result", "(II)I"⟩ ⟨"LaneLoops", "result", "(II)I"⟩) ∈ lw_all := lw_g (lw_at lw_ms 18 rfl) rfl
theorem qs19 : (Cond.selects "LaneLoops" ⟨"LaneLoops", "source", "(III)I"⟩ ⟨"LaneLoops", "source", "(III)I"⟩) ∈ lw_all := lw_g (lw_at lw_ms 19 rfl) rfl
theorem qs20 : (Cond.selects "LaneLoops" ⟨"LaneLoops", "store", "(III)V"⟩ ⟨"LaneLoops", "store", "(III)V"⟩) ∈ lw_all := lw_g (lw_at lw_ms 20 rfl) rfl
theorem qs21 : (Cond.selects "LaneLoops" ⟨"LaneLoops", "runPlain", "(III)V"⟩ ⟨"LaneLoops", "runPlain", "(III)V"⟩) ∈ lw_all := lw_g (lw_at lw_ms 21 rfl) rfl
theorem qs22 : (Cond.selects "LaneLoopsModel" ⟨"LaneLoopsModel", "noStatement", "(I)Z"⟩ ⟨"LaneLoopsModel", "noStatement", "(I)Z"⟩) ∈ lw_all := lw_g (lw_at lw_ms 22 rfl) rfl
theorem qs23 : (Cond.selects "LaneLoopsModel" ⟨"LaneLoopsModel", "badArray", "(I)Z"⟩ ⟨"LaneLoopsModel", "badArray", "(I)Z"⟩) ∈ lw_all := lw_g (lw_at lw_ms 23 rfl) rfl
theorem qs24 : (Cond.selects "LaneLoopsModel" ⟨"LaneLoopsModel", "badCell", "(I)Z"⟩ ⟨"LaneLoopsModel", "badCell", "(I)Z"⟩) ∈ lw_all := lw_g (lw_at lw_ms 24 rfl) rfl
theorem qs25 : (Cond.selects "LaneLoopsModel" ⟨"LaneLoopsModel", "carryOut", "(II)V"⟩ ⟨"LaneLoopsModel", "carryOut", "(II)V"⟩) ∈ lw_all := lw_g (lw_at lw_ms 25 rfl) rfl
theorem qs26 : (Cond.selects "LaneLoopsModel" ⟨"LaneLoopsModel", "looks", "(II)Z"⟩ ⟨"LaneLoopsModel", "looks", "(II)Z"⟩) ∈ lw_all := lw_g (lw_at lw_ms 26 rfl) rfl
end
section
set_option maxRecDepth 100000
def RX0 : String := "LaneLoops"
def TX0 : u_T := fun k => match k with
  | 0 => ("LaneLoops", "cells", "[I", true)
  | 1 => ("LaneLoops", "count", "I", false)
  | 2 => ("LaneLoops", "op", "[I", true)
  | 3 => ("LaneLoops", "arrays", "[I", true)
  | 4 => ("LaneLoops", "shifts", "[I", true)
  | 5 => ("LaneLoops", "constant", "[I", true)
  | 6 => ("LaneLoops", "ready", "Z", false)
  | 7 => ("LaneLoops", "behind", "[I", true)
  | 8 => ("LaneLoops", "groups", "I", false)
  | 9 => ("LaneLoops", "group", "[I", true)
  | 10 => ("LaneLoops", "fits", "[Z", true)
  | _ => ("LaneLoops", "lane", "[I", true)
def tyX0 : Nat → FieldType := fun k => match k with
  | 0 => .array .int
  | 1 => .int
  | 2 => .array .int
  | 3 => .array .int
  | 4 => .array .int
  | 5 => .array .int
  | 6 => .boolean
  | 7 => .array .int
  | 8 => .int
  | 9 => .array .int
  | 10 => .array .boolean
  | _ => .array .int
abbrev wsX00 : List Cond := u_ws RX0 TX0 12
theorem nmX0 : ∀ a, a < 12 → ∀ b, b < 12 → a ≠ b → (TX0 a).2.1 ≠ (TX0 b).2.1 := by decide +kernel
theorem tyX0_ok : ∀ k, k < 12 → parseFieldDescriptor (TX0 k).2.2.1 = some (tyX0 k) := by decide +kernel
abbrev cX0_init : ByteArray := prog_1_method_1_code
def yX0_init : MethodName := ⟨RX0, "<init>", "()V"⟩
abbrev cX0_statement : ByteArray := prog_1_method_8_code
def yX0_statement : MethodName := ⟨RX0, "statement", "(IIII)I"⟩
abbrev cX0_badArray : ByteArray := prog_1_method_2_code
def yX0_badArray : MethodName := ⟨RX0, "badArray", "(I)Z"⟩
abbrev cX0_badShift : ByteArray := prog_1_method_3_code
def yX0_badShift : MethodName := ⟨RX0, "badShift", "(I)Z"⟩
abbrev cX0_clear : ByteArray := prog_1_method_9_code
def yX0_clear : MethodName := ⟨RX0, "clear", "()V"⟩
abbrev cX0_exchange : ByteArray := prog_1_method_10_code
def yX0_exchange : MethodName := ⟨RX0, "exchange", "(II)I"⟩
abbrev cX0_noStatement : ByteArray := prog_1_method_4_code
def yX0_noStatement : MethodName := ⟨RX0, "noStatement", "(I)Z"⟩
abbrev cX0_set : ByteArray := prog_1_method_11_code
def yX0_set : MethodName := ⟨RX0, "set", "(III)I"⟩
abbrev cX0_ramp : ByteArray := prog_1_method_12_code
def yX0_ramp : MethodName := ⟨RX0, "ramp", "(III)I"⟩
abbrev cX0_run : ByteArray := prog_1_method_32_code
def yX0_run : MethodName := ⟨RX0, "run", "(II)I"⟩
abbrev cX0_outside : ByteArray := prog_1_method_31_code
def yX0_outside : MethodName := ⟨RX0, "outside", "(II)Z"⟩
abbrev cX0_shiftOf : ByteArray := prog_1_method_6_code
def yX0_shiftOf : MethodName := ⟨RX0, "shiftOf", "(II)I"⟩
abbrev cX0_plan : ByteArray := prog_1_method_24_code
def yX0_plan : MethodName := ⟨RX0, "plan", "()V"⟩
abbrev cX0_findBehind : ByteArray := prog_1_method_18_code
def yX0_findBehind : MethodName := ⟨RX0, "findBehind", "()V"⟩
abbrev cX0_precedesAtAll : ByteArray := prog_1_method_17_code
def yX0_precedesAtAll : MethodName := ⟨RX0, "precedesAtAll", "(II)Z"⟩
abbrev cX0_precedes : ByteArray := prog_1_method_16_code
def yX0_precedes : MethodName := ⟨RX0, "precedes", "(III)Z"⟩
abbrev cX0_meets : ByteArray := prog_1_method_13_code
def yX0_meets : MethodName := ⟨RX0, "meets", "(IIIII)Z"⟩
abbrev cX0_arrayOf : ByteArray := prog_1_method_5_code
def yX0_arrayOf : MethodName := ⟨RX0, "arrayOf", "(II)I"⟩
abbrev cX0_feeds : ByteArray := prog_1_method_14_code
def yX0_feeds : MethodName := ⟨RX0, "feeds", "(III)Z"⟩
abbrev cX0_reads : ByteArray := prog_1_method_7_code
def yX0_reads : MethodName := ⟨RX0, "reads", "(II)Z"⟩
abbrev cX0_spoils : ByteArray := prog_1_method_15_code
def yX0_spoils : MethodName := ⟨RX0, "spoils", "(III)Z"⟩
abbrev cX0_nextGroup : ByteArray := prog_1_method_25_code
def yX0_nextGroup : MethodName := ⟨RX0, "nextGroup", "(I)I"⟩
abbrev cX0_circleOf : ByteArray := prog_1_method_19_code
def yX0_circleOf : MethodName := ⟨RX0, "circleOf", "(I)I"⟩
abbrev cX0_free : ByteArray := prog_1_method_20_code
def yX0_free : MethodName := ⟨RX0, "free", "(II)Z"⟩
abbrev cX0_oneStatement : ByteArray := prog_1_method_21_code
def yX0_oneStatement : MethodName := ⟨RX0, "oneStatement", "(I)Z"⟩
abbrev cX0_lowest : ByteArray := prog_1_method_22_code
def yX0_lowest : MethodName := ⟨RX0, "lowest", "(I)I"⟩
abbrev cX0_fitsLanes : ByteArray := prog_1_method_23_code
def yX0_fitsLanes : MethodName := ⟨RX0, "fitsLanes", "(I)Z"⟩
abbrev cX0_runInLanes : ByteArray := prog_1_method_29_code
def yX0_runInLanes : MethodName := ⟨RX0, "runInLanes", "(III)V"⟩
abbrev cX0_result : ByteArray := prog_1_method_27_code
def yX0_result : MethodName := ⟨RX0, "result", "(II)I"⟩
abbrev cX0_source : ByteArray := prog_1_method_26_code
def yX0_source : MethodName := ⟨RX0, "source", "(III)I"⟩
abbrev cX0_store : ByteArray := prog_1_method_28_code
def yX0_store : MethodName := ⟨RX0, "store", "(III)V"⟩
abbrev cX0_runPlain : ByteArray := prog_1_method_30_code
def yX0_runPlain : MethodName := ⟨RX0, "runPlain", "(III)V"⟩
abbrev cX0_get : ByteArray := prog_1_method_33_code
def yX0_get : MethodName := ⟨RX0, "get", "(II)I"⟩
abbrev cX0_sum : ByteArray := prog_1_method_34_code
def yX0_sum : MethodName := ⟨RX0, "sum", "(I)I"⟩
abbrev cX0_differ : ByteArray := prog_1_method_35_code
def yX0_differ : MethodName := ⟨RX0, "differ", "(II)I"⟩
abbrev cX0_size : ByteArray := prog_1_method_36_code
def yX0_size : MethodName := ⟨RX0, "size", "()I"⟩
abbrev cX0_mustPrecede : ByteArray := prog_1_method_37_code
def yX0_mustPrecede : MethodName := ⟨RX0, "mustPrecede", "(III)Z"⟩
def RX1 : String := "LaneLoopsModel"
def TX1 : u_T := fun k => match k with
  | 0 => ("LaneLoopsModel", "size", "I", false)
  | 1 => ("LaneLoopsModel", "ops", "[I", true)
  | 2 => ("LaneLoopsModel", "constants", "[I", true)
  | 3 => ("LaneLoopsModel", "arrays", "[I", true)
  | 4 => ("LaneLoopsModel", "shifts", "[I", true)
  | _ => ("LaneLoopsModel", "cells", "[I", true)
def tyX1 : Nat → FieldType := fun k => match k with
  | 0 => .int
  | 1 => .array .int
  | 2 => .array .int
  | 3 => .array .int
  | 4 => .array .int
  | _ => .array .int
abbrev wsX10 : List Cond := u_ws RX1 TX1 6
theorem nmX1 : ∀ a, a < 6 → ∀ b, b < 6 → a ≠ b → (TX1 a).2.1 ≠ (TX1 b).2.1 := by decide +kernel
theorem tyX1_ok : ∀ k, k < 6 → parseFieldDescriptor (TX1 k).2.2.1 = some (tyX1 k) := by decide +kernel
abbrev cX1_init : ByteArray := prog_3_method_1_code
def yX1_init : MethodName := ⟨RX1, "<init>", "()V"⟩
abbrev cX1_statement : ByteArray := prog_3_method_2_code
def yX1_statement : MethodName := ⟨RX1, "statement", "(IIII)I"⟩
abbrev cX1_clear : ByteArray := prog_3_method_3_code
def yX1_clear : MethodName := ⟨RX1, "clear", "()V"⟩
abbrev cX1_exchange : ByteArray := prog_3_method_5_code
def yX1_exchange : MethodName := ⟨RX1, "exchange", "(II)I"⟩
abbrev cX1_noStatement : ByteArray := prog_3_method_4_code
def yX1_noStatement : MethodName := ⟨RX1, "noStatement", "(I)Z"⟩
abbrev cX1_set : ByteArray := prog_3_method_8_code
def yX1_set : MethodName := ⟨RX1, "set", "(III)I"⟩
abbrev cX1_badArray : ByteArray := prog_3_method_6_code
def yX1_badArray : MethodName := ⟨RX1, "badArray", "(I)Z"⟩
abbrev cX1_badCell : ByteArray := prog_3_method_7_code
def yX1_badCell : MethodName := ⟨RX1, "badCell", "(I)Z"⟩
abbrev cX1_ramp : ByteArray := prog_3_method_9_code
def yX1_ramp : MethodName := ⟨RX1, "ramp", "(III)I"⟩
abbrev cX1_run : ByteArray := prog_3_method_10_code
def yX1_run : MethodName := ⟨RX1, "run", "(II)I"⟩
abbrev cX1_carryOut : ByteArray := prog_3_method_11_code
def yX1_carryOut : MethodName := ⟨RX1, "carryOut", "(II)V"⟩
abbrev cX1_get : ByteArray := prog_3_method_12_code
def yX1_get : MethodName := ⟨RX1, "get", "(II)I"⟩
abbrev cX1_sum : ByteArray := prog_3_method_13_code
def yX1_sum : MethodName := ⟨RX1, "sum", "(I)I"⟩
abbrev cX1_differ : ByteArray := prog_3_method_14_code
def yX1_differ : MethodName := ⟨RX1, "differ", "(II)I"⟩
abbrev cX1_size : ByteArray := prog_3_method_15_code
def yX1_size : MethodName := ⟨RX1, "size", "()I"⟩
abbrev cX1_mustPrecede : ByteArray := prog_3_method_17_code
def yX1_mustPrecede : MethodName := ⟨RX1, "mustPrecede", "(III)Z"⟩
abbrev cX1_looks : ByteArray := prog_3_method_16_code
def yX1_looks : MethodName := ⟨RX1, "looks", "(II)Z"⟩
abbrev cL_law : ByteArray := code
def RJ0 : String := "java/lang/Object"
abbrev cJ0_init : ByteArray := object_method_1_code
def yJ0_init : MethodName := ⟨RJ0, "<init>", "()V"⟩
theorem dJ0_init_0 : decode cJ0_init 0 = .ok (.return_, 1) := by decide +kernel
theorem q28 : (Jvm.Cond.initialized "LaneLoops") ∈ lw_all := lw_g (lw_at lw_m1 1 rfl) rfl
theorem q31 : (Jvm.Cond.instantiable "LaneLoops" (12 : Nat)) ∈ lw_all := lw_g (lw_at lw_m1 4 rfl) rfl
theorem q33 : (Jvm.Cond.instanceMethod ({ cls := "LaneLoops", name := "<init>", desc := "()V" } : Jvm.MethodName)) ∈ lw_all := lw_g (lw_at lw_m1 6 rfl) rfl
theorem q34 : (Jvm.Cond.code ({ cls := "LaneLoops", name := "<init>", desc := "()V" } : Jvm.MethodName) prog_1_method_1_code (1 : Nat) (Option.none : Option Jvm.ClassFile.FieldType)) ∈ lw_all := lw_g (lw_at lw_m1 7 rfl) rfl
theorem q35 : (Jvm.Cond.methodLink "LaneLoops" (1 : Nat) ({ cls := "java/lang/Object", name := "<init>", desc := "()V" } : Jvm.MethodName)) ∈ lw_all := lw_g (lw_at lw_m1 8 rfl) rfl
theorem q38 : (Jvm.Cond.fieldLink "LaneLoops" (7 : Nat) "LaneLoops" "cells" "[I") ∈ lw_all := lw_g (lw_at lw_m1 11 rfl) rfl
theorem q39 : (Jvm.Cond.fieldLink "LaneLoops" (38 : Nat) "LaneLoops" "count" "I") ∈ lw_all := lw_g (lw_at lw_m1 12 rfl) rfl
theorem q40 : (Jvm.Cond.fieldLink "LaneLoops" (13 : Nat) "LaneLoops" "op" "[I") ∈ lw_all := lw_g (lw_at lw_m1 13 rfl) rfl
theorem q41 : (Jvm.Cond.fieldLink "LaneLoops" (16 : Nat) "LaneLoops" "arrays" "[I") ∈ lw_all := lw_g (lw_at lw_m1 14 rfl) rfl
theorem q42 : (Jvm.Cond.fieldLink "LaneLoops" (19 : Nat) "LaneLoops" "shifts" "[I") ∈ lw_all := lw_g (lw_at lw_m1 15 rfl) rfl
theorem q43 : (Jvm.Cond.fieldLink "LaneLoops" (22 : Nat) "LaneLoops" "constant" "[I") ∈ lw_all := lw_g (lw_at lw_m1 16 rfl) rfl
theorem q44 : (Jvm.Cond.fieldLink "LaneLoops" (49 : Nat) "LaneLoops" "ready" "Z") ∈ lw_all := lw_g (lw_at lw_m1 17 rfl) rfl
theorem q45 : (Jvm.Cond.fieldLink "LaneLoops" (25 : Nat) "LaneLoops" "behind" "[I") ∈ lw_all := lw_g (lw_at lw_m1 18 rfl) rfl
theorem q46 : (Jvm.Cond.fieldLink "LaneLoops" (87 : Nat) "LaneLoops" "groups" "I") ∈ lw_all := lw_g (lw_at lw_m1 19 rfl) rfl
theorem q47 : (Jvm.Cond.fieldLink "LaneLoops" (28 : Nat) "LaneLoops" "group" "[I") ∈ lw_all := lw_g (lw_at lw_m1 20 rfl) rfl
theorem q48 : (Jvm.Cond.fieldLink "LaneLoops" (31 : Nat) "LaneLoops" "fits" "[Z") ∈ lw_all := lw_g (lw_at lw_m1 21 rfl) rfl
theorem q49 : (Jvm.Cond.fieldLink "LaneLoops" (35 : Nat) "LaneLoops" "lane" "[I") ∈ lw_all := lw_g (lw_at lw_m1 22 rfl) rfl
theorem q50 : (Jvm.Cond.laysFinal "LaneLoops" "LaneLoops" "cells" "[I") ∈ lw_all := lw_g (lw_at lw_m1 23 rfl) rfl
theorem q51 : (Jvm.Cond.soleField "LaneLoops" "cells") ∈ lw_all := lw_g (lw_at lw_m1 24 rfl) rfl
theorem q52 : (Jvm.Cond.lays "LaneLoops" "LaneLoops" "count" "I") ∈ lw_all := lw_g (lw_at lw_m1 25 rfl) rfl
theorem q53 : (Jvm.Cond.soleField "LaneLoops" "count") ∈ lw_all := lw_g (lw_at lw_m1 26 rfl) rfl
theorem q54 : (Jvm.Cond.laysFinal "LaneLoops" "LaneLoops" "op" "[I") ∈ lw_all := lw_g (lw_at lw_m1 27 rfl) rfl
theorem q55 : (Jvm.Cond.soleField "LaneLoops" "op") ∈ lw_all := lw_g (lw_at lw_m1 28 rfl) rfl
theorem q56 : (Jvm.Cond.laysFinal "LaneLoops" "LaneLoops" "arrays" "[I") ∈ lw_all := lw_g (lw_at lw_m1 29 rfl) rfl
theorem q57 : (Jvm.Cond.soleField "LaneLoops" "arrays") ∈ lw_all := lw_g (lw_at lw_m1 30 rfl) rfl
theorem q58 : (Jvm.Cond.laysFinal "LaneLoops" "LaneLoops" "shifts" "[I") ∈ lw_all := lw_g (lw_at lw_m1 31 rfl) rfl
theorem q59 : (Jvm.Cond.soleField "LaneLoops" "shifts") ∈ lw_all := lw_g (lw_at lw_m1 32 rfl) rfl
theorem q60 : (Jvm.Cond.laysFinal "LaneLoops" "LaneLoops" "constant" "[I") ∈ lw_all := lw_g (lw_at lw_m1 33 rfl) rfl
theorem q61 : (Jvm.Cond.soleField "LaneLoops" "constant") ∈ lw_all := lw_g (lw_at lw_m1 34 rfl) rfl
theorem q62 : (Jvm.Cond.lays "LaneLoops" "LaneLoops" "ready" "Z") ∈ lw_all := lw_g (lw_at lw_m1 35 rfl) rfl
theorem q63 : (Jvm.Cond.soleField "LaneLoops" "ready") ∈ lw_all := lw_g (lw_at lw_m1 36 rfl) rfl
theorem q64 : (Jvm.Cond.laysFinal "LaneLoops" "LaneLoops" "behind" "[I") ∈ lw_all := lw_g (lw_at lw_m1 37 rfl) rfl
theorem q65 : (Jvm.Cond.soleField "LaneLoops" "behind") ∈ lw_all := lw_g (lw_at lw_m1 38 rfl) rfl
theorem q66 : (Jvm.Cond.lays "LaneLoops" "LaneLoops" "groups" "I") ∈ lw_all := lw_g (lw_at lw_m1 39 rfl) rfl
theorem q67 : (Jvm.Cond.soleField "LaneLoops" "groups") ∈ lw_all := lw_g (lw_at lw_m1 40 rfl) rfl
theorem q68 : (Jvm.Cond.laysFinal "LaneLoops" "LaneLoops" "group" "[I") ∈ lw_all := lw_g (lw_at lw_m1 41 rfl) rfl
theorem q69 : (Jvm.Cond.soleField "LaneLoops" "group") ∈ lw_all := lw_g (lw_at lw_m1 42 rfl) rfl
theorem q70 : (Jvm.Cond.laysFinal "LaneLoops" "LaneLoops" "fits" "[Z") ∈ lw_all := lw_g (lw_at lw_m1 43 rfl) rfl
theorem q71 : (Jvm.Cond.soleField "LaneLoops" "fits") ∈ lw_all := lw_g (lw_at lw_m1 44 rfl) rfl
theorem q72 : (Jvm.Cond.laysFinal "LaneLoops" "LaneLoops" "lane" "[I") ∈ lw_all := lw_g (lw_at lw_m1 45 rfl) rfl
theorem q73 : (Jvm.Cond.soleField "LaneLoops" "lane") ∈ lw_all := lw_g (lw_at lw_m1 46 rfl) rfl
theorem q74 : (Jvm.Cond.superclass "LaneLoops" "java/lang/Object") ∈ lw_all := lw_g (lw_at lw_m1 47 rfl) rfl
theorem q78 : (Jvm.Cond.instanceMethod ({ cls := "LaneLoops", name := "statement", desc := "(IIII)I" } : Jvm.MethodName)) ∈ lw_all := lw_g (lw_at lw_m1 51 rfl) rfl
theorem q79 : (Jvm.Cond.selects "LaneLoops" ({ cls := "LaneLoops", name := "statement", desc := "(IIII)I" } : Jvm.MethodName) ({ cls := "LaneLoops", name := "statement", desc := "(IIII)I" } : Jvm.MethodName)) ∈ lw_all := lw_g (lw_at lw_m1 52 rfl) rfl
theorem q80 : (Jvm.Cond.code ({ cls := "LaneLoops", name := "statement", desc := "(IIII)I" } : Jvm.MethodName) prog_1_method_8_code (6 : Nat) (Option.some Jvm.ClassFile.FieldType.int)) ∈ lw_all := lw_g (lw_at lw_m1 53 rfl) rfl
theorem q81 : (Jvm.Cond.methodLink "LaneLoops" (42 : Nat) ({ cls := "LaneLoops", name := "badArray", desc := "(I)Z" } : Jvm.MethodName)) ∈ lw_all := lw_g (lw_at lw_m1 54 rfl) rfl
theorem q82 : (Jvm.Cond.static ({ cls := "LaneLoops", name := "badArray", desc := "(I)Z" } : Jvm.MethodName)) ∈ lw_all := lw_g (lw_at lw_m1 55 rfl) rfl
theorem q83 : (Jvm.Cond.code ({ cls := "LaneLoops", name := "badArray", desc := "(I)Z" } : Jvm.MethodName) prog_1_method_2_code (1 : Nat) (Option.some Jvm.ClassFile.FieldType.boolean)) ∈ lw_all := lw_g (lw_at lw_m1 56 rfl) rfl
theorem q84 : (Jvm.Cond.methodLink "LaneLoops" (46 : Nat) ({ cls := "LaneLoops", name := "badShift", desc := "(I)Z" } : Jvm.MethodName)) ∈ lw_all := lw_g (lw_at lw_m1 57 rfl) rfl
theorem q85 : (Jvm.Cond.static ({ cls := "LaneLoops", name := "badShift", desc := "(I)Z" } : Jvm.MethodName)) ∈ lw_all := lw_g (lw_at lw_m1 58 rfl) rfl
theorem q86 : (Jvm.Cond.code ({ cls := "LaneLoops", name := "badShift", desc := "(I)Z" } : Jvm.MethodName) prog_1_method_3_code (1 : Nat) (Option.some Jvm.ClassFile.FieldType.boolean)) ∈ lw_all := lw_g (lw_at lw_m1 59 rfl) rfl
theorem q88 : (Jvm.Cond.instanceMethod ({ cls := "LaneLoops", name := "clear", desc := "()V" } : Jvm.MethodName)) ∈ lw_all := lw_g (lw_at lw_m1 61 rfl) rfl
theorem q89 : (Jvm.Cond.selects "LaneLoops" ({ cls := "LaneLoops", name := "clear", desc := "()V" } : Jvm.MethodName) ({ cls := "LaneLoops", name := "clear", desc := "()V" } : Jvm.MethodName)) ∈ lw_all := lw_g (lw_at lw_m1 62 rfl) rfl
theorem q90 : (Jvm.Cond.code ({ cls := "LaneLoops", name := "clear", desc := "()V" } : Jvm.MethodName) prog_1_method_9_code (1 : Nat) (Option.none : Option Jvm.ClassFile.FieldType)) ∈ lw_all := lw_g (lw_at lw_m1 63 rfl) rfl
theorem q92 : (Jvm.Cond.instanceMethod ({ cls := "LaneLoops", name := "exchange", desc := "(II)I" } : Jvm.MethodName)) ∈ lw_all := lw_g (lw_at lw_m1 65 rfl) rfl
theorem q93 : (Jvm.Cond.selects "LaneLoops" ({ cls := "LaneLoops", name := "exchange", desc := "(II)I" } : Jvm.MethodName) ({ cls := "LaneLoops", name := "exchange", desc := "(II)I" } : Jvm.MethodName)) ∈ lw_all := lw_g (lw_at lw_m1 66 rfl) rfl
theorem q94 : (Jvm.Cond.code ({ cls := "LaneLoops", name := "exchange", desc := "(II)I" } : Jvm.MethodName) prog_1_method_10_code (7 : Nat) (Option.some Jvm.ClassFile.FieldType.int)) ∈ lw_all := lw_g (lw_at lw_m1 67 rfl) rfl
theorem q95 : (Jvm.Cond.methodLink "LaneLoops" (53 : Nat) ({ cls := "LaneLoops", name := "noStatement", desc := "(I)Z" } : Jvm.MethodName)) ∈ lw_all := lw_g (lw_at lw_m1 68 rfl) rfl
theorem q96 : (Jvm.Cond.privateMethod ({ cls := "LaneLoops", name := "noStatement", desc := "(I)Z" } : Jvm.MethodName)) ∈ lw_tbl := lw_at lw_m1 69 rfl
theorem q97 : (Jvm.Cond.instanceMethod ({ cls := "LaneLoops", name := "noStatement", desc := "(I)Z" } : Jvm.MethodName)) ∈ lw_all := lw_g (lw_at lw_m1 70 rfl) rfl
theorem q98 : (Jvm.Cond.code ({ cls := "LaneLoops", name := "noStatement", desc := "(I)Z" } : Jvm.MethodName) prog_1_method_4_code (2 : Nat) (Option.some Jvm.ClassFile.FieldType.boolean)) ∈ lw_all := lw_g (lw_at lw_m1 71 rfl) rfl
theorem q100 : (Jvm.Cond.instanceMethod ({ cls := "LaneLoops", name := "set", desc := "(III)I" } : Jvm.MethodName)) ∈ lw_all := lw_g (lw_at lw_m1 73 rfl) rfl
theorem q101 : (Jvm.Cond.selects "LaneLoops" ({ cls := "LaneLoops", name := "set", desc := "(III)I" } : Jvm.MethodName) ({ cls := "LaneLoops", name := "set", desc := "(III)I" } : Jvm.MethodName)) ∈ lw_all := lw_g (lw_at lw_m1 74 rfl) rfl
theorem q102 : (Jvm.Cond.code ({ cls := "LaneLoops", name := "set", desc := "(III)I" } : Jvm.MethodName) prog_1_method_11_code (5 : Nat) (Option.some Jvm.ClassFile.FieldType.int)) ∈ lw_all := lw_g (lw_at lw_m1 75 rfl) rfl
theorem q104 : (Jvm.Cond.instanceMethod ({ cls := "LaneLoops", name := "ramp", desc := "(III)I" } : Jvm.MethodName)) ∈ lw_all := lw_g (lw_at lw_m1 77 rfl) rfl
theorem q105 : (Jvm.Cond.selects "LaneLoops" ({ cls := "LaneLoops", name := "ramp", desc := "(III)I" } : Jvm.MethodName) ({ cls := "LaneLoops", name := "ramp", desc := "(III)I" } : Jvm.MethodName)) ∈ lw_all := lw_g (lw_at lw_m1 78 rfl) rfl
theorem q106 : (Jvm.Cond.code ({ cls := "LaneLoops", name := "ramp", desc := "(III)I" } : Jvm.MethodName) prog_1_method_12_code (5 : Nat) (Option.some Jvm.ClassFile.FieldType.int)) ∈ lw_all := lw_g (lw_at lw_m1 79 rfl) rfl
theorem q108 : (Jvm.Cond.instanceMethod ({ cls := "LaneLoops", name := "run", desc := "(II)I" } : Jvm.MethodName)) ∈ lw_all := lw_g (lw_at lw_m1 81 rfl) rfl
theorem q109 : (Jvm.Cond.selects "LaneLoops" ({ cls := "LaneLoops", name := "run", desc := "(II)I" } : Jvm.MethodName) ({ cls := "LaneLoops", name := "run", desc := "(II)I" } : Jvm.MethodName)) ∈ lw_all := lw_g (lw_at lw_m1 82 rfl) rfl
theorem q110 : (Jvm.Cond.code ({ cls := "LaneLoops", name := "run", desc := "(II)I" } : Jvm.MethodName) prog_1_method_32_code (5 : Nat) (Option.some Jvm.ClassFile.FieldType.int)) ∈ lw_all := lw_g (lw_at lw_m1 83 rfl) rfl
theorem q111 : (Jvm.Cond.methodLink "LaneLoops" (120 : Nat) ({ cls := "LaneLoops", name := "outside", desc := "(II)Z" } : Jvm.MethodName)) ∈ lw_all := lw_g (lw_at lw_m1 84 rfl) rfl
theorem q112 : (Jvm.Cond.privateMethod ({ cls := "LaneLoops", name := "outside", desc := "(II)Z" } : Jvm.MethodName)) ∈ lw_tbl := lw_at lw_m1 85 rfl
theorem q113 : (Jvm.Cond.instanceMethod ({ cls := "LaneLoops", name := "outside", desc := "(II)Z" } : Jvm.MethodName)) ∈ lw_all := lw_g (lw_at lw_m1 86 rfl) rfl
theorem q114 : (Jvm.Cond.code ({ cls := "LaneLoops", name := "outside", desc := "(II)Z" } : Jvm.MethodName) prog_1_method_31_code (5 : Nat) (Option.some Jvm.ClassFile.FieldType.boolean)) ∈ lw_all := lw_g (lw_at lw_m1 87 rfl) rfl
theorem q115 : (Jvm.Cond.methodLink "LaneLoops" (60 : Nat) ({ cls := "LaneLoops", name := "shiftOf", desc := "(II)I" } : Jvm.MethodName)) ∈ lw_all := lw_g (lw_at lw_m1 88 rfl) rfl
theorem q116 : (Jvm.Cond.privateMethod ({ cls := "LaneLoops", name := "shiftOf", desc := "(II)I" } : Jvm.MethodName)) ∈ lw_tbl := lw_at lw_m1 89 rfl
theorem q117 : (Jvm.Cond.instanceMethod ({ cls := "LaneLoops", name := "shiftOf", desc := "(II)I" } : Jvm.MethodName)) ∈ lw_all := lw_g (lw_at lw_m1 90 rfl) rfl
theorem q118 : (Jvm.Cond.code ({ cls := "LaneLoops", name := "shiftOf", desc := "(II)I" } : Jvm.MethodName) prog_1_method_6_code (3 : Nat) (Option.some Jvm.ClassFile.FieldType.int)) ∈ lw_all := lw_g (lw_at lw_m1 91 rfl) rfl
theorem q119 : (Jvm.Cond.methodLink "LaneLoops" (123 : Nat) ({ cls := "LaneLoops", name := "plan", desc := "()V" } : Jvm.MethodName)) ∈ lw_all := lw_g (lw_at lw_m1 92 rfl) rfl
theorem q120 : (Jvm.Cond.privateMethod ({ cls := "LaneLoops", name := "plan", desc := "()V" } : Jvm.MethodName)) ∈ lw_tbl := lw_at lw_m1 93 rfl
theorem q121 : (Jvm.Cond.instanceMethod ({ cls := "LaneLoops", name := "plan", desc := "()V" } : Jvm.MethodName)) ∈ lw_all := lw_g (lw_at lw_m1 94 rfl) rfl
theorem q122 : (Jvm.Cond.code ({ cls := "LaneLoops", name := "plan", desc := "()V" } : Jvm.MethodName) prog_1_method_24_code (6 : Nat) (Option.none : Option Jvm.ClassFile.FieldType)) ∈ lw_all := lw_g (lw_at lw_m1 95 rfl) rfl
theorem q123 : (Jvm.Cond.methodLink "LaneLoops" (84 : Nat) ({ cls := "LaneLoops", name := "findBehind", desc := "()V" } : Jvm.MethodName)) ∈ lw_all := lw_g (lw_at lw_m1 96 rfl) rfl
theorem q124 : (Jvm.Cond.privateMethod ({ cls := "LaneLoops", name := "findBehind", desc := "()V" } : Jvm.MethodName)) ∈ lw_tbl := lw_at lw_m1 97 rfl
theorem q125 : (Jvm.Cond.instanceMethod ({ cls := "LaneLoops", name := "findBehind", desc := "()V" } : Jvm.MethodName)) ∈ lw_all := lw_g (lw_at lw_m1 98 rfl) rfl
theorem q126 : (Jvm.Cond.code ({ cls := "LaneLoops", name := "findBehind", desc := "()V" } : Jvm.MethodName) prog_1_method_18_code (4 : Nat) (Option.none : Option Jvm.ClassFile.FieldType)) ∈ lw_all := lw_g (lw_at lw_m1 99 rfl) rfl
theorem q127 : (Jvm.Cond.methodLink "LaneLoops" (81 : Nat) ({ cls := "LaneLoops", name := "precedesAtAll", desc := "(II)Z" } : Jvm.MethodName)) ∈ lw_all := lw_g (lw_at lw_m1 100 rfl) rfl
theorem q128 : (Jvm.Cond.privateMethod ({ cls := "LaneLoops", name := "precedesAtAll", desc := "(II)Z" } : Jvm.MethodName)) ∈ lw_tbl := lw_at lw_m1 101 rfl
theorem q129 : (Jvm.Cond.instanceMethod ({ cls := "LaneLoops", name := "precedesAtAll", desc := "(II)Z" } : Jvm.MethodName)) ∈ lw_all := lw_g (lw_at lw_m1 102 rfl) rfl
theorem q130 : (Jvm.Cond.code ({ cls := "LaneLoops", name := "precedesAtAll", desc := "(II)Z" } : Jvm.MethodName) prog_1_method_17_code (5 : Nat) (Option.some Jvm.ClassFile.FieldType.boolean)) ∈ lw_all := lw_g (lw_at lw_m1 103 rfl) rfl
theorem q131 : (Jvm.Cond.methodLink "LaneLoops" (78 : Nat) ({ cls := "LaneLoops", name := "precedes", desc := "(III)Z" } : Jvm.MethodName)) ∈ lw_all := lw_g (lw_at lw_m1 104 rfl) rfl
theorem q132 : (Jvm.Cond.privateMethod ({ cls := "LaneLoops", name := "precedes", desc := "(III)Z" } : Jvm.MethodName)) ∈ lw_tbl := lw_at lw_m1 105 rfl
theorem q133 : (Jvm.Cond.instanceMethod ({ cls := "LaneLoops", name := "precedes", desc := "(III)Z" } : Jvm.MethodName)) ∈ lw_all := lw_g (lw_at lw_m1 106 rfl) rfl
theorem q134 : (Jvm.Cond.code ({ cls := "LaneLoops", name := "precedes", desc := "(III)Z" } : Jvm.MethodName) prog_1_method_16_code (4 : Nat) (Option.some Jvm.ClassFile.FieldType.boolean)) ∈ lw_all := lw_g (lw_at lw_m1 107 rfl) rfl
theorem q135 : (Jvm.Cond.methodLink "LaneLoops" (67 : Nat) ({ cls := "LaneLoops", name := "meets", desc := "(IIIII)Z" } : Jvm.MethodName)) ∈ lw_all := lw_g (lw_at lw_m1 108 rfl) rfl
theorem q136 : (Jvm.Cond.privateMethod ({ cls := "LaneLoops", name := "meets", desc := "(IIIII)Z" } : Jvm.MethodName)) ∈ lw_tbl := lw_at lw_m1 109 rfl
theorem q137 : (Jvm.Cond.instanceMethod ({ cls := "LaneLoops", name := "meets", desc := "(IIIII)Z" } : Jvm.MethodName)) ∈ lw_all := lw_g (lw_at lw_m1 110 rfl) rfl
theorem q138 : (Jvm.Cond.code ({ cls := "LaneLoops", name := "meets", desc := "(IIIII)Z" } : Jvm.MethodName) prog_1_method_13_code (6 : Nat) (Option.some Jvm.ClassFile.FieldType.boolean)) ∈ lw_all := lw_g (lw_at lw_m1 111 rfl) rfl
theorem q139 : (Jvm.Cond.methodLink "LaneLoops" (56 : Nat) ({ cls := "LaneLoops", name := "arrayOf", desc := "(II)I" } : Jvm.MethodName)) ∈ lw_all := lw_g (lw_at lw_m1 112 rfl) rfl
theorem q140 : (Jvm.Cond.privateMethod ({ cls := "LaneLoops", name := "arrayOf", desc := "(II)I" } : Jvm.MethodName)) ∈ lw_tbl := lw_at lw_m1 113 rfl
theorem q141 : (Jvm.Cond.instanceMethod ({ cls := "LaneLoops", name := "arrayOf", desc := "(II)I" } : Jvm.MethodName)) ∈ lw_all := lw_g (lw_at lw_m1 114 rfl) rfl
theorem q142 : (Jvm.Cond.code ({ cls := "LaneLoops", name := "arrayOf", desc := "(II)I" } : Jvm.MethodName) prog_1_method_5_code (3 : Nat) (Option.some Jvm.ClassFile.FieldType.int)) ∈ lw_all := lw_g (lw_at lw_m1 115 rfl) rfl
theorem q143 : (Jvm.Cond.methodLink "LaneLoops" (71 : Nat) ({ cls := "LaneLoops", name := "feeds", desc := "(III)Z" } : Jvm.MethodName)) ∈ lw_all := lw_g (lw_at lw_m1 116 rfl) rfl
theorem q144 : (Jvm.Cond.privateMethod ({ cls := "LaneLoops", name := "feeds", desc := "(III)Z" } : Jvm.MethodName)) ∈ lw_tbl := lw_at lw_m1 117 rfl
theorem q145 : (Jvm.Cond.instanceMethod ({ cls := "LaneLoops", name := "feeds", desc := "(III)Z" } : Jvm.MethodName)) ∈ lw_all := lw_g (lw_at lw_m1 118 rfl) rfl
theorem q146 : (Jvm.Cond.code ({ cls := "LaneLoops", name := "feeds", desc := "(III)Z" } : Jvm.MethodName) prog_1_method_14_code (6 : Nat) (Option.some Jvm.ClassFile.FieldType.boolean)) ∈ lw_all := lw_g (lw_at lw_m1 119 rfl) rfl
theorem q147 : (Jvm.Cond.methodLink "LaneLoops" (63 : Nat) ({ cls := "LaneLoops", name := "reads", desc := "(II)Z" } : Jvm.MethodName)) ∈ lw_all := lw_g (lw_at lw_m1 120 rfl) rfl
theorem q148 : (Jvm.Cond.privateMethod ({ cls := "LaneLoops", name := "reads", desc := "(II)Z" } : Jvm.MethodName)) ∈ lw_tbl := lw_at lw_m1 121 rfl
theorem q149 : (Jvm.Cond.instanceMethod ({ cls := "LaneLoops", name := "reads", desc := "(II)Z" } : Jvm.MethodName)) ∈ lw_all := lw_g (lw_at lw_m1 122 rfl) rfl
theorem q150 : (Jvm.Cond.code ({ cls := "LaneLoops", name := "reads", desc := "(II)Z" } : Jvm.MethodName) prog_1_method_7_code (3 : Nat) (Option.some Jvm.ClassFile.FieldType.boolean)) ∈ lw_all := lw_g (lw_at lw_m1 123 rfl) rfl
theorem q151 : (Jvm.Cond.methodLink "LaneLoops" (75 : Nat) ({ cls := "LaneLoops", name := "spoils", desc := "(III)Z" } : Jvm.MethodName)) ∈ lw_all := lw_g (lw_at lw_m1 124 rfl) rfl
theorem q152 : (Jvm.Cond.privateMethod ({ cls := "LaneLoops", name := "spoils", desc := "(III)Z" } : Jvm.MethodName)) ∈ lw_tbl := lw_at lw_m1 125 rfl
theorem q153 : (Jvm.Cond.instanceMethod ({ cls := "LaneLoops", name := "spoils", desc := "(III)Z" } : Jvm.MethodName)) ∈ lw_all := lw_g (lw_at lw_m1 126 rfl) rfl
theorem q154 : (Jvm.Cond.code ({ cls := "LaneLoops", name := "spoils", desc := "(III)Z" } : Jvm.MethodName) prog_1_method_15_code (6 : Nat) (Option.some Jvm.ClassFile.FieldType.boolean)) ∈ lw_all := lw_g (lw_at lw_m1 127 rfl) rfl
theorem q155 : (Jvm.Cond.methodLink "LaneLoops" (90 : Nat) ({ cls := "LaneLoops", name := "nextGroup", desc := "(I)I" } : Jvm.MethodName)) ∈ lw_all := lw_g (lw_at lw_m1 128 rfl) rfl
theorem q156 : (Jvm.Cond.privateMethod ({ cls := "LaneLoops", name := "nextGroup", desc := "(I)I" } : Jvm.MethodName)) ∈ lw_tbl := lw_at lw_m1 129 rfl
theorem q157 : (Jvm.Cond.instanceMethod ({ cls := "LaneLoops", name := "nextGroup", desc := "(I)I" } : Jvm.MethodName)) ∈ lw_all := lw_g (lw_at lw_m1 130 rfl) rfl
theorem q158 : (Jvm.Cond.code ({ cls := "LaneLoops", name := "nextGroup", desc := "(I)I" } : Jvm.MethodName) prog_1_method_25_code (5 : Nat) (Option.some Jvm.ClassFile.FieldType.int)) ∈ lw_all := lw_g (lw_at lw_m1 131 rfl) rfl
theorem q159 : (Jvm.Cond.methodLink "LaneLoops" (103 : Nat) ({ cls := "LaneLoops", name := "circleOf", desc := "(I)I" } : Jvm.MethodName)) ∈ lw_all := lw_g (lw_at lw_m1 132 rfl) rfl
theorem q160 : (Jvm.Cond.privateMethod ({ cls := "LaneLoops", name := "circleOf", desc := "(I)I" } : Jvm.MethodName)) ∈ lw_tbl := lw_at lw_m1 133 rfl
theorem q161 : (Jvm.Cond.instanceMethod ({ cls := "LaneLoops", name := "circleOf", desc := "(I)I" } : Jvm.MethodName)) ∈ lw_all := lw_g (lw_at lw_m1 134 rfl) rfl
theorem q162 : (Jvm.Cond.code ({ cls := "LaneLoops", name := "circleOf", desc := "(I)I" } : Jvm.MethodName) prog_1_method_19_code (4 : Nat) (Option.some Jvm.ClassFile.FieldType.int)) ∈ lw_all := lw_g (lw_at lw_m1 135 rfl) rfl
theorem q163 : (Jvm.Cond.methodLink "LaneLoops" (106 : Nat) ({ cls := "LaneLoops", name := "free", desc := "(II)Z" } : Jvm.MethodName)) ∈ lw_all := lw_g (lw_at lw_m1 136 rfl) rfl
theorem q164 : (Jvm.Cond.privateMethod ({ cls := "LaneLoops", name := "free", desc := "(II)Z" } : Jvm.MethodName)) ∈ lw_tbl := lw_at lw_m1 137 rfl
theorem q165 : (Jvm.Cond.instanceMethod ({ cls := "LaneLoops", name := "free", desc := "(II)Z" } : Jvm.MethodName)) ∈ lw_all := lw_g (lw_at lw_m1 138 rfl) rfl
theorem q166 : (Jvm.Cond.code ({ cls := "LaneLoops", name := "free", desc := "(II)Z" } : Jvm.MethodName) prog_1_method_20_code (5 : Nat) (Option.some Jvm.ClassFile.FieldType.boolean)) ∈ lw_all := lw_g (lw_at lw_m1 139 rfl) rfl
theorem q167 : (Jvm.Cond.methodLink "LaneLoops" (94 : Nat) ({ cls := "LaneLoops", name := "oneStatement", desc := "(I)Z" } : Jvm.MethodName)) ∈ lw_all := lw_g (lw_at lw_m1 140 rfl) rfl
theorem q168 : (Jvm.Cond.privateMethod ({ cls := "LaneLoops", name := "oneStatement", desc := "(I)Z" } : Jvm.MethodName)) ∈ lw_tbl := lw_at lw_m1 141 rfl
theorem q169 : (Jvm.Cond.instanceMethod ({ cls := "LaneLoops", name := "oneStatement", desc := "(I)Z" } : Jvm.MethodName)) ∈ lw_all := lw_g (lw_at lw_m1 142 rfl) rfl
theorem q170 : (Jvm.Cond.code ({ cls := "LaneLoops", name := "oneStatement", desc := "(I)Z" } : Jvm.MethodName) prog_1_method_21_code (2 : Nat) (Option.some Jvm.ClassFile.FieldType.boolean)) ∈ lw_all := lw_g (lw_at lw_m1 143 rfl) rfl
theorem q171 : (Jvm.Cond.methodLink "LaneLoops" (97 : Nat) ({ cls := "LaneLoops", name := "lowest", desc := "(I)I" } : Jvm.MethodName)) ∈ lw_all := lw_g (lw_at lw_m1 144 rfl) rfl
theorem q172 : (Jvm.Cond.static ({ cls := "LaneLoops", name := "lowest", desc := "(I)I" } : Jvm.MethodName)) ∈ lw_all := lw_g (lw_at lw_m1 145 rfl) rfl
theorem q173 : (Jvm.Cond.code ({ cls := "LaneLoops", name := "lowest", desc := "(I)I" } : Jvm.MethodName) prog_1_method_22_code (2 : Nat) (Option.some Jvm.ClassFile.FieldType.int)) ∈ lw_all := lw_g (lw_at lw_m1 146 rfl) rfl
theorem q174 : (Jvm.Cond.methodLink "LaneLoops" (100 : Nat) ({ cls := "LaneLoops", name := "fitsLanes", desc := "(I)Z" } : Jvm.MethodName)) ∈ lw_all := lw_g (lw_at lw_m1 147 rfl) rfl
theorem q175 : (Jvm.Cond.privateMethod ({ cls := "LaneLoops", name := "fitsLanes", desc := "(I)Z" } : Jvm.MethodName)) ∈ lw_tbl := lw_at lw_m1 148 rfl
theorem q176 : (Jvm.Cond.instanceMethod ({ cls := "LaneLoops", name := "fitsLanes", desc := "(I)Z" } : Jvm.MethodName)) ∈ lw_all := lw_g (lw_at lw_m1 149 rfl) rfl
theorem q177 : (Jvm.Cond.code ({ cls := "LaneLoops", name := "fitsLanes", desc := "(I)Z" } : Jvm.MethodName) prog_1_method_23_code (4 : Nat) (Option.some Jvm.ClassFile.FieldType.boolean)) ∈ lw_all := lw_g (lw_at lw_m1 150 rfl) rfl
theorem q178 : (Jvm.Cond.methodLink "LaneLoops" (126 : Nat) ({ cls := "LaneLoops", name := "runInLanes", desc := "(III)V" } : Jvm.MethodName)) ∈ lw_all := lw_g (lw_at lw_m1 151 rfl) rfl
theorem q179 : (Jvm.Cond.privateMethod ({ cls := "LaneLoops", name := "runInLanes", desc := "(III)V" } : Jvm.MethodName)) ∈ lw_tbl := lw_at lw_m1 152 rfl
theorem q180 : (Jvm.Cond.instanceMethod ({ cls := "LaneLoops", name := "runInLanes", desc := "(III)V" } : Jvm.MethodName)) ∈ lw_all := lw_g (lw_at lw_m1 153 rfl) rfl
theorem q181 : (Jvm.Cond.code ({ cls := "LaneLoops", name := "runInLanes", desc := "(III)V" } : Jvm.MethodName) prog_1_method_29_code (6 : Nat) (Option.none : Option Jvm.ClassFile.FieldType)) ∈ lw_all := lw_g (lw_at lw_m1 154 rfl) rfl
theorem q182 : (Jvm.Cond.methodLink "LaneLoops" (113 : Nat) ({ cls := "LaneLoops", name := "result", desc := "(II)I" } : Jvm.MethodName)) ∈ lw_all := lw_g (lw_at lw_m1 155 rfl) rfl
theorem q183 : (Jvm.Cond.privateMethod ({ cls := "LaneLoops", name := "result", desc := "(II)I" } : Jvm.MethodName)) ∈ lw_tbl := lw_at lw_m1 156 rfl
theorem q184 : (Jvm.Cond.instanceMethod ({ cls := "LaneLoops", name := "result", desc := "(II)I" } : Jvm.MethodName)) ∈ lw_all := lw_g (lw_at lw_m1 157 rfl) rfl
theorem q185 : (Jvm.Cond.code ({ cls := "LaneLoops", name := "result", desc := "(II)I" } : Jvm.MethodName) prog_1_method_27_code (5 : Nat) (Option.some Jvm.ClassFile.FieldType.int)) ∈ lw_all := lw_g (lw_at lw_m1 158 rfl) rfl
theorem q186 : (Jvm.Cond.methodLink "LaneLoops" (109 : Nat) ({ cls := "LaneLoops", name := "source", desc := "(III)I" } : Jvm.MethodName)) ∈ lw_all := lw_g (lw_at lw_m1 159 rfl) rfl
theorem q187 : (Jvm.Cond.privateMethod ({ cls := "LaneLoops", name := "source", desc := "(III)I" } : Jvm.MethodName)) ∈ lw_tbl := lw_at lw_m1 160 rfl
theorem q188 : (Jvm.Cond.instanceMethod ({ cls := "LaneLoops", name := "source", desc := "(III)I" } : Jvm.MethodName)) ∈ lw_all := lw_g (lw_at lw_m1 161 rfl) rfl
theorem q189 : (Jvm.Cond.code ({ cls := "LaneLoops", name := "source", desc := "(III)I" } : Jvm.MethodName) prog_1_method_26_code (4 : Nat) (Option.some Jvm.ClassFile.FieldType.int)) ∈ lw_all := lw_g (lw_at lw_m1 162 rfl) rfl
theorem q190 : (Jvm.Cond.methodLink "LaneLoops" (116 : Nat) ({ cls := "LaneLoops", name := "store", desc := "(III)V" } : Jvm.MethodName)) ∈ lw_all := lw_g (lw_at lw_m1 163 rfl) rfl
theorem q191 : (Jvm.Cond.privateMethod ({ cls := "LaneLoops", name := "store", desc := "(III)V" } : Jvm.MethodName)) ∈ lw_tbl := lw_at lw_m1 164 rfl
theorem q192 : (Jvm.Cond.instanceMethod ({ cls := "LaneLoops", name := "store", desc := "(III)V" } : Jvm.MethodName)) ∈ lw_all := lw_g (lw_at lw_m1 165 rfl) rfl
theorem q193 : (Jvm.Cond.code ({ cls := "LaneLoops", name := "store", desc := "(III)V" } : Jvm.MethodName) prog_1_method_28_code (4 : Nat) (Option.none : Option Jvm.ClassFile.FieldType)) ∈ lw_all := lw_g (lw_at lw_m1 166 rfl) rfl
theorem q194 : (Jvm.Cond.methodLink "LaneLoops" (129 : Nat) ({ cls := "LaneLoops", name := "runPlain", desc := "(III)V" } : Jvm.MethodName)) ∈ lw_all := lw_g (lw_at lw_m1 167 rfl) rfl
theorem q195 : (Jvm.Cond.privateMethod ({ cls := "LaneLoops", name := "runPlain", desc := "(III)V" } : Jvm.MethodName)) ∈ lw_tbl := lw_at lw_m1 168 rfl
theorem q196 : (Jvm.Cond.instanceMethod ({ cls := "LaneLoops", name := "runPlain", desc := "(III)V" } : Jvm.MethodName)) ∈ lw_all := lw_g (lw_at lw_m1 169 rfl) rfl
theorem q197 : (Jvm.Cond.code ({ cls := "LaneLoops", name := "runPlain", desc := "(III)V" } : Jvm.MethodName) prog_1_method_30_code (7 : Nat) (Option.none : Option Jvm.ClassFile.FieldType)) ∈ lw_all := lw_g (lw_at lw_m1 170 rfl) rfl
theorem q199 : (Jvm.Cond.instanceMethod ({ cls := "LaneLoops", name := "get", desc := "(II)I" } : Jvm.MethodName)) ∈ lw_all := lw_g (lw_at lw_m1 172 rfl) rfl
theorem q200 : (Jvm.Cond.selects "LaneLoops" ({ cls := "LaneLoops", name := "get", desc := "(II)I" } : Jvm.MethodName) ({ cls := "LaneLoops", name := "get", desc := "(II)I" } : Jvm.MethodName)) ∈ lw_all := lw_g (lw_at lw_m1 173 rfl) rfl
theorem q201 : (Jvm.Cond.code ({ cls := "LaneLoops", name := "get", desc := "(II)I" } : Jvm.MethodName) prog_1_method_33_code (3 : Nat) (Option.some Jvm.ClassFile.FieldType.int)) ∈ lw_all := lw_g (lw_at lw_m1 174 rfl) rfl
theorem q203 : (Jvm.Cond.instanceMethod ({ cls := "LaneLoops", name := "sum", desc := "(I)I" } : Jvm.MethodName)) ∈ lw_all := lw_g (lw_at lw_m1 176 rfl) rfl
theorem q204 : (Jvm.Cond.selects "LaneLoops" ({ cls := "LaneLoops", name := "sum", desc := "(I)I" } : Jvm.MethodName) ({ cls := "LaneLoops", name := "sum", desc := "(I)I" } : Jvm.MethodName)) ∈ lw_all := lw_g (lw_at lw_m1 177 rfl) rfl
theorem q205 : (Jvm.Cond.code ({ cls := "LaneLoops", name := "sum", desc := "(I)I" } : Jvm.MethodName) prog_1_method_34_code (4 : Nat) (Option.some Jvm.ClassFile.FieldType.int)) ∈ lw_all := lw_g (lw_at lw_m1 178 rfl) rfl
theorem q207 : (Jvm.Cond.instanceMethod ({ cls := "LaneLoops", name := "differ", desc := "(II)I" } : Jvm.MethodName)) ∈ lw_all := lw_g (lw_at lw_m1 180 rfl) rfl
theorem q208 : (Jvm.Cond.selects "LaneLoops" ({ cls := "LaneLoops", name := "differ", desc := "(II)I" } : Jvm.MethodName) ({ cls := "LaneLoops", name := "differ", desc := "(II)I" } : Jvm.MethodName)) ∈ lw_all := lw_g (lw_at lw_m1 181 rfl) rfl
theorem q209 : (Jvm.Cond.code ({ cls := "LaneLoops", name := "differ", desc := "(II)I" } : Jvm.MethodName) prog_1_method_35_code (5 : Nat) (Option.some Jvm.ClassFile.FieldType.int)) ∈ lw_all := lw_g (lw_at lw_m1 182 rfl) rfl
theorem q211 : (Jvm.Cond.instanceMethod ({ cls := "LaneLoops", name := "size", desc := "()I" } : Jvm.MethodName)) ∈ lw_all := lw_g (lw_at lw_m1 184 rfl) rfl
theorem q212 : (Jvm.Cond.selects "LaneLoops" ({ cls := "LaneLoops", name := "size", desc := "()I" } : Jvm.MethodName) ({ cls := "LaneLoops", name := "size", desc := "()I" } : Jvm.MethodName)) ∈ lw_all := lw_g (lw_at lw_m1 185 rfl) rfl
theorem q213 : (Jvm.Cond.code ({ cls := "LaneLoops", name := "size", desc := "()I" } : Jvm.MethodName) prog_1_method_36_code (1 : Nat) (Option.some Jvm.ClassFile.FieldType.int)) ∈ lw_all := lw_g (lw_at lw_m1 186 rfl) rfl
theorem q215 : (Jvm.Cond.instanceMethod ({ cls := "LaneLoops", name := "mustPrecede", desc := "(III)Z" } : Jvm.MethodName)) ∈ lw_all := lw_g (lw_at lw_m1 188 rfl) rfl
theorem q216 : (Jvm.Cond.selects "LaneLoops" ({ cls := "LaneLoops", name := "mustPrecede", desc := "(III)Z" } : Jvm.MethodName) ({ cls := "LaneLoops", name := "mustPrecede", desc := "(III)Z" } : Jvm.MethodName)) ∈ lw_all := lw_g (lw_at lw_m1 189 rfl) rfl
theorem q217 : (Jvm.Cond.code ({ cls := "LaneLoops", name := "mustPrecede", desc := "(III)Z" } : Jvm.MethodName) prog_1_method_37_code (4 : Nat) (Option.some Jvm.ClassFile.FieldType.boolean)) ∈ lw_all := lw_g (lw_at lw_m1 190 rfl) rfl
theorem in_X0 : ∀ w ∈ wsX00, w ∈ lw_all := lw_in wsX00 [50, 52, 54, 56, 58, 60, 62, 64, 66, 68, 70, 72] (by decide +kernel) (by decide +kernel)
theorem q29 : (Jvm.Cond.initialized "LaneLoopsModel") ∈ lw_all := lw_g (lw_at lw_m1 2 rfl) rfl
theorem q219 : (Jvm.Cond.instantiable "LaneLoopsModel" (6 : Nat)) ∈ lw_all := lw_g (lw_at lw_m1 192 rfl) rfl
theorem q221 : (Jvm.Cond.instanceMethod ({ cls := "LaneLoopsModel", name := "<init>", desc := "()V" } : Jvm.MethodName)) ∈ lw_all := lw_g (lw_at lw_m1 194 rfl) rfl
theorem q222 : (Jvm.Cond.code ({ cls := "LaneLoopsModel", name := "<init>", desc := "()V" } : Jvm.MethodName) prog_3_method_1_code (1 : Nat) (Option.none : Option Jvm.ClassFile.FieldType)) ∈ lw_all := lw_g (lw_at lw_m1 195 rfl) rfl
theorem q223 : (Jvm.Cond.methodLink "LaneLoopsModel" (1 : Nat) ({ cls := "java/lang/Object", name := "<init>", desc := "()V" } : Jvm.MethodName)) ∈ lw_all := lw_g (lw_at lw_m1 196 rfl) rfl
theorem q224 : (Jvm.Cond.fieldLink "LaneLoopsModel" (25 : Nat) "LaneLoopsModel" "size" "I") ∈ lw_all := lw_g (lw_at lw_m1 197 rfl) rfl
theorem q225 : (Jvm.Cond.fieldLink "LaneLoopsModel" (7 : Nat) "LaneLoopsModel" "ops" "[I") ∈ lw_all := lw_g (lw_at lw_m1 198 rfl) rfl
theorem q226 : (Jvm.Cond.fieldLink "LaneLoopsModel" (13 : Nat) "LaneLoopsModel" "constants" "[I") ∈ lw_all := lw_g (lw_at lw_m1 199 rfl) rfl
theorem q227 : (Jvm.Cond.fieldLink "LaneLoopsModel" (16 : Nat) "LaneLoopsModel" "arrays" "[I") ∈ lw_all := lw_g (lw_at lw_m1 200 rfl) rfl
theorem q228 : (Jvm.Cond.fieldLink "LaneLoopsModel" (19 : Nat) "LaneLoopsModel" "shifts" "[I") ∈ lw_all := lw_g (lw_at lw_m1 201 rfl) rfl
theorem q229 : (Jvm.Cond.fieldLink "LaneLoopsModel" (22 : Nat) "LaneLoopsModel" "cells" "[I") ∈ lw_all := lw_g (lw_at lw_m1 202 rfl) rfl
theorem q230 : (Jvm.Cond.lays "LaneLoopsModel" "LaneLoopsModel" "size" "I") ∈ lw_all := lw_g (lw_at lw_m1 203 rfl) rfl
theorem q231 : (Jvm.Cond.soleField "LaneLoopsModel" "size") ∈ lw_all := lw_g (lw_at lw_m1 204 rfl) rfl
theorem q232 : (Jvm.Cond.laysFinal "LaneLoopsModel" "LaneLoopsModel" "ops" "[I") ∈ lw_all := lw_g (lw_at lw_m1 205 rfl) rfl
theorem q233 : (Jvm.Cond.soleField "LaneLoopsModel" "ops") ∈ lw_all := lw_g (lw_at lw_m1 206 rfl) rfl
theorem q234 : (Jvm.Cond.laysFinal "LaneLoopsModel" "LaneLoopsModel" "constants" "[I") ∈ lw_all := lw_g (lw_at lw_m1 207 rfl) rfl
theorem q235 : (Jvm.Cond.soleField "LaneLoopsModel" "constants") ∈ lw_all := lw_g (lw_at lw_m1 208 rfl) rfl
theorem q236 : (Jvm.Cond.laysFinal "LaneLoopsModel" "LaneLoopsModel" "arrays" "[I") ∈ lw_all := lw_g (lw_at lw_m1 209 rfl) rfl
theorem q237 : (Jvm.Cond.soleField "LaneLoopsModel" "arrays") ∈ lw_all := lw_g (lw_at lw_m1 210 rfl) rfl
theorem q238 : (Jvm.Cond.laysFinal "LaneLoopsModel" "LaneLoopsModel" "shifts" "[I") ∈ lw_all := lw_g (lw_at lw_m1 211 rfl) rfl
theorem q239 : (Jvm.Cond.soleField "LaneLoopsModel" "shifts") ∈ lw_all := lw_g (lw_at lw_m1 212 rfl) rfl
theorem q240 : (Jvm.Cond.laysFinal "LaneLoopsModel" "LaneLoopsModel" "cells" "[I") ∈ lw_all := lw_g (lw_at lw_m1 213 rfl) rfl
theorem q241 : (Jvm.Cond.soleField "LaneLoopsModel" "cells") ∈ lw_all := lw_g (lw_at lw_m1 214 rfl) rfl
theorem q242 : (Jvm.Cond.superclass "LaneLoopsModel" "java/lang/Object") ∈ lw_all := lw_g (lw_at lw_m1 215 rfl) rfl
theorem q244 : (Jvm.Cond.instanceMethod ({ cls := "LaneLoopsModel", name := "statement", desc := "(IIII)I" } : Jvm.MethodName)) ∈ lw_all := lw_g (lw_at lw_m1 217 rfl) rfl
theorem q245 : (Jvm.Cond.selects "LaneLoopsModel" ({ cls := "LaneLoopsModel", name := "statement", desc := "(IIII)I" } : Jvm.MethodName) ({ cls := "LaneLoopsModel", name := "statement", desc := "(IIII)I" } : Jvm.MethodName)) ∈ lw_all := lw_g (lw_at lw_m1 218 rfl) rfl
theorem q246 : (Jvm.Cond.code ({ cls := "LaneLoopsModel", name := "statement", desc := "(IIII)I" } : Jvm.MethodName) prog_3_method_2_code (6 : Nat) (Option.some Jvm.ClassFile.FieldType.int)) ∈ lw_all := lw_g (lw_at lw_m1 219 rfl) rfl
theorem q248 : (Jvm.Cond.instanceMethod ({ cls := "LaneLoopsModel", name := "clear", desc := "()V" } : Jvm.MethodName)) ∈ lw_all := lw_g (lw_at lw_m1 221 rfl) rfl
theorem q249 : (Jvm.Cond.selects "LaneLoopsModel" ({ cls := "LaneLoopsModel", name := "clear", desc := "()V" } : Jvm.MethodName) ({ cls := "LaneLoopsModel", name := "clear", desc := "()V" } : Jvm.MethodName)) ∈ lw_all := lw_g (lw_at lw_m1 222 rfl) rfl
theorem q250 : (Jvm.Cond.code ({ cls := "LaneLoopsModel", name := "clear", desc := "()V" } : Jvm.MethodName) prog_3_method_3_code (1 : Nat) (Option.none : Option Jvm.ClassFile.FieldType)) ∈ lw_all := lw_g (lw_at lw_m1 223 rfl) rfl
theorem q252 : (Jvm.Cond.instanceMethod ({ cls := "LaneLoopsModel", name := "exchange", desc := "(II)I" } : Jvm.MethodName)) ∈ lw_all := lw_g (lw_at lw_m1 225 rfl) rfl
theorem q253 : (Jvm.Cond.selects "LaneLoopsModel" ({ cls := "LaneLoopsModel", name := "exchange", desc := "(II)I" } : Jvm.MethodName) ({ cls := "LaneLoopsModel", name := "exchange", desc := "(II)I" } : Jvm.MethodName)) ∈ lw_all := lw_g (lw_at lw_m1 226 rfl) rfl
theorem q254 : (Jvm.Cond.code ({ cls := "LaneLoopsModel", name := "exchange", desc := "(II)I" } : Jvm.MethodName) prog_3_method_5_code (8 : Nat) (Option.some Jvm.ClassFile.FieldType.int)) ∈ lw_all := lw_g (lw_at lw_m1 227 rfl) rfl
theorem q255 : (Jvm.Cond.methodLink "LaneLoopsModel" (29 : Nat) ({ cls := "LaneLoopsModel", name := "noStatement", desc := "(I)Z" } : Jvm.MethodName)) ∈ lw_all := lw_g (lw_at lw_m1 228 rfl) rfl
theorem q256 : (Jvm.Cond.privateMethod ({ cls := "LaneLoopsModel", name := "noStatement", desc := "(I)Z" } : Jvm.MethodName)) ∈ lw_tbl := lw_at lw_m1 229 rfl
theorem q257 : (Jvm.Cond.instanceMethod ({ cls := "LaneLoopsModel", name := "noStatement", desc := "(I)Z" } : Jvm.MethodName)) ∈ lw_all := lw_g (lw_at lw_m1 230 rfl) rfl
theorem q258 : (Jvm.Cond.code ({ cls := "LaneLoopsModel", name := "noStatement", desc := "(I)Z" } : Jvm.MethodName) prog_3_method_4_code (2 : Nat) (Option.some Jvm.ClassFile.FieldType.boolean)) ∈ lw_all := lw_g (lw_at lw_m1 231 rfl) rfl
theorem q260 : (Jvm.Cond.instanceMethod ({ cls := "LaneLoopsModel", name := "set", desc := "(III)I" } : Jvm.MethodName)) ∈ lw_all := lw_g (lw_at lw_m1 233 rfl) rfl
theorem q261 : (Jvm.Cond.selects "LaneLoopsModel" ({ cls := "LaneLoopsModel", name := "set", desc := "(III)I" } : Jvm.MethodName) ({ cls := "LaneLoopsModel", name := "set", desc := "(III)I" } : Jvm.MethodName)) ∈ lw_all := lw_g (lw_at lw_m1 234 rfl) rfl
theorem q262 : (Jvm.Cond.code ({ cls := "LaneLoopsModel", name := "set", desc := "(III)I" } : Jvm.MethodName) prog_3_method_8_code (5 : Nat) (Option.some Jvm.ClassFile.FieldType.int)) ∈ lw_all := lw_g (lw_at lw_m1 235 rfl) rfl
theorem q263 : (Jvm.Cond.methodLink "LaneLoopsModel" (33 : Nat) ({ cls := "LaneLoopsModel", name := "badArray", desc := "(I)Z" } : Jvm.MethodName)) ∈ lw_all := lw_g (lw_at lw_m1 236 rfl) rfl
theorem q264 : (Jvm.Cond.privateMethod ({ cls := "LaneLoopsModel", name := "badArray", desc := "(I)Z" } : Jvm.MethodName)) ∈ lw_tbl := lw_at lw_m1 237 rfl
theorem q265 : (Jvm.Cond.instanceMethod ({ cls := "LaneLoopsModel", name := "badArray", desc := "(I)Z" } : Jvm.MethodName)) ∈ lw_all := lw_g (lw_at lw_m1 238 rfl) rfl
theorem q266 : (Jvm.Cond.code ({ cls := "LaneLoopsModel", name := "badArray", desc := "(I)Z" } : Jvm.MethodName) prog_3_method_6_code (2 : Nat) (Option.some Jvm.ClassFile.FieldType.boolean)) ∈ lw_all := lw_g (lw_at lw_m1 239 rfl) rfl
theorem q267 : (Jvm.Cond.methodLink "LaneLoopsModel" (36 : Nat) ({ cls := "LaneLoopsModel", name := "badCell", desc := "(I)Z" } : Jvm.MethodName)) ∈ lw_all := lw_g (lw_at lw_m2 0 rfl) rfl
theorem q268 : (Jvm.Cond.privateMethod ({ cls := "LaneLoopsModel", name := "badCell", desc := "(I)Z" } : Jvm.MethodName)) ∈ lw_tbl := lw_at lw_m2 1 rfl
theorem q269 : (Jvm.Cond.instanceMethod ({ cls := "LaneLoopsModel", name := "badCell", desc := "(I)Z" } : Jvm.MethodName)) ∈ lw_all := lw_g (lw_at lw_m2 2 rfl) rfl
theorem q270 : (Jvm.Cond.code ({ cls := "LaneLoopsModel", name := "badCell", desc := "(I)Z" } : Jvm.MethodName) prog_3_method_7_code (2 : Nat) (Option.some Jvm.ClassFile.FieldType.boolean)) ∈ lw_all := lw_g (lw_at lw_m2 3 rfl) rfl
theorem q272 : (Jvm.Cond.instanceMethod ({ cls := "LaneLoopsModel", name := "ramp", desc := "(III)I" } : Jvm.MethodName)) ∈ lw_all := lw_g (lw_at lw_m2 5 rfl) rfl
theorem q273 : (Jvm.Cond.selects "LaneLoopsModel" ({ cls := "LaneLoopsModel", name := "ramp", desc := "(III)I" } : Jvm.MethodName) ({ cls := "LaneLoopsModel", name := "ramp", desc := "(III)I" } : Jvm.MethodName)) ∈ lw_all := lw_g (lw_at lw_m2 6 rfl) rfl
theorem q274 : (Jvm.Cond.code ({ cls := "LaneLoopsModel", name := "ramp", desc := "(III)I" } : Jvm.MethodName) prog_3_method_9_code (5 : Nat) (Option.some Jvm.ClassFile.FieldType.int)) ∈ lw_all := lw_g (lw_at lw_m2 7 rfl) rfl
theorem q276 : (Jvm.Cond.instanceMethod ({ cls := "LaneLoopsModel", name := "run", desc := "(II)I" } : Jvm.MethodName)) ∈ lw_all := lw_g (lw_at lw_m2 9 rfl) rfl
theorem q277 : (Jvm.Cond.selects "LaneLoopsModel" ({ cls := "LaneLoopsModel", name := "run", desc := "(II)I" } : Jvm.MethodName) ({ cls := "LaneLoopsModel", name := "run", desc := "(II)I" } : Jvm.MethodName)) ∈ lw_all := lw_g (lw_at lw_m2 10 rfl) rfl
theorem q278 : (Jvm.Cond.code ({ cls := "LaneLoopsModel", name := "run", desc := "(II)I" } : Jvm.MethodName) prog_3_method_10_code (6 : Nat) (Option.some Jvm.ClassFile.FieldType.int)) ∈ lw_all := lw_g (lw_at lw_m2 11 rfl) rfl
theorem q279 : (Jvm.Cond.methodLink "LaneLoopsModel" (39 : Nat) ({ cls := "LaneLoopsModel", name := "carryOut", desc := "(II)V" } : Jvm.MethodName)) ∈ lw_all := lw_g (lw_at lw_m2 12 rfl) rfl
theorem q280 : (Jvm.Cond.privateMethod ({ cls := "LaneLoopsModel", name := "carryOut", desc := "(II)V" } : Jvm.MethodName)) ∈ lw_tbl := lw_at lw_m2 13 rfl
theorem q281 : (Jvm.Cond.instanceMethod ({ cls := "LaneLoopsModel", name := "carryOut", desc := "(II)V" } : Jvm.MethodName)) ∈ lw_all := lw_g (lw_at lw_m2 14 rfl) rfl
theorem q282 : (Jvm.Cond.code ({ cls := "LaneLoopsModel", name := "carryOut", desc := "(II)V" } : Jvm.MethodName) prog_3_method_11_code (8 : Nat) (Option.none : Option Jvm.ClassFile.FieldType)) ∈ lw_all := lw_g (lw_at lw_m2 15 rfl) rfl
theorem q284 : (Jvm.Cond.instanceMethod ({ cls := "LaneLoopsModel", name := "get", desc := "(II)I" } : Jvm.MethodName)) ∈ lw_all := lw_g (lw_at lw_m2 17 rfl) rfl
theorem q285 : (Jvm.Cond.selects "LaneLoopsModel" ({ cls := "LaneLoopsModel", name := "get", desc := "(II)I" } : Jvm.MethodName) ({ cls := "LaneLoopsModel", name := "get", desc := "(II)I" } : Jvm.MethodName)) ∈ lw_all := lw_g (lw_at lw_m2 18 rfl) rfl
theorem q286 : (Jvm.Cond.code ({ cls := "LaneLoopsModel", name := "get", desc := "(II)I" } : Jvm.MethodName) prog_3_method_12_code (3 : Nat) (Option.some Jvm.ClassFile.FieldType.int)) ∈ lw_all := lw_g (lw_at lw_m2 19 rfl) rfl
theorem q288 : (Jvm.Cond.instanceMethod ({ cls := "LaneLoopsModel", name := "sum", desc := "(I)I" } : Jvm.MethodName)) ∈ lw_all := lw_g (lw_at lw_m2 21 rfl) rfl
theorem q289 : (Jvm.Cond.selects "LaneLoopsModel" ({ cls := "LaneLoopsModel", name := "sum", desc := "(I)I" } : Jvm.MethodName) ({ cls := "LaneLoopsModel", name := "sum", desc := "(I)I" } : Jvm.MethodName)) ∈ lw_all := lw_g (lw_at lw_m2 22 rfl) rfl
theorem q290 : (Jvm.Cond.code ({ cls := "LaneLoopsModel", name := "sum", desc := "(I)I" } : Jvm.MethodName) prog_3_method_13_code (4 : Nat) (Option.some Jvm.ClassFile.FieldType.int)) ∈ lw_all := lw_g (lw_at lw_m2 23 rfl) rfl
theorem q292 : (Jvm.Cond.instanceMethod ({ cls := "LaneLoopsModel", name := "differ", desc := "(II)I" } : Jvm.MethodName)) ∈ lw_all := lw_g (lw_at lw_m2 25 rfl) rfl
theorem q293 : (Jvm.Cond.selects "LaneLoopsModel" ({ cls := "LaneLoopsModel", name := "differ", desc := "(II)I" } : Jvm.MethodName) ({ cls := "LaneLoopsModel", name := "differ", desc := "(II)I" } : Jvm.MethodName)) ∈ lw_all := lw_g (lw_at lw_m2 26 rfl) rfl
theorem q294 : (Jvm.Cond.code ({ cls := "LaneLoopsModel", name := "differ", desc := "(II)I" } : Jvm.MethodName) prog_3_method_14_code (5 : Nat) (Option.some Jvm.ClassFile.FieldType.int)) ∈ lw_all := lw_g (lw_at lw_m2 27 rfl) rfl
theorem q296 : (Jvm.Cond.instanceMethod ({ cls := "LaneLoopsModel", name := "size", desc := "()I" } : Jvm.MethodName)) ∈ lw_all := lw_g (lw_at lw_m2 29 rfl) rfl
theorem q297 : (Jvm.Cond.selects "LaneLoopsModel" ({ cls := "LaneLoopsModel", name := "size", desc := "()I" } : Jvm.MethodName) ({ cls := "LaneLoopsModel", name := "size", desc := "()I" } : Jvm.MethodName)) ∈ lw_all := lw_g (lw_at lw_m2 30 rfl) rfl
theorem q298 : (Jvm.Cond.code ({ cls := "LaneLoopsModel", name := "size", desc := "()I" } : Jvm.MethodName) prog_3_method_15_code (1 : Nat) (Option.some Jvm.ClassFile.FieldType.int)) ∈ lw_all := lw_g (lw_at lw_m2 31 rfl) rfl
theorem q300 : (Jvm.Cond.instanceMethod ({ cls := "LaneLoopsModel", name := "mustPrecede", desc := "(III)Z" } : Jvm.MethodName)) ∈ lw_all := lw_g (lw_at lw_m2 33 rfl) rfl
theorem q301 : (Jvm.Cond.selects "LaneLoopsModel" ({ cls := "LaneLoopsModel", name := "mustPrecede", desc := "(III)Z" } : Jvm.MethodName) ({ cls := "LaneLoopsModel", name := "mustPrecede", desc := "(III)Z" } : Jvm.MethodName)) ∈ lw_all := lw_g (lw_at lw_m2 34 rfl) rfl
theorem q302 : (Jvm.Cond.code ({ cls := "LaneLoopsModel", name := "mustPrecede", desc := "(III)Z" } : Jvm.MethodName) prog_3_method_17_code (7 : Nat) (Option.some Jvm.ClassFile.FieldType.boolean)) ∈ lw_all := lw_g (lw_at lw_m2 35 rfl) rfl
theorem q303 : (Jvm.Cond.methodLink "LaneLoopsModel" (43 : Nat) ({ cls := "LaneLoopsModel", name := "looks", desc := "(II)Z" } : Jvm.MethodName)) ∈ lw_all := lw_g (lw_at lw_m2 36 rfl) rfl
theorem q304 : (Jvm.Cond.privateMethod ({ cls := "LaneLoopsModel", name := "looks", desc := "(II)Z" } : Jvm.MethodName)) ∈ lw_tbl := lw_at lw_m2 37 rfl
theorem q305 : (Jvm.Cond.instanceMethod ({ cls := "LaneLoopsModel", name := "looks", desc := "(II)Z" } : Jvm.MethodName)) ∈ lw_all := lw_g (lw_at lw_m2 38 rfl) rfl
theorem q306 : (Jvm.Cond.code ({ cls := "LaneLoopsModel", name := "looks", desc := "(II)Z" } : Jvm.MethodName) prog_3_method_16_code (3 : Nat) (Option.some Jvm.ClassFile.FieldType.boolean)) ∈ lw_all := lw_g (lw_at lw_m2 39 rfl) rfl
theorem in_X1 : ∀ w ∈ wsX10, w ∈ lw_all := lw_in wsX10 [230, 232, 234, 236, 238, 240] (by decide +kernel) (by decide +kernel)
theorem q36 : (Jvm.Cond.instanceMethod ({ cls := "java/lang/Object", name := "<init>", desc := "()V" } : Jvm.MethodName)) ∈ lw_all := lw_g (lw_at lw_m1 9 rfl) rfl
theorem q37 : (Jvm.Cond.code ({ cls := "java/lang/Object", name := "<init>", desc := "()V" } : Jvm.MethodName) object_method_1_code (1 : Nat) (Option.none : Option Jvm.ClassFile.FieldType)) ∈ lw_all := lw_g (lw_at lw_m1 10 rfl) rfl
theorem q75 : (Jvm.Cond.arrayClass Jvm.ClassFile.FieldType.int) ∈ lw_all := lw_g (lw_at lw_m1 48 rfl) rfl
theorem q76 : (Jvm.Cond.arrayClass Jvm.ClassFile.FieldType.boolean) ∈ lw_all := lw_g (lw_at lw_m1 49 rfl) rfl
theorem q27 : (Jvm.Cond.initialized "LaneLoopsLaw") ∈ lw_all := lw_g (lw_at lw_m1 0 rfl) rfl
theorem q30 : (Jvm.Cond.classLink "LaneLoopsLaw" (7 : Nat) "LaneLoops") ∈ lw_all := lw_g (lw_at lw_m1 3 rfl) rfl
theorem q32 : (Jvm.Cond.methodLink "LaneLoopsLaw" (9 : Nat) ({ cls := "LaneLoops", name := "<init>", desc := "()V" } : Jvm.MethodName)) ∈ lw_all := lw_g (lw_at lw_m1 5 rfl) rfl
theorem q77 : (Jvm.Cond.methodLink "LaneLoopsLaw" (13 : Nat) ({ cls := "LaneLoops", name := "statement", desc := "(IIII)I" } : Jvm.MethodName)) ∈ lw_all := lw_g (lw_at lw_m1 50 rfl) rfl
theorem q87 : (Jvm.Cond.methodLink "LaneLoopsLaw" (18 : Nat) ({ cls := "LaneLoops", name := "clear", desc := "()V" } : Jvm.MethodName)) ∈ lw_all := lw_g (lw_at lw_m1 60 rfl) rfl
theorem q91 : (Jvm.Cond.methodLink "LaneLoopsLaw" (22 : Nat) ({ cls := "LaneLoops", name := "exchange", desc := "(II)I" } : Jvm.MethodName)) ∈ lw_all := lw_g (lw_at lw_m1 64 rfl) rfl
theorem q99 : (Jvm.Cond.methodLink "LaneLoopsLaw" (27 : Nat) ({ cls := "LaneLoops", name := "set", desc := "(III)I" } : Jvm.MethodName)) ∈ lw_all := lw_g (lw_at lw_m1 72 rfl) rfl
theorem q103 : (Jvm.Cond.methodLink "LaneLoopsLaw" (32 : Nat) ({ cls := "LaneLoops", name := "ramp", desc := "(III)I" } : Jvm.MethodName)) ∈ lw_all := lw_g (lw_at lw_m1 76 rfl) rfl
theorem q107 : (Jvm.Cond.methodLink "LaneLoopsLaw" (36 : Nat) ({ cls := "LaneLoops", name := "run", desc := "(II)I" } : Jvm.MethodName)) ∈ lw_all := lw_g (lw_at lw_m1 80 rfl) rfl
theorem q198 : (Jvm.Cond.methodLink "LaneLoopsLaw" (40 : Nat) ({ cls := "LaneLoops", name := "get", desc := "(II)I" } : Jvm.MethodName)) ∈ lw_all := lw_g (lw_at lw_m1 171 rfl) rfl
theorem q202 : (Jvm.Cond.methodLink "LaneLoopsLaw" (44 : Nat) ({ cls := "LaneLoops", name := "sum", desc := "(I)I" } : Jvm.MethodName)) ∈ lw_all := lw_g (lw_at lw_m1 175 rfl) rfl
theorem q206 : (Jvm.Cond.methodLink "LaneLoopsLaw" (49 : Nat) ({ cls := "LaneLoops", name := "differ", desc := "(II)I" } : Jvm.MethodName)) ∈ lw_all := lw_g (lw_at lw_m1 179 rfl) rfl
theorem q210 : (Jvm.Cond.methodLink "LaneLoopsLaw" (53 : Nat) ({ cls := "LaneLoops", name := "size", desc := "()I" } : Jvm.MethodName)) ∈ lw_all := lw_g (lw_at lw_m1 183 rfl) rfl
theorem q214 : (Jvm.Cond.methodLink "LaneLoopsLaw" (58 : Nat) ({ cls := "LaneLoops", name := "mustPrecede", desc := "(III)Z" } : Jvm.MethodName)) ∈ lw_all := lw_g (lw_at lw_m1 187 rfl) rfl
theorem q218 : (Jvm.Cond.classLink "LaneLoopsLaw" (10 : Nat) "LaneLoopsModel") ∈ lw_all := lw_g (lw_at lw_m1 191 rfl) rfl
theorem q220 : (Jvm.Cond.methodLink "LaneLoopsLaw" (12 : Nat) ({ cls := "LaneLoopsModel", name := "<init>", desc := "()V" } : Jvm.MethodName)) ∈ lw_all := lw_g (lw_at lw_m1 193 rfl) rfl
theorem q243 : (Jvm.Cond.methodLink "LaneLoopsLaw" (17 : Nat) ({ cls := "LaneLoopsModel", name := "statement", desc := "(IIII)I" } : Jvm.MethodName)) ∈ lw_all := lw_g (lw_at lw_m1 216 rfl) rfl
theorem q247 : (Jvm.Cond.methodLink "LaneLoopsLaw" (21 : Nat) ({ cls := "LaneLoopsModel", name := "clear", desc := "()V" } : Jvm.MethodName)) ∈ lw_all := lw_g (lw_at lw_m1 220 rfl) rfl
theorem q251 : (Jvm.Cond.methodLink "LaneLoopsLaw" (26 : Nat) ({ cls := "LaneLoopsModel", name := "exchange", desc := "(II)I" } : Jvm.MethodName)) ∈ lw_all := lw_g (lw_at lw_m1 224 rfl) rfl
theorem q259 : (Jvm.Cond.methodLink "LaneLoopsLaw" (31 : Nat) ({ cls := "LaneLoopsModel", name := "set", desc := "(III)I" } : Jvm.MethodName)) ∈ lw_all := lw_g (lw_at lw_m1 232 rfl) rfl
theorem q271 : (Jvm.Cond.methodLink "LaneLoopsLaw" (35 : Nat) ({ cls := "LaneLoopsModel", name := "ramp", desc := "(III)I" } : Jvm.MethodName)) ∈ lw_all := lw_g (lw_at lw_m2 4 rfl) rfl
theorem q275 : (Jvm.Cond.methodLink "LaneLoopsLaw" (39 : Nat) ({ cls := "LaneLoopsModel", name := "run", desc := "(II)I" } : Jvm.MethodName)) ∈ lw_all := lw_g (lw_at lw_m2 8 rfl) rfl
theorem q283 : (Jvm.Cond.methodLink "LaneLoopsLaw" (43 : Nat) ({ cls := "LaneLoopsModel", name := "get", desc := "(II)I" } : Jvm.MethodName)) ∈ lw_all := lw_g (lw_at lw_m2 16 rfl) rfl
theorem q287 : (Jvm.Cond.methodLink "LaneLoopsLaw" (48 : Nat) ({ cls := "LaneLoopsModel", name := "sum", desc := "(I)I" } : Jvm.MethodName)) ∈ lw_all := lw_g (lw_at lw_m2 20 rfl) rfl
theorem q291 : (Jvm.Cond.methodLink "LaneLoopsLaw" (52 : Nat) ({ cls := "LaneLoopsModel", name := "differ", desc := "(II)I" } : Jvm.MethodName)) ∈ lw_all := lw_g (lw_at lw_m2 24 rfl) rfl
theorem q295 : (Jvm.Cond.methodLink "LaneLoopsLaw" (57 : Nat) ({ cls := "LaneLoopsModel", name := "size", desc := "()I" } : Jvm.MethodName)) ∈ lw_all := lw_g (lw_at lw_m2 28 rfl) rfl
theorem q299 : (Jvm.Cond.methodLink "LaneLoopsLaw" (62 : Nat) ({ cls := "LaneLoopsModel", name := "mustPrecede", desc := "(III)Z" } : Jvm.MethodName)) ∈ lw_all := lw_g (lw_at lw_m2 32 rfl) rfl
end
section
set_option maxRecDepth 100000
theorem dX0_init_0 : decode cX0_init 0 = .ok (.aload_n 0, 1) := by decide +kernel
theorem dX0_init_1 : decode cX0_init 1 = .ok (.invokespecial 1, 3) := by decide +kernel
theorem dX0_init_4 : decode cX0_init 4 = .ok (.aload_n 0, 1) := by decide +kernel
theorem dX0_init_5 : decode cX0_init 5 = .ok (.bipush 96, 2) := by decide +kernel
theorem dX0_init_7 : decode cX0_init 7 = .ok (.newarray .int, 2) := by decide +kernel
theorem dX0_init_9 : decode cX0_init 9 = .ok (.putfield 7, 3) := by decide +kernel
theorem dX0_init_12 : decode cX0_init 12 = .ok (.aload_n 0, 1) := by decide +kernel
theorem dX0_init_13 : decode cX0_init 13 = .ok (.iconst 4, 1) := by decide +kernel
theorem dX0_init_14 : decode cX0_init 14 = .ok (.newarray .int, 2) := by decide +kernel
theorem dX0_init_16 : decode cX0_init 16 = .ok (.putfield 13, 3) := by decide +kernel
theorem dX0_init_19 : decode cX0_init 19 = .ok (.aload_n 0, 1) := by decide +kernel
theorem dX0_init_20 : decode cX0_init 20 = .ok (.iconst 4, 1) := by decide +kernel
theorem dX0_init_21 : decode cX0_init 21 = .ok (.newarray .int, 2) := by decide +kernel
theorem dX0_init_23 : decode cX0_init 23 = .ok (.putfield 16, 3) := by decide +kernel
theorem dX0_init_26 : decode cX0_init 26 = .ok (.aload_n 0, 1) := by decide +kernel
theorem dX0_init_27 : decode cX0_init 27 = .ok (.iconst 4, 1) := by decide +kernel
theorem dX0_init_28 : decode cX0_init 28 = .ok (.newarray .int, 2) := by decide +kernel
theorem dX0_init_30 : decode cX0_init 30 = .ok (.putfield 19, 3) := by decide +kernel
theorem dX0_init_33 : decode cX0_init 33 = .ok (.aload_n 0, 1) := by decide +kernel
theorem dX0_init_34 : decode cX0_init 34 = .ok (.iconst 4, 1) := by decide +kernel
theorem dX0_init_35 : decode cX0_init 35 = .ok (.newarray .int, 2) := by decide +kernel
theorem dX0_init_37 : decode cX0_init 37 = .ok (.putfield 22, 3) := by decide +kernel
theorem dX0_init_40 : decode cX0_init 40 = .ok (.aload_n 0, 1) := by decide +kernel
theorem dX0_init_41 : decode cX0_init 41 = .ok (.iconst 4, 1) := by decide +kernel
theorem dX0_init_42 : decode cX0_init 42 = .ok (.newarray .int, 2) := by decide +kernel
theorem dX0_init_44 : decode cX0_init 44 = .ok (.putfield 25, 3) := by decide +kernel
theorem dX0_init_47 : decode cX0_init 47 = .ok (.aload_n 0, 1) := by decide +kernel
theorem dX0_init_48 : decode cX0_init 48 = .ok (.iconst 4, 1) := by decide +kernel
theorem dX0_init_49 : decode cX0_init 49 = .ok (.newarray .int, 2) := by decide +kernel
theorem dX0_init_51 : decode cX0_init 51 = .ok (.putfield 28, 3) := by decide +kernel
theorem dX0_init_54 : decode cX0_init 54 = .ok (.aload_n 0, 1) := by decide +kernel
theorem dX0_init_55 : decode cX0_init 55 = .ok (.iconst 4, 1) := by decide +kernel
theorem dX0_init_56 : decode cX0_init 56 = .ok (.newarray .boolean, 2) := by decide +kernel
theorem dX0_init_58 : decode cX0_init 58 = .ok (.putfield 31, 3) := by decide +kernel
theorem dX0_init_61 : decode cX0_init 61 = .ok (.aload_n 0, 1) := by decide +kernel
theorem dX0_init_62 : decode cX0_init 62 = .ok (.iconst 4, 1) := by decide +kernel
theorem dX0_init_63 : decode cX0_init 63 = .ok (.newarray .int, 2) := by decide +kernel
theorem dX0_init_65 : decode cX0_init 65 = .ok (.putfield 35, 3) := by decide +kernel
theorem dX0_init_68 : decode cX0_init 68 = .ok (.aload_n 0, 1) := by decide +kernel
theorem dX0_init_69 : decode cX0_init 69 = .ok (.iconst 0, 1) := by decide +kernel
theorem dX0_init_70 : decode cX0_init 70 = .ok (.putfield 38, 3) := by decide +kernel
theorem dX0_init_73 : decode cX0_init 73 = .ok (.return_, 1) := by decide +kernel
theorem dX0_statement_0 : decode cX0_statement 0 = .ok (.iconst 0, 1) := by decide +kernel
theorem dX0_statement_1 : decode cX0_statement 1 = .ok (.istore 5, 2) := by decide +kernel
theorem dX0_statement_3 : decode cX0_statement 3 = .ok (.iload 5, 2) := by decide +kernel
theorem dX0_statement_5 : decode cX0_statement 5 = .ok (.iconst 3, 1) := by decide +kernel
theorem dX0_statement_6 : decode cX0_statement 6 = .ok (.if_icmp .ge 25, 3) := by decide +kernel
theorem dX0_statement_9 : decode cX0_statement 9 = .ok (.iload_n 2, 1) := by decide +kernel
theorem dX0_statement_10 : decode cX0_statement 10 = .ok (.iconst 2, 1) := by decide +kernel
theorem dX0_statement_11 : decode cX0_statement 11 = .ok (.iload 5, 2) := by decide +kernel
theorem dX0_statement_13 : decode cX0_statement 13 = .ok (.imul, 1) := by decide +kernel
theorem dX0_statement_14 : decode cX0_statement 14 = .ok (.ishr, 1) := by decide +kernel
theorem dX0_statement_15 : decode cX0_statement 15 = .ok (.iconst 3, 1) := by decide +kernel
theorem dX0_statement_16 : decode cX0_statement 16 = .ok (.iand, 1) := by decide +kernel
theorem dX0_statement_17 : decode cX0_statement 17 = .ok (.invokestatic 42, 3) := by decide +kernel
theorem dX0_statement_20 : decode cX0_statement 20 = .ok (.ifCond .eq 5, 3) := by decide +kernel
theorem dX0_statement_23 : decode cX0_statement 23 = .ok (.iconst (-1), 1) := by decide +kernel
theorem dX0_statement_24 : decode cX0_statement 24 = .ok (.ireturn, 1) := by decide +kernel
theorem dX0_statement_25 : decode cX0_statement 25 = .ok (.iinc 5 1, 3) := by decide +kernel
theorem dX0_statement_28 : decode cX0_statement 28 = .ok (.goto (-25), 3) := by decide +kernel
theorem dX0_statement_31 : decode cX0_statement 31 = .ok (.iconst 0, 1) := by decide +kernel
theorem dX0_statement_32 : decode cX0_statement 32 = .ok (.istore 5, 2) := by decide +kernel
theorem dX0_statement_34 : decode cX0_statement 34 = .ok (.iload 5, 2) := by decide +kernel
theorem dX0_statement_36 : decode cX0_statement 36 = .ok (.iconst 3, 1) := by decide +kernel
theorem dX0_statement_37 : decode cX0_statement 37 = .ok (.if_icmp .ge 29, 3) := by decide +kernel
theorem dX0_statement_40 : decode cX0_statement 40 = .ok (.iload_n 3, 1) := by decide +kernel
theorem dX0_statement_41 : decode cX0_statement 41 = .ok (.iconst 4, 1) := by decide +kernel
theorem dX0_statement_42 : decode cX0_statement 42 = .ok (.iload 5, 2) := by decide +kernel
theorem dX0_statement_44 : decode cX0_statement 44 = .ok (.imul, 1) := by decide +kernel
theorem dX0_statement_45 : decode cX0_statement 45 = .ok (.ishr, 1) := by decide +kernel
theorem dX0_statement_46 : decode cX0_statement 46 = .ok (.bipush 15, 2) := by decide +kernel
theorem dX0_statement_48 : decode cX0_statement 48 = .ok (.iand, 1) := by decide +kernel
theorem dX0_statement_49 : decode cX0_statement 49 = .ok (.iconst 4, 1) := by decide +kernel
theorem dX0_statement_50 : decode cX0_statement 50 = .ok (.isub, 1) := by decide +kernel
theorem dX0_statement_51 : decode cX0_statement 51 = .ok (.invokestatic 46, 3) := by decide +kernel
theorem dX0_statement_54 : decode cX0_statement 54 = .ok (.ifCond .eq 6, 3) := by decide +kernel
theorem dX0_statement_57 : decode cX0_statement 57 = .ok (.bipush (-2), 2) := by decide +kernel
theorem dX0_statement_59 : decode cX0_statement 59 = .ok (.ireturn, 1) := by decide +kernel
theorem dX0_statement_60 : decode cX0_statement 60 = .ok (.iinc 5 1, 3) := by decide +kernel
theorem dX0_statement_63 : decode cX0_statement 63 = .ok (.goto (-29), 3) := by decide +kernel
theorem dX0_statement_66 : decode cX0_statement 66 = .ok (.iload_n 1, 1) := by decide +kernel
theorem dX0_statement_67 : decode cX0_statement 67 = .ok (.ifCond .lt 9, 3) := by decide +kernel
theorem dX0_statement_70 : decode cX0_statement 70 = .ok (.iload_n 1, 1) := by decide +kernel
theorem dX0_statement_71 : decode cX0_statement 71 = .ok (.bipush 6, 2) := by decide +kernel
theorem dX0_statement_73 : decode cX0_statement 73 = .ok (.if_icmp .le 6, 3) := by decide +kernel
theorem dX0_statement_76 : decode cX0_statement 76 = .ok (.bipush (-3), 2) := by decide +kernel
theorem dX0_statement_78 : decode cX0_statement 78 = .ok (.ireturn, 1) := by decide +kernel
theorem dX0_statement_79 : decode cX0_statement 79 = .ok (.aload_n 0, 1) := by decide +kernel
theorem dX0_statement_80 : decode cX0_statement 80 = .ok (.getfield 38, 3) := by decide +kernel
theorem dX0_statement_83 : decode cX0_statement 83 = .ok (.iconst 4, 1) := by decide +kernel
theorem dX0_statement_84 : decode cX0_statement 84 = .ok (.if_icmp .lt 6, 3) := by decide +kernel
theorem dX0_statement_87 : decode cX0_statement 87 = .ok (.bipush (-4), 2) := by decide +kernel
theorem dX0_statement_89 : decode cX0_statement 89 = .ok (.ireturn, 1) := by decide +kernel
theorem dX0_statement_90 : decode cX0_statement 90 = .ok (.aload_n 0, 1) := by decide +kernel
theorem dX0_statement_91 : decode cX0_statement 91 = .ok (.getfield 13, 3) := by decide +kernel
theorem dX0_statement_94 : decode cX0_statement 94 = .ok (.aload_n 0, 1) := by decide +kernel
theorem dX0_statement_95 : decode cX0_statement 95 = .ok (.getfield 38, 3) := by decide +kernel
theorem dX0_statement_98 : decode cX0_statement 98 = .ok (.iload_n 1, 1) := by decide +kernel
theorem dX0_statement_99 : decode cX0_statement 99 = .ok (.iastore, 1) := by decide +kernel
theorem dX0_statement_100 : decode cX0_statement 100 = .ok (.aload_n 0, 1) := by decide +kernel
theorem dX0_statement_101 : decode cX0_statement 101 = .ok (.getfield 16, 3) := by decide +kernel
theorem dX0_statement_104 : decode cX0_statement 104 = .ok (.aload_n 0, 1) := by decide +kernel
theorem dX0_statement_105 : decode cX0_statement 105 = .ok (.getfield 38, 3) := by decide +kernel
theorem dX0_statement_108 : decode cX0_statement 108 = .ok (.iload_n 2, 1) := by decide +kernel
theorem dX0_statement_109 : decode cX0_statement 109 = .ok (.iastore, 1) := by decide +kernel
theorem dX0_statement_110 : decode cX0_statement 110 = .ok (.aload_n 0, 1) := by decide +kernel
theorem dX0_statement_111 : decode cX0_statement 111 = .ok (.getfield 19, 3) := by decide +kernel
theorem dX0_statement_114 : decode cX0_statement 114 = .ok (.aload_n 0, 1) := by decide +kernel
theorem dX0_statement_115 : decode cX0_statement 115 = .ok (.getfield 38, 3) := by decide +kernel
theorem dX0_statement_118 : decode cX0_statement 118 = .ok (.iload_n 3, 1) := by decide +kernel
theorem dX0_statement_119 : decode cX0_statement 119 = .ok (.iastore, 1) := by decide +kernel
theorem dX0_statement_120 : decode cX0_statement 120 = .ok (.aload_n 0, 1) := by decide +kernel
theorem dX0_statement_121 : decode cX0_statement 121 = .ok (.getfield 22, 3) := by decide +kernel
theorem dX0_statement_124 : decode cX0_statement 124 = .ok (.aload_n 0, 1) := by decide +kernel
theorem dX0_statement_125 : decode cX0_statement 125 = .ok (.getfield 38, 3) := by decide +kernel
theorem dX0_statement_128 : decode cX0_statement 128 = .ok (.iload 4, 2) := by decide +kernel
theorem dX0_statement_130 : decode cX0_statement 130 = .ok (.iastore, 1) := by decide +kernel
theorem dX0_statement_131 : decode cX0_statement 131 = .ok (.aload_n 0, 1) := by decide +kernel
theorem dX0_statement_132 : decode cX0_statement 132 = .ok (.dup, 1) := by decide +kernel
theorem dX0_statement_133 : decode cX0_statement 133 = .ok (.getfield 38, 3) := by decide +kernel
theorem dX0_statement_136 : decode cX0_statement 136 = .ok (.iconst 1, 1) := by decide +kernel
theorem dX0_statement_137 : decode cX0_statement 137 = .ok (.iadd, 1) := by decide +kernel
theorem dX0_statement_138 : decode cX0_statement 138 = .ok (.putfield 38, 3) := by decide +kernel
theorem dX0_statement_141 : decode cX0_statement 141 = .ok (.aload_n 0, 1) := by decide +kernel
theorem dX0_statement_142 : decode cX0_statement 142 = .ok (.iconst 0, 1) := by decide +kernel
theorem dX0_statement_143 : decode cX0_statement 143 = .ok (.putfield 49, 3) := by decide +kernel
theorem dX0_statement_146 : decode cX0_statement 146 = .ok (.aload_n 0, 1) := by decide +kernel
theorem dX0_statement_147 : decode cX0_statement 147 = .ok (.getfield 38, 3) := by decide +kernel
theorem dX0_statement_150 : decode cX0_statement 150 = .ok (.iconst 1, 1) := by decide +kernel
theorem dX0_statement_151 : decode cX0_statement 151 = .ok (.isub, 1) := by decide +kernel
theorem dX0_statement_152 : decode cX0_statement 152 = .ok (.ireturn, 1) := by decide +kernel
theorem dX0_badArray_0 : decode cX0_badArray 0 = .ok (.iload_n 0, 1) := by decide +kernel
theorem dX0_badArray_1 : decode cX0_badArray 1 = .ok (.ifCond .lt 8, 3) := by decide +kernel
theorem dX0_badArray_4 : decode cX0_badArray 4 = .ok (.iload_n 0, 1) := by decide +kernel
theorem dX0_badArray_5 : decode cX0_badArray 5 = .ok (.iconst 2, 1) := by decide +kernel
theorem dX0_badArray_6 : decode cX0_badArray 6 = .ok (.if_icmp .le 7, 3) := by decide +kernel
theorem dX0_badArray_9 : decode cX0_badArray 9 = .ok (.iconst 1, 1) := by decide +kernel
theorem dX0_badArray_10 : decode cX0_badArray 10 = .ok (.goto 4, 3) := by decide +kernel
theorem dX0_badArray_13 : decode cX0_badArray 13 = .ok (.iconst 0, 1) := by decide +kernel
theorem dX0_badArray_14 : decode cX0_badArray 14 = .ok (.ireturn, 1) := by decide +kernel
theorem dX0_badShift_0 : decode cX0_badShift 0 = .ok (.iload_n 0, 1) := by decide +kernel
theorem dX0_badShift_1 : decode cX0_badShift 1 = .ok (.bipush (-4), 2) := by decide +kernel
theorem dX0_badShift_3 : decode cX0_badShift 3 = .ok (.if_icmp .lt 8, 3) := by decide +kernel
theorem dX0_badShift_6 : decode cX0_badShift 6 = .ok (.iload_n 0, 1) := by decide +kernel
theorem dX0_badShift_7 : decode cX0_badShift 7 = .ok (.iconst 4, 1) := by decide +kernel
theorem dX0_badShift_8 : decode cX0_badShift 8 = .ok (.if_icmp .le 7, 3) := by decide +kernel
theorem dX0_badShift_11 : decode cX0_badShift 11 = .ok (.iconst 1, 1) := by decide +kernel
theorem dX0_badShift_12 : decode cX0_badShift 12 = .ok (.goto 4, 3) := by decide +kernel
theorem dX0_badShift_15 : decode cX0_badShift 15 = .ok (.iconst 0, 1) := by decide +kernel
theorem dX0_badShift_16 : decode cX0_badShift 16 = .ok (.ireturn, 1) := by decide +kernel
theorem dX0_clear_0 : decode cX0_clear 0 = .ok (.aload_n 0, 1) := by decide +kernel
theorem dX0_clear_1 : decode cX0_clear 1 = .ok (.iconst 0, 1) := by decide +kernel
theorem dX0_clear_2 : decode cX0_clear 2 = .ok (.putfield 38, 3) := by decide +kernel
theorem dX0_clear_5 : decode cX0_clear 5 = .ok (.aload_n 0, 1) := by decide +kernel
theorem dX0_clear_6 : decode cX0_clear 6 = .ok (.iconst 0, 1) := by decide +kernel
theorem dX0_clear_7 : decode cX0_clear 7 = .ok (.putfield 49, 3) := by decide +kernel
theorem dX0_clear_10 : decode cX0_clear 10 = .ok (.return_, 1) := by decide +kernel
theorem dX0_exchange_0 : decode cX0_exchange 0 = .ok (.aload_n 0, 1) := by decide +kernel
theorem dX0_exchange_1 : decode cX0_exchange 1 = .ok (.iload_n 1, 1) := by decide +kernel
theorem dX0_exchange_2 : decode cX0_exchange 2 = .ok (.invokevirtual 53, 3) := by decide +kernel
theorem dX0_exchange_5 : decode cX0_exchange 5 = .ok (.ifCond .ne 11, 3) := by decide +kernel
theorem dX0_exchange_8 : decode cX0_exchange 8 = .ok (.aload_n 0, 1) := by decide +kernel
theorem dX0_exchange_9 : decode cX0_exchange 9 = .ok (.iload_n 2, 1) := by decide +kernel
theorem dX0_exchange_10 : decode cX0_exchange 10 = .ok (.invokevirtual 53, 3) := by decide +kernel
theorem dX0_exchange_13 : decode cX0_exchange 13 = .ok (.ifCond .eq 6, 3) := by decide +kernel
theorem dX0_exchange_16 : decode cX0_exchange 16 = .ok (.bipush (-3), 2) := by decide +kernel
theorem dX0_exchange_18 : decode cX0_exchange 18 = .ok (.ireturn, 1) := by decide +kernel
theorem dX0_exchange_19 : decode cX0_exchange 19 = .ok (.aload_n 0, 1) := by decide +kernel
theorem dX0_exchange_20 : decode cX0_exchange 20 = .ok (.getfield 13, 3) := by decide +kernel
theorem dX0_exchange_23 : decode cX0_exchange 23 = .ok (.iload_n 1, 1) := by decide +kernel
theorem dX0_exchange_24 : decode cX0_exchange 24 = .ok (.iaload, 1) := by decide +kernel
theorem dX0_exchange_25 : decode cX0_exchange 25 = .ok (.istore_n 3, 1) := by decide +kernel
theorem dX0_exchange_26 : decode cX0_exchange 26 = .ok (.aload_n 0, 1) := by decide +kernel
theorem dX0_exchange_27 : decode cX0_exchange 27 = .ok (.getfield 13, 3) := by decide +kernel
theorem dX0_exchange_30 : decode cX0_exchange 30 = .ok (.iload_n 1, 1) := by decide +kernel
theorem dX0_exchange_31 : decode cX0_exchange 31 = .ok (.aload_n 0, 1) := by decide +kernel
theorem dX0_exchange_32 : decode cX0_exchange 32 = .ok (.getfield 13, 3) := by decide +kernel
theorem dX0_exchange_35 : decode cX0_exchange 35 = .ok (.iload_n 2, 1) := by decide +kernel
theorem dX0_exchange_36 : decode cX0_exchange 36 = .ok (.iaload, 1) := by decide +kernel
theorem dX0_exchange_37 : decode cX0_exchange 37 = .ok (.iastore, 1) := by decide +kernel
theorem dX0_exchange_38 : decode cX0_exchange 38 = .ok (.aload_n 0, 1) := by decide +kernel
theorem dX0_exchange_39 : decode cX0_exchange 39 = .ok (.getfield 13, 3) := by decide +kernel
theorem dX0_exchange_42 : decode cX0_exchange 42 = .ok (.iload_n 2, 1) := by decide +kernel
theorem dX0_exchange_43 : decode cX0_exchange 43 = .ok (.iload_n 3, 1) := by decide +kernel
theorem dX0_exchange_44 : decode cX0_exchange 44 = .ok (.iastore, 1) := by decide +kernel
theorem dX0_exchange_45 : decode cX0_exchange 45 = .ok (.aload_n 0, 1) := by decide +kernel
theorem dX0_exchange_46 : decode cX0_exchange 46 = .ok (.getfield 16, 3) := by decide +kernel
theorem dX0_exchange_49 : decode cX0_exchange 49 = .ok (.iload_n 1, 1) := by decide +kernel
theorem dX0_exchange_50 : decode cX0_exchange 50 = .ok (.iaload, 1) := by decide +kernel
theorem dX0_exchange_51 : decode cX0_exchange 51 = .ok (.istore 4, 2) := by decide +kernel
theorem dX0_exchange_53 : decode cX0_exchange 53 = .ok (.aload_n 0, 1) := by decide +kernel
theorem dX0_exchange_54 : decode cX0_exchange 54 = .ok (.getfield 16, 3) := by decide +kernel
theorem dX0_exchange_57 : decode cX0_exchange 57 = .ok (.iload_n 1, 1) := by decide +kernel
theorem dX0_exchange_58 : decode cX0_exchange 58 = .ok (.aload_n 0, 1) := by decide +kernel
theorem dX0_exchange_59 : decode cX0_exchange 59 = .ok (.getfield 16, 3) := by decide +kernel
theorem dX0_exchange_62 : decode cX0_exchange 62 = .ok (.iload_n 2, 1) := by decide +kernel
theorem dX0_exchange_63 : decode cX0_exchange 63 = .ok (.iaload, 1) := by decide +kernel
theorem dX0_exchange_64 : decode cX0_exchange 64 = .ok (.iastore, 1) := by decide +kernel
theorem dX0_exchange_65 : decode cX0_exchange 65 = .ok (.aload_n 0, 1) := by decide +kernel
theorem dX0_exchange_66 : decode cX0_exchange 66 = .ok (.getfield 16, 3) := by decide +kernel
theorem dX0_exchange_69 : decode cX0_exchange 69 = .ok (.iload_n 2, 1) := by decide +kernel
theorem dX0_exchange_70 : decode cX0_exchange 70 = .ok (.iload 4, 2) := by decide +kernel
theorem dX0_exchange_72 : decode cX0_exchange 72 = .ok (.iastore, 1) := by decide +kernel
theorem dX0_exchange_73 : decode cX0_exchange 73 = .ok (.aload_n 0, 1) := by decide +kernel
theorem dX0_exchange_74 : decode cX0_exchange 74 = .ok (.getfield 19, 3) := by decide +kernel
theorem dX0_exchange_77 : decode cX0_exchange 77 = .ok (.iload_n 1, 1) := by decide +kernel
theorem dX0_exchange_78 : decode cX0_exchange 78 = .ok (.iaload, 1) := by decide +kernel
theorem dX0_exchange_79 : decode cX0_exchange 79 = .ok (.istore 5, 2) := by decide +kernel
theorem dX0_exchange_81 : decode cX0_exchange 81 = .ok (.aload_n 0, 1) := by decide +kernel
theorem dX0_exchange_82 : decode cX0_exchange 82 = .ok (.getfield 19, 3) := by decide +kernel
theorem dX0_exchange_85 : decode cX0_exchange 85 = .ok (.iload_n 1, 1) := by decide +kernel
theorem dX0_exchange_86 : decode cX0_exchange 86 = .ok (.aload_n 0, 1) := by decide +kernel
theorem dX0_exchange_87 : decode cX0_exchange 87 = .ok (.getfield 19, 3) := by decide +kernel
theorem dX0_exchange_90 : decode cX0_exchange 90 = .ok (.iload_n 2, 1) := by decide +kernel
theorem dX0_exchange_91 : decode cX0_exchange 91 = .ok (.iaload, 1) := by decide +kernel
theorem dX0_exchange_92 : decode cX0_exchange 92 = .ok (.iastore, 1) := by decide +kernel
theorem dX0_exchange_93 : decode cX0_exchange 93 = .ok (.aload_n 0, 1) := by decide +kernel
theorem dX0_exchange_94 : decode cX0_exchange 94 = .ok (.getfield 19, 3) := by decide +kernel
theorem dX0_exchange_97 : decode cX0_exchange 97 = .ok (.iload_n 2, 1) := by decide +kernel
theorem dX0_exchange_98 : decode cX0_exchange 98 = .ok (.iload 5, 2) := by decide +kernel
theorem dX0_exchange_100 : decode cX0_exchange 100 = .ok (.iastore, 1) := by decide +kernel
theorem dX0_exchange_101 : decode cX0_exchange 101 = .ok (.aload_n 0, 1) := by decide +kernel
theorem dX0_exchange_102 : decode cX0_exchange 102 = .ok (.getfield 22, 3) := by decide +kernel
theorem dX0_exchange_105 : decode cX0_exchange 105 = .ok (.iload_n 1, 1) := by decide +kernel
theorem dX0_exchange_106 : decode cX0_exchange 106 = .ok (.iaload, 1) := by decide +kernel
theorem dX0_exchange_107 : decode cX0_exchange 107 = .ok (.istore 6, 2) := by decide +kernel
theorem dX0_exchange_109 : decode cX0_exchange 109 = .ok (.aload_n 0, 1) := by decide +kernel
theorem dX0_exchange_110 : decode cX0_exchange 110 = .ok (.getfield 22, 3) := by decide +kernel
theorem dX0_exchange_113 : decode cX0_exchange 113 = .ok (.iload_n 1, 1) := by decide +kernel
theorem dX0_exchange_114 : decode cX0_exchange 114 = .ok (.aload_n 0, 1) := by decide +kernel
theorem dX0_exchange_115 : decode cX0_exchange 115 = .ok (.getfield 22, 3) := by decide +kernel
theorem dX0_exchange_118 : decode cX0_exchange 118 = .ok (.iload_n 2, 1) := by decide +kernel
theorem dX0_exchange_119 : decode cX0_exchange 119 = .ok (.iaload, 1) := by decide +kernel
theorem dX0_exchange_120 : decode cX0_exchange 120 = .ok (.iastore, 1) := by decide +kernel
theorem dX0_exchange_121 : decode cX0_exchange 121 = .ok (.aload_n 0, 1) := by decide +kernel
theorem dX0_exchange_122 : decode cX0_exchange 122 = .ok (.getfield 22, 3) := by decide +kernel
theorem dX0_exchange_125 : decode cX0_exchange 125 = .ok (.iload_n 2, 1) := by decide +kernel
theorem dX0_exchange_126 : decode cX0_exchange 126 = .ok (.iload 6, 2) := by decide +kernel
theorem dX0_exchange_128 : decode cX0_exchange 128 = .ok (.iastore, 1) := by decide +kernel
theorem dX0_exchange_129 : decode cX0_exchange 129 = .ok (.aload_n 0, 1) := by decide +kernel
theorem dX0_exchange_130 : decode cX0_exchange 130 = .ok (.iconst 0, 1) := by decide +kernel
theorem dX0_exchange_131 : decode cX0_exchange 131 = .ok (.putfield 49, 3) := by decide +kernel
theorem dX0_exchange_134 : decode cX0_exchange 134 = .ok (.iconst 0, 1) := by decide +kernel
theorem dX0_exchange_135 : decode cX0_exchange 135 = .ok (.ireturn, 1) := by decide +kernel
theorem dX0_noStatement_0 : decode cX0_noStatement 0 = .ok (.iload_n 1, 1) := by decide +kernel
theorem dX0_noStatement_1 : decode cX0_noStatement 1 = .ok (.ifCond .lt 11, 3) := by decide +kernel
theorem dX0_noStatement_4 : decode cX0_noStatement 4 = .ok (.iload_n 1, 1) := by decide +kernel
theorem dX0_noStatement_5 : decode cX0_noStatement 5 = .ok (.aload_n 0, 1) := by decide +kernel
theorem dX0_noStatement_6 : decode cX0_noStatement 6 = .ok (.getfield 38, 3) := by decide +kernel
theorem dX0_noStatement_9 : decode cX0_noStatement 9 = .ok (.if_icmp .lt 7, 3) := by decide +kernel
theorem dX0_noStatement_12 : decode cX0_noStatement 12 = .ok (.iconst 1, 1) := by decide +kernel
theorem dX0_noStatement_13 : decode cX0_noStatement 13 = .ok (.goto 4, 3) := by decide +kernel
theorem dX0_noStatement_16 : decode cX0_noStatement 16 = .ok (.iconst 0, 1) := by decide +kernel
theorem dX0_noStatement_17 : decode cX0_noStatement 17 = .ok (.ireturn, 1) := by decide +kernel
theorem dX0_set_0 : decode cX0_set 0 = .ok (.iload_n 1, 1) := by decide +kernel
theorem dX0_set_1 : decode cX0_set 1 = .ok (.invokestatic 42, 3) := by decide +kernel
theorem dX0_set_4 : decode cX0_set 4 = .ok (.ifCond .eq 5, 3) := by decide +kernel
theorem dX0_set_7 : decode cX0_set 7 = .ok (.iconst (-1), 1) := by decide +kernel
theorem dX0_set_8 : decode cX0_set 8 = .ok (.ireturn, 1) := by decide +kernel
theorem dX0_set_9 : decode cX0_set 9 = .ok (.iload_n 2, 1) := by decide +kernel
theorem dX0_set_10 : decode cX0_set 10 = .ok (.ifCond .lt 9, 3) := by decide +kernel
theorem dX0_set_13 : decode cX0_set 13 = .ok (.iload_n 2, 1) := by decide +kernel
theorem dX0_set_14 : decode cX0_set 14 = .ok (.bipush 32, 2) := by decide +kernel
theorem dX0_set_16 : decode cX0_set 16 = .ok (.if_icmp .lt 6, 3) := by decide +kernel
theorem dX0_set_19 : decode cX0_set 19 = .ok (.bipush (-5), 2) := by decide +kernel
theorem dX0_set_21 : decode cX0_set 21 = .ok (.ireturn, 1) := by decide +kernel
theorem dX0_set_22 : decode cX0_set 22 = .ok (.aload_n 0, 1) := by decide +kernel
theorem dX0_set_23 : decode cX0_set 23 = .ok (.getfield 7, 3) := by decide +kernel
theorem dX0_set_26 : decode cX0_set 26 = .ok (.iload_n 1, 1) := by decide +kernel
theorem dX0_set_27 : decode cX0_set 27 = .ok (.bipush 32, 2) := by decide +kernel
theorem dX0_set_29 : decode cX0_set 29 = .ok (.imul, 1) := by decide +kernel
theorem dX0_set_30 : decode cX0_set 30 = .ok (.iload_n 2, 1) := by decide +kernel
theorem dX0_set_31 : decode cX0_set 31 = .ok (.iadd, 1) := by decide +kernel
theorem dX0_set_32 : decode cX0_set 32 = .ok (.iaload, 1) := by decide +kernel
theorem dX0_set_33 : decode cX0_set 33 = .ok (.istore 4, 2) := by decide +kernel
theorem dX0_set_35 : decode cX0_set 35 = .ok (.aload_n 0, 1) := by decide +kernel
theorem dX0_set_36 : decode cX0_set 36 = .ok (.getfield 7, 3) := by decide +kernel
theorem dX0_set_39 : decode cX0_set 39 = .ok (.iload_n 1, 1) := by decide +kernel
theorem dX0_set_40 : decode cX0_set 40 = .ok (.bipush 32, 2) := by decide +kernel
theorem dX0_set_42 : decode cX0_set 42 = .ok (.imul, 1) := by decide +kernel
theorem dX0_set_43 : decode cX0_set 43 = .ok (.iload_n 2, 1) := by decide +kernel
theorem dX0_set_44 : decode cX0_set 44 = .ok (.iadd, 1) := by decide +kernel
theorem dX0_set_45 : decode cX0_set 45 = .ok (.iload_n 3, 1) := by decide +kernel
theorem dX0_set_46 : decode cX0_set 46 = .ok (.iastore, 1) := by decide +kernel
theorem dX0_set_47 : decode cX0_set 47 = .ok (.iload 4, 2) := by decide +kernel
theorem dX0_set_49 : decode cX0_set 49 = .ok (.ireturn, 1) := by decide +kernel
theorem dX0_ramp_0 : decode cX0_ramp 0 = .ok (.iload_n 1, 1) := by decide +kernel
theorem dX0_ramp_1 : decode cX0_ramp 1 = .ok (.invokestatic 42, 3) := by decide +kernel
theorem dX0_ramp_4 : decode cX0_ramp 4 = .ok (.ifCond .eq 5, 3) := by decide +kernel
theorem dX0_ramp_7 : decode cX0_ramp 7 = .ok (.iconst (-1), 1) := by decide +kernel
theorem dX0_ramp_8 : decode cX0_ramp 8 = .ok (.ireturn, 1) := by decide +kernel
theorem dX0_ramp_9 : decode cX0_ramp 9 = .ok (.iconst 0, 1) := by decide +kernel
theorem dX0_ramp_10 : decode cX0_ramp 10 = .ok (.istore 4, 2) := by decide +kernel
theorem dX0_ramp_12 : decode cX0_ramp 12 = .ok (.iload 4, 2) := by decide +kernel
theorem dX0_ramp_14 : decode cX0_ramp 14 = .ok (.bipush 32, 2) := by decide +kernel
theorem dX0_ramp_16 : decode cX0_ramp 16 = .ok (.if_icmp .ge 27, 3) := by decide +kernel
theorem dX0_ramp_19 : decode cX0_ramp 19 = .ok (.aload_n 0, 1) := by decide +kernel
theorem dX0_ramp_20 : decode cX0_ramp 20 = .ok (.getfield 7, 3) := by decide +kernel
theorem dX0_ramp_23 : decode cX0_ramp 23 = .ok (.iload_n 1, 1) := by decide +kernel
theorem dX0_ramp_24 : decode cX0_ramp 24 = .ok (.bipush 32, 2) := by decide +kernel
theorem dX0_ramp_26 : decode cX0_ramp 26 = .ok (.imul, 1) := by decide +kernel
theorem dX0_ramp_27 : decode cX0_ramp 27 = .ok (.iload 4, 2) := by decide +kernel
theorem dX0_ramp_29 : decode cX0_ramp 29 = .ok (.iadd, 1) := by decide +kernel
theorem dX0_ramp_30 : decode cX0_ramp 30 = .ok (.iload_n 2, 1) := by decide +kernel
theorem dX0_ramp_31 : decode cX0_ramp 31 = .ok (.iload 4, 2) := by decide +kernel
theorem dX0_ramp_33 : decode cX0_ramp 33 = .ok (.iload_n 3, 1) := by decide +kernel
theorem dX0_ramp_34 : decode cX0_ramp 34 = .ok (.imul, 1) := by decide +kernel
theorem dX0_ramp_35 : decode cX0_ramp 35 = .ok (.iadd, 1) := by decide +kernel
theorem dX0_ramp_36 : decode cX0_ramp 36 = .ok (.iastore, 1) := by decide +kernel
theorem dX0_ramp_37 : decode cX0_ramp 37 = .ok (.iinc 4 1, 3) := by decide +kernel
theorem dX0_ramp_40 : decode cX0_ramp 40 = .ok (.goto (-28), 3) := by decide +kernel
theorem dX0_ramp_43 : decode cX0_ramp 43 = .ok (.iconst 0, 1) := by decide +kernel
theorem dX0_ramp_44 : decode cX0_ramp 44 = .ok (.ireturn, 1) := by decide +kernel
theorem dX0_run_0 : decode cX0_run 0 = .ok (.iload_n 1, 1) := by decide +kernel
theorem dX0_run_1 : decode cX0_run 1 = .ok (.ifCond .lt 19, 3) := by decide +kernel
theorem dX0_run_4 : decode cX0_run 4 = .ok (.iload_n 1, 1) := by decide +kernel
theorem dX0_run_5 : decode cX0_run 5 = .ok (.bipush 32, 2) := by decide +kernel
theorem dX0_run_7 : decode cX0_run 7 = .ok (.if_icmp .ge 13, 3) := by decide +kernel
theorem dX0_run_10 : decode cX0_run 10 = .ok (.iload_n 2, 1) := by decide +kernel
theorem dX0_run_11 : decode cX0_run 11 = .ok (.ifCond .lt 9, 3) := by decide +kernel
theorem dX0_run_14 : decode cX0_run 14 = .ok (.iload_n 2, 1) := by decide +kernel
theorem dX0_run_15 : decode cX0_run 15 = .ok (.bipush 32, 2) := by decide +kernel
theorem dX0_run_17 : decode cX0_run 17 = .ok (.if_icmp .lt 6, 3) := by decide +kernel
theorem dX0_run_20 : decode cX0_run 20 = .ok (.bipush (-5), 2) := by decide +kernel
theorem dX0_run_22 : decode cX0_run 22 = .ok (.ireturn, 1) := by decide +kernel
theorem dX0_run_23 : decode cX0_run 23 = .ok (.iconst 0, 1) := by decide +kernel
theorem dX0_run_24 : decode cX0_run 24 = .ok (.istore_n 3, 1) := by decide +kernel
theorem dX0_run_25 : decode cX0_run 25 = .ok (.iload_n 3, 1) := by decide +kernel
theorem dX0_run_26 : decode cX0_run 26 = .ok (.aload_n 0, 1) := by decide +kernel
theorem dX0_run_27 : decode cX0_run 27 = .ok (.getfield 38, 3) := by decide +kernel
theorem dX0_run_30 : decode cX0_run 30 = .ok (.if_icmp .ge 30, 3) := by decide +kernel
theorem dX0_run_33 : decode cX0_run 33 = .ok (.aload_n 0, 1) := by decide +kernel
theorem dX0_run_34 : decode cX0_run 34 = .ok (.iload_n 3, 1) := by decide +kernel
theorem dX0_run_35 : decode cX0_run 35 = .ok (.iload_n 1, 1) := by decide +kernel
theorem dX0_run_36 : decode cX0_run 36 = .ok (.invokevirtual 120, 3) := by decide +kernel
theorem dX0_run_39 : decode cX0_run 39 = .ok (.ifCond .ne 12, 3) := by decide +kernel
theorem dX0_run_42 : decode cX0_run 42 = .ok (.aload_n 0, 1) := by decide +kernel
theorem dX0_run_43 : decode cX0_run 43 = .ok (.iload_n 3, 1) := by decide +kernel
theorem dX0_run_44 : decode cX0_run 44 = .ok (.iload_n 2, 1) := by decide +kernel
theorem dX0_run_45 : decode cX0_run 45 = .ok (.invokevirtual 120, 3) := by decide +kernel
theorem dX0_run_48 : decode cX0_run 48 = .ok (.ifCond .eq 6, 3) := by decide +kernel
theorem dX0_run_51 : decode cX0_run 51 = .ok (.bipush (-2), 2) := by decide +kernel
theorem dX0_run_53 : decode cX0_run 53 = .ok (.ireturn, 1) := by decide +kernel
theorem dX0_run_54 : decode cX0_run 54 = .ok (.iinc 3 1, 3) := by decide +kernel
theorem dX0_run_57 : decode cX0_run 57 = .ok (.goto (-32), 3) := by decide +kernel
theorem dX0_run_60 : decode cX0_run 60 = .ok (.iload_n 1, 1) := by decide +kernel
theorem dX0_run_61 : decode cX0_run 61 = .ok (.iload_n 2, 1) := by decide +kernel
theorem dX0_run_62 : decode cX0_run 62 = .ok (.if_icmp .le 5, 3) := by decide +kernel
theorem dX0_run_65 : decode cX0_run 65 = .ok (.iconst 0, 1) := by decide +kernel
theorem dX0_run_66 : decode cX0_run 66 = .ok (.ireturn, 1) := by decide +kernel
theorem dX0_run_67 : decode cX0_run 67 = .ok (.aload_n 0, 1) := by decide +kernel
theorem dX0_run_68 : decode cX0_run 68 = .ok (.invokevirtual 123, 3) := by decide +kernel
theorem dX0_run_71 : decode cX0_run 71 = .ok (.iconst 0, 1) := by decide +kernel
theorem dX0_run_72 : decode cX0_run 72 = .ok (.istore_n 3, 1) := by decide +kernel
theorem dX0_run_73 : decode cX0_run 73 = .ok (.iload_n 3, 1) := by decide +kernel
theorem dX0_run_74 : decode cX0_run 74 = .ok (.aload_n 0, 1) := by decide +kernel
theorem dX0_run_75 : decode cX0_run 75 = .ok (.getfield 87, 3) := by decide +kernel
theorem dX0_run_78 : decode cX0_run 78 = .ok (.if_icmp .ge 52, 3) := by decide +kernel
theorem dX0_run_81 : decode cX0_run 81 = .ok (.aload_n 0, 1) := by decide +kernel
theorem dX0_run_82 : decode cX0_run 82 = .ok (.getfield 28, 3) := by decide +kernel
theorem dX0_run_85 : decode cX0_run 85 = .ok (.iload_n 3, 1) := by decide +kernel
theorem dX0_run_86 : decode cX0_run 86 = .ok (.iaload, 1) := by decide +kernel
theorem dX0_run_87 : decode cX0_run 87 = .ok (.invokestatic 97, 3) := by decide +kernel
theorem dX0_run_90 : decode cX0_run 90 = .ok (.istore 4, 2) := by decide +kernel
theorem dX0_run_92 : decode cX0_run 92 = .ok (.aload_n 0, 1) := by decide +kernel
theorem dX0_run_93 : decode cX0_run 93 = .ok (.getfield 31, 3) := by decide +kernel
theorem dX0_run_96 : decode cX0_run 96 = .ok (.iload_n 3, 1) := by decide +kernel
theorem dX0_run_97 : decode cX0_run 97 = .ok (.baload, 1) := by decide +kernel
theorem dX0_run_98 : decode cX0_run 98 = .ok (.ifCond .eq 14, 3) := by decide +kernel
theorem dX0_run_101 : decode cX0_run 101 = .ok (.aload_n 0, 1) := by decide +kernel
theorem dX0_run_102 : decode cX0_run 102 = .ok (.iload 4, 2) := by decide +kernel
theorem dX0_run_104 : decode cX0_run 104 = .ok (.iload_n 1, 1) := by decide +kernel
theorem dX0_run_105 : decode cX0_run 105 = .ok (.iload_n 2, 1) := by decide +kernel
theorem dX0_run_106 : decode cX0_run 106 = .ok (.invokevirtual 126, 3) := by decide +kernel
theorem dX0_run_109 : decode cX0_run 109 = .ok (.goto 15, 3) := by decide +kernel
theorem dX0_run_112 : decode cX0_run 112 = .ok (.aload_n 0, 1) := by decide +kernel
theorem dX0_run_113 : decode cX0_run 113 = .ok (.aload_n 0, 1) := by decide +kernel
theorem dX0_run_114 : decode cX0_run 114 = .ok (.getfield 28, 3) := by decide +kernel
theorem dX0_run_117 : decode cX0_run 117 = .ok (.iload_n 3, 1) := by decide +kernel
theorem dX0_run_118 : decode cX0_run 118 = .ok (.iaload, 1) := by decide +kernel
theorem dX0_run_119 : decode cX0_run 119 = .ok (.iload_n 1, 1) := by decide +kernel
theorem dX0_run_120 : decode cX0_run 120 = .ok (.iload_n 2, 1) := by decide +kernel
theorem dX0_run_121 : decode cX0_run 121 = .ok (.invokevirtual 129, 3) := by decide +kernel
theorem dX0_run_124 : decode cX0_run 124 = .ok (.iinc 3 1, 3) := by decide +kernel
theorem dX0_run_127 : decode cX0_run 127 = .ok (.goto (-54), 3) := by decide +kernel
theorem dX0_run_130 : decode cX0_run 130 = .ok (.aload_n 0, 1) := by decide +kernel
theorem dX0_run_131 : decode cX0_run 131 = .ok (.getfield 38, 3) := by decide +kernel
theorem dX0_run_134 : decode cX0_run 134 = .ok (.iload_n 2, 1) := by decide +kernel
theorem dX0_run_135 : decode cX0_run 135 = .ok (.iload_n 1, 1) := by decide +kernel
theorem dX0_run_136 : decode cX0_run 136 = .ok (.isub, 1) := by decide +kernel
theorem dX0_run_137 : decode cX0_run 137 = .ok (.iconst 1, 1) := by decide +kernel
theorem dX0_run_138 : decode cX0_run 138 = .ok (.iadd, 1) := by decide +kernel
theorem dX0_run_139 : decode cX0_run 139 = .ok (.imul, 1) := by decide +kernel
theorem dX0_run_140 : decode cX0_run 140 = .ok (.ireturn, 1) := by decide +kernel
theorem dX0_outside_0 : decode cX0_outside 0 = .ok (.iconst 0, 1) := by decide +kernel
theorem dX0_outside_1 : decode cX0_outside 1 = .ok (.istore_n 3, 1) := by decide +kernel
theorem dX0_outside_2 : decode cX0_outside 2 = .ok (.iload_n 3, 1) := by decide +kernel
theorem dX0_outside_3 : decode cX0_outside 3 = .ok (.iconst 3, 1) := by decide +kernel
theorem dX0_outside_4 : decode cX0_outside 4 = .ok (.if_icmp .ge 33, 3) := by decide +kernel
theorem dX0_outside_7 : decode cX0_outside 7 = .ok (.iload_n 2, 1) := by decide +kernel
end
section
set_option maxRecDepth 100000
theorem dX0_outside_8 : decode cX0_outside 8 = .ok (.aload_n 0, 1) := by decide +kernel
theorem dX0_outside_9 : decode cX0_outside 9 = .ok (.iload_n 1, 1) := by decide +kernel
theorem dX0_outside_10 : decode cX0_outside 10 = .ok (.iload_n 3, 1) := by decide +kernel
theorem dX0_outside_11 : decode cX0_outside 11 = .ok (.invokevirtual 60, 3) := by decide +kernel
theorem dX0_outside_14 : decode cX0_outside 14 = .ok (.iadd, 1) := by decide +kernel
theorem dX0_outside_15 : decode cX0_outside 15 = .ok (.istore 4, 2) := by decide +kernel
theorem dX0_outside_17 : decode cX0_outside 17 = .ok (.iload 4, 2) := by decide +kernel
theorem dX0_outside_19 : decode cX0_outside 19 = .ok (.ifCond .lt 10, 3) := by decide +kernel
theorem dX0_outside_22 : decode cX0_outside 22 = .ok (.iload 4, 2) := by decide +kernel
theorem dX0_outside_24 : decode cX0_outside 24 = .ok (.bipush 32, 2) := by decide +kernel
theorem dX0_outside_26 : decode cX0_outside 26 = .ok (.if_icmp .lt 5, 3) := by decide +kernel
theorem dX0_outside_29 : decode cX0_outside 29 = .ok (.iconst 1, 1) := by decide +kernel
theorem dX0_outside_30 : decode cX0_outside 30 = .ok (.ireturn, 1) := by decide +kernel
theorem dX0_outside_31 : decode cX0_outside 31 = .ok (.iinc 3 1, 3) := by decide +kernel
theorem dX0_outside_34 : decode cX0_outside 34 = .ok (.goto (-32), 3) := by decide +kernel
theorem dX0_outside_37 : decode cX0_outside 37 = .ok (.iconst 0, 1) := by decide +kernel
theorem dX0_outside_38 : decode cX0_outside 38 = .ok (.ireturn, 1) := by decide +kernel
theorem dX0_shiftOf_0 : decode cX0_shiftOf 0 = .ok (.aload_n 0, 1) := by decide +kernel
theorem dX0_shiftOf_1 : decode cX0_shiftOf 1 = .ok (.getfield 19, 3) := by decide +kernel
theorem dX0_shiftOf_4 : decode cX0_shiftOf 4 = .ok (.iload_n 1, 1) := by decide +kernel
theorem dX0_shiftOf_5 : decode cX0_shiftOf 5 = .ok (.iaload, 1) := by decide +kernel
theorem dX0_shiftOf_6 : decode cX0_shiftOf 6 = .ok (.iconst 4, 1) := by decide +kernel
theorem dX0_shiftOf_7 : decode cX0_shiftOf 7 = .ok (.iload_n 2, 1) := by decide +kernel
theorem dX0_shiftOf_8 : decode cX0_shiftOf 8 = .ok (.imul, 1) := by decide +kernel
theorem dX0_shiftOf_9 : decode cX0_shiftOf 9 = .ok (.ishr, 1) := by decide +kernel
theorem dX0_shiftOf_10 : decode cX0_shiftOf 10 = .ok (.bipush 15, 2) := by decide +kernel
theorem dX0_shiftOf_12 : decode cX0_shiftOf 12 = .ok (.iand, 1) := by decide +kernel
theorem dX0_shiftOf_13 : decode cX0_shiftOf 13 = .ok (.iconst 4, 1) := by decide +kernel
theorem dX0_shiftOf_14 : decode cX0_shiftOf 14 = .ok (.isub, 1) := by decide +kernel
theorem dX0_shiftOf_15 : decode cX0_shiftOf 15 = .ok (.ireturn, 1) := by decide +kernel
theorem dX0_plan_0 : decode cX0_plan 0 = .ok (.aload_n 0, 1) := by decide +kernel
theorem dX0_plan_1 : decode cX0_plan 1 = .ok (.getfield 49, 3) := by decide +kernel
theorem dX0_plan_4 : decode cX0_plan 4 = .ok (.ifCond .eq 4, 3) := by decide +kernel
theorem dX0_plan_7 : decode cX0_plan 7 = .ok (.return_, 1) := by decide +kernel
theorem dX0_plan_8 : decode cX0_plan 8 = .ok (.aload_n 0, 1) := by decide +kernel
theorem dX0_plan_9 : decode cX0_plan 9 = .ok (.iconst 1, 1) := by decide +kernel
theorem dX0_plan_10 : decode cX0_plan 10 = .ok (.putfield 49, 3) := by decide +kernel
theorem dX0_plan_13 : decode cX0_plan 13 = .ok (.aload_n 0, 1) := by decide +kernel
theorem dX0_plan_14 : decode cX0_plan 14 = .ok (.invokevirtual 84, 3) := by decide +kernel
theorem dX0_plan_17 : decode cX0_plan 17 = .ok (.aload_n 0, 1) := by decide +kernel
theorem dX0_plan_18 : decode cX0_plan 18 = .ok (.iconst 0, 1) := by decide +kernel
theorem dX0_plan_19 : decode cX0_plan 19 = .ok (.putfield 87, 3) := by decide +kernel
theorem dX0_plan_22 : decode cX0_plan 22 = .ok (.iconst 0, 1) := by decide +kernel
theorem dX0_plan_23 : decode cX0_plan 23 = .ok (.istore_n 1, 1) := by decide +kernel
theorem dX0_plan_24 : decode cX0_plan 24 = .ok (.iconst 0, 1) := by decide +kernel
theorem dX0_plan_25 : decode cX0_plan 25 = .ok (.istore_n 2, 1) := by decide +kernel
theorem dX0_plan_26 : decode cX0_plan 26 = .ok (.iload_n 2, 1) := by decide +kernel
theorem dX0_plan_27 : decode cX0_plan 27 = .ok (.aload_n 0, 1) := by decide +kernel
theorem dX0_plan_28 : decode cX0_plan 28 = .ok (.getfield 38, 3) := by decide +kernel
theorem dX0_plan_31 : decode cX0_plan 31 = .ok (.if_icmp .ge 84, 3) := by decide +kernel
theorem dX0_plan_34 : decode cX0_plan 34 = .ok (.aload_n 0, 1) := by decide +kernel
theorem dX0_plan_35 : decode cX0_plan 35 = .ok (.iload_n 1, 1) := by decide +kernel
theorem dX0_plan_36 : decode cX0_plan 36 = .ok (.invokevirtual 90, 3) := by decide +kernel
theorem dX0_plan_39 : decode cX0_plan 39 = .ok (.istore_n 3, 1) := by decide +kernel
theorem dX0_plan_40 : decode cX0_plan 40 = .ok (.iload_n 3, 1) := by decide +kernel
theorem dX0_plan_41 : decode cX0_plan 41 = .ok (.ifCond .eq 68, 3) := by decide +kernel
theorem dX0_plan_44 : decode cX0_plan 44 = .ok (.aload_n 0, 1) := by decide +kernel
theorem dX0_plan_45 : decode cX0_plan 45 = .ok (.getfield 28, 3) := by decide +kernel
theorem dX0_plan_48 : decode cX0_plan 48 = .ok (.aload_n 0, 1) := by decide +kernel
theorem dX0_plan_49 : decode cX0_plan 49 = .ok (.getfield 87, 3) := by decide +kernel
theorem dX0_plan_52 : decode cX0_plan 52 = .ok (.iload_n 3, 1) := by decide +kernel
theorem dX0_plan_53 : decode cX0_plan 53 = .ok (.iastore, 1) := by decide +kernel
theorem dX0_plan_54 : decode cX0_plan 54 = .ok (.aload_n 0, 1) := by decide +kernel
theorem dX0_plan_55 : decode cX0_plan 55 = .ok (.iload_n 3, 1) := by decide +kernel
theorem dX0_plan_56 : decode cX0_plan 56 = .ok (.invokevirtual 94, 3) := by decide +kernel
theorem dX0_plan_59 : decode cX0_plan 59 = .ok (.istore 4, 2) := by decide +kernel
theorem dX0_plan_61 : decode cX0_plan 61 = .ok (.iload_n 3, 1) := by decide +kernel
theorem dX0_plan_62 : decode cX0_plan 62 = .ok (.invokestatic 97, 3) := by decide +kernel
theorem dX0_plan_65 : decode cX0_plan 65 = .ok (.istore 5, 2) := by decide +kernel
theorem dX0_plan_67 : decode cX0_plan 67 = .ok (.aload_n 0, 1) := by decide +kernel
theorem dX0_plan_68 : decode cX0_plan 68 = .ok (.getfield 31, 3) := by decide +kernel
theorem dX0_plan_71 : decode cX0_plan 71 = .ok (.aload_n 0, 1) := by decide +kernel
theorem dX0_plan_72 : decode cX0_plan 72 = .ok (.getfield 87, 3) := by decide +kernel
theorem dX0_plan_75 : decode cX0_plan 75 = .ok (.iload 4, 2) := by decide +kernel
theorem dX0_plan_77 : decode cX0_plan 77 = .ok (.ifCond .eq 16, 3) := by decide +kernel
theorem dX0_plan_80 : decode cX0_plan 80 = .ok (.aload_n 0, 1) := by decide +kernel
theorem dX0_plan_81 : decode cX0_plan 81 = .ok (.iload 5, 2) := by decide +kernel
theorem dX0_plan_83 : decode cX0_plan 83 = .ok (.invokevirtual 100, 3) := by decide +kernel
theorem dX0_plan_86 : decode cX0_plan 86 = .ok (.ifCond .eq 7, 3) := by decide +kernel
theorem dX0_plan_89 : decode cX0_plan 89 = .ok (.iconst 1, 1) := by decide +kernel
theorem dX0_plan_90 : decode cX0_plan 90 = .ok (.goto 4, 3) := by decide +kernel
theorem dX0_plan_93 : decode cX0_plan 93 = .ok (.iconst 0, 1) := by decide +kernel
theorem dX0_plan_94 : decode cX0_plan 94 = .ok (.bastore, 1) := by decide +kernel
theorem dX0_plan_95 : decode cX0_plan 95 = .ok (.aload_n 0, 1) := by decide +kernel
theorem dX0_plan_96 : decode cX0_plan 96 = .ok (.dup, 1) := by decide +kernel
theorem dX0_plan_97 : decode cX0_plan 97 = .ok (.getfield 87, 3) := by decide +kernel
theorem dX0_plan_100 : decode cX0_plan 100 = .ok (.iconst 1, 1) := by decide +kernel
theorem dX0_plan_101 : decode cX0_plan 101 = .ok (.iadd, 1) := by decide +kernel
theorem dX0_plan_102 : decode cX0_plan 102 = .ok (.putfield 87, 3) := by decide +kernel
theorem dX0_plan_105 : decode cX0_plan 105 = .ok (.iload_n 1, 1) := by decide +kernel
theorem dX0_plan_106 : decode cX0_plan 106 = .ok (.iload_n 3, 1) := by decide +kernel
theorem dX0_plan_107 : decode cX0_plan 107 = .ok (.ior, 1) := by decide +kernel
theorem dX0_plan_108 : decode cX0_plan 108 = .ok (.istore_n 1, 1) := by decide +kernel
theorem dX0_plan_109 : decode cX0_plan 109 = .ok (.iinc 2 1, 3) := by decide +kernel
theorem dX0_plan_112 : decode cX0_plan 112 = .ok (.goto (-86), 3) := by decide +kernel
theorem dX0_plan_115 : decode cX0_plan 115 = .ok (.return_, 1) := by decide +kernel
theorem dX0_findBehind_0 : decode cX0_findBehind 0 = .ok (.iconst 0, 1) := by decide +kernel
theorem dX0_findBehind_1 : decode cX0_findBehind 1 = .ok (.istore_n 1, 1) := by decide +kernel
theorem dX0_findBehind_2 : decode cX0_findBehind 2 = .ok (.iload_n 1, 1) := by decide +kernel
theorem dX0_findBehind_3 : decode cX0_findBehind 3 = .ok (.aload_n 0, 1) := by decide +kernel
theorem dX0_findBehind_4 : decode cX0_findBehind 4 = .ok (.getfield 38, 3) := by decide +kernel
theorem dX0_findBehind_7 : decode cX0_findBehind 7 = .ok (.if_icmp .ge 57, 3) := by decide +kernel
theorem dX0_findBehind_10 : decode cX0_findBehind 10 = .ok (.aload_n 0, 1) := by decide +kernel
theorem dX0_findBehind_11 : decode cX0_findBehind 11 = .ok (.getfield 25, 3) := by decide +kernel
theorem dX0_findBehind_14 : decode cX0_findBehind 14 = .ok (.iload_n 1, 1) := by decide +kernel
theorem dX0_findBehind_15 : decode cX0_findBehind 15 = .ok (.iconst 1, 1) := by decide +kernel
theorem dX0_findBehind_16 : decode cX0_findBehind 16 = .ok (.iload_n 1, 1) := by decide +kernel
theorem dX0_findBehind_17 : decode cX0_findBehind 17 = .ok (.ishl, 1) := by decide +kernel
theorem dX0_findBehind_18 : decode cX0_findBehind 18 = .ok (.iastore, 1) := by decide +kernel
theorem dX0_findBehind_19 : decode cX0_findBehind 19 = .ok (.iconst 0, 1) := by decide +kernel
theorem dX0_findBehind_20 : decode cX0_findBehind 20 = .ok (.istore_n 2, 1) := by decide +kernel
theorem dX0_findBehind_21 : decode cX0_findBehind 21 = .ok (.iload_n 2, 1) := by decide +kernel
theorem dX0_findBehind_22 : decode cX0_findBehind 22 = .ok (.aload_n 0, 1) := by decide +kernel
theorem dX0_findBehind_23 : decode cX0_findBehind 23 = .ok (.getfield 38, 3) := by decide +kernel
theorem dX0_findBehind_26 : decode cX0_findBehind 26 = .ok (.if_icmp .ge 32, 3) := by decide +kernel
theorem dX0_findBehind_29 : decode cX0_findBehind 29 = .ok (.aload_n 0, 1) := by decide +kernel
theorem dX0_findBehind_30 : decode cX0_findBehind 30 = .ok (.iload_n 1, 1) := by decide +kernel
theorem dX0_findBehind_31 : decode cX0_findBehind 31 = .ok (.iload_n 2, 1) := by decide +kernel
theorem dX0_findBehind_32 : decode cX0_findBehind 32 = .ok (.invokevirtual 81, 3) := by decide +kernel
theorem dX0_findBehind_35 : decode cX0_findBehind 35 = .ok (.istore_n 3, 1) := by decide +kernel
theorem dX0_findBehind_36 : decode cX0_findBehind 36 = .ok (.iload_n 3, 1) := by decide +kernel
theorem dX0_findBehind_37 : decode cX0_findBehind 37 = .ok (.ifCond .eq 15, 3) := by decide +kernel
theorem dX0_findBehind_40 : decode cX0_findBehind 40 = .ok (.aload_n 0, 1) := by decide +kernel
theorem dX0_findBehind_41 : decode cX0_findBehind 41 = .ok (.getfield 25, 3) := by decide +kernel
theorem dX0_findBehind_44 : decode cX0_findBehind 44 = .ok (.iload_n 1, 1) := by decide +kernel
theorem dX0_findBehind_45 : decode cX0_findBehind 45 = .ok (.dup2, 1) := by decide +kernel
theorem dX0_findBehind_46 : decode cX0_findBehind 46 = .ok (.iaload, 1) := by decide +kernel
theorem dX0_findBehind_47 : decode cX0_findBehind 47 = .ok (.iconst 1, 1) := by decide +kernel
theorem dX0_findBehind_48 : decode cX0_findBehind 48 = .ok (.iload_n 2, 1) := by decide +kernel
theorem dX0_findBehind_49 : decode cX0_findBehind 49 = .ok (.ishl, 1) := by decide +kernel
theorem dX0_findBehind_50 : decode cX0_findBehind 50 = .ok (.ior, 1) := by decide +kernel
theorem dX0_findBehind_51 : decode cX0_findBehind 51 = .ok (.iastore, 1) := by decide +kernel
theorem dX0_findBehind_52 : decode cX0_findBehind 52 = .ok (.iinc 2 1, 3) := by decide +kernel
theorem dX0_findBehind_55 : decode cX0_findBehind 55 = .ok (.goto (-34), 3) := by decide +kernel
theorem dX0_findBehind_58 : decode cX0_findBehind 58 = .ok (.iinc 1 1, 3) := by decide +kernel
theorem dX0_findBehind_61 : decode cX0_findBehind 61 = .ok (.goto (-59), 3) := by decide +kernel
theorem dX0_findBehind_64 : decode cX0_findBehind 64 = .ok (.iconst 0, 1) := by decide +kernel
theorem dX0_findBehind_65 : decode cX0_findBehind 65 = .ok (.istore_n 1, 1) := by decide +kernel
theorem dX0_findBehind_66 : decode cX0_findBehind 66 = .ok (.iload_n 1, 1) := by decide +kernel
theorem dX0_findBehind_67 : decode cX0_findBehind 67 = .ok (.aload_n 0, 1) := by decide +kernel
theorem dX0_findBehind_68 : decode cX0_findBehind 68 = .ok (.getfield 38, 3) := by decide +kernel
theorem dX0_findBehind_71 : decode cX0_findBehind 71 = .ok (.if_icmp .ge 54, 3) := by decide +kernel
theorem dX0_findBehind_74 : decode cX0_findBehind 74 = .ok (.iconst 0, 1) := by decide +kernel
theorem dX0_findBehind_75 : decode cX0_findBehind 75 = .ok (.istore_n 2, 1) := by decide +kernel
theorem dX0_findBehind_76 : decode cX0_findBehind 76 = .ok (.iload_n 2, 1) := by decide +kernel
theorem dX0_findBehind_77 : decode cX0_findBehind 77 = .ok (.aload_n 0, 1) := by decide +kernel
theorem dX0_findBehind_78 : decode cX0_findBehind 78 = .ok (.getfield 38, 3) := by decide +kernel
theorem dX0_findBehind_81 : decode cX0_findBehind 81 = .ok (.if_icmp .ge 38, 3) := by decide +kernel
theorem dX0_findBehind_84 : decode cX0_findBehind 84 = .ok (.aload_n 0, 1) := by decide +kernel
theorem dX0_findBehind_85 : decode cX0_findBehind 85 = .ok (.getfield 25, 3) := by decide +kernel
theorem dX0_findBehind_88 : decode cX0_findBehind 88 = .ok (.iload_n 2, 1) := by decide +kernel
theorem dX0_findBehind_89 : decode cX0_findBehind 89 = .ok (.iaload, 1) := by decide +kernel
theorem dX0_findBehind_90 : decode cX0_findBehind 90 = .ok (.iload_n 1, 1) := by decide +kernel
theorem dX0_findBehind_91 : decode cX0_findBehind 91 = .ok (.ishr, 1) := by decide +kernel
theorem dX0_findBehind_92 : decode cX0_findBehind 92 = .ok (.iconst 1, 1) := by decide +kernel
theorem dX0_findBehind_93 : decode cX0_findBehind 93 = .ok (.iand, 1) := by decide +kernel
theorem dX0_findBehind_94 : decode cX0_findBehind 94 = .ok (.iconst 1, 1) := by decide +kernel
theorem dX0_findBehind_95 : decode cX0_findBehind 95 = .ok (.if_icmp .ne 18, 3) := by decide +kernel
theorem dX0_findBehind_98 : decode cX0_findBehind 98 = .ok (.aload_n 0, 1) := by decide +kernel
theorem dX0_findBehind_99 : decode cX0_findBehind 99 = .ok (.getfield 25, 3) := by decide +kernel
theorem dX0_findBehind_102 : decode cX0_findBehind 102 = .ok (.iload_n 2, 1) := by decide +kernel
theorem dX0_findBehind_103 : decode cX0_findBehind 103 = .ok (.dup2, 1) := by decide +kernel
theorem dX0_findBehind_104 : decode cX0_findBehind 104 = .ok (.iaload, 1) := by decide +kernel
theorem dX0_findBehind_105 : decode cX0_findBehind 105 = .ok (.aload_n 0, 1) := by decide +kernel
theorem dX0_findBehind_106 : decode cX0_findBehind 106 = .ok (.getfield 25, 3) := by decide +kernel
theorem dX0_findBehind_109 : decode cX0_findBehind 109 = .ok (.iload_n 1, 1) := by decide +kernel
theorem dX0_findBehind_110 : decode cX0_findBehind 110 = .ok (.iaload, 1) := by decide +kernel
theorem dX0_findBehind_111 : decode cX0_findBehind 111 = .ok (.ior, 1) := by decide +kernel
theorem dX0_findBehind_112 : decode cX0_findBehind 112 = .ok (.iastore, 1) := by decide +kernel
theorem dX0_findBehind_113 : decode cX0_findBehind 113 = .ok (.iinc 2 1, 3) := by decide +kernel
theorem dX0_findBehind_116 : decode cX0_findBehind 116 = .ok (.goto (-40), 3) := by decide +kernel
theorem dX0_findBehind_119 : decode cX0_findBehind 119 = .ok (.iinc 1 1, 3) := by decide +kernel
theorem dX0_findBehind_122 : decode cX0_findBehind 122 = .ok (.goto (-56), 3) := by decide +kernel
theorem dX0_findBehind_125 : decode cX0_findBehind 125 = .ok (.return_, 1) := by decide +kernel
theorem dX0_precedesAtAll_0 : decode cX0_precedesAtAll 0 = .ok (.iconst 0, 1) := by decide +kernel
theorem dX0_precedesAtAll_1 : decode cX0_precedesAtAll 1 = .ok (.istore_n 3, 1) := by decide +kernel
theorem dX0_precedesAtAll_2 : decode cX0_precedesAtAll 2 = .ok (.iload_n 3, 1) := by decide +kernel
theorem dX0_precedesAtAll_3 : decode cX0_precedesAtAll 3 = .ok (.bipush 8, 2) := by decide +kernel
theorem dX0_precedesAtAll_5 : decode cX0_precedesAtAll 5 = .ok (.if_icmp .gt 25, 3) := by decide +kernel
theorem dX0_precedesAtAll_8 : decode cX0_precedesAtAll 8 = .ok (.aload_n 0, 1) := by decide +kernel
theorem dX0_precedesAtAll_9 : decode cX0_precedesAtAll 9 = .ok (.iload_n 1, 1) := by decide +kernel
theorem dX0_precedesAtAll_10 : decode cX0_precedesAtAll 10 = .ok (.iload_n 2, 1) := by decide +kernel
theorem dX0_precedesAtAll_11 : decode cX0_precedesAtAll 11 = .ok (.iload_n 3, 1) := by decide +kernel
theorem dX0_precedesAtAll_12 : decode cX0_precedesAtAll 12 = .ok (.invokevirtual 78, 3) := by decide +kernel
theorem dX0_precedesAtAll_15 : decode cX0_precedesAtAll 15 = .ok (.istore 4, 2) := by decide +kernel
theorem dX0_precedesAtAll_17 : decode cX0_precedesAtAll 17 = .ok (.iload 4, 2) := by decide +kernel
theorem dX0_precedesAtAll_19 : decode cX0_precedesAtAll 19 = .ok (.ifCond .eq 5, 3) := by decide +kernel
theorem dX0_precedesAtAll_22 : decode cX0_precedesAtAll 22 = .ok (.iconst 1, 1) := by decide +kernel
theorem dX0_precedesAtAll_23 : decode cX0_precedesAtAll 23 = .ok (.ireturn, 1) := by decide +kernel
theorem dX0_precedesAtAll_24 : decode cX0_precedesAtAll 24 = .ok (.iinc 3 1, 3) := by decide +kernel
theorem dX0_precedesAtAll_27 : decode cX0_precedesAtAll 27 = .ok (.goto (-25), 3) := by decide +kernel
theorem dX0_precedesAtAll_30 : decode cX0_precedesAtAll 30 = .ok (.iconst 0, 1) := by decide +kernel
theorem dX0_precedesAtAll_31 : decode cX0_precedesAtAll 31 = .ok (.ireturn, 1) := by decide +kernel
theorem dX0_precedes_0 : decode cX0_precedes 0 = .ok (.iload_n 3, 1) := by decide +kernel
theorem dX0_precedes_1 : decode cX0_precedes 1 = .ok (.ifCond .ne 10, 3) := by decide +kernel
theorem dX0_precedes_4 : decode cX0_precedes 4 = .ok (.iload_n 1, 1) := by decide +kernel
theorem dX0_precedes_5 : decode cX0_precedes 5 = .ok (.iload_n 2, 1) := by decide +kernel
theorem dX0_precedes_6 : decode cX0_precedes 6 = .ok (.if_icmp .lt 5, 3) := by decide +kernel
theorem dX0_precedes_9 : decode cX0_precedes 9 = .ok (.iconst 0, 1) := by decide +kernel
theorem dX0_precedes_10 : decode cX0_precedes 10 = .ok (.ireturn, 1) := by decide +kernel
theorem dX0_precedes_11 : decode cX0_precedes 11 = .ok (.aload_n 0, 1) := by decide +kernel
theorem dX0_precedes_12 : decode cX0_precedes 12 = .ok (.iload_n 1, 1) := by decide +kernel
theorem dX0_precedes_13 : decode cX0_precedes 13 = .ok (.iconst 0, 1) := by decide +kernel
theorem dX0_precedes_14 : decode cX0_precedes 14 = .ok (.iload_n 2, 1) := by decide +kernel
theorem dX0_precedes_15 : decode cX0_precedes 15 = .ok (.iconst 0, 1) := by decide +kernel
theorem dX0_precedes_16 : decode cX0_precedes 16 = .ok (.iload_n 3, 1) := by decide +kernel
theorem dX0_precedes_17 : decode cX0_precedes 17 = .ok (.invokevirtual 67, 3) := by decide +kernel
theorem dX0_precedes_20 : decode cX0_precedes 20 = .ok (.ifCond .eq 5, 3) := by decide +kernel
theorem dX0_precedes_23 : decode cX0_precedes 23 = .ok (.iconst 1, 1) := by decide +kernel
theorem dX0_precedes_24 : decode cX0_precedes 24 = .ok (.ireturn, 1) := by decide +kernel
theorem dX0_precedes_25 : decode cX0_precedes 25 = .ok (.aload_n 0, 1) := by decide +kernel
theorem dX0_precedes_26 : decode cX0_precedes 26 = .ok (.iload_n 1, 1) := by decide +kernel
theorem dX0_precedes_27 : decode cX0_precedes 27 = .ok (.iload_n 2, 1) := by decide +kernel
theorem dX0_precedes_28 : decode cX0_precedes 28 = .ok (.iload_n 3, 1) := by decide +kernel
theorem dX0_precedes_29 : decode cX0_precedes 29 = .ok (.invokevirtual 71, 3) := by decide +kernel
theorem dX0_precedes_32 : decode cX0_precedes 32 = .ok (.ifCond .ne 13, 3) := by decide +kernel
theorem dX0_precedes_35 : decode cX0_precedes 35 = .ok (.aload_n 0, 1) := by decide +kernel
theorem dX0_precedes_36 : decode cX0_precedes 36 = .ok (.iload_n 1, 1) := by decide +kernel
theorem dX0_precedes_37 : decode cX0_precedes 37 = .ok (.iload_n 2, 1) := by decide +kernel
theorem dX0_precedes_38 : decode cX0_precedes 38 = .ok (.iload_n 3, 1) := by decide +kernel
theorem dX0_precedes_39 : decode cX0_precedes 39 = .ok (.invokevirtual 75, 3) := by decide +kernel
theorem dX0_precedes_42 : decode cX0_precedes 42 = .ok (.ifCond .eq 7, 3) := by decide +kernel
theorem dX0_precedes_45 : decode cX0_precedes 45 = .ok (.iconst 1, 1) := by decide +kernel
theorem dX0_precedes_46 : decode cX0_precedes 46 = .ok (.goto 4, 3) := by decide +kernel
theorem dX0_precedes_49 : decode cX0_precedes 49 = .ok (.iconst 0, 1) := by decide +kernel
theorem dX0_precedes_50 : decode cX0_precedes 50 = .ok (.ireturn, 1) := by decide +kernel
theorem dX0_meets_0 : decode cX0_meets 0 = .ok (.aload_n 0, 1) := by decide +kernel
theorem dX0_meets_1 : decode cX0_meets 1 = .ok (.iload_n 1, 1) := by decide +kernel
theorem dX0_meets_2 : decode cX0_meets 2 = .ok (.iload_n 2, 1) := by decide +kernel
theorem dX0_meets_3 : decode cX0_meets 3 = .ok (.invokevirtual 56, 3) := by decide +kernel
theorem dX0_meets_6 : decode cX0_meets 6 = .ok (.aload_n 0, 1) := by decide +kernel
theorem dX0_meets_7 : decode cX0_meets 7 = .ok (.iload_n 3, 1) := by decide +kernel
theorem dX0_meets_8 : decode cX0_meets 8 = .ok (.iload 4, 2) := by decide +kernel
theorem dX0_meets_10 : decode cX0_meets 10 = .ok (.invokevirtual 56, 3) := by decide +kernel
theorem dX0_meets_13 : decode cX0_meets 13 = .ok (.if_icmp .ne 26, 3) := by decide +kernel
theorem dX0_meets_16 : decode cX0_meets 16 = .ok (.aload_n 0, 1) := by decide +kernel
theorem dX0_meets_17 : decode cX0_meets 17 = .ok (.iload_n 1, 1) := by decide +kernel
theorem dX0_meets_18 : decode cX0_meets 18 = .ok (.iload_n 2, 1) := by decide +kernel
theorem dX0_meets_19 : decode cX0_meets 19 = .ok (.invokevirtual 60, 3) := by decide +kernel
theorem dX0_meets_22 : decode cX0_meets 22 = .ok (.aload_n 0, 1) := by decide +kernel
theorem dX0_meets_23 : decode cX0_meets 23 = .ok (.iload_n 3, 1) := by decide +kernel
theorem dX0_meets_24 : decode cX0_meets 24 = .ok (.iload 4, 2) := by decide +kernel
theorem dX0_meets_26 : decode cX0_meets 26 = .ok (.invokevirtual 60, 3) := by decide +kernel
theorem dX0_meets_29 : decode cX0_meets 29 = .ok (.iload 5, 2) := by decide +kernel
theorem dX0_meets_31 : decode cX0_meets 31 = .ok (.iadd, 1) := by decide +kernel
theorem dX0_meets_32 : decode cX0_meets 32 = .ok (.if_icmp .ne 7, 3) := by decide +kernel
theorem dX0_meets_35 : decode cX0_meets 35 = .ok (.iconst 1, 1) := by decide +kernel
theorem dX0_meets_36 : decode cX0_meets 36 = .ok (.goto 4, 3) := by decide +kernel
theorem dX0_meets_39 : decode cX0_meets 39 = .ok (.iconst 0, 1) := by decide +kernel
theorem dX0_meets_40 : decode cX0_meets 40 = .ok (.ireturn, 1) := by decide +kernel
theorem dX0_arrayOf_0 : decode cX0_arrayOf 0 = .ok (.aload_n 0, 1) := by decide +kernel
theorem dX0_arrayOf_1 : decode cX0_arrayOf 1 = .ok (.getfield 16, 3) := by decide +kernel
theorem dX0_arrayOf_4 : decode cX0_arrayOf 4 = .ok (.iload_n 1, 1) := by decide +kernel
theorem dX0_arrayOf_5 : decode cX0_arrayOf 5 = .ok (.iaload, 1) := by decide +kernel
theorem dX0_arrayOf_6 : decode cX0_arrayOf 6 = .ok (.iconst 2, 1) := by decide +kernel
theorem dX0_arrayOf_7 : decode cX0_arrayOf 7 = .ok (.iload_n 2, 1) := by decide +kernel
theorem dX0_arrayOf_8 : decode cX0_arrayOf 8 = .ok (.imul, 1) := by decide +kernel
theorem dX0_arrayOf_9 : decode cX0_arrayOf 9 = .ok (.ishr, 1) := by decide +kernel
theorem dX0_arrayOf_10 : decode cX0_arrayOf 10 = .ok (.iconst 3, 1) := by decide +kernel
theorem dX0_arrayOf_11 : decode cX0_arrayOf 11 = .ok (.iand, 1) := by decide +kernel
theorem dX0_arrayOf_12 : decode cX0_arrayOf 12 = .ok (.ireturn, 1) := by decide +kernel
theorem dX0_feeds_0 : decode cX0_feeds 0 = .ok (.iconst 1, 1) := by decide +kernel
theorem dX0_feeds_1 : decode cX0_feeds 1 = .ok (.istore 4, 2) := by decide +kernel
theorem dX0_feeds_3 : decode cX0_feeds 3 = .ok (.iload 4, 2) := by decide +kernel
theorem dX0_feeds_5 : decode cX0_feeds 5 = .ok (.iconst 3, 1) := by decide +kernel
theorem dX0_feeds_6 : decode cX0_feeds 6 = .ok (.if_icmp .ge 46, 3) := by decide +kernel
theorem dX0_feeds_9 : decode cX0_feeds 9 = .ok (.aload_n 0, 1) := by decide +kernel
theorem dX0_feeds_10 : decode cX0_feeds 10 = .ok (.iload_n 2, 1) := by decide +kernel
theorem dX0_feeds_11 : decode cX0_feeds 11 = .ok (.iload 4, 2) := by decide +kernel
theorem dX0_feeds_13 : decode cX0_feeds 13 = .ok (.invokevirtual 63, 3) := by decide +kernel
theorem dX0_feeds_16 : decode cX0_feeds 16 = .ok (.ifCond .eq 20, 3) := by decide +kernel
theorem dX0_feeds_19 : decode cX0_feeds 19 = .ok (.aload_n 0, 1) := by decide +kernel
theorem dX0_feeds_20 : decode cX0_feeds 20 = .ok (.iload_n 1, 1) := by decide +kernel
theorem dX0_feeds_21 : decode cX0_feeds 21 = .ok (.iconst 0, 1) := by decide +kernel
theorem dX0_feeds_22 : decode cX0_feeds 22 = .ok (.iload_n 2, 1) := by decide +kernel
theorem dX0_feeds_23 : decode cX0_feeds 23 = .ok (.iload 4, 2) := by decide +kernel
theorem dX0_feeds_25 : decode cX0_feeds 25 = .ok (.iload_n 3, 1) := by decide +kernel
theorem dX0_feeds_26 : decode cX0_feeds 26 = .ok (.invokevirtual 67, 3) := by decide +kernel
theorem dX0_feeds_29 : decode cX0_feeds 29 = .ok (.ifCond .eq 7, 3) := by decide +kernel
theorem dX0_feeds_32 : decode cX0_feeds 32 = .ok (.iconst 1, 1) := by decide +kernel
theorem dX0_feeds_33 : decode cX0_feeds 33 = .ok (.goto 4, 3) := by decide +kernel
theorem dX0_feeds_36 : decode cX0_feeds 36 = .ok (.iconst 0, 1) := by decide +kernel
theorem dX0_feeds_37 : decode cX0_feeds 37 = .ok (.istore 5, 2) := by decide +kernel
theorem dX0_feeds_39 : decode cX0_feeds 39 = .ok (.iload 5, 2) := by decide +kernel
theorem dX0_feeds_41 : decode cX0_feeds 41 = .ok (.ifCond .eq 5, 3) := by decide +kernel
theorem dX0_feeds_44 : decode cX0_feeds 44 = .ok (.iconst 1, 1) := by decide +kernel
theorem dX0_feeds_45 : decode cX0_feeds 45 = .ok (.ireturn, 1) := by decide +kernel
theorem dX0_feeds_46 : decode cX0_feeds 46 = .ok (.iinc 4 1, 3) := by decide +kernel
theorem dX0_feeds_49 : decode cX0_feeds 49 = .ok (.goto (-46), 3) := by decide +kernel
theorem dX0_feeds_52 : decode cX0_feeds 52 = .ok (.iconst 0, 1) := by decide +kernel
theorem dX0_feeds_53 : decode cX0_feeds 53 = .ok (.ireturn, 1) := by decide +kernel
theorem dX0_reads_0 : decode cX0_reads 0 = .ok (.iload_n 2, 1) := by decide +kernel
theorem dX0_reads_1 : decode cX0_reads 1 = .ok (.iconst 1, 1) := by decide +kernel
theorem dX0_reads_2 : decode cX0_reads 2 = .ok (.if_icmp .ne 21, 3) := by decide +kernel
theorem dX0_reads_5 : decode cX0_reads 5 = .ok (.aload_n 0, 1) := by decide +kernel
theorem dX0_reads_6 : decode cX0_reads 6 = .ok (.getfield 13, 3) := by decide +kernel
theorem dX0_reads_9 : decode cX0_reads 9 = .ok (.iload_n 1, 1) := by decide +kernel
theorem dX0_reads_10 : decode cX0_reads 10 = .ok (.iaload, 1) := by decide +kernel
theorem dX0_reads_11 : decode cX0_reads 11 = .ok (.iconst 5, 1) := by decide +kernel
theorem dX0_reads_12 : decode cX0_reads 12 = .ok (.if_icmp .eq 7, 3) := by decide +kernel
theorem dX0_reads_15 : decode cX0_reads 15 = .ok (.iconst 1, 1) := by decide +kernel
theorem dX0_reads_16 : decode cX0_reads 16 = .ok (.goto 22, 3) := by decide +kernel
theorem dX0_reads_19 : decode cX0_reads 19 = .ok (.iconst 0, 1) := by decide +kernel
theorem dX0_reads_20 : decode cX0_reads 20 = .ok (.goto 18, 3) := by decide +kernel
theorem dX0_reads_23 : decode cX0_reads 23 = .ok (.aload_n 0, 1) := by decide +kernel
theorem dX0_reads_24 : decode cX0_reads 24 = .ok (.getfield 13, 3) := by decide +kernel
theorem dX0_reads_27 : decode cX0_reads 27 = .ok (.iload_n 1, 1) := by decide +kernel
theorem dX0_reads_28 : decode cX0_reads 28 = .ok (.iaload, 1) := by decide +kernel
theorem dX0_reads_29 : decode cX0_reads 29 = .ok (.iconst 3, 1) := by decide +kernel
theorem dX0_reads_30 : decode cX0_reads 30 = .ok (.if_icmp .gt 7, 3) := by decide +kernel
theorem dX0_reads_33 : decode cX0_reads 33 = .ok (.iconst 1, 1) := by decide +kernel
theorem dX0_reads_34 : decode cX0_reads 34 = .ok (.goto 4, 3) := by decide +kernel
theorem dX0_reads_37 : decode cX0_reads 37 = .ok (.iconst 0, 1) := by decide +kernel
theorem dX0_reads_38 : decode cX0_reads 38 = .ok (.ireturn, 1) := by decide +kernel
theorem dX0_spoils_0 : decode cX0_spoils 0 = .ok (.iconst 1, 1) := by decide +kernel
theorem dX0_spoils_1 : decode cX0_spoils 1 = .ok (.istore 4, 2) := by decide +kernel
theorem dX0_spoils_3 : decode cX0_spoils 3 = .ok (.iload 4, 2) := by decide +kernel
theorem dX0_spoils_5 : decode cX0_spoils 5 = .ok (.iconst 3, 1) := by decide +kernel
theorem dX0_spoils_6 : decode cX0_spoils 6 = .ok (.if_icmp .ge 46, 3) := by decide +kernel
theorem dX0_spoils_9 : decode cX0_spoils 9 = .ok (.aload_n 0, 1) := by decide +kernel
theorem dX0_spoils_10 : decode cX0_spoils 10 = .ok (.iload_n 1, 1) := by decide +kernel
theorem dX0_spoils_11 : decode cX0_spoils 11 = .ok (.iload 4, 2) := by decide +kernel
theorem dX0_spoils_13 : decode cX0_spoils 13 = .ok (.invokevirtual 63, 3) := by decide +kernel
theorem dX0_spoils_16 : decode cX0_spoils 16 = .ok (.ifCond .eq 20, 3) := by decide +kernel
theorem dX0_spoils_19 : decode cX0_spoils 19 = .ok (.aload_n 0, 1) := by decide +kernel
theorem dX0_spoils_20 : decode cX0_spoils 20 = .ok (.iload_n 1, 1) := by decide +kernel
theorem dX0_spoils_21 : decode cX0_spoils 21 = .ok (.iload 4, 2) := by decide +kernel
theorem dX0_spoils_23 : decode cX0_spoils 23 = .ok (.iload_n 2, 1) := by decide +kernel
theorem dX0_spoils_24 : decode cX0_spoils 24 = .ok (.iconst 0, 1) := by decide +kernel
theorem dX0_spoils_25 : decode cX0_spoils 25 = .ok (.iload_n 3, 1) := by decide +kernel
theorem dX0_spoils_26 : decode cX0_spoils 26 = .ok (.invokevirtual 67, 3) := by decide +kernel
theorem dX0_spoils_29 : decode cX0_spoils 29 = .ok (.ifCond .eq 7, 3) := by decide +kernel
theorem dX0_spoils_32 : decode cX0_spoils 32 = .ok (.iconst 1, 1) := by decide +kernel
theorem dX0_spoils_33 : decode cX0_spoils 33 = .ok (.goto 4, 3) := by decide +kernel
theorem dX0_spoils_36 : decode cX0_spoils 36 = .ok (.iconst 0, 1) := by decide +kernel
theorem dX0_spoils_37 : decode cX0_spoils 37 = .ok (.istore 5, 2) := by decide +kernel
theorem dX0_spoils_39 : decode cX0_spoils 39 = .ok (.iload 5, 2) := by decide +kernel
theorem dX0_spoils_41 : decode cX0_spoils 41 = .ok (.ifCond .eq 5, 3) := by decide +kernel
theorem dX0_spoils_44 : decode cX0_spoils 44 = .ok (.iconst 1, 1) := by decide +kernel
theorem dX0_spoils_45 : decode cX0_spoils 45 = .ok (.ireturn, 1) := by decide +kernel
theorem dX0_spoils_46 : decode cX0_spoils 46 = .ok (.iinc 4 1, 3) := by decide +kernel
theorem dX0_spoils_49 : decode cX0_spoils 49 = .ok (.goto (-46), 3) := by decide +kernel
theorem dX0_spoils_52 : decode cX0_spoils 52 = .ok (.iconst 0, 1) := by decide +kernel
theorem dX0_spoils_53 : decode cX0_spoils 53 = .ok (.ireturn, 1) := by decide +kernel
theorem dX0_nextGroup_0 : decode cX0_nextGroup 0 = .ok (.iconst 0, 1) := by decide +kernel
theorem dX0_nextGroup_1 : decode cX0_nextGroup 1 = .ok (.istore_n 2, 1) := by decide +kernel
theorem dX0_nextGroup_2 : decode cX0_nextGroup 2 = .ok (.iload_n 2, 1) := by decide +kernel
theorem dX0_nextGroup_3 : decode cX0_nextGroup 3 = .ok (.aload_n 0, 1) := by decide +kernel
theorem dX0_nextGroup_4 : decode cX0_nextGroup 4 = .ok (.getfield 38, 3) := by decide +kernel
theorem dX0_nextGroup_7 : decode cX0_nextGroup 7 = .ok (.if_icmp .ge 38, 3) := by decide +kernel
theorem dX0_nextGroup_10 : decode cX0_nextGroup 10 = .ok (.iload_n 1, 1) := by decide +kernel
theorem dX0_nextGroup_11 : decode cX0_nextGroup 11 = .ok (.iload_n 2, 1) := by decide +kernel
theorem dX0_nextGroup_12 : decode cX0_nextGroup 12 = .ok (.ishr, 1) := by decide +kernel
theorem dX0_nextGroup_13 : decode cX0_nextGroup 13 = .ok (.iconst 1, 1) := by decide +kernel
theorem dX0_nextGroup_14 : decode cX0_nextGroup 14 = .ok (.iand, 1) := by decide +kernel
theorem dX0_nextGroup_15 : decode cX0_nextGroup 15 = .ok (.ifCond .ne 24, 3) := by decide +kernel
theorem dX0_nextGroup_18 : decode cX0_nextGroup 18 = .ok (.aload_n 0, 1) := by decide +kernel
theorem dX0_nextGroup_19 : decode cX0_nextGroup 19 = .ok (.iload_n 2, 1) := by decide +kernel
theorem dX0_nextGroup_20 : decode cX0_nextGroup 20 = .ok (.invokevirtual 103, 3) := by decide +kernel
theorem dX0_nextGroup_23 : decode cX0_nextGroup 23 = .ok (.istore_n 3, 1) := by decide +kernel
theorem dX0_nextGroup_24 : decode cX0_nextGroup 24 = .ok (.aload_n 0, 1) := by decide +kernel
theorem dX0_nextGroup_25 : decode cX0_nextGroup 25 = .ok (.iload_n 3, 1) := by decide +kernel
theorem dX0_nextGroup_26 : decode cX0_nextGroup 26 = .ok (.iload_n 1, 1) := by decide +kernel
theorem dX0_nextGroup_27 : decode cX0_nextGroup 27 = .ok (.invokevirtual 106, 3) := by decide +kernel
theorem dX0_nextGroup_30 : decode cX0_nextGroup 30 = .ok (.istore 4, 2) := by decide +kernel
theorem dX0_nextGroup_32 : decode cX0_nextGroup 32 = .ok (.iload 4, 2) := by decide +kernel
theorem dX0_nextGroup_34 : decode cX0_nextGroup 34 = .ok (.ifCond .eq 5, 3) := by decide +kernel
theorem dX0_nextGroup_37 : decode cX0_nextGroup 37 = .ok (.iload_n 3, 1) := by decide +kernel
theorem dX0_nextGroup_38 : decode cX0_nextGroup 38 = .ok (.ireturn, 1) := by decide +kernel
theorem dX0_nextGroup_39 : decode cX0_nextGroup 39 = .ok (.iinc 2 1, 3) := by decide +kernel
theorem dX0_nextGroup_42 : decode cX0_nextGroup 42 = .ok (.goto (-40), 3) := by decide +kernel
theorem dX0_nextGroup_45 : decode cX0_nextGroup 45 = .ok (.iconst 0, 1) := by decide +kernel
theorem dX0_nextGroup_46 : decode cX0_nextGroup 46 = .ok (.ireturn, 1) := by decide +kernel
theorem dX0_circleOf_0 : decode cX0_circleOf 0 = .ok (.iconst 0, 1) := by decide +kernel
theorem dX0_circleOf_1 : decode cX0_circleOf 1 = .ok (.istore_n 2, 1) := by decide +kernel
theorem dX0_circleOf_2 : decode cX0_circleOf 2 = .ok (.iconst 0, 1) := by decide +kernel
theorem dX0_circleOf_3 : decode cX0_circleOf 3 = .ok (.istore_n 3, 1) := by decide +kernel
theorem dX0_circleOf_4 : decode cX0_circleOf 4 = .ok (.iload_n 3, 1) := by decide +kernel
theorem dX0_circleOf_5 : decode cX0_circleOf 5 = .ok (.aload_n 0, 1) := by decide +kernel
theorem dX0_circleOf_6 : decode cX0_circleOf 6 = .ok (.getfield 38, 3) := by decide +kernel
theorem dX0_circleOf_9 : decode cX0_circleOf 9 = .ok (.if_icmp .ge 43, 3) := by decide +kernel
theorem dX0_circleOf_12 : decode cX0_circleOf 12 = .ok (.aload_n 0, 1) := by decide +kernel
theorem dX0_circleOf_13 : decode cX0_circleOf 13 = .ok (.getfield 25, 3) := by decide +kernel
theorem dX0_circleOf_16 : decode cX0_circleOf 16 = .ok (.iload_n 1, 1) := by decide +kernel
theorem dX0_circleOf_17 : decode cX0_circleOf 17 = .ok (.iaload, 1) := by decide +kernel
theorem dX0_circleOf_18 : decode cX0_circleOf 18 = .ok (.iload_n 3, 1) := by decide +kernel
theorem dX0_circleOf_19 : decode cX0_circleOf 19 = .ok (.ishr, 1) := by decide +kernel
theorem dX0_circleOf_20 : decode cX0_circleOf 20 = .ok (.iconst 1, 1) := by decide +kernel
theorem dX0_circleOf_21 : decode cX0_circleOf 21 = .ok (.iand, 1) := by decide +kernel
theorem dX0_circleOf_22 : decode cX0_circleOf 22 = .ok (.iconst 1, 1) := by decide +kernel
theorem dX0_circleOf_23 : decode cX0_circleOf 23 = .ok (.if_icmp .ne 23, 3) := by decide +kernel
theorem dX0_circleOf_26 : decode cX0_circleOf 26 = .ok (.aload_n 0, 1) := by decide +kernel
theorem dX0_circleOf_27 : decode cX0_circleOf 27 = .ok (.getfield 25, 3) := by decide +kernel
theorem dX0_circleOf_30 : decode cX0_circleOf 30 = .ok (.iload_n 3, 1) := by decide +kernel
theorem dX0_circleOf_31 : decode cX0_circleOf 31 = .ok (.iaload, 1) := by decide +kernel
theorem dX0_circleOf_32 : decode cX0_circleOf 32 = .ok (.iload_n 1, 1) := by decide +kernel
theorem dX0_circleOf_33 : decode cX0_circleOf 33 = .ok (.ishr, 1) := by decide +kernel
theorem dX0_circleOf_34 : decode cX0_circleOf 34 = .ok (.iconst 1, 1) := by decide +kernel
theorem dX0_circleOf_35 : decode cX0_circleOf 35 = .ok (.iand, 1) := by decide +kernel
theorem dX0_circleOf_36 : decode cX0_circleOf 36 = .ok (.iconst 1, 1) := by decide +kernel
end
section
set_option maxRecDepth 100000
theorem dX0_circleOf_37 : decode cX0_circleOf 37 = .ok (.if_icmp .ne 9, 3) := by decide +kernel
theorem dX0_circleOf_40 : decode cX0_circleOf 40 = .ok (.iload_n 2, 1) := by decide +kernel
theorem dX0_circleOf_41 : decode cX0_circleOf 41 = .ok (.iconst 1, 1) := by decide +kernel
theorem dX0_circleOf_42 : decode cX0_circleOf 42 = .ok (.iload_n 3, 1) := by decide +kernel
theorem dX0_circleOf_43 : decode cX0_circleOf 43 = .ok (.ishl, 1) := by decide +kernel
theorem dX0_circleOf_44 : decode cX0_circleOf 44 = .ok (.ior, 1) := by decide +kernel
theorem dX0_circleOf_45 : decode cX0_circleOf 45 = .ok (.istore_n 2, 1) := by decide +kernel
theorem dX0_circleOf_46 : decode cX0_circleOf 46 = .ok (.iinc 3 1, 3) := by decide +kernel
theorem dX0_circleOf_49 : decode cX0_circleOf 49 = .ok (.goto (-45), 3) := by decide +kernel
theorem dX0_circleOf_52 : decode cX0_circleOf 52 = .ok (.iload_n 2, 1) := by decide +kernel
theorem dX0_circleOf_53 : decode cX0_circleOf 53 = .ok (.ireturn, 1) := by decide +kernel
theorem dX0_free_0 : decode cX0_free 0 = .ok (.iconst 0, 1) := by decide +kernel
theorem dX0_free_1 : decode cX0_free 1 = .ok (.istore_n 3, 1) := by decide +kernel
theorem dX0_free_2 : decode cX0_free 2 = .ok (.iload_n 3, 1) := by decide +kernel
theorem dX0_free_3 : decode cX0_free 3 = .ok (.aload_n 0, 1) := by decide +kernel
theorem dX0_free_4 : decode cX0_free 4 = .ok (.getfield 38, 3) := by decide +kernel
theorem dX0_free_7 : decode cX0_free 7 = .ok (.if_icmp .ge 44, 3) := by decide +kernel
theorem dX0_free_10 : decode cX0_free 10 = .ok (.iload_n 1, 1) := by decide +kernel
theorem dX0_free_11 : decode cX0_free 11 = .ok (.iload_n 2, 1) := by decide +kernel
theorem dX0_free_12 : decode cX0_free 12 = .ok (.ior, 1) := by decide +kernel
theorem dX0_free_13 : decode cX0_free 13 = .ok (.iload_n 3, 1) := by decide +kernel
theorem dX0_free_14 : decode cX0_free 14 = .ok (.ishr, 1) := by decide +kernel
theorem dX0_free_15 : decode cX0_free 15 = .ok (.iconst 1, 1) := by decide +kernel
theorem dX0_free_16 : decode cX0_free 16 = .ok (.iand, 1) := by decide +kernel
theorem dX0_free_17 : decode cX0_free 17 = .ok (.ifCond .ne 7, 3) := by decide +kernel
theorem dX0_free_20 : decode cX0_free 20 = .ok (.iconst 1, 1) := by decide +kernel
theorem dX0_free_21 : decode cX0_free 21 = .ok (.goto 4, 3) := by decide +kernel
theorem dX0_free_24 : decode cX0_free 24 = .ok (.iconst 0, 1) := by decide +kernel
theorem dX0_free_25 : decode cX0_free 25 = .ok (.istore 4, 2) := by decide +kernel
theorem dX0_free_27 : decode cX0_free 27 = .ok (.iload 4, 2) := by decide +kernel
theorem dX0_free_29 : decode cX0_free 29 = .ok (.ifCond .eq 16, 3) := by decide +kernel
theorem dX0_free_32 : decode cX0_free 32 = .ok (.aload_n 0, 1) := by decide +kernel
theorem dX0_free_33 : decode cX0_free 33 = .ok (.getfield 25, 3) := by decide +kernel
theorem dX0_free_36 : decode cX0_free 36 = .ok (.iload_n 3, 1) := by decide +kernel
theorem dX0_free_37 : decode cX0_free 37 = .ok (.iaload, 1) := by decide +kernel
theorem dX0_free_38 : decode cX0_free 38 = .ok (.iload_n 1, 1) := by decide +kernel
theorem dX0_free_39 : decode cX0_free 39 = .ok (.iand, 1) := by decide +kernel
theorem dX0_free_40 : decode cX0_free 40 = .ok (.ifCond .eq 5, 3) := by decide +kernel
theorem dX0_free_43 : decode cX0_free 43 = .ok (.iconst 0, 1) := by decide +kernel
theorem dX0_free_44 : decode cX0_free 44 = .ok (.ireturn, 1) := by decide +kernel
theorem dX0_free_45 : decode cX0_free 45 = .ok (.iinc 3 1, 3) := by decide +kernel
theorem dX0_free_48 : decode cX0_free 48 = .ok (.goto (-46), 3) := by decide +kernel
theorem dX0_free_51 : decode cX0_free 51 = .ok (.iconst 1, 1) := by decide +kernel
theorem dX0_free_52 : decode cX0_free 52 = .ok (.ireturn, 1) := by decide +kernel
theorem dX0_oneStatement_0 : decode cX0_oneStatement 0 = .ok (.iload_n 1, 1) := by decide +kernel
theorem dX0_oneStatement_1 : decode cX0_oneStatement 1 = .ok (.iload_n 1, 1) := by decide +kernel
theorem dX0_oneStatement_2 : decode cX0_oneStatement 2 = .ok (.iconst 1, 1) := by decide +kernel
theorem dX0_oneStatement_3 : decode cX0_oneStatement 3 = .ok (.isub, 1) := by decide +kernel
theorem dX0_oneStatement_4 : decode cX0_oneStatement 4 = .ok (.iand, 1) := by decide +kernel
theorem dX0_oneStatement_5 : decode cX0_oneStatement 5 = .ok (.ifCond .ne 7, 3) := by decide +kernel
theorem dX0_oneStatement_8 : decode cX0_oneStatement 8 = .ok (.iconst 1, 1) := by decide +kernel
theorem dX0_oneStatement_9 : decode cX0_oneStatement 9 = .ok (.goto 4, 3) := by decide +kernel
theorem dX0_oneStatement_12 : decode cX0_oneStatement 12 = .ok (.iconst 0, 1) := by decide +kernel
theorem dX0_oneStatement_13 : decode cX0_oneStatement 13 = .ok (.ireturn, 1) := by decide +kernel
theorem dX0_lowest_0 : decode cX0_lowest 0 = .ok (.iconst 0, 1) := by decide +kernel
theorem dX0_lowest_1 : decode cX0_lowest 1 = .ok (.istore_n 1, 1) := by decide +kernel
theorem dX0_lowest_2 : decode cX0_lowest 2 = .ok (.iload_n 1, 1) := by decide +kernel
theorem dX0_lowest_3 : decode cX0_lowest 3 = .ok (.iconst 3, 1) := by decide +kernel
theorem dX0_lowest_4 : decode cX0_lowest 4 = .ok (.if_icmp .ge 17, 3) := by decide +kernel
theorem dX0_lowest_7 : decode cX0_lowest 7 = .ok (.iload_n 0, 1) := by decide +kernel
theorem dX0_lowest_8 : decode cX0_lowest 8 = .ok (.iload_n 1, 1) := by decide +kernel
theorem dX0_lowest_9 : decode cX0_lowest 9 = .ok (.ishr, 1) := by decide +kernel
theorem dX0_lowest_10 : decode cX0_lowest 10 = .ok (.iconst 1, 1) := by decide +kernel
theorem dX0_lowest_11 : decode cX0_lowest 11 = .ok (.iand, 1) := by decide +kernel
theorem dX0_lowest_12 : decode cX0_lowest 12 = .ok (.ifCond .ne 9, 3) := by decide +kernel
theorem dX0_lowest_15 : decode cX0_lowest 15 = .ok (.iinc 1 1, 3) := by decide +kernel
theorem dX0_lowest_18 : decode cX0_lowest 18 = .ok (.goto (-16), 3) := by decide +kernel
theorem dX0_lowest_21 : decode cX0_lowest 21 = .ok (.iload_n 1, 1) := by decide +kernel
theorem dX0_lowest_22 : decode cX0_lowest 22 = .ok (.ireturn, 1) := by decide +kernel
theorem dX0_fitsLanes_0 : decode cX0_fitsLanes 0 = .ok (.iconst 1, 1) := by decide +kernel
theorem dX0_fitsLanes_1 : decode cX0_fitsLanes 1 = .ok (.istore_n 2, 1) := by decide +kernel
theorem dX0_fitsLanes_2 : decode cX0_fitsLanes 2 = .ok (.iload_n 2, 1) := by decide +kernel
theorem dX0_fitsLanes_3 : decode cX0_fitsLanes 3 = .ok (.iconst 4, 1) := by decide +kernel
theorem dX0_fitsLanes_4 : decode cX0_fitsLanes 4 = .ok (.if_icmp .ge 23, 3) := by decide +kernel
theorem dX0_fitsLanes_7 : decode cX0_fitsLanes 7 = .ok (.aload_n 0, 1) := by decide +kernel
theorem dX0_fitsLanes_8 : decode cX0_fitsLanes 8 = .ok (.iload_n 1, 1) := by decide +kernel
theorem dX0_fitsLanes_9 : decode cX0_fitsLanes 9 = .ok (.iload_n 1, 1) := by decide +kernel
theorem dX0_fitsLanes_10 : decode cX0_fitsLanes 10 = .ok (.iload_n 2, 1) := by decide +kernel
theorem dX0_fitsLanes_11 : decode cX0_fitsLanes 11 = .ok (.invokevirtual 71, 3) := by decide +kernel
theorem dX0_fitsLanes_14 : decode cX0_fitsLanes 14 = .ok (.istore_n 3, 1) := by decide +kernel
theorem dX0_fitsLanes_15 : decode cX0_fitsLanes 15 = .ok (.iload_n 3, 1) := by decide +kernel
theorem dX0_fitsLanes_16 : decode cX0_fitsLanes 16 = .ok (.ifCond .eq 5, 3) := by decide +kernel
theorem dX0_fitsLanes_19 : decode cX0_fitsLanes 19 = .ok (.iconst 0, 1) := by decide +kernel
theorem dX0_fitsLanes_20 : decode cX0_fitsLanes 20 = .ok (.ireturn, 1) := by decide +kernel
theorem dX0_fitsLanes_21 : decode cX0_fitsLanes 21 = .ok (.iinc 2 1, 3) := by decide +kernel
theorem dX0_fitsLanes_24 : decode cX0_fitsLanes 24 = .ok (.goto (-22), 3) := by decide +kernel
theorem dX0_fitsLanes_27 : decode cX0_fitsLanes 27 = .ok (.iconst 1, 1) := by decide +kernel
theorem dX0_fitsLanes_28 : decode cX0_fitsLanes 28 = .ok (.ireturn, 1) := by decide +kernel
theorem dX0_runInLanes_0 : decode cX0_runInLanes 0 = .ok (.iload_n 2, 1) := by decide +kernel
theorem dX0_runInLanes_1 : decode cX0_runInLanes 1 = .ok (.istore 4, 2) := by decide +kernel
theorem dX0_runInLanes_3 : decode cX0_runInLanes 3 = .ok (.iload 4, 2) := by decide +kernel
theorem dX0_runInLanes_5 : decode cX0_runInLanes 5 = .ok (.iconst 4, 1) := by decide +kernel
theorem dX0_runInLanes_6 : decode cX0_runInLanes 6 = .ok (.iadd, 1) := by decide +kernel
theorem dX0_runInLanes_7 : decode cX0_runInLanes 7 = .ok (.iconst 1, 1) := by decide +kernel
theorem dX0_runInLanes_8 : decode cX0_runInLanes 8 = .ok (.isub, 1) := by decide +kernel
theorem dX0_runInLanes_9 : decode cX0_runInLanes 9 = .ok (.iload_n 3, 1) := by decide +kernel
theorem dX0_runInLanes_10 : decode cX0_runInLanes 10 = .ok (.if_icmp .gt 73, 3) := by decide +kernel
theorem dX0_runInLanes_13 : decode cX0_runInLanes 13 = .ok (.iconst 0, 1) := by decide +kernel
theorem dX0_runInLanes_14 : decode cX0_runInLanes 14 = .ok (.istore 5, 2) := by decide +kernel
theorem dX0_runInLanes_16 : decode cX0_runInLanes 16 = .ok (.iload 5, 2) := by decide +kernel
theorem dX0_runInLanes_18 : decode cX0_runInLanes 18 = .ok (.iconst 4, 1) := by decide +kernel
theorem dX0_runInLanes_19 : decode cX0_runInLanes 19 = .ok (.if_icmp .ge 26, 3) := by decide +kernel
theorem dX0_runInLanes_22 : decode cX0_runInLanes 22 = .ok (.aload_n 0, 1) := by decide +kernel
theorem dX0_runInLanes_23 : decode cX0_runInLanes 23 = .ok (.getfield 35, 3) := by decide +kernel
theorem dX0_runInLanes_26 : decode cX0_runInLanes 26 = .ok (.iload 5, 2) := by decide +kernel
theorem dX0_runInLanes_28 : decode cX0_runInLanes 28 = .ok (.aload_n 0, 1) := by decide +kernel
theorem dX0_runInLanes_29 : decode cX0_runInLanes 29 = .ok (.iload_n 1, 1) := by decide +kernel
theorem dX0_runInLanes_30 : decode cX0_runInLanes 30 = .ok (.iload 4, 2) := by decide +kernel
theorem dX0_runInLanes_32 : decode cX0_runInLanes 32 = .ok (.iload 5, 2) := by decide +kernel
theorem dX0_runInLanes_34 : decode cX0_runInLanes 34 = .ok (.iadd, 1) := by decide +kernel
theorem dX0_runInLanes_35 : decode cX0_runInLanes 35 = .ok (.invokevirtual 113, 3) := by decide +kernel
theorem dX0_runInLanes_38 : decode cX0_runInLanes 38 = .ok (.iastore, 1) := by decide +kernel
theorem dX0_runInLanes_39 : decode cX0_runInLanes 39 = .ok (.iinc 5 1, 3) := by decide +kernel
theorem dX0_runInLanes_42 : decode cX0_runInLanes 42 = .ok (.goto (-26), 3) := by decide +kernel
theorem dX0_runInLanes_45 : decode cX0_runInLanes 45 = .ok (.iconst 0, 1) := by decide +kernel
theorem dX0_runInLanes_46 : decode cX0_runInLanes 46 = .ok (.istore 5, 2) := by decide +kernel
theorem dX0_runInLanes_48 : decode cX0_runInLanes 48 = .ok (.iload 5, 2) := by decide +kernel
theorem dX0_runInLanes_50 : decode cX0_runInLanes 50 = .ok (.iconst 4, 1) := by decide +kernel
theorem dX0_runInLanes_51 : decode cX0_runInLanes 51 = .ok (.if_icmp .ge 26, 3) := by decide +kernel
theorem dX0_runInLanes_54 : decode cX0_runInLanes 54 = .ok (.aload_n 0, 1) := by decide +kernel
theorem dX0_runInLanes_55 : decode cX0_runInLanes 55 = .ok (.iload_n 1, 1) := by decide +kernel
theorem dX0_runInLanes_56 : decode cX0_runInLanes 56 = .ok (.iload 4, 2) := by decide +kernel
theorem dX0_runInLanes_58 : decode cX0_runInLanes 58 = .ok (.iload 5, 2) := by decide +kernel
theorem dX0_runInLanes_60 : decode cX0_runInLanes 60 = .ok (.iadd, 1) := by decide +kernel
theorem dX0_runInLanes_61 : decode cX0_runInLanes 61 = .ok (.aload_n 0, 1) := by decide +kernel
theorem dX0_runInLanes_62 : decode cX0_runInLanes 62 = .ok (.getfield 35, 3) := by decide +kernel
theorem dX0_runInLanes_65 : decode cX0_runInLanes 65 = .ok (.iload 5, 2) := by decide +kernel
theorem dX0_runInLanes_67 : decode cX0_runInLanes 67 = .ok (.iaload, 1) := by decide +kernel
theorem dX0_runInLanes_68 : decode cX0_runInLanes 68 = .ok (.invokevirtual 116, 3) := by decide +kernel
theorem dX0_runInLanes_71 : decode cX0_runInLanes 71 = .ok (.iinc 5 1, 3) := by decide +kernel
theorem dX0_runInLanes_74 : decode cX0_runInLanes 74 = .ok (.goto (-26), 3) := by decide +kernel
theorem dX0_runInLanes_77 : decode cX0_runInLanes 77 = .ok (.iinc 4 4, 3) := by decide +kernel
theorem dX0_runInLanes_80 : decode cX0_runInLanes 80 = .ok (.goto (-77), 3) := by decide +kernel
theorem dX0_runInLanes_83 : decode cX0_runInLanes 83 = .ok (.iload 4, 2) := by decide +kernel
theorem dX0_runInLanes_85 : decode cX0_runInLanes 85 = .ok (.iload_n 3, 1) := by decide +kernel
theorem dX0_runInLanes_86 : decode cX0_runInLanes 86 = .ok (.if_icmp .gt 27, 3) := by decide +kernel
theorem dX0_runInLanes_89 : decode cX0_runInLanes 89 = .ok (.aload_n 0, 1) := by decide +kernel
theorem dX0_runInLanes_90 : decode cX0_runInLanes 90 = .ok (.iload_n 1, 1) := by decide +kernel
theorem dX0_runInLanes_91 : decode cX0_runInLanes 91 = .ok (.iload 4, 2) := by decide +kernel
theorem dX0_runInLanes_93 : decode cX0_runInLanes 93 = .ok (.invokevirtual 113, 3) := by decide +kernel
theorem dX0_runInLanes_96 : decode cX0_runInLanes 96 = .ok (.istore 5, 2) := by decide +kernel
theorem dX0_runInLanes_98 : decode cX0_runInLanes 98 = .ok (.aload_n 0, 1) := by decide +kernel
theorem dX0_runInLanes_99 : decode cX0_runInLanes 99 = .ok (.iload_n 1, 1) := by decide +kernel
theorem dX0_runInLanes_100 : decode cX0_runInLanes 100 = .ok (.iload 4, 2) := by decide +kernel
theorem dX0_runInLanes_102 : decode cX0_runInLanes 102 = .ok (.iload 5, 2) := by decide +kernel
theorem dX0_runInLanes_104 : decode cX0_runInLanes 104 = .ok (.invokevirtual 116, 3) := by decide +kernel
theorem dX0_runInLanes_107 : decode cX0_runInLanes 107 = .ok (.iinc 4 1, 3) := by decide +kernel
theorem dX0_runInLanes_110 : decode cX0_runInLanes 110 = .ok (.goto (-27), 3) := by decide +kernel
theorem dX0_runInLanes_113 : decode cX0_runInLanes 113 = .ok (.return_, 1) := by decide +kernel
theorem dX0_result_0 : decode cX0_result 0 = .ok (.aload_n 0, 1) := by decide +kernel
theorem dX0_result_1 : decode cX0_result 1 = .ok (.iload_n 1, 1) := by decide +kernel
theorem dX0_result_2 : decode cX0_result 2 = .ok (.iconst 1, 1) := by decide +kernel
theorem dX0_result_3 : decode cX0_result 3 = .ok (.iload_n 2, 1) := by decide +kernel
theorem dX0_result_4 : decode cX0_result 4 = .ok (.invokevirtual 109, 3) := by decide +kernel
theorem dX0_result_7 : decode cX0_result 7 = .ok (.istore_n 3, 1) := by decide +kernel
theorem dX0_result_8 : decode cX0_result 8 = .ok (.aload_n 0, 1) := by decide +kernel
theorem dX0_result_9 : decode cX0_result 9 = .ok (.iload_n 1, 1) := by decide +kernel
theorem dX0_result_10 : decode cX0_result 10 = .ok (.iconst 2, 1) := by decide +kernel
theorem dX0_result_11 : decode cX0_result 11 = .ok (.iload_n 2, 1) := by decide +kernel
theorem dX0_result_12 : decode cX0_result 12 = .ok (.invokevirtual 109, 3) := by decide +kernel
theorem dX0_result_15 : decode cX0_result 15 = .ok (.istore 4, 2) := by decide +kernel
theorem dX0_result_17 : decode cX0_result 17 = .ok (.aload_n 0, 1) := by decide +kernel
theorem dX0_result_18 : decode cX0_result 18 = .ok (.getfield 13, 3) := by decide +kernel
theorem dX0_result_21 : decode cX0_result 21 = .ok (.iload_n 1, 1) := by decide +kernel
theorem dX0_result_22 : decode cX0_result 22 = .ok (.iaload, 1) := by decide +kernel
theorem dX0_result_23 : decode cX0_result 23 = .ok (.tableswitch 81 0 5 #[37, 42, 47, 52, 65, 74], 37) := by decide +kernel
theorem dX0_result_60 : decode cX0_result 60 = .ok (.iload_n 3, 1) := by decide +kernel
theorem dX0_result_61 : decode cX0_result 61 = .ok (.iload 4, 2) := by decide +kernel
theorem dX0_result_63 : decode cX0_result 63 = .ok (.iadd, 1) := by decide +kernel
theorem dX0_result_64 : decode cX0_result 64 = .ok (.ireturn, 1) := by decide +kernel
theorem dX0_result_65 : decode cX0_result 65 = .ok (.iload_n 3, 1) := by decide +kernel
theorem dX0_result_66 : decode cX0_result 66 = .ok (.iload 4, 2) := by decide +kernel
theorem dX0_result_68 : decode cX0_result 68 = .ok (.isub, 1) := by decide +kernel
theorem dX0_result_69 : decode cX0_result 69 = .ok (.ireturn, 1) := by decide +kernel
theorem dX0_result_70 : decode cX0_result 70 = .ok (.iload_n 3, 1) := by decide +kernel
theorem dX0_result_71 : decode cX0_result 71 = .ok (.iload 4, 2) := by decide +kernel
theorem dX0_result_73 : decode cX0_result 73 = .ok (.imul, 1) := by decide +kernel
theorem dX0_result_74 : decode cX0_result 74 = .ok (.ireturn, 1) := by decide +kernel
theorem dX0_result_75 : decode cX0_result 75 = .ok (.iload_n 3, 1) := by decide +kernel
theorem dX0_result_76 : decode cX0_result 76 = .ok (.iload 4, 2) := by decide +kernel
theorem dX0_result_78 : decode cX0_result 78 = .ok (.if_icmp .ge 7, 3) := by decide +kernel
theorem dX0_result_81 : decode cX0_result 81 = .ok (.iload_n 3, 1) := by decide +kernel
theorem dX0_result_82 : decode cX0_result 82 = .ok (.goto 5, 3) := by decide +kernel
theorem dX0_result_85 : decode cX0_result 85 = .ok (.iload 4, 2) := by decide +kernel
theorem dX0_result_87 : decode cX0_result 87 = .ok (.ireturn, 1) := by decide +kernel
theorem dX0_result_88 : decode cX0_result 88 = .ok (.iload_n 3, 1) := by decide +kernel
theorem dX0_result_89 : decode cX0_result 89 = .ok (.aload_n 0, 1) := by decide +kernel
theorem dX0_result_90 : decode cX0_result 90 = .ok (.getfield 22, 3) := by decide +kernel
theorem dX0_result_93 : decode cX0_result 93 = .ok (.iload_n 1, 1) := by decide +kernel
theorem dX0_result_94 : decode cX0_result 94 = .ok (.iaload, 1) := by decide +kernel
theorem dX0_result_95 : decode cX0_result 95 = .ok (.iadd, 1) := by decide +kernel
theorem dX0_result_96 : decode cX0_result 96 = .ok (.ireturn, 1) := by decide +kernel
theorem dX0_result_97 : decode cX0_result 97 = .ok (.aload_n 0, 1) := by decide +kernel
theorem dX0_result_98 : decode cX0_result 98 = .ok (.getfield 22, 3) := by decide +kernel
theorem dX0_result_101 : decode cX0_result 101 = .ok (.iload_n 1, 1) := by decide +kernel
theorem dX0_result_102 : decode cX0_result 102 = .ok (.iaload, 1) := by decide +kernel
theorem dX0_result_103 : decode cX0_result 103 = .ok (.ireturn, 1) := by decide +kernel
theorem dX0_result_104 : decode cX0_result 104 = .ok (.iload_n 3, 1) := by decide +kernel
theorem dX0_result_105 : decode cX0_result 105 = .ok (.aload_n 0, 1) := by decide +kernel
theorem dX0_result_106 : decode cX0_result 106 = .ok (.getfield 22, 3) := by decide +kernel
theorem dX0_result_109 : decode cX0_result 109 = .ok (.iload_n 1, 1) := by decide +kernel
theorem dX0_result_110 : decode cX0_result 110 = .ok (.iaload, 1) := by decide +kernel
theorem dX0_result_111 : decode cX0_result 111 = .ok (.imul, 1) := by decide +kernel
theorem dX0_result_112 : decode cX0_result 112 = .ok (.ireturn, 1) := by decide +kernel
theorem dX0_source_0 : decode cX0_source 0 = .ok (.aload_n 0, 1) := by decide +kernel
theorem dX0_source_1 : decode cX0_source 1 = .ok (.getfield 7, 3) := by decide +kernel
theorem dX0_source_4 : decode cX0_source 4 = .ok (.aload_n 0, 1) := by decide +kernel
theorem dX0_source_5 : decode cX0_source 5 = .ok (.iload_n 1, 1) := by decide +kernel
theorem dX0_source_6 : decode cX0_source 6 = .ok (.iload_n 2, 1) := by decide +kernel
theorem dX0_source_7 : decode cX0_source 7 = .ok (.invokevirtual 56, 3) := by decide +kernel
theorem dX0_source_10 : decode cX0_source 10 = .ok (.bipush 32, 2) := by decide +kernel
theorem dX0_source_12 : decode cX0_source 12 = .ok (.imul, 1) := by decide +kernel
theorem dX0_source_13 : decode cX0_source 13 = .ok (.iload_n 3, 1) := by decide +kernel
theorem dX0_source_14 : decode cX0_source 14 = .ok (.iadd, 1) := by decide +kernel
theorem dX0_source_15 : decode cX0_source 15 = .ok (.aload_n 0, 1) := by decide +kernel
theorem dX0_source_16 : decode cX0_source 16 = .ok (.iload_n 1, 1) := by decide +kernel
theorem dX0_source_17 : decode cX0_source 17 = .ok (.iload_n 2, 1) := by decide +kernel
theorem dX0_source_18 : decode cX0_source 18 = .ok (.invokevirtual 60, 3) := by decide +kernel
theorem dX0_source_21 : decode cX0_source 21 = .ok (.iadd, 1) := by decide +kernel
theorem dX0_source_22 : decode cX0_source 22 = .ok (.iaload, 1) := by decide +kernel
theorem dX0_source_23 : decode cX0_source 23 = .ok (.ireturn, 1) := by decide +kernel
theorem dX0_store_0 : decode cX0_store 0 = .ok (.aload_n 0, 1) := by decide +kernel
theorem dX0_store_1 : decode cX0_store 1 = .ok (.getfield 7, 3) := by decide +kernel
theorem dX0_store_4 : decode cX0_store 4 = .ok (.aload_n 0, 1) := by decide +kernel
theorem dX0_store_5 : decode cX0_store 5 = .ok (.iload_n 1, 1) := by decide +kernel
theorem dX0_store_6 : decode cX0_store 6 = .ok (.iconst 0, 1) := by decide +kernel
theorem dX0_store_7 : decode cX0_store 7 = .ok (.invokevirtual 56, 3) := by decide +kernel
theorem dX0_store_10 : decode cX0_store 10 = .ok (.bipush 32, 2) := by decide +kernel
theorem dX0_store_12 : decode cX0_store 12 = .ok (.imul, 1) := by decide +kernel
theorem dX0_store_13 : decode cX0_store 13 = .ok (.iload_n 2, 1) := by decide +kernel
theorem dX0_store_14 : decode cX0_store 14 = .ok (.iadd, 1) := by decide +kernel
theorem dX0_store_15 : decode cX0_store 15 = .ok (.aload_n 0, 1) := by decide +kernel
theorem dX0_store_16 : decode cX0_store 16 = .ok (.iload_n 1, 1) := by decide +kernel
theorem dX0_store_17 : decode cX0_store 17 = .ok (.iconst 0, 1) := by decide +kernel
theorem dX0_store_18 : decode cX0_store 18 = .ok (.invokevirtual 60, 3) := by decide +kernel
theorem dX0_store_21 : decode cX0_store 21 = .ok (.iadd, 1) := by decide +kernel
theorem dX0_store_22 : decode cX0_store 22 = .ok (.iload_n 3, 1) := by decide +kernel
theorem dX0_store_23 : decode cX0_store 23 = .ok (.iastore, 1) := by decide +kernel
theorem dX0_store_24 : decode cX0_store 24 = .ok (.return_, 1) := by decide +kernel
theorem dX0_runPlain_0 : decode cX0_runPlain 0 = .ok (.iload_n 2, 1) := by decide +kernel
theorem dX0_runPlain_1 : decode cX0_runPlain 1 = .ok (.istore 4, 2) := by decide +kernel
theorem dX0_runPlain_3 : decode cX0_runPlain 3 = .ok (.iload 4, 2) := by decide +kernel
theorem dX0_runPlain_5 : decode cX0_runPlain 5 = .ok (.iload_n 3, 1) := by decide +kernel
theorem dX0_runPlain_6 : decode cX0_runPlain 6 = .ok (.if_icmp .gt 57, 3) := by decide +kernel
theorem dX0_runPlain_9 : decode cX0_runPlain 9 = .ok (.iconst 0, 1) := by decide +kernel
theorem dX0_runPlain_10 : decode cX0_runPlain 10 = .ok (.istore 5, 2) := by decide +kernel
theorem dX0_runPlain_12 : decode cX0_runPlain 12 = .ok (.iload 5, 2) := by decide +kernel
theorem dX0_runPlain_14 : decode cX0_runPlain 14 = .ok (.aload_n 0, 1) := by decide +kernel
theorem dX0_runPlain_15 : decode cX0_runPlain 15 = .ok (.getfield 38, 3) := by decide +kernel
theorem dX0_runPlain_18 : decode cX0_runPlain 18 = .ok (.if_icmp .ge 39, 3) := by decide +kernel
theorem dX0_runPlain_21 : decode cX0_runPlain 21 = .ok (.iload_n 1, 1) := by decide +kernel
theorem dX0_runPlain_22 : decode cX0_runPlain 22 = .ok (.iload 5, 2) := by decide +kernel
theorem dX0_runPlain_24 : decode cX0_runPlain 24 = .ok (.ishr, 1) := by decide +kernel
theorem dX0_runPlain_25 : decode cX0_runPlain 25 = .ok (.iconst 1, 1) := by decide +kernel
theorem dX0_runPlain_26 : decode cX0_runPlain 26 = .ok (.iand, 1) := by decide +kernel
theorem dX0_runPlain_27 : decode cX0_runPlain 27 = .ok (.iconst 1, 1) := by decide +kernel
theorem dX0_runPlain_28 : decode cX0_runPlain 28 = .ok (.if_icmp .ne 23, 3) := by decide +kernel
theorem dX0_runPlain_31 : decode cX0_runPlain 31 = .ok (.aload_n 0, 1) := by decide +kernel
theorem dX0_runPlain_32 : decode cX0_runPlain 32 = .ok (.iload 5, 2) := by decide +kernel
theorem dX0_runPlain_34 : decode cX0_runPlain 34 = .ok (.iload 4, 2) := by decide +kernel
theorem dX0_runPlain_36 : decode cX0_runPlain 36 = .ok (.invokevirtual 113, 3) := by decide +kernel
theorem dX0_runPlain_39 : decode cX0_runPlain 39 = .ok (.istore 6, 2) := by decide +kernel
theorem dX0_runPlain_41 : decode cX0_runPlain 41 = .ok (.aload_n 0, 1) := by decide +kernel
theorem dX0_runPlain_42 : decode cX0_runPlain 42 = .ok (.iload 5, 2) := by decide +kernel
theorem dX0_runPlain_44 : decode cX0_runPlain 44 = .ok (.iload 4, 2) := by decide +kernel
theorem dX0_runPlain_46 : decode cX0_runPlain 46 = .ok (.iload 6, 2) := by decide +kernel
theorem dX0_runPlain_48 : decode cX0_runPlain 48 = .ok (.invokevirtual 116, 3) := by decide +kernel
theorem dX0_runPlain_51 : decode cX0_runPlain 51 = .ok (.iinc 5 1, 3) := by decide +kernel
theorem dX0_runPlain_54 : decode cX0_runPlain 54 = .ok (.goto (-42), 3) := by decide +kernel
theorem dX0_runPlain_57 : decode cX0_runPlain 57 = .ok (.iinc 4 1, 3) := by decide +kernel
theorem dX0_runPlain_60 : decode cX0_runPlain 60 = .ok (.goto (-57), 3) := by decide +kernel
theorem dX0_runPlain_63 : decode cX0_runPlain 63 = .ok (.return_, 1) := by decide +kernel
theorem dX0_get_0 : decode cX0_get 0 = .ok (.iload_n 1, 1) := by decide +kernel
theorem dX0_get_1 : decode cX0_get 1 = .ok (.invokestatic 42, 3) := by decide +kernel
theorem dX0_get_4 : decode cX0_get 4 = .ok (.ifCond .ne 13, 3) := by decide +kernel
theorem dX0_get_7 : decode cX0_get 7 = .ok (.iload_n 2, 1) := by decide +kernel
theorem dX0_get_8 : decode cX0_get 8 = .ok (.ifCond .lt 9, 3) := by decide +kernel
theorem dX0_get_11 : decode cX0_get 11 = .ok (.iload_n 2, 1) := by decide +kernel
theorem dX0_get_12 : decode cX0_get 12 = .ok (.bipush 32, 2) := by decide +kernel
theorem dX0_get_14 : decode cX0_get 14 = .ok (.if_icmp .lt 5, 3) := by decide +kernel
theorem dX0_get_17 : decode cX0_get 17 = .ok (.iconst 0, 1) := by decide +kernel
theorem dX0_get_18 : decode cX0_get 18 = .ok (.ireturn, 1) := by decide +kernel
theorem dX0_get_19 : decode cX0_get 19 = .ok (.aload_n 0, 1) := by decide +kernel
theorem dX0_get_20 : decode cX0_get 20 = .ok (.getfield 7, 3) := by decide +kernel
theorem dX0_get_23 : decode cX0_get 23 = .ok (.iload_n 1, 1) := by decide +kernel
theorem dX0_get_24 : decode cX0_get 24 = .ok (.bipush 32, 2) := by decide +kernel
theorem dX0_get_26 : decode cX0_get 26 = .ok (.imul, 1) := by decide +kernel
theorem dX0_get_27 : decode cX0_get 27 = .ok (.iload_n 2, 1) := by decide +kernel
theorem dX0_get_28 : decode cX0_get 28 = .ok (.iadd, 1) := by decide +kernel
theorem dX0_get_29 : decode cX0_get 29 = .ok (.iaload, 1) := by decide +kernel
theorem dX0_get_30 : decode cX0_get 30 = .ok (.ireturn, 1) := by decide +kernel
theorem dX0_sum_0 : decode cX0_sum 0 = .ok (.iload_n 1, 1) := by decide +kernel
theorem dX0_sum_1 : decode cX0_sum 1 = .ok (.invokestatic 42, 3) := by decide +kernel
theorem dX0_sum_4 : decode cX0_sum 4 = .ok (.ifCond .eq 5, 3) := by decide +kernel
theorem dX0_sum_7 : decode cX0_sum 7 = .ok (.iconst 0, 1) := by decide +kernel
theorem dX0_sum_8 : decode cX0_sum 8 = .ok (.ireturn, 1) := by decide +kernel
theorem dX0_sum_9 : decode cX0_sum 9 = .ok (.iconst 0, 1) := by decide +kernel
theorem dX0_sum_10 : decode cX0_sum 10 = .ok (.istore_n 2, 1) := by decide +kernel
theorem dX0_sum_11 : decode cX0_sum 11 = .ok (.iconst 0, 1) := by decide +kernel
theorem dX0_sum_12 : decode cX0_sum 12 = .ok (.istore_n 3, 1) := by decide +kernel
theorem dX0_sum_13 : decode cX0_sum 13 = .ok (.iload_n 3, 1) := by decide +kernel
theorem dX0_sum_14 : decode cX0_sum 14 = .ok (.bipush 32, 2) := by decide +kernel
theorem dX0_sum_16 : decode cX0_sum 16 = .ok (.if_icmp .ge 23, 3) := by decide +kernel
theorem dX0_sum_19 : decode cX0_sum 19 = .ok (.iload_n 2, 1) := by decide +kernel
theorem dX0_sum_20 : decode cX0_sum 20 = .ok (.aload_n 0, 1) := by decide +kernel
theorem dX0_sum_21 : decode cX0_sum 21 = .ok (.getfield 7, 3) := by decide +kernel
theorem dX0_sum_24 : decode cX0_sum 24 = .ok (.iload_n 1, 1) := by decide +kernel
theorem dX0_sum_25 : decode cX0_sum 25 = .ok (.bipush 32, 2) := by decide +kernel
theorem dX0_sum_27 : decode cX0_sum 27 = .ok (.imul, 1) := by decide +kernel
theorem dX0_sum_28 : decode cX0_sum 28 = .ok (.iload_n 3, 1) := by decide +kernel
theorem dX0_sum_29 : decode cX0_sum 29 = .ok (.iadd, 1) := by decide +kernel
theorem dX0_sum_30 : decode cX0_sum 30 = .ok (.iaload, 1) := by decide +kernel
theorem dX0_sum_31 : decode cX0_sum 31 = .ok (.iadd, 1) := by decide +kernel
theorem dX0_sum_32 : decode cX0_sum 32 = .ok (.istore_n 2, 1) := by decide +kernel
theorem dX0_sum_33 : decode cX0_sum 33 = .ok (.iinc 3 1, 3) := by decide +kernel
theorem dX0_sum_36 : decode cX0_sum 36 = .ok (.goto (-23), 3) := by decide +kernel
theorem dX0_sum_39 : decode cX0_sum 39 = .ok (.iload_n 2, 1) := by decide +kernel
theorem dX0_sum_40 : decode cX0_sum 40 = .ok (.ireturn, 1) := by decide +kernel
theorem dX0_differ_0 : decode cX0_differ 0 = .ok (.iload_n 1, 1) := by decide +kernel
theorem dX0_differ_1 : decode cX0_differ 1 = .ok (.invokestatic 42, 3) := by decide +kernel
theorem dX0_differ_4 : decode cX0_differ 4 = .ok (.ifCond .ne 10, 3) := by decide +kernel
theorem dX0_differ_7 : decode cX0_differ 7 = .ok (.iload_n 2, 1) := by decide +kernel
theorem dX0_differ_8 : decode cX0_differ 8 = .ok (.invokestatic 42, 3) := by decide +kernel
theorem dX0_differ_11 : decode cX0_differ 11 = .ok (.ifCond .eq 5, 3) := by decide +kernel
theorem dX0_differ_14 : decode cX0_differ 14 = .ok (.iconst (-1), 1) := by decide +kernel
theorem dX0_differ_15 : decode cX0_differ 15 = .ok (.ireturn, 1) := by decide +kernel
theorem dX0_differ_16 : decode cX0_differ 16 = .ok (.iconst 0, 1) := by decide +kernel
theorem dX0_differ_17 : decode cX0_differ 17 = .ok (.istore_n 3, 1) := by decide +kernel
theorem dX0_differ_18 : decode cX0_differ 18 = .ok (.iconst 0, 1) := by decide +kernel
theorem dX0_differ_19 : decode cX0_differ 19 = .ok (.istore 4, 2) := by decide +kernel
theorem dX0_differ_21 : decode cX0_differ 21 = .ok (.iload 4, 2) := by decide +kernel
theorem dX0_differ_23 : decode cX0_differ 23 = .ok (.bipush 32, 2) := by decide +kernel
theorem dX0_differ_25 : decode cX0_differ 25 = .ok (.if_icmp .ge 39, 3) := by decide +kernel
theorem dX0_differ_28 : decode cX0_differ 28 = .ok (.aload_n 0, 1) := by decide +kernel
theorem dX0_differ_29 : decode cX0_differ 29 = .ok (.getfield 7, 3) := by decide +kernel
theorem dX0_differ_32 : decode cX0_differ 32 = .ok (.iload_n 1, 1) := by decide +kernel
theorem dX0_differ_33 : decode cX0_differ 33 = .ok (.bipush 32, 2) := by decide +kernel
theorem dX0_differ_35 : decode cX0_differ 35 = .ok (.imul, 1) := by decide +kernel
theorem dX0_differ_36 : decode cX0_differ 36 = .ok (.iload 4, 2) := by decide +kernel
theorem dX0_differ_38 : decode cX0_differ 38 = .ok (.iadd, 1) := by decide +kernel
theorem dX0_differ_39 : decode cX0_differ 39 = .ok (.iaload, 1) := by decide +kernel
theorem dX0_differ_40 : decode cX0_differ 40 = .ok (.aload_n 0, 1) := by decide +kernel
theorem dX0_differ_41 : decode cX0_differ 41 = .ok (.getfield 7, 3) := by decide +kernel
theorem dX0_differ_44 : decode cX0_differ 44 = .ok (.iload_n 2, 1) := by decide +kernel
theorem dX0_differ_45 : decode cX0_differ 45 = .ok (.bipush 32, 2) := by decide +kernel
theorem dX0_differ_47 : decode cX0_differ 47 = .ok (.imul, 1) := by decide +kernel
theorem dX0_differ_48 : decode cX0_differ 48 = .ok (.iload 4, 2) := by decide +kernel
theorem dX0_differ_50 : decode cX0_differ 50 = .ok (.iadd, 1) := by decide +kernel
theorem dX0_differ_51 : decode cX0_differ 51 = .ok (.iaload, 1) := by decide +kernel
theorem dX0_differ_52 : decode cX0_differ 52 = .ok (.if_icmp .eq 6, 3) := by decide +kernel
theorem dX0_differ_55 : decode cX0_differ 55 = .ok (.iinc 3 1, 3) := by decide +kernel
theorem dX0_differ_58 : decode cX0_differ 58 = .ok (.iinc 4 1, 3) := by decide +kernel
theorem dX0_differ_61 : decode cX0_differ 61 = .ok (.goto (-40), 3) := by decide +kernel
theorem dX0_differ_64 : decode cX0_differ 64 = .ok (.iload_n 3, 1) := by decide +kernel
theorem dX0_differ_65 : decode cX0_differ 65 = .ok (.ireturn, 1) := by decide +kernel
theorem dX0_size_0 : decode cX0_size 0 = .ok (.aload_n 0, 1) := by decide +kernel
theorem dX0_size_1 : decode cX0_size 1 = .ok (.getfield 38, 3) := by decide +kernel
theorem dX0_size_4 : decode cX0_size 4 = .ok (.ireturn, 1) := by decide +kernel
theorem dX0_mustPrecede_0 : decode cX0_mustPrecede 0 = .ok (.iload_n 3, 1) := by decide +kernel
theorem dX0_mustPrecede_1 : decode cX0_mustPrecede 1 = .ok (.ifCond .lt 25, 3) := by decide +kernel
theorem dX0_mustPrecede_4 : decode cX0_mustPrecede 4 = .ok (.iload_n 3, 1) := by decide +kernel
theorem dX0_mustPrecede_5 : decode cX0_mustPrecede 5 = .ok (.bipush 8, 2) := by decide +kernel
theorem dX0_mustPrecede_7 : decode cX0_mustPrecede 7 = .ok (.if_icmp .gt 19, 3) := by decide +kernel
theorem dX0_mustPrecede_10 : decode cX0_mustPrecede 10 = .ok (.aload_n 0, 1) := by decide +kernel
theorem dX0_mustPrecede_11 : decode cX0_mustPrecede 11 = .ok (.iload_n 1, 1) := by decide +kernel
theorem dX0_mustPrecede_12 : decode cX0_mustPrecede 12 = .ok (.invokevirtual 53, 3) := by decide +kernel
theorem dX0_mustPrecede_15 : decode cX0_mustPrecede 15 = .ok (.ifCond .ne 11, 3) := by decide +kernel
theorem dX0_mustPrecede_18 : decode cX0_mustPrecede 18 = .ok (.aload_n 0, 1) := by decide +kernel
theorem dX0_mustPrecede_19 : decode cX0_mustPrecede 19 = .ok (.iload_n 2, 1) := by decide +kernel
theorem dX0_mustPrecede_20 : decode cX0_mustPrecede 20 = .ok (.invokevirtual 53, 3) := by decide +kernel
theorem dX0_mustPrecede_23 : decode cX0_mustPrecede 23 = .ok (.ifCond .eq 5, 3) := by decide +kernel
theorem dX0_mustPrecede_26 : decode cX0_mustPrecede 26 = .ok (.iconst 0, 1) := by decide +kernel
theorem dX0_mustPrecede_27 : decode cX0_mustPrecede 27 = .ok (.ireturn, 1) := by decide +kernel
theorem dX0_mustPrecede_28 : decode cX0_mustPrecede 28 = .ok (.aload_n 0, 1) := by decide +kernel
theorem dX0_mustPrecede_29 : decode cX0_mustPrecede 29 = .ok (.iload_n 1, 1) := by decide +kernel
theorem dX0_mustPrecede_30 : decode cX0_mustPrecede 30 = .ok (.iload_n 2, 1) := by decide +kernel
theorem dX0_mustPrecede_31 : decode cX0_mustPrecede 31 = .ok (.iload_n 3, 1) := by decide +kernel
theorem dX0_mustPrecede_32 : decode cX0_mustPrecede 32 = .ok (.invokevirtual 78, 3) := by decide +kernel
theorem dX0_mustPrecede_35 : decode cX0_mustPrecede 35 = .ok (.ireturn, 1) := by decide +kernel
end
section
set_option maxRecDepth 100000
theorem dX1_init_0 : decode cX1_init 0 = .ok (.aload_n 0, 1) := by decide +kernel
theorem dX1_init_1 : decode cX1_init 1 = .ok (.invokespecial 1, 3) := by decide +kernel
theorem dX1_init_4 : decode cX1_init 4 = .ok (.aload_n 0, 1) := by decide +kernel
theorem dX1_init_5 : decode cX1_init 5 = .ok (.iconst 4, 1) := by decide +kernel
theorem dX1_init_6 : decode cX1_init 6 = .ok (.newarray .int, 2) := by decide +kernel
theorem dX1_init_8 : decode cX1_init 8 = .ok (.putfield 7, 3) := by decide +kernel
theorem dX1_init_11 : decode cX1_init 11 = .ok (.aload_n 0, 1) := by decide +kernel
theorem dX1_init_12 : decode cX1_init 12 = .ok (.iconst 4, 1) := by decide +kernel
theorem dX1_init_13 : decode cX1_init 13 = .ok (.newarray .int, 2) := by decide +kernel
theorem dX1_init_15 : decode cX1_init 15 = .ok (.putfield 13, 3) := by decide +kernel
theorem dX1_init_18 : decode cX1_init 18 = .ok (.aload_n 0, 1) := by decide +kernel
theorem dX1_init_19 : decode cX1_init 19 = .ok (.bipush 12, 2) := by decide +kernel
theorem dX1_init_21 : decode cX1_init 21 = .ok (.newarray .int, 2) := by decide +kernel
theorem dX1_init_23 : decode cX1_init 23 = .ok (.putfield 16, 3) := by decide +kernel
theorem dX1_init_26 : decode cX1_init 26 = .ok (.aload_n 0, 1) := by decide +kernel
theorem dX1_init_27 : decode cX1_init 27 = .ok (.bipush 12, 2) := by decide +kernel
theorem dX1_init_29 : decode cX1_init 29 = .ok (.newarray .int, 2) := by decide +kernel
theorem dX1_init_31 : decode cX1_init 31 = .ok (.putfield 19, 3) := by decide +kernel
theorem dX1_init_34 : decode cX1_init 34 = .ok (.aload_n 0, 1) := by decide +kernel
theorem dX1_init_35 : decode cX1_init 35 = .ok (.bipush 96, 2) := by decide +kernel
theorem dX1_init_37 : decode cX1_init 37 = .ok (.newarray .int, 2) := by decide +kernel
theorem dX1_init_39 : decode cX1_init 39 = .ok (.putfield 22, 3) := by decide +kernel
theorem dX1_init_42 : decode cX1_init 42 = .ok (.return_, 1) := by decide +kernel
theorem dX1_statement_0 : decode cX1_statement 0 = .ok (.iconst 0, 1) := by decide +kernel
theorem dX1_statement_1 : decode cX1_statement 1 = .ok (.istore 5, 2) := by decide +kernel
theorem dX1_statement_3 : decode cX1_statement 3 = .ok (.iload 5, 2) := by decide +kernel
theorem dX1_statement_5 : decode cX1_statement 5 = .ok (.iconst 3, 1) := by decide +kernel
theorem dX1_statement_6 : decode cX1_statement 6 = .ok (.if_icmp .ge 23, 3) := by decide +kernel
theorem dX1_statement_9 : decode cX1_statement 9 = .ok (.iload_n 2, 1) := by decide +kernel
theorem dX1_statement_10 : decode cX1_statement 10 = .ok (.iconst 2, 1) := by decide +kernel
theorem dX1_statement_11 : decode cX1_statement 11 = .ok (.iload 5, 2) := by decide +kernel
theorem dX1_statement_13 : decode cX1_statement 13 = .ok (.imul, 1) := by decide +kernel
theorem dX1_statement_14 : decode cX1_statement 14 = .ok (.ishr, 1) := by decide +kernel
theorem dX1_statement_15 : decode cX1_statement 15 = .ok (.iconst 3, 1) := by decide +kernel
theorem dX1_statement_16 : decode cX1_statement 16 = .ok (.iand, 1) := by decide +kernel
theorem dX1_statement_17 : decode cX1_statement 17 = .ok (.iconst 3, 1) := by decide +kernel
theorem dX1_statement_18 : decode cX1_statement 18 = .ok (.if_icmp .ne 5, 3) := by decide +kernel
theorem dX1_statement_21 : decode cX1_statement 21 = .ok (.iconst (-1), 1) := by decide +kernel
theorem dX1_statement_22 : decode cX1_statement 22 = .ok (.ireturn, 1) := by decide +kernel
theorem dX1_statement_23 : decode cX1_statement 23 = .ok (.iinc 5 1, 3) := by decide +kernel
theorem dX1_statement_26 : decode cX1_statement 26 = .ok (.goto (-23), 3) := by decide +kernel
theorem dX1_statement_29 : decode cX1_statement 29 = .ok (.iconst 0, 1) := by decide +kernel
theorem dX1_statement_30 : decode cX1_statement 30 = .ok (.istore 5, 2) := by decide +kernel
theorem dX1_statement_32 : decode cX1_statement 32 = .ok (.iload 5, 2) := by decide +kernel
theorem dX1_statement_34 : decode cX1_statement 34 = .ok (.iconst 3, 1) := by decide +kernel
theorem dX1_statement_35 : decode cX1_statement 35 = .ok (.if_icmp .ge 26, 3) := by decide +kernel
theorem dX1_statement_38 : decode cX1_statement 38 = .ok (.iload_n 3, 1) := by decide +kernel
theorem dX1_statement_39 : decode cX1_statement 39 = .ok (.iconst 4, 1) := by decide +kernel
theorem dX1_statement_40 : decode cX1_statement 40 = .ok (.iload 5, 2) := by decide +kernel
theorem dX1_statement_42 : decode cX1_statement 42 = .ok (.imul, 1) := by decide +kernel
theorem dX1_statement_43 : decode cX1_statement 43 = .ok (.ishr, 1) := by decide +kernel
theorem dX1_statement_44 : decode cX1_statement 44 = .ok (.bipush 15, 2) := by decide +kernel
theorem dX1_statement_46 : decode cX1_statement 46 = .ok (.iand, 1) := by decide +kernel
theorem dX1_statement_47 : decode cX1_statement 47 = .ok (.bipush 8, 2) := by decide +kernel
theorem dX1_statement_49 : decode cX1_statement 49 = .ok (.if_icmp .le 6, 3) := by decide +kernel
theorem dX1_statement_52 : decode cX1_statement 52 = .ok (.bipush (-2), 2) := by decide +kernel
theorem dX1_statement_54 : decode cX1_statement 54 = .ok (.ireturn, 1) := by decide +kernel
theorem dX1_statement_55 : decode cX1_statement 55 = .ok (.iinc 5 1, 3) := by decide +kernel
theorem dX1_statement_58 : decode cX1_statement 58 = .ok (.goto (-26), 3) := by decide +kernel
theorem dX1_statement_61 : decode cX1_statement 61 = .ok (.iload_n 1, 1) := by decide +kernel
theorem dX1_statement_62 : decode cX1_statement 62 = .ok (.ifCond .lt 9, 3) := by decide +kernel
theorem dX1_statement_65 : decode cX1_statement 65 = .ok (.iload_n 1, 1) := by decide +kernel
theorem dX1_statement_66 : decode cX1_statement 66 = .ok (.bipush 6, 2) := by decide +kernel
theorem dX1_statement_68 : decode cX1_statement 68 = .ok (.if_icmp .le 6, 3) := by decide +kernel
theorem dX1_statement_71 : decode cX1_statement 71 = .ok (.bipush (-3), 2) := by decide +kernel
theorem dX1_statement_73 : decode cX1_statement 73 = .ok (.ireturn, 1) := by decide +kernel
theorem dX1_statement_74 : decode cX1_statement 74 = .ok (.aload_n 0, 1) := by decide +kernel
theorem dX1_statement_75 : decode cX1_statement 75 = .ok (.getfield 25, 3) := by decide +kernel
theorem dX1_statement_78 : decode cX1_statement 78 = .ok (.iconst 4, 1) := by decide +kernel
theorem dX1_statement_79 : decode cX1_statement 79 = .ok (.if_icmp .ne 6, 3) := by decide +kernel
theorem dX1_statement_82 : decode cX1_statement 82 = .ok (.bipush (-4), 2) := by decide +kernel
theorem dX1_statement_84 : decode cX1_statement 84 = .ok (.ireturn, 1) := by decide +kernel
theorem dX1_statement_85 : decode cX1_statement 85 = .ok (.iconst 0, 1) := by decide +kernel
theorem dX1_statement_86 : decode cX1_statement 86 = .ok (.istore 5, 2) := by decide +kernel
theorem dX1_statement_88 : decode cX1_statement 88 = .ok (.iload 5, 2) := by decide +kernel
theorem dX1_statement_90 : decode cX1_statement 90 = .ok (.iconst 3, 1) := by decide +kernel
theorem dX1_statement_91 : decode cX1_statement 91 = .ok (.if_icmp .ge 56, 3) := by decide +kernel
theorem dX1_statement_94 : decode cX1_statement 94 = .ok (.aload_n 0, 1) := by decide +kernel
theorem dX1_statement_95 : decode cX1_statement 95 = .ok (.getfield 16, 3) := by decide +kernel
theorem dX1_statement_98 : decode cX1_statement 98 = .ok (.aload_n 0, 1) := by decide +kernel
theorem dX1_statement_99 : decode cX1_statement 99 = .ok (.getfield 25, 3) := by decide +kernel
theorem dX1_statement_102 : decode cX1_statement 102 = .ok (.iconst 3, 1) := by decide +kernel
theorem dX1_statement_103 : decode cX1_statement 103 = .ok (.imul, 1) := by decide +kernel
theorem dX1_statement_104 : decode cX1_statement 104 = .ok (.iload 5, 2) := by decide +kernel
theorem dX1_statement_106 : decode cX1_statement 106 = .ok (.iadd, 1) := by decide +kernel
theorem dX1_statement_107 : decode cX1_statement 107 = .ok (.iload_n 2, 1) := by decide +kernel
theorem dX1_statement_108 : decode cX1_statement 108 = .ok (.iconst 2, 1) := by decide +kernel
theorem dX1_statement_109 : decode cX1_statement 109 = .ok (.iload 5, 2) := by decide +kernel
theorem dX1_statement_111 : decode cX1_statement 111 = .ok (.imul, 1) := by decide +kernel
theorem dX1_statement_112 : decode cX1_statement 112 = .ok (.ishr, 1) := by decide +kernel
theorem dX1_statement_113 : decode cX1_statement 113 = .ok (.iconst 3, 1) := by decide +kernel
theorem dX1_statement_114 : decode cX1_statement 114 = .ok (.iand, 1) := by decide +kernel
theorem dX1_statement_115 : decode cX1_statement 115 = .ok (.iastore, 1) := by decide +kernel
theorem dX1_statement_116 : decode cX1_statement 116 = .ok (.aload_n 0, 1) := by decide +kernel
theorem dX1_statement_117 : decode cX1_statement 117 = .ok (.getfield 19, 3) := by decide +kernel
theorem dX1_statement_120 : decode cX1_statement 120 = .ok (.aload_n 0, 1) := by decide +kernel
theorem dX1_statement_121 : decode cX1_statement 121 = .ok (.getfield 25, 3) := by decide +kernel
theorem dX1_statement_124 : decode cX1_statement 124 = .ok (.iconst 3, 1) := by decide +kernel
theorem dX1_statement_125 : decode cX1_statement 125 = .ok (.imul, 1) := by decide +kernel
theorem dX1_statement_126 : decode cX1_statement 126 = .ok (.iload 5, 2) := by decide +kernel
theorem dX1_statement_128 : decode cX1_statement 128 = .ok (.iadd, 1) := by decide +kernel
theorem dX1_statement_129 : decode cX1_statement 129 = .ok (.iload_n 3, 1) := by decide +kernel
theorem dX1_statement_130 : decode cX1_statement 130 = .ok (.iconst 4, 1) := by decide +kernel
theorem dX1_statement_131 : decode cX1_statement 131 = .ok (.iload 5, 2) := by decide +kernel
theorem dX1_statement_133 : decode cX1_statement 133 = .ok (.imul, 1) := by decide +kernel
theorem dX1_statement_134 : decode cX1_statement 134 = .ok (.ishr, 1) := by decide +kernel
theorem dX1_statement_135 : decode cX1_statement 135 = .ok (.bipush 15, 2) := by decide +kernel
theorem dX1_statement_137 : decode cX1_statement 137 = .ok (.iand, 1) := by decide +kernel
theorem dX1_statement_138 : decode cX1_statement 138 = .ok (.iconst 4, 1) := by decide +kernel
theorem dX1_statement_139 : decode cX1_statement 139 = .ok (.isub, 1) := by decide +kernel
theorem dX1_statement_140 : decode cX1_statement 140 = .ok (.iastore, 1) := by decide +kernel
theorem dX1_statement_141 : decode cX1_statement 141 = .ok (.iinc 5 1, 3) := by decide +kernel
theorem dX1_statement_144 : decode cX1_statement 144 = .ok (.goto (-56), 3) := by decide +kernel
theorem dX1_statement_147 : decode cX1_statement 147 = .ok (.aload_n 0, 1) := by decide +kernel
theorem dX1_statement_148 : decode cX1_statement 148 = .ok (.getfield 7, 3) := by decide +kernel
theorem dX1_statement_151 : decode cX1_statement 151 = .ok (.aload_n 0, 1) := by decide +kernel
theorem dX1_statement_152 : decode cX1_statement 152 = .ok (.getfield 25, 3) := by decide +kernel
theorem dX1_statement_155 : decode cX1_statement 155 = .ok (.iload_n 1, 1) := by decide +kernel
theorem dX1_statement_156 : decode cX1_statement 156 = .ok (.iastore, 1) := by decide +kernel
theorem dX1_statement_157 : decode cX1_statement 157 = .ok (.aload_n 0, 1) := by decide +kernel
theorem dX1_statement_158 : decode cX1_statement 158 = .ok (.getfield 13, 3) := by decide +kernel
theorem dX1_statement_161 : decode cX1_statement 161 = .ok (.aload_n 0, 1) := by decide +kernel
theorem dX1_statement_162 : decode cX1_statement 162 = .ok (.getfield 25, 3) := by decide +kernel
theorem dX1_statement_165 : decode cX1_statement 165 = .ok (.iload 4, 2) := by decide +kernel
theorem dX1_statement_167 : decode cX1_statement 167 = .ok (.iastore, 1) := by decide +kernel
theorem dX1_statement_168 : decode cX1_statement 168 = .ok (.aload_n 0, 1) := by decide +kernel
theorem dX1_statement_169 : decode cX1_statement 169 = .ok (.aload_n 0, 1) := by decide +kernel
theorem dX1_statement_170 : decode cX1_statement 170 = .ok (.getfield 25, 3) := by decide +kernel
theorem dX1_statement_173 : decode cX1_statement 173 = .ok (.iconst 1, 1) := by decide +kernel
theorem dX1_statement_174 : decode cX1_statement 174 = .ok (.iadd, 1) := by decide +kernel
theorem dX1_statement_175 : decode cX1_statement 175 = .ok (.putfield 25, 3) := by decide +kernel
theorem dX1_statement_178 : decode cX1_statement 178 = .ok (.aload_n 0, 1) := by decide +kernel
theorem dX1_statement_179 : decode cX1_statement 179 = .ok (.getfield 25, 3) := by decide +kernel
theorem dX1_statement_182 : decode cX1_statement 182 = .ok (.iconst 1, 1) := by decide +kernel
theorem dX1_statement_183 : decode cX1_statement 183 = .ok (.isub, 1) := by decide +kernel
theorem dX1_statement_184 : decode cX1_statement 184 = .ok (.ireturn, 1) := by decide +kernel
theorem dX1_clear_0 : decode cX1_clear 0 = .ok (.aload_n 0, 1) := by decide +kernel
theorem dX1_clear_1 : decode cX1_clear 1 = .ok (.iconst 0, 1) := by decide +kernel
theorem dX1_clear_2 : decode cX1_clear 2 = .ok (.putfield 25, 3) := by decide +kernel
theorem dX1_clear_5 : decode cX1_clear 5 = .ok (.return_, 1) := by decide +kernel
theorem dX1_exchange_0 : decode cX1_exchange 0 = .ok (.aload_n 0, 1) := by decide +kernel
theorem dX1_exchange_1 : decode cX1_exchange 1 = .ok (.iload_n 1, 1) := by decide +kernel
theorem dX1_exchange_2 : decode cX1_exchange 2 = .ok (.invokevirtual 29, 3) := by decide +kernel
theorem dX1_exchange_5 : decode cX1_exchange 5 = .ok (.ifCond .ne 11, 3) := by decide +kernel
theorem dX1_exchange_8 : decode cX1_exchange 8 = .ok (.aload_n 0, 1) := by decide +kernel
theorem dX1_exchange_9 : decode cX1_exchange 9 = .ok (.iload_n 2, 1) := by decide +kernel
theorem dX1_exchange_10 : decode cX1_exchange 10 = .ok (.invokevirtual 29, 3) := by decide +kernel
theorem dX1_exchange_13 : decode cX1_exchange 13 = .ok (.ifCond .eq 6, 3) := by decide +kernel
theorem dX1_exchange_16 : decode cX1_exchange 16 = .ok (.bipush (-3), 2) := by decide +kernel
theorem dX1_exchange_18 : decode cX1_exchange 18 = .ok (.ireturn, 1) := by decide +kernel
theorem dX1_exchange_19 : decode cX1_exchange 19 = .ok (.aload_n 0, 1) := by decide +kernel
theorem dX1_exchange_20 : decode cX1_exchange 20 = .ok (.getfield 7, 3) := by decide +kernel
theorem dX1_exchange_23 : decode cX1_exchange 23 = .ok (.iload_n 1, 1) := by decide +kernel
theorem dX1_exchange_24 : decode cX1_exchange 24 = .ok (.iaload, 1) := by decide +kernel
theorem dX1_exchange_25 : decode cX1_exchange 25 = .ok (.istore_n 3, 1) := by decide +kernel
theorem dX1_exchange_26 : decode cX1_exchange 26 = .ok (.aload_n 0, 1) := by decide +kernel
theorem dX1_exchange_27 : decode cX1_exchange 27 = .ok (.getfield 7, 3) := by decide +kernel
theorem dX1_exchange_30 : decode cX1_exchange 30 = .ok (.iload_n 1, 1) := by decide +kernel
theorem dX1_exchange_31 : decode cX1_exchange 31 = .ok (.aload_n 0, 1) := by decide +kernel
theorem dX1_exchange_32 : decode cX1_exchange 32 = .ok (.getfield 7, 3) := by decide +kernel
theorem dX1_exchange_35 : decode cX1_exchange 35 = .ok (.iload_n 2, 1) := by decide +kernel
theorem dX1_exchange_36 : decode cX1_exchange 36 = .ok (.iaload, 1) := by decide +kernel
theorem dX1_exchange_37 : decode cX1_exchange 37 = .ok (.iastore, 1) := by decide +kernel
theorem dX1_exchange_38 : decode cX1_exchange 38 = .ok (.aload_n 0, 1) := by decide +kernel
theorem dX1_exchange_39 : decode cX1_exchange 39 = .ok (.getfield 7, 3) := by decide +kernel
theorem dX1_exchange_42 : decode cX1_exchange 42 = .ok (.iload_n 2, 1) := by decide +kernel
theorem dX1_exchange_43 : decode cX1_exchange 43 = .ok (.iload_n 3, 1) := by decide +kernel
theorem dX1_exchange_44 : decode cX1_exchange 44 = .ok (.iastore, 1) := by decide +kernel
theorem dX1_exchange_45 : decode cX1_exchange 45 = .ok (.aload_n 0, 1) := by decide +kernel
theorem dX1_exchange_46 : decode cX1_exchange 46 = .ok (.getfield 13, 3) := by decide +kernel
theorem dX1_exchange_49 : decode cX1_exchange 49 = .ok (.iload_n 1, 1) := by decide +kernel
theorem dX1_exchange_50 : decode cX1_exchange 50 = .ok (.iaload, 1) := by decide +kernel
theorem dX1_exchange_51 : decode cX1_exchange 51 = .ok (.istore 4, 2) := by decide +kernel
theorem dX1_exchange_53 : decode cX1_exchange 53 = .ok (.aload_n 0, 1) := by decide +kernel
theorem dX1_exchange_54 : decode cX1_exchange 54 = .ok (.getfield 13, 3) := by decide +kernel
theorem dX1_exchange_57 : decode cX1_exchange 57 = .ok (.iload_n 1, 1) := by decide +kernel
theorem dX1_exchange_58 : decode cX1_exchange 58 = .ok (.aload_n 0, 1) := by decide +kernel
theorem dX1_exchange_59 : decode cX1_exchange 59 = .ok (.getfield 13, 3) := by decide +kernel
theorem dX1_exchange_62 : decode cX1_exchange 62 = .ok (.iload_n 2, 1) := by decide +kernel
theorem dX1_exchange_63 : decode cX1_exchange 63 = .ok (.iaload, 1) := by decide +kernel
theorem dX1_exchange_64 : decode cX1_exchange 64 = .ok (.iastore, 1) := by decide +kernel
theorem dX1_exchange_65 : decode cX1_exchange 65 = .ok (.aload_n 0, 1) := by decide +kernel
theorem dX1_exchange_66 : decode cX1_exchange 66 = .ok (.getfield 13, 3) := by decide +kernel
theorem dX1_exchange_69 : decode cX1_exchange 69 = .ok (.iload_n 2, 1) := by decide +kernel
theorem dX1_exchange_70 : decode cX1_exchange 70 = .ok (.iload 4, 2) := by decide +kernel
theorem dX1_exchange_72 : decode cX1_exchange 72 = .ok (.iastore, 1) := by decide +kernel
theorem dX1_exchange_73 : decode cX1_exchange 73 = .ok (.iconst 0, 1) := by decide +kernel
theorem dX1_exchange_74 : decode cX1_exchange 74 = .ok (.istore 5, 2) := by decide +kernel
theorem dX1_exchange_76 : decode cX1_exchange 76 = .ok (.iload 5, 2) := by decide +kernel
theorem dX1_exchange_78 : decode cX1_exchange 78 = .ok (.iconst 3, 1) := by decide +kernel
theorem dX1_exchange_79 : decode cX1_exchange 79 = .ok (.if_icmp .ge 105, 3) := by decide +kernel
theorem dX1_exchange_82 : decode cX1_exchange 82 = .ok (.aload_n 0, 1) := by decide +kernel
theorem dX1_exchange_83 : decode cX1_exchange 83 = .ok (.getfield 16, 3) := by decide +kernel
theorem dX1_exchange_86 : decode cX1_exchange 86 = .ok (.iload_n 1, 1) := by decide +kernel
theorem dX1_exchange_87 : decode cX1_exchange 87 = .ok (.iconst 3, 1) := by decide +kernel
theorem dX1_exchange_88 : decode cX1_exchange 88 = .ok (.imul, 1) := by decide +kernel
theorem dX1_exchange_89 : decode cX1_exchange 89 = .ok (.iload 5, 2) := by decide +kernel
theorem dX1_exchange_91 : decode cX1_exchange 91 = .ok (.iadd, 1) := by decide +kernel
theorem dX1_exchange_92 : decode cX1_exchange 92 = .ok (.iaload, 1) := by decide +kernel
theorem dX1_exchange_93 : decode cX1_exchange 93 = .ok (.istore 6, 2) := by decide +kernel
theorem dX1_exchange_95 : decode cX1_exchange 95 = .ok (.aload_n 0, 1) := by decide +kernel
theorem dX1_exchange_96 : decode cX1_exchange 96 = .ok (.getfield 16, 3) := by decide +kernel
theorem dX1_exchange_99 : decode cX1_exchange 99 = .ok (.iload_n 1, 1) := by decide +kernel
theorem dX1_exchange_100 : decode cX1_exchange 100 = .ok (.iconst 3, 1) := by decide +kernel
theorem dX1_exchange_101 : decode cX1_exchange 101 = .ok (.imul, 1) := by decide +kernel
theorem dX1_exchange_102 : decode cX1_exchange 102 = .ok (.iload 5, 2) := by decide +kernel
theorem dX1_exchange_104 : decode cX1_exchange 104 = .ok (.iadd, 1) := by decide +kernel
theorem dX1_exchange_105 : decode cX1_exchange 105 = .ok (.aload_n 0, 1) := by decide +kernel
theorem dX1_exchange_106 : decode cX1_exchange 106 = .ok (.getfield 16, 3) := by decide +kernel
theorem dX1_exchange_109 : decode cX1_exchange 109 = .ok (.iload_n 2, 1) := by decide +kernel
theorem dX1_exchange_110 : decode cX1_exchange 110 = .ok (.iconst 3, 1) := by decide +kernel
theorem dX1_exchange_111 : decode cX1_exchange 111 = .ok (.imul, 1) := by decide +kernel
theorem dX1_exchange_112 : decode cX1_exchange 112 = .ok (.iload 5, 2) := by decide +kernel
theorem dX1_exchange_114 : decode cX1_exchange 114 = .ok (.iadd, 1) := by decide +kernel
theorem dX1_exchange_115 : decode cX1_exchange 115 = .ok (.iaload, 1) := by decide +kernel
theorem dX1_exchange_116 : decode cX1_exchange 116 = .ok (.iastore, 1) := by decide +kernel
theorem dX1_exchange_117 : decode cX1_exchange 117 = .ok (.aload_n 0, 1) := by decide +kernel
theorem dX1_exchange_118 : decode cX1_exchange 118 = .ok (.getfield 16, 3) := by decide +kernel
theorem dX1_exchange_121 : decode cX1_exchange 121 = .ok (.iload_n 2, 1) := by decide +kernel
theorem dX1_exchange_122 : decode cX1_exchange 122 = .ok (.iconst 3, 1) := by decide +kernel
theorem dX1_exchange_123 : decode cX1_exchange 123 = .ok (.imul, 1) := by decide +kernel
theorem dX1_exchange_124 : decode cX1_exchange 124 = .ok (.iload 5, 2) := by decide +kernel
theorem dX1_exchange_126 : decode cX1_exchange 126 = .ok (.iadd, 1) := by decide +kernel
theorem dX1_exchange_127 : decode cX1_exchange 127 = .ok (.iload 6, 2) := by decide +kernel
theorem dX1_exchange_129 : decode cX1_exchange 129 = .ok (.iastore, 1) := by decide +kernel
theorem dX1_exchange_130 : decode cX1_exchange 130 = .ok (.aload_n 0, 1) := by decide +kernel
theorem dX1_exchange_131 : decode cX1_exchange 131 = .ok (.getfield 19, 3) := by decide +kernel
theorem dX1_exchange_134 : decode cX1_exchange 134 = .ok (.iload_n 1, 1) := by decide +kernel
theorem dX1_exchange_135 : decode cX1_exchange 135 = .ok (.iconst 3, 1) := by decide +kernel
theorem dX1_exchange_136 : decode cX1_exchange 136 = .ok (.imul, 1) := by decide +kernel
theorem dX1_exchange_137 : decode cX1_exchange 137 = .ok (.iload 5, 2) := by decide +kernel
theorem dX1_exchange_139 : decode cX1_exchange 139 = .ok (.iadd, 1) := by decide +kernel
theorem dX1_exchange_140 : decode cX1_exchange 140 = .ok (.iaload, 1) := by decide +kernel
theorem dX1_exchange_141 : decode cX1_exchange 141 = .ok (.istore 7, 2) := by decide +kernel
theorem dX1_exchange_143 : decode cX1_exchange 143 = .ok (.aload_n 0, 1) := by decide +kernel
theorem dX1_exchange_144 : decode cX1_exchange 144 = .ok (.getfield 19, 3) := by decide +kernel
theorem dX1_exchange_147 : decode cX1_exchange 147 = .ok (.iload_n 1, 1) := by decide +kernel
theorem dX1_exchange_148 : decode cX1_exchange 148 = .ok (.iconst 3, 1) := by decide +kernel
theorem dX1_exchange_149 : decode cX1_exchange 149 = .ok (.imul, 1) := by decide +kernel
theorem dX1_exchange_150 : decode cX1_exchange 150 = .ok (.iload 5, 2) := by decide +kernel
theorem dX1_exchange_152 : decode cX1_exchange 152 = .ok (.iadd, 1) := by decide +kernel
theorem dX1_exchange_153 : decode cX1_exchange 153 = .ok (.aload_n 0, 1) := by decide +kernel
theorem dX1_exchange_154 : decode cX1_exchange 154 = .ok (.getfield 19, 3) := by decide +kernel
theorem dX1_exchange_157 : decode cX1_exchange 157 = .ok (.iload_n 2, 1) := by decide +kernel
theorem dX1_exchange_158 : decode cX1_exchange 158 = .ok (.iconst 3, 1) := by decide +kernel
theorem dX1_exchange_159 : decode cX1_exchange 159 = .ok (.imul, 1) := by decide +kernel
theorem dX1_exchange_160 : decode cX1_exchange 160 = .ok (.iload 5, 2) := by decide +kernel
theorem dX1_exchange_162 : decode cX1_exchange 162 = .ok (.iadd, 1) := by decide +kernel
theorem dX1_exchange_163 : decode cX1_exchange 163 = .ok (.iaload, 1) := by decide +kernel
theorem dX1_exchange_164 : decode cX1_exchange 164 = .ok (.iastore, 1) := by decide +kernel
theorem dX1_exchange_165 : decode cX1_exchange 165 = .ok (.aload_n 0, 1) := by decide +kernel
theorem dX1_exchange_166 : decode cX1_exchange 166 = .ok (.getfield 19, 3) := by decide +kernel
theorem dX1_exchange_169 : decode cX1_exchange 169 = .ok (.iload_n 2, 1) := by decide +kernel
theorem dX1_exchange_170 : decode cX1_exchange 170 = .ok (.iconst 3, 1) := by decide +kernel
theorem dX1_exchange_171 : decode cX1_exchange 171 = .ok (.imul, 1) := by decide +kernel
theorem dX1_exchange_172 : decode cX1_exchange 172 = .ok (.iload 5, 2) := by decide +kernel
theorem dX1_exchange_174 : decode cX1_exchange 174 = .ok (.iadd, 1) := by decide +kernel
theorem dX1_exchange_175 : decode cX1_exchange 175 = .ok (.iload 7, 2) := by decide +kernel
theorem dX1_exchange_177 : decode cX1_exchange 177 = .ok (.iastore, 1) := by decide +kernel
theorem dX1_exchange_178 : decode cX1_exchange 178 = .ok (.iinc 5 1, 3) := by decide +kernel
theorem dX1_exchange_181 : decode cX1_exchange 181 = .ok (.goto (-105), 3) := by decide +kernel
theorem dX1_exchange_184 : decode cX1_exchange 184 = .ok (.iconst 0, 1) := by decide +kernel
theorem dX1_exchange_185 : decode cX1_exchange 185 = .ok (.ireturn, 1) := by decide +kernel
theorem dX1_noStatement_0 : decode cX1_noStatement 0 = .ok (.iload_n 1, 1) := by decide +kernel
theorem dX1_noStatement_1 : decode cX1_noStatement 1 = .ok (.ifCond .lt 11, 3) := by decide +kernel
theorem dX1_noStatement_4 : decode cX1_noStatement 4 = .ok (.iload_n 1, 1) := by decide +kernel
theorem dX1_noStatement_5 : decode cX1_noStatement 5 = .ok (.aload_n 0, 1) := by decide +kernel
theorem dX1_noStatement_6 : decode cX1_noStatement 6 = .ok (.getfield 25, 3) := by decide +kernel
theorem dX1_noStatement_9 : decode cX1_noStatement 9 = .ok (.if_icmp .lt 7, 3) := by decide +kernel
theorem dX1_noStatement_12 : decode cX1_noStatement 12 = .ok (.iconst 1, 1) := by decide +kernel
theorem dX1_noStatement_13 : decode cX1_noStatement 13 = .ok (.goto 4, 3) := by decide +kernel
theorem dX1_noStatement_16 : decode cX1_noStatement 16 = .ok (.iconst 0, 1) := by decide +kernel
theorem dX1_noStatement_17 : decode cX1_noStatement 17 = .ok (.ireturn, 1) := by decide +kernel
theorem dX1_set_0 : decode cX1_set 0 = .ok (.aload_n 0, 1) := by decide +kernel
theorem dX1_set_1 : decode cX1_set 1 = .ok (.iload_n 1, 1) := by decide +kernel
theorem dX1_set_2 : decode cX1_set 2 = .ok (.invokevirtual 33, 3) := by decide +kernel
theorem dX1_set_5 : decode cX1_set 5 = .ok (.ifCond .eq 5, 3) := by decide +kernel
theorem dX1_set_8 : decode cX1_set 8 = .ok (.iconst (-1), 1) := by decide +kernel
theorem dX1_set_9 : decode cX1_set 9 = .ok (.ireturn, 1) := by decide +kernel
theorem dX1_set_10 : decode cX1_set 10 = .ok (.aload_n 0, 1) := by decide +kernel
theorem dX1_set_11 : decode cX1_set 11 = .ok (.iload_n 2, 1) := by decide +kernel
theorem dX1_set_12 : decode cX1_set 12 = .ok (.invokevirtual 36, 3) := by decide +kernel
theorem dX1_set_15 : decode cX1_set 15 = .ok (.ifCond .eq 6, 3) := by decide +kernel
theorem dX1_set_18 : decode cX1_set 18 = .ok (.bipush (-5), 2) := by decide +kernel
theorem dX1_set_20 : decode cX1_set 20 = .ok (.ireturn, 1) := by decide +kernel
theorem dX1_set_21 : decode cX1_set 21 = .ok (.aload_n 0, 1) := by decide +kernel
theorem dX1_set_22 : decode cX1_set 22 = .ok (.getfield 22, 3) := by decide +kernel
theorem dX1_set_25 : decode cX1_set 25 = .ok (.iload_n 1, 1) := by decide +kernel
theorem dX1_set_26 : decode cX1_set 26 = .ok (.bipush 32, 2) := by decide +kernel
theorem dX1_set_28 : decode cX1_set 28 = .ok (.imul, 1) := by decide +kernel
theorem dX1_set_29 : decode cX1_set 29 = .ok (.iload_n 2, 1) := by decide +kernel
theorem dX1_set_30 : decode cX1_set 30 = .ok (.iadd, 1) := by decide +kernel
theorem dX1_set_31 : decode cX1_set 31 = .ok (.iaload, 1) := by decide +kernel
theorem dX1_set_32 : decode cX1_set 32 = .ok (.istore 4, 2) := by decide +kernel
theorem dX1_set_34 : decode cX1_set 34 = .ok (.aload_n 0, 1) := by decide +kernel
theorem dX1_set_35 : decode cX1_set 35 = .ok (.getfield 22, 3) := by decide +kernel
theorem dX1_set_38 : decode cX1_set 38 = .ok (.iload_n 1, 1) := by decide +kernel
theorem dX1_set_39 : decode cX1_set 39 = .ok (.bipush 32, 2) := by decide +kernel
theorem dX1_set_41 : decode cX1_set 41 = .ok (.imul, 1) := by decide +kernel
theorem dX1_set_42 : decode cX1_set 42 = .ok (.iload_n 2, 1) := by decide +kernel
theorem dX1_set_43 : decode cX1_set 43 = .ok (.iadd, 1) := by decide +kernel
theorem dX1_set_44 : decode cX1_set 44 = .ok (.iload_n 3, 1) := by decide +kernel
theorem dX1_set_45 : decode cX1_set 45 = .ok (.iastore, 1) := by decide +kernel
theorem dX1_set_46 : decode cX1_set 46 = .ok (.iload 4, 2) := by decide +kernel
theorem dX1_set_48 : decode cX1_set 48 = .ok (.ireturn, 1) := by decide +kernel
theorem dX1_badArray_0 : decode cX1_badArray 0 = .ok (.iload_n 1, 1) := by decide +kernel
theorem dX1_badArray_1 : decode cX1_badArray 1 = .ok (.ifCond .lt 8, 3) := by decide +kernel
theorem dX1_badArray_4 : decode cX1_badArray 4 = .ok (.iload_n 1, 1) := by decide +kernel
theorem dX1_badArray_5 : decode cX1_badArray 5 = .ok (.iconst 2, 1) := by decide +kernel
theorem dX1_badArray_6 : decode cX1_badArray 6 = .ok (.if_icmp .le 7, 3) := by decide +kernel
theorem dX1_badArray_9 : decode cX1_badArray 9 = .ok (.iconst 1, 1) := by decide +kernel
theorem dX1_badArray_10 : decode cX1_badArray 10 = .ok (.goto 4, 3) := by decide +kernel
theorem dX1_badArray_13 : decode cX1_badArray 13 = .ok (.iconst 0, 1) := by decide +kernel
theorem dX1_badArray_14 : decode cX1_badArray 14 = .ok (.ireturn, 1) := by decide +kernel
theorem dX1_badCell_0 : decode cX1_badCell 0 = .ok (.iload_n 1, 1) := by decide +kernel
theorem dX1_badCell_1 : decode cX1_badCell 1 = .ok (.ifCond .lt 9, 3) := by decide +kernel
theorem dX1_badCell_4 : decode cX1_badCell 4 = .ok (.iload_n 1, 1) := by decide +kernel
theorem dX1_badCell_5 : decode cX1_badCell 5 = .ok (.bipush 31, 2) := by decide +kernel
theorem dX1_badCell_7 : decode cX1_badCell 7 = .ok (.if_icmp .le 7, 3) := by decide +kernel
theorem dX1_badCell_10 : decode cX1_badCell 10 = .ok (.iconst 1, 1) := by decide +kernel
theorem dX1_badCell_11 : decode cX1_badCell 11 = .ok (.goto 4, 3) := by decide +kernel
theorem dX1_badCell_14 : decode cX1_badCell 14 = .ok (.iconst 0, 1) := by decide +kernel
theorem dX1_badCell_15 : decode cX1_badCell 15 = .ok (.ireturn, 1) := by decide +kernel
theorem dX1_ramp_0 : decode cX1_ramp 0 = .ok (.aload_n 0, 1) := by decide +kernel
theorem dX1_ramp_1 : decode cX1_ramp 1 = .ok (.iload_n 1, 1) := by decide +kernel
theorem dX1_ramp_2 : decode cX1_ramp 2 = .ok (.invokevirtual 33, 3) := by decide +kernel
theorem dX1_ramp_5 : decode cX1_ramp 5 = .ok (.ifCond .eq 5, 3) := by decide +kernel
theorem dX1_ramp_8 : decode cX1_ramp 8 = .ok (.iconst (-1), 1) := by decide +kernel
theorem dX1_ramp_9 : decode cX1_ramp 9 = .ok (.ireturn, 1) := by decide +kernel
theorem dX1_ramp_10 : decode cX1_ramp 10 = .ok (.iconst 0, 1) := by decide +kernel
theorem dX1_ramp_11 : decode cX1_ramp 11 = .ok (.istore 4, 2) := by decide +kernel
theorem dX1_ramp_13 : decode cX1_ramp 13 = .ok (.iload 4, 2) := by decide +kernel
theorem dX1_ramp_15 : decode cX1_ramp 15 = .ok (.bipush 32, 2) := by decide +kernel
theorem dX1_ramp_17 : decode cX1_ramp 17 = .ok (.if_icmp .ge 27, 3) := by decide +kernel
theorem dX1_ramp_20 : decode cX1_ramp 20 = .ok (.aload_n 0, 1) := by decide +kernel
theorem dX1_ramp_21 : decode cX1_ramp 21 = .ok (.getfield 22, 3) := by decide +kernel
theorem dX1_ramp_24 : decode cX1_ramp 24 = .ok (.iload_n 1, 1) := by decide +kernel
theorem dX1_ramp_25 : decode cX1_ramp 25 = .ok (.bipush 32, 2) := by decide +kernel
theorem dX1_ramp_27 : decode cX1_ramp 27 = .ok (.imul, 1) := by decide +kernel
theorem dX1_ramp_28 : decode cX1_ramp 28 = .ok (.iload 4, 2) := by decide +kernel
theorem dX1_ramp_30 : decode cX1_ramp 30 = .ok (.iadd, 1) := by decide +kernel
theorem dX1_ramp_31 : decode cX1_ramp 31 = .ok (.iload_n 2, 1) := by decide +kernel
theorem dX1_ramp_32 : decode cX1_ramp 32 = .ok (.iload 4, 2) := by decide +kernel
theorem dX1_ramp_34 : decode cX1_ramp 34 = .ok (.iload_n 3, 1) := by decide +kernel
theorem dX1_ramp_35 : decode cX1_ramp 35 = .ok (.imul, 1) := by decide +kernel
theorem dX1_ramp_36 : decode cX1_ramp 36 = .ok (.iadd, 1) := by decide +kernel
theorem dX1_ramp_37 : decode cX1_ramp 37 = .ok (.iastore, 1) := by decide +kernel
theorem dX1_ramp_38 : decode cX1_ramp 38 = .ok (.iinc 4 1, 3) := by decide +kernel
theorem dX1_ramp_41 : decode cX1_ramp 41 = .ok (.goto (-28), 3) := by decide +kernel
theorem dX1_ramp_44 : decode cX1_ramp 44 = .ok (.iconst 0, 1) := by decide +kernel
theorem dX1_ramp_45 : decode cX1_ramp 45 = .ok (.ireturn, 1) := by decide +kernel
theorem dX1_run_0 : decode cX1_run 0 = .ok (.aload_n 0, 1) := by decide +kernel
theorem dX1_run_1 : decode cX1_run 1 = .ok (.iload_n 1, 1) := by decide +kernel
theorem dX1_run_2 : decode cX1_run 2 = .ok (.invokevirtual 36, 3) := by decide +kernel
theorem dX1_run_5 : decode cX1_run 5 = .ok (.ifCond .ne 11, 3) := by decide +kernel
theorem dX1_run_8 : decode cX1_run 8 = .ok (.aload_n 0, 1) := by decide +kernel
theorem dX1_run_9 : decode cX1_run 9 = .ok (.iload_n 2, 1) := by decide +kernel
theorem dX1_run_10 : decode cX1_run 10 = .ok (.invokevirtual 36, 3) := by decide +kernel
theorem dX1_run_13 : decode cX1_run 13 = .ok (.ifCond .eq 6, 3) := by decide +kernel
theorem dX1_run_16 : decode cX1_run 16 = .ok (.bipush (-5), 2) := by decide +kernel
theorem dX1_run_18 : decode cX1_run 18 = .ok (.ireturn, 1) := by decide +kernel
theorem dX1_run_19 : decode cX1_run 19 = .ok (.iconst 0, 1) := by decide +kernel
theorem dX1_run_20 : decode cX1_run 20 = .ok (.istore_n 3, 1) := by decide +kernel
theorem dX1_run_21 : decode cX1_run 21 = .ok (.iload_n 3, 1) := by decide +kernel
theorem dX1_run_22 : decode cX1_run 22 = .ok (.aload_n 0, 1) := by decide +kernel
theorem dX1_run_23 : decode cX1_run 23 = .ok (.getfield 25, 3) := by decide +kernel
theorem dX1_run_26 : decode cX1_run 26 = .ok (.iconst 3, 1) := by decide +kernel
theorem dX1_run_27 : decode cX1_run 27 = .ok (.imul, 1) := by decide +kernel
theorem dX1_run_28 : decode cX1_run 28 = .ok (.if_icmp .ge 42, 3) := by decide +kernel
theorem dX1_run_31 : decode cX1_run 31 = .ok (.aload_n 0, 1) := by decide +kernel
theorem dX1_run_32 : decode cX1_run 32 = .ok (.iload_n 1, 1) := by decide +kernel
theorem dX1_run_33 : decode cX1_run 33 = .ok (.aload_n 0, 1) := by decide +kernel
theorem dX1_run_34 : decode cX1_run 34 = .ok (.getfield 19, 3) := by decide +kernel
theorem dX1_run_37 : decode cX1_run 37 = .ok (.iload_n 3, 1) := by decide +kernel
theorem dX1_run_38 : decode cX1_run 38 = .ok (.iaload, 1) := by decide +kernel
theorem dX1_run_39 : decode cX1_run 39 = .ok (.iadd, 1) := by decide +kernel
theorem dX1_run_40 : decode cX1_run 40 = .ok (.invokevirtual 36, 3) := by decide +kernel
theorem dX1_run_43 : decode cX1_run 43 = .ok (.ifCond .ne 18, 3) := by decide +kernel
theorem dX1_run_46 : decode cX1_run 46 = .ok (.aload_n 0, 1) := by decide +kernel
theorem dX1_run_47 : decode cX1_run 47 = .ok (.iload_n 2, 1) := by decide +kernel
theorem dX1_run_48 : decode cX1_run 48 = .ok (.aload_n 0, 1) := by decide +kernel
theorem dX1_run_49 : decode cX1_run 49 = .ok (.getfield 19, 3) := by decide +kernel
theorem dX1_run_52 : decode cX1_run 52 = .ok (.iload_n 3, 1) := by decide +kernel
theorem dX1_run_53 : decode cX1_run 53 = .ok (.iaload, 1) := by decide +kernel
theorem dX1_run_54 : decode cX1_run 54 = .ok (.iadd, 1) := by decide +kernel
theorem dX1_run_55 : decode cX1_run 55 = .ok (.invokevirtual 36, 3) := by decide +kernel
theorem dX1_run_58 : decode cX1_run 58 = .ok (.ifCond .eq 6, 3) := by decide +kernel
theorem dX1_run_61 : decode cX1_run 61 = .ok (.bipush (-2), 2) := by decide +kernel
theorem dX1_run_63 : decode cX1_run 63 = .ok (.ireturn, 1) := by decide +kernel
theorem dX1_run_64 : decode cX1_run 64 = .ok (.iinc 3 1, 3) := by decide +kernel
theorem dX1_run_67 : decode cX1_run 67 = .ok (.goto (-46), 3) := by decide +kernel
theorem dX1_run_70 : decode cX1_run 70 = .ok (.iconst 0, 1) := by decide +kernel
theorem dX1_run_71 : decode cX1_run 71 = .ok (.istore_n 3, 1) := by decide +kernel
theorem dX1_run_72 : decode cX1_run 72 = .ok (.iload_n 1, 1) := by decide +kernel
theorem dX1_run_73 : decode cX1_run 73 = .ok (.istore 4, 2) := by decide +kernel
theorem dX1_run_75 : decode cX1_run 75 = .ok (.iload 4, 2) := by decide +kernel
theorem dX1_run_77 : decode cX1_run 77 = .ok (.iload_n 2, 1) := by decide +kernel
theorem dX1_run_78 : decode cX1_run 78 = .ok (.if_icmp .gt 38, 3) := by decide +kernel
theorem dX1_run_81 : decode cX1_run 81 = .ok (.iconst 0, 1) := by decide +kernel
theorem dX1_run_82 : decode cX1_run 82 = .ok (.istore 5, 2) := by decide +kernel
end
section
set_option maxRecDepth 100000
theorem dX1_run_84 : decode cX1_run 84 = .ok (.iload 5, 2) := by decide +kernel
theorem dX1_run_86 : decode cX1_run 86 = .ok (.aload_n 0, 1) := by decide +kernel
theorem dX1_run_87 : decode cX1_run 87 = .ok (.getfield 25, 3) := by decide +kernel
theorem dX1_run_90 : decode cX1_run 90 = .ok (.if_icmp .ge 20, 3) := by decide +kernel
theorem dX1_run_93 : decode cX1_run 93 = .ok (.aload_n 0, 1) := by decide +kernel
theorem dX1_run_94 : decode cX1_run 94 = .ok (.iload 5, 2) := by decide +kernel
theorem dX1_run_96 : decode cX1_run 96 = .ok (.iload 4, 2) := by decide +kernel
theorem dX1_run_98 : decode cX1_run 98 = .ok (.invokevirtual 39, 3) := by decide +kernel
theorem dX1_run_101 : decode cX1_run 101 = .ok (.iinc 3 1, 3) := by decide +kernel
theorem dX1_run_104 : decode cX1_run 104 = .ok (.iinc 5 1, 3) := by decide +kernel
theorem dX1_run_107 : decode cX1_run 107 = .ok (.goto (-23), 3) := by decide +kernel
theorem dX1_run_110 : decode cX1_run 110 = .ok (.iinc 4 1, 3) := by decide +kernel
theorem dX1_run_113 : decode cX1_run 113 = .ok (.goto (-38), 3) := by decide +kernel
theorem dX1_run_116 : decode cX1_run 116 = .ok (.iload_n 3, 1) := by decide +kernel
theorem dX1_run_117 : decode cX1_run 117 = .ok (.ireturn, 1) := by decide +kernel
theorem dX1_carryOut_0 : decode cX1_carryOut 0 = .ok (.aload_n 0, 1) := by decide +kernel
theorem dX1_carryOut_1 : decode cX1_carryOut 1 = .ok (.getfield 16, 3) := by decide +kernel
theorem dX1_carryOut_4 : decode cX1_carryOut 4 = .ok (.iload_n 1, 1) := by decide +kernel
theorem dX1_carryOut_5 : decode cX1_carryOut 5 = .ok (.iconst 3, 1) := by decide +kernel
theorem dX1_carryOut_6 : decode cX1_carryOut 6 = .ok (.imul, 1) := by decide +kernel
theorem dX1_carryOut_7 : decode cX1_carryOut 7 = .ok (.iaload, 1) := by decide +kernel
theorem dX1_carryOut_8 : decode cX1_carryOut 8 = .ok (.bipush 32, 2) := by decide +kernel
theorem dX1_carryOut_10 : decode cX1_carryOut 10 = .ok (.imul, 1) := by decide +kernel
theorem dX1_carryOut_11 : decode cX1_carryOut 11 = .ok (.iload_n 2, 1) := by decide +kernel
theorem dX1_carryOut_12 : decode cX1_carryOut 12 = .ok (.iadd, 1) := by decide +kernel
theorem dX1_carryOut_13 : decode cX1_carryOut 13 = .ok (.aload_n 0, 1) := by decide +kernel
theorem dX1_carryOut_14 : decode cX1_carryOut 14 = .ok (.getfield 19, 3) := by decide +kernel
theorem dX1_carryOut_17 : decode cX1_carryOut 17 = .ok (.iload_n 1, 1) := by decide +kernel
theorem dX1_carryOut_18 : decode cX1_carryOut 18 = .ok (.iconst 3, 1) := by decide +kernel
theorem dX1_carryOut_19 : decode cX1_carryOut 19 = .ok (.imul, 1) := by decide +kernel
theorem dX1_carryOut_20 : decode cX1_carryOut 20 = .ok (.iaload, 1) := by decide +kernel
theorem dX1_carryOut_21 : decode cX1_carryOut 21 = .ok (.iadd, 1) := by decide +kernel
theorem dX1_carryOut_22 : decode cX1_carryOut 22 = .ok (.istore_n 3, 1) := by decide +kernel
theorem dX1_carryOut_23 : decode cX1_carryOut 23 = .ok (.aload_n 0, 1) := by decide +kernel
theorem dX1_carryOut_24 : decode cX1_carryOut 24 = .ok (.getfield 22, 3) := by decide +kernel
theorem dX1_carryOut_27 : decode cX1_carryOut 27 = .ok (.aload_n 0, 1) := by decide +kernel
theorem dX1_carryOut_28 : decode cX1_carryOut 28 = .ok (.getfield 16, 3) := by decide +kernel
theorem dX1_carryOut_31 : decode cX1_carryOut 31 = .ok (.iload_n 1, 1) := by decide +kernel
theorem dX1_carryOut_32 : decode cX1_carryOut 32 = .ok (.iconst 3, 1) := by decide +kernel
theorem dX1_carryOut_33 : decode cX1_carryOut 33 = .ok (.imul, 1) := by decide +kernel
theorem dX1_carryOut_34 : decode cX1_carryOut 34 = .ok (.iconst 1, 1) := by decide +kernel
theorem dX1_carryOut_35 : decode cX1_carryOut 35 = .ok (.iadd, 1) := by decide +kernel
theorem dX1_carryOut_36 : decode cX1_carryOut 36 = .ok (.iaload, 1) := by decide +kernel
theorem dX1_carryOut_37 : decode cX1_carryOut 37 = .ok (.bipush 32, 2) := by decide +kernel
theorem dX1_carryOut_39 : decode cX1_carryOut 39 = .ok (.imul, 1) := by decide +kernel
theorem dX1_carryOut_40 : decode cX1_carryOut 40 = .ok (.iload_n 2, 1) := by decide +kernel
theorem dX1_carryOut_41 : decode cX1_carryOut 41 = .ok (.iadd, 1) := by decide +kernel
theorem dX1_carryOut_42 : decode cX1_carryOut 42 = .ok (.aload_n 0, 1) := by decide +kernel
theorem dX1_carryOut_43 : decode cX1_carryOut 43 = .ok (.getfield 19, 3) := by decide +kernel
theorem dX1_carryOut_46 : decode cX1_carryOut 46 = .ok (.iload_n 1, 1) := by decide +kernel
theorem dX1_carryOut_47 : decode cX1_carryOut 47 = .ok (.iconst 3, 1) := by decide +kernel
theorem dX1_carryOut_48 : decode cX1_carryOut 48 = .ok (.imul, 1) := by decide +kernel
theorem dX1_carryOut_49 : decode cX1_carryOut 49 = .ok (.iconst 1, 1) := by decide +kernel
theorem dX1_carryOut_50 : decode cX1_carryOut 50 = .ok (.iadd, 1) := by decide +kernel
theorem dX1_carryOut_51 : decode cX1_carryOut 51 = .ok (.iaload, 1) := by decide +kernel
theorem dX1_carryOut_52 : decode cX1_carryOut 52 = .ok (.iadd, 1) := by decide +kernel
theorem dX1_carryOut_53 : decode cX1_carryOut 53 = .ok (.iaload, 1) := by decide +kernel
theorem dX1_carryOut_54 : decode cX1_carryOut 54 = .ok (.istore 4, 2) := by decide +kernel
theorem dX1_carryOut_56 : decode cX1_carryOut 56 = .ok (.aload_n 0, 1) := by decide +kernel
theorem dX1_carryOut_57 : decode cX1_carryOut 57 = .ok (.getfield 22, 3) := by decide +kernel
theorem dX1_carryOut_60 : decode cX1_carryOut 60 = .ok (.aload_n 0, 1) := by decide +kernel
theorem dX1_carryOut_61 : decode cX1_carryOut 61 = .ok (.getfield 16, 3) := by decide +kernel
theorem dX1_carryOut_64 : decode cX1_carryOut 64 = .ok (.iload_n 1, 1) := by decide +kernel
theorem dX1_carryOut_65 : decode cX1_carryOut 65 = .ok (.iconst 3, 1) := by decide +kernel
theorem dX1_carryOut_66 : decode cX1_carryOut 66 = .ok (.imul, 1) := by decide +kernel
theorem dX1_carryOut_67 : decode cX1_carryOut 67 = .ok (.iconst 2, 1) := by decide +kernel
theorem dX1_carryOut_68 : decode cX1_carryOut 68 = .ok (.iadd, 1) := by decide +kernel
theorem dX1_carryOut_69 : decode cX1_carryOut 69 = .ok (.iaload, 1) := by decide +kernel
theorem dX1_carryOut_70 : decode cX1_carryOut 70 = .ok (.bipush 32, 2) := by decide +kernel
theorem dX1_carryOut_72 : decode cX1_carryOut 72 = .ok (.imul, 1) := by decide +kernel
theorem dX1_carryOut_73 : decode cX1_carryOut 73 = .ok (.iload_n 2, 1) := by decide +kernel
theorem dX1_carryOut_74 : decode cX1_carryOut 74 = .ok (.iadd, 1) := by decide +kernel
theorem dX1_carryOut_75 : decode cX1_carryOut 75 = .ok (.aload_n 0, 1) := by decide +kernel
theorem dX1_carryOut_76 : decode cX1_carryOut 76 = .ok (.getfield 19, 3) := by decide +kernel
theorem dX1_carryOut_79 : decode cX1_carryOut 79 = .ok (.iload_n 1, 1) := by decide +kernel
theorem dX1_carryOut_80 : decode cX1_carryOut 80 = .ok (.iconst 3, 1) := by decide +kernel
theorem dX1_carryOut_81 : decode cX1_carryOut 81 = .ok (.imul, 1) := by decide +kernel
theorem dX1_carryOut_82 : decode cX1_carryOut 82 = .ok (.iconst 2, 1) := by decide +kernel
theorem dX1_carryOut_83 : decode cX1_carryOut 83 = .ok (.iadd, 1) := by decide +kernel
theorem dX1_carryOut_84 : decode cX1_carryOut 84 = .ok (.iaload, 1) := by decide +kernel
theorem dX1_carryOut_85 : decode cX1_carryOut 85 = .ok (.iadd, 1) := by decide +kernel
theorem dX1_carryOut_86 : decode cX1_carryOut 86 = .ok (.iaload, 1) := by decide +kernel
theorem dX1_carryOut_87 : decode cX1_carryOut 87 = .ok (.istore 5, 2) := by decide +kernel
theorem dX1_carryOut_89 : decode cX1_carryOut 89 = .ok (.aload_n 0, 1) := by decide +kernel
theorem dX1_carryOut_90 : decode cX1_carryOut 90 = .ok (.getfield 7, 3) := by decide +kernel
theorem dX1_carryOut_93 : decode cX1_carryOut 93 = .ok (.iload_n 1, 1) := by decide +kernel
theorem dX1_carryOut_94 : decode cX1_carryOut 94 = .ok (.iaload, 1) := by decide +kernel
theorem dX1_carryOut_95 : decode cX1_carryOut 95 = .ok (.istore 6, 2) := by decide +kernel
theorem dX1_carryOut_97 : decode cX1_carryOut 97 = .ok (.aload_n 0, 1) := by decide +kernel
theorem dX1_carryOut_98 : decode cX1_carryOut 98 = .ok (.getfield 13, 3) := by decide +kernel
theorem dX1_carryOut_101 : decode cX1_carryOut 101 = .ok (.iload_n 1, 1) := by decide +kernel
theorem dX1_carryOut_102 : decode cX1_carryOut 102 = .ok (.iaload, 1) := by decide +kernel
theorem dX1_carryOut_103 : decode cX1_carryOut 103 = .ok (.istore 7, 2) := by decide +kernel
theorem dX1_carryOut_105 : decode cX1_carryOut 105 = .ok (.iload 6, 2) := by decide +kernel
theorem dX1_carryOut_107 : decode cX1_carryOut 107 = .ok (.ifCond .ne 17, 3) := by decide +kernel
theorem dX1_carryOut_110 : decode cX1_carryOut 110 = .ok (.aload_n 0, 1) := by decide +kernel
theorem dX1_carryOut_111 : decode cX1_carryOut 111 = .ok (.getfield 22, 3) := by decide +kernel
theorem dX1_carryOut_114 : decode cX1_carryOut 114 = .ok (.iload_n 3, 1) := by decide +kernel
theorem dX1_carryOut_115 : decode cX1_carryOut 115 = .ok (.iload 4, 2) := by decide +kernel
theorem dX1_carryOut_117 : decode cX1_carryOut 117 = .ok (.iload 5, 2) := by decide +kernel
theorem dX1_carryOut_119 : decode cX1_carryOut 119 = .ok (.iadd, 1) := by decide +kernel
theorem dX1_carryOut_120 : decode cX1_carryOut 120 = .ok (.iastore, 1) := by decide +kernel
theorem dX1_carryOut_121 : decode cX1_carryOut 121 = .ok (.goto 120, 3) := by decide +kernel
theorem dX1_carryOut_124 : decode cX1_carryOut 124 = .ok (.iload 6, 2) := by decide +kernel
theorem dX1_carryOut_126 : decode cX1_carryOut 126 = .ok (.iconst 1, 1) := by decide +kernel
theorem dX1_carryOut_127 : decode cX1_carryOut 127 = .ok (.if_icmp .ne 17, 3) := by decide +kernel
theorem dX1_carryOut_130 : decode cX1_carryOut 130 = .ok (.aload_n 0, 1) := by decide +kernel
theorem dX1_carryOut_131 : decode cX1_carryOut 131 = .ok (.getfield 22, 3) := by decide +kernel
theorem dX1_carryOut_134 : decode cX1_carryOut 134 = .ok (.iload_n 3, 1) := by decide +kernel
theorem dX1_carryOut_135 : decode cX1_carryOut 135 = .ok (.iload 4, 2) := by decide +kernel
theorem dX1_carryOut_137 : decode cX1_carryOut 137 = .ok (.iload 5, 2) := by decide +kernel
theorem dX1_carryOut_139 : decode cX1_carryOut 139 = .ok (.isub, 1) := by decide +kernel
theorem dX1_carryOut_140 : decode cX1_carryOut 140 = .ok (.iastore, 1) := by decide +kernel
theorem dX1_carryOut_141 : decode cX1_carryOut 141 = .ok (.goto 100, 3) := by decide +kernel
theorem dX1_carryOut_144 : decode cX1_carryOut 144 = .ok (.iload 6, 2) := by decide +kernel
theorem dX1_carryOut_146 : decode cX1_carryOut 146 = .ok (.iconst 2, 1) := by decide +kernel
theorem dX1_carryOut_147 : decode cX1_carryOut 147 = .ok (.if_icmp .ne 17, 3) := by decide +kernel
theorem dX1_carryOut_150 : decode cX1_carryOut 150 = .ok (.aload_n 0, 1) := by decide +kernel
theorem dX1_carryOut_151 : decode cX1_carryOut 151 = .ok (.getfield 22, 3) := by decide +kernel
theorem dX1_carryOut_154 : decode cX1_carryOut 154 = .ok (.iload_n 3, 1) := by decide +kernel
theorem dX1_carryOut_155 : decode cX1_carryOut 155 = .ok (.iload 4, 2) := by decide +kernel
theorem dX1_carryOut_157 : decode cX1_carryOut 157 = .ok (.iload 5, 2) := by decide +kernel
theorem dX1_carryOut_159 : decode cX1_carryOut 159 = .ok (.imul, 1) := by decide +kernel
theorem dX1_carryOut_160 : decode cX1_carryOut 160 = .ok (.iastore, 1) := by decide +kernel
theorem dX1_carryOut_161 : decode cX1_carryOut 161 = .ok (.goto 80, 3) := by decide +kernel
theorem dX1_carryOut_164 : decode cX1_carryOut 164 = .ok (.iload 6, 2) := by decide +kernel
theorem dX1_carryOut_166 : decode cX1_carryOut 166 = .ok (.iconst 3, 1) := by decide +kernel
theorem dX1_carryOut_167 : decode cX1_carryOut 167 = .ok (.if_icmp .ne 26, 3) := by decide +kernel
theorem dX1_carryOut_170 : decode cX1_carryOut 170 = .ok (.aload_n 0, 1) := by decide +kernel
theorem dX1_carryOut_171 : decode cX1_carryOut 171 = .ok (.getfield 22, 3) := by decide +kernel
theorem dX1_carryOut_174 : decode cX1_carryOut 174 = .ok (.iload_n 3, 1) := by decide +kernel
theorem dX1_carryOut_175 : decode cX1_carryOut 175 = .ok (.iload 4, 2) := by decide +kernel
theorem dX1_carryOut_177 : decode cX1_carryOut 177 = .ok (.iload 5, 2) := by decide +kernel
theorem dX1_carryOut_179 : decode cX1_carryOut 179 = .ok (.if_icmp .ge 8, 3) := by decide +kernel
theorem dX1_carryOut_182 : decode cX1_carryOut 182 = .ok (.iload 4, 2) := by decide +kernel
theorem dX1_carryOut_184 : decode cX1_carryOut 184 = .ok (.goto 5, 3) := by decide +kernel
theorem dX1_carryOut_187 : decode cX1_carryOut 187 = .ok (.iload 5, 2) := by decide +kernel
theorem dX1_carryOut_189 : decode cX1_carryOut 189 = .ok (.iastore, 1) := by decide +kernel
theorem dX1_carryOut_190 : decode cX1_carryOut 190 = .ok (.goto 51, 3) := by decide +kernel
theorem dX1_carryOut_193 : decode cX1_carryOut 193 = .ok (.iload 6, 2) := by decide +kernel
theorem dX1_carryOut_195 : decode cX1_carryOut 195 = .ok (.iconst 4, 1) := by decide +kernel
theorem dX1_carryOut_196 : decode cX1_carryOut 196 = .ok (.if_icmp .ne 17, 3) := by decide +kernel
theorem dX1_carryOut_199 : decode cX1_carryOut 199 = .ok (.aload_n 0, 1) := by decide +kernel
theorem dX1_carryOut_200 : decode cX1_carryOut 200 = .ok (.getfield 22, 3) := by decide +kernel
theorem dX1_carryOut_203 : decode cX1_carryOut 203 = .ok (.iload_n 3, 1) := by decide +kernel
theorem dX1_carryOut_204 : decode cX1_carryOut 204 = .ok (.iload 4, 2) := by decide +kernel
theorem dX1_carryOut_206 : decode cX1_carryOut 206 = .ok (.iload 7, 2) := by decide +kernel
theorem dX1_carryOut_208 : decode cX1_carryOut 208 = .ok (.iadd, 1) := by decide +kernel
theorem dX1_carryOut_209 : decode cX1_carryOut 209 = .ok (.iastore, 1) := by decide +kernel
theorem dX1_carryOut_210 : decode cX1_carryOut 210 = .ok (.goto 31, 3) := by decide +kernel
theorem dX1_carryOut_213 : decode cX1_carryOut 213 = .ok (.iload 6, 2) := by decide +kernel
theorem dX1_carryOut_215 : decode cX1_carryOut 215 = .ok (.iconst 5, 1) := by decide +kernel
theorem dX1_carryOut_216 : decode cX1_carryOut 216 = .ok (.if_icmp .ne 14, 3) := by decide +kernel
theorem dX1_carryOut_219 : decode cX1_carryOut 219 = .ok (.aload_n 0, 1) := by decide +kernel
theorem dX1_carryOut_220 : decode cX1_carryOut 220 = .ok (.getfield 22, 3) := by decide +kernel
theorem dX1_carryOut_223 : decode cX1_carryOut 223 = .ok (.iload_n 3, 1) := by decide +kernel
theorem dX1_carryOut_224 : decode cX1_carryOut 224 = .ok (.iload 7, 2) := by decide +kernel
theorem dX1_carryOut_226 : decode cX1_carryOut 226 = .ok (.iastore, 1) := by decide +kernel
theorem dX1_carryOut_227 : decode cX1_carryOut 227 = .ok (.goto 14, 3) := by decide +kernel
theorem dX1_carryOut_230 : decode cX1_carryOut 230 = .ok (.aload_n 0, 1) := by decide +kernel
theorem dX1_carryOut_231 : decode cX1_carryOut 231 = .ok (.getfield 22, 3) := by decide +kernel
theorem dX1_carryOut_234 : decode cX1_carryOut 234 = .ok (.iload_n 3, 1) := by decide +kernel
theorem dX1_carryOut_235 : decode cX1_carryOut 235 = .ok (.iload 4, 2) := by decide +kernel
theorem dX1_carryOut_237 : decode cX1_carryOut 237 = .ok (.iload 7, 2) := by decide +kernel
theorem dX1_carryOut_239 : decode cX1_carryOut 239 = .ok (.imul, 1) := by decide +kernel
theorem dX1_carryOut_240 : decode cX1_carryOut 240 = .ok (.iastore, 1) := by decide +kernel
theorem dX1_carryOut_241 : decode cX1_carryOut 241 = .ok (.return_, 1) := by decide +kernel
theorem dX1_get_0 : decode cX1_get 0 = .ok (.aload_n 0, 1) := by decide +kernel
theorem dX1_get_1 : decode cX1_get 1 = .ok (.iload_n 1, 1) := by decide +kernel
theorem dX1_get_2 : decode cX1_get 2 = .ok (.invokevirtual 33, 3) := by decide +kernel
theorem dX1_get_5 : decode cX1_get 5 = .ok (.ifCond .ne 11, 3) := by decide +kernel
theorem dX1_get_8 : decode cX1_get 8 = .ok (.aload_n 0, 1) := by decide +kernel
theorem dX1_get_9 : decode cX1_get 9 = .ok (.iload_n 2, 1) := by decide +kernel
theorem dX1_get_10 : decode cX1_get 10 = .ok (.invokevirtual 36, 3) := by decide +kernel
theorem dX1_get_13 : decode cX1_get 13 = .ok (.ifCond .eq 7, 3) := by decide +kernel
theorem dX1_get_16 : decode cX1_get 16 = .ok (.iconst 0, 1) := by decide +kernel
theorem dX1_get_17 : decode cX1_get 17 = .ok (.goto 14, 3) := by decide +kernel
theorem dX1_get_20 : decode cX1_get 20 = .ok (.aload_n 0, 1) := by decide +kernel
theorem dX1_get_21 : decode cX1_get 21 = .ok (.getfield 22, 3) := by decide +kernel
theorem dX1_get_24 : decode cX1_get 24 = .ok (.iload_n 1, 1) := by decide +kernel
theorem dX1_get_25 : decode cX1_get 25 = .ok (.bipush 32, 2) := by decide +kernel
theorem dX1_get_27 : decode cX1_get 27 = .ok (.imul, 1) := by decide +kernel
theorem dX1_get_28 : decode cX1_get 28 = .ok (.iload_n 2, 1) := by decide +kernel
theorem dX1_get_29 : decode cX1_get 29 = .ok (.iadd, 1) := by decide +kernel
theorem dX1_get_30 : decode cX1_get 30 = .ok (.iaload, 1) := by decide +kernel
theorem dX1_get_31 : decode cX1_get 31 = .ok (.ireturn, 1) := by decide +kernel
theorem dX1_sum_0 : decode cX1_sum 0 = .ok (.iconst 0, 1) := by decide +kernel
theorem dX1_sum_1 : decode cX1_sum 1 = .ok (.istore_n 2, 1) := by decide +kernel
theorem dX1_sum_2 : decode cX1_sum 2 = .ok (.iconst 0, 1) := by decide +kernel
theorem dX1_sum_3 : decode cX1_sum 3 = .ok (.istore_n 3, 1) := by decide +kernel
theorem dX1_sum_4 : decode cX1_sum 4 = .ok (.iload_n 3, 1) := by decide +kernel
theorem dX1_sum_5 : decode cX1_sum 5 = .ok (.bipush 32, 2) := by decide +kernel
theorem dX1_sum_7 : decode cX1_sum 7 = .ok (.if_icmp .ge 31, 3) := by decide +kernel
theorem dX1_sum_10 : decode cX1_sum 10 = .ok (.aload_n 0, 1) := by decide +kernel
theorem dX1_sum_11 : decode cX1_sum 11 = .ok (.iload_n 1, 1) := by decide +kernel
theorem dX1_sum_12 : decode cX1_sum 12 = .ok (.invokevirtual 33, 3) := by decide +kernel
theorem dX1_sum_15 : decode cX1_sum 15 = .ok (.ifCond .ne 17, 3) := by decide +kernel
theorem dX1_sum_18 : decode cX1_sum 18 = .ok (.iload_n 2, 1) := by decide +kernel
theorem dX1_sum_19 : decode cX1_sum 19 = .ok (.aload_n 0, 1) := by decide +kernel
theorem dX1_sum_20 : decode cX1_sum 20 = .ok (.getfield 22, 3) := by decide +kernel
theorem dX1_sum_23 : decode cX1_sum 23 = .ok (.iload_n 1, 1) := by decide +kernel
theorem dX1_sum_24 : decode cX1_sum 24 = .ok (.bipush 32, 2) := by decide +kernel
theorem dX1_sum_26 : decode cX1_sum 26 = .ok (.imul, 1) := by decide +kernel
theorem dX1_sum_27 : decode cX1_sum 27 = .ok (.iload_n 3, 1) := by decide +kernel
theorem dX1_sum_28 : decode cX1_sum 28 = .ok (.iadd, 1) := by decide +kernel
theorem dX1_sum_29 : decode cX1_sum 29 = .ok (.iaload, 1) := by decide +kernel
theorem dX1_sum_30 : decode cX1_sum 30 = .ok (.iadd, 1) := by decide +kernel
theorem dX1_sum_31 : decode cX1_sum 31 = .ok (.istore_n 2, 1) := by decide +kernel
theorem dX1_sum_32 : decode cX1_sum 32 = .ok (.iinc 3 1, 3) := by decide +kernel
theorem dX1_sum_35 : decode cX1_sum 35 = .ok (.goto (-31), 3) := by decide +kernel
theorem dX1_sum_38 : decode cX1_sum 38 = .ok (.iload_n 2, 1) := by decide +kernel
theorem dX1_sum_39 : decode cX1_sum 39 = .ok (.ireturn, 1) := by decide +kernel
theorem dX1_differ_0 : decode cX1_differ 0 = .ok (.aload_n 0, 1) := by decide +kernel
theorem dX1_differ_1 : decode cX1_differ 1 = .ok (.iload_n 1, 1) := by decide +kernel
theorem dX1_differ_2 : decode cX1_differ 2 = .ok (.invokevirtual 33, 3) := by decide +kernel
theorem dX1_differ_5 : decode cX1_differ 5 = .ok (.ifCond .ne 11, 3) := by decide +kernel
theorem dX1_differ_8 : decode cX1_differ 8 = .ok (.aload_n 0, 1) := by decide +kernel
theorem dX1_differ_9 : decode cX1_differ 9 = .ok (.iload_n 2, 1) := by decide +kernel
theorem dX1_differ_10 : decode cX1_differ 10 = .ok (.invokevirtual 33, 3) := by decide +kernel
theorem dX1_differ_13 : decode cX1_differ 13 = .ok (.ifCond .eq 5, 3) := by decide +kernel
theorem dX1_differ_16 : decode cX1_differ 16 = .ok (.iconst (-1), 1) := by decide +kernel
theorem dX1_differ_17 : decode cX1_differ 17 = .ok (.ireturn, 1) := by decide +kernel
theorem dX1_differ_18 : decode cX1_differ 18 = .ok (.iconst 0, 1) := by decide +kernel
theorem dX1_differ_19 : decode cX1_differ 19 = .ok (.istore_n 3, 1) := by decide +kernel
theorem dX1_differ_20 : decode cX1_differ 20 = .ok (.iconst 0, 1) := by decide +kernel
theorem dX1_differ_21 : decode cX1_differ 21 = .ok (.istore 4, 2) := by decide +kernel
theorem dX1_differ_23 : decode cX1_differ 23 = .ok (.iload 4, 2) := by decide +kernel
theorem dX1_differ_25 : decode cX1_differ 25 = .ok (.bipush 32, 2) := by decide +kernel
theorem dX1_differ_27 : decode cX1_differ 27 = .ok (.if_icmp .ge 39, 3) := by decide +kernel
theorem dX1_differ_30 : decode cX1_differ 30 = .ok (.aload_n 0, 1) := by decide +kernel
theorem dX1_differ_31 : decode cX1_differ 31 = .ok (.getfield 22, 3) := by decide +kernel
theorem dX1_differ_34 : decode cX1_differ 34 = .ok (.iload_n 1, 1) := by decide +kernel
theorem dX1_differ_35 : decode cX1_differ 35 = .ok (.bipush 32, 2) := by decide +kernel
theorem dX1_differ_37 : decode cX1_differ 37 = .ok (.imul, 1) := by decide +kernel
theorem dX1_differ_38 : decode cX1_differ 38 = .ok (.iload 4, 2) := by decide +kernel
theorem dX1_differ_40 : decode cX1_differ 40 = .ok (.iadd, 1) := by decide +kernel
theorem dX1_differ_41 : decode cX1_differ 41 = .ok (.iaload, 1) := by decide +kernel
theorem dX1_differ_42 : decode cX1_differ 42 = .ok (.aload_n 0, 1) := by decide +kernel
theorem dX1_differ_43 : decode cX1_differ 43 = .ok (.getfield 22, 3) := by decide +kernel
theorem dX1_differ_46 : decode cX1_differ 46 = .ok (.iload_n 2, 1) := by decide +kernel
theorem dX1_differ_47 : decode cX1_differ 47 = .ok (.bipush 32, 2) := by decide +kernel
theorem dX1_differ_49 : decode cX1_differ 49 = .ok (.imul, 1) := by decide +kernel
theorem dX1_differ_50 : decode cX1_differ 50 = .ok (.iload 4, 2) := by decide +kernel
theorem dX1_differ_52 : decode cX1_differ 52 = .ok (.iadd, 1) := by decide +kernel
theorem dX1_differ_53 : decode cX1_differ 53 = .ok (.iaload, 1) := by decide +kernel
theorem dX1_differ_54 : decode cX1_differ 54 = .ok (.if_icmp .eq 6, 3) := by decide +kernel
theorem dX1_differ_57 : decode cX1_differ 57 = .ok (.iinc 3 1, 3) := by decide +kernel
theorem dX1_differ_60 : decode cX1_differ 60 = .ok (.iinc 4 1, 3) := by decide +kernel
theorem dX1_differ_63 : decode cX1_differ 63 = .ok (.goto (-40), 3) := by decide +kernel
theorem dX1_differ_66 : decode cX1_differ 66 = .ok (.iload_n 3, 1) := by decide +kernel
theorem dX1_differ_67 : decode cX1_differ 67 = .ok (.ireturn, 1) := by decide +kernel
theorem dX1_size_0 : decode cX1_size 0 = .ok (.aload_n 0, 1) := by decide +kernel
theorem dX1_size_1 : decode cX1_size 1 = .ok (.getfield 25, 3) := by decide +kernel
theorem dX1_size_4 : decode cX1_size 4 = .ok (.ireturn, 1) := by decide +kernel
theorem dX1_mustPrecede_0 : decode cX1_mustPrecede 0 = .ok (.aload_n 0, 1) := by decide +kernel
theorem dX1_mustPrecede_1 : decode cX1_mustPrecede 1 = .ok (.iload_n 1, 1) := by decide +kernel
theorem dX1_mustPrecede_2 : decode cX1_mustPrecede 2 = .ok (.invokevirtual 29, 3) := by decide +kernel
theorem dX1_mustPrecede_5 : decode cX1_mustPrecede 5 = .ok (.ifCond .ne 30, 3) := by decide +kernel
theorem dX1_mustPrecede_8 : decode cX1_mustPrecede 8 = .ok (.aload_n 0, 1) := by decide +kernel
theorem dX1_mustPrecede_9 : decode cX1_mustPrecede 9 = .ok (.iload_n 2, 1) := by decide +kernel
theorem dX1_mustPrecede_10 : decode cX1_mustPrecede 10 = .ok (.invokevirtual 29, 3) := by decide +kernel
theorem dX1_mustPrecede_13 : decode cX1_mustPrecede 13 = .ok (.ifCond .ne 22, 3) := by decide +kernel
theorem dX1_mustPrecede_16 : decode cX1_mustPrecede 16 = .ok (.iload_n 3, 1) := by decide +kernel
theorem dX1_mustPrecede_17 : decode cX1_mustPrecede 17 = .ok (.ifCond .lt 18, 3) := by decide +kernel
theorem dX1_mustPrecede_20 : decode cX1_mustPrecede 20 = .ok (.iload_n 3, 1) := by decide +kernel
theorem dX1_mustPrecede_21 : decode cX1_mustPrecede 21 = .ok (.bipush 8, 2) := by decide +kernel
theorem dX1_mustPrecede_23 : decode cX1_mustPrecede 23 = .ok (.if_icmp .gt 12, 3) := by decide +kernel
theorem dX1_mustPrecede_26 : decode cX1_mustPrecede 26 = .ok (.iload_n 3, 1) := by decide +kernel
theorem dX1_mustPrecede_27 : decode cX1_mustPrecede 27 = .ok (.ifCond .ne 10, 3) := by decide +kernel
theorem dX1_mustPrecede_30 : decode cX1_mustPrecede 30 = .ok (.iload_n 1, 1) := by decide +kernel
theorem dX1_mustPrecede_31 : decode cX1_mustPrecede 31 = .ok (.iload_n 2, 1) := by decide +kernel
theorem dX1_mustPrecede_32 : decode cX1_mustPrecede 32 = .ok (.if_icmp .lt 5, 3) := by decide +kernel
theorem dX1_mustPrecede_35 : decode cX1_mustPrecede 35 = .ok (.iconst 0, 1) := by decide +kernel
theorem dX1_mustPrecede_36 : decode cX1_mustPrecede 36 = .ok (.ireturn, 1) := by decide +kernel
theorem dX1_mustPrecede_37 : decode cX1_mustPrecede 37 = .ok (.iconst 0, 1) := by decide +kernel
theorem dX1_mustPrecede_38 : decode cX1_mustPrecede 38 = .ok (.istore 4, 2) := by decide +kernel
theorem dX1_mustPrecede_40 : decode cX1_mustPrecede 40 = .ok (.iload 4, 2) := by decide +kernel
theorem dX1_mustPrecede_42 : decode cX1_mustPrecede 42 = .ok (.iconst 3, 1) := by decide +kernel
theorem dX1_mustPrecede_43 : decode cX1_mustPrecede 43 = .ok (.if_icmp .ge 120, 3) := by decide +kernel
theorem dX1_mustPrecede_46 : decode cX1_mustPrecede 46 = .ok (.iconst 0, 1) := by decide +kernel
theorem dX1_mustPrecede_47 : decode cX1_mustPrecede 47 = .ok (.istore 5, 2) := by decide +kernel
theorem dX1_mustPrecede_49 : decode cX1_mustPrecede 49 = .ok (.iload 5, 2) := by decide +kernel
theorem dX1_mustPrecede_51 : decode cX1_mustPrecede 51 = .ok (.iconst 3, 1) := by decide +kernel
theorem dX1_mustPrecede_52 : decode cX1_mustPrecede 52 = .ok (.if_icmp .ge 105, 3) := by decide +kernel
theorem dX1_mustPrecede_55 : decode cX1_mustPrecede 55 = .ok (.aload_n 0, 1) := by decide +kernel
theorem dX1_mustPrecede_56 : decode cX1_mustPrecede 56 = .ok (.getfield 16, 3) := by decide +kernel
theorem dX1_mustPrecede_59 : decode cX1_mustPrecede 59 = .ok (.iload_n 1, 1) := by decide +kernel
theorem dX1_mustPrecede_60 : decode cX1_mustPrecede 60 = .ok (.iconst 3, 1) := by decide +kernel
theorem dX1_mustPrecede_61 : decode cX1_mustPrecede 61 = .ok (.imul, 1) := by decide +kernel
theorem dX1_mustPrecede_62 : decode cX1_mustPrecede 62 = .ok (.iload 4, 2) := by decide +kernel
theorem dX1_mustPrecede_64 : decode cX1_mustPrecede 64 = .ok (.iadd, 1) := by decide +kernel
theorem dX1_mustPrecede_65 : decode cX1_mustPrecede 65 = .ok (.iaload, 1) := by decide +kernel
theorem dX1_mustPrecede_66 : decode cX1_mustPrecede 66 = .ok (.aload_n 0, 1) := by decide +kernel
theorem dX1_mustPrecede_67 : decode cX1_mustPrecede 67 = .ok (.getfield 16, 3) := by decide +kernel
theorem dX1_mustPrecede_70 : decode cX1_mustPrecede 70 = .ok (.iload_n 2, 1) := by decide +kernel
theorem dX1_mustPrecede_71 : decode cX1_mustPrecede 71 = .ok (.iconst 3, 1) := by decide +kernel
theorem dX1_mustPrecede_72 : decode cX1_mustPrecede 72 = .ok (.imul, 1) := by decide +kernel
theorem dX1_mustPrecede_73 : decode cX1_mustPrecede 73 = .ok (.iload 5, 2) := by decide +kernel
theorem dX1_mustPrecede_75 : decode cX1_mustPrecede 75 = .ok (.iadd, 1) := by decide +kernel
theorem dX1_mustPrecede_76 : decode cX1_mustPrecede 76 = .ok (.iaload, 1) := by decide +kernel
theorem dX1_mustPrecede_77 : decode cX1_mustPrecede 77 = .ok (.if_icmp .ne 34, 3) := by decide +kernel
theorem dX1_mustPrecede_80 : decode cX1_mustPrecede 80 = .ok (.aload_n 0, 1) := by decide +kernel
theorem dX1_mustPrecede_81 : decode cX1_mustPrecede 81 = .ok (.getfield 19, 3) := by decide +kernel
theorem dX1_mustPrecede_84 : decode cX1_mustPrecede 84 = .ok (.iload_n 1, 1) := by decide +kernel
theorem dX1_mustPrecede_85 : decode cX1_mustPrecede 85 = .ok (.iconst 3, 1) := by decide +kernel
theorem dX1_mustPrecede_86 : decode cX1_mustPrecede 86 = .ok (.imul, 1) := by decide +kernel
theorem dX1_mustPrecede_87 : decode cX1_mustPrecede 87 = .ok (.iload 4, 2) := by decide +kernel
theorem dX1_mustPrecede_89 : decode cX1_mustPrecede 89 = .ok (.iadd, 1) := by decide +kernel
theorem dX1_mustPrecede_90 : decode cX1_mustPrecede 90 = .ok (.iaload, 1) := by decide +kernel
theorem dX1_mustPrecede_91 : decode cX1_mustPrecede 91 = .ok (.iload_n 3, 1) := by decide +kernel
theorem dX1_mustPrecede_92 : decode cX1_mustPrecede 92 = .ok (.aload_n 0, 1) := by decide +kernel
theorem dX1_mustPrecede_93 : decode cX1_mustPrecede 93 = .ok (.getfield 19, 3) := by decide +kernel
theorem dX1_mustPrecede_96 : decode cX1_mustPrecede 96 = .ok (.iload_n 2, 1) := by decide +kernel
theorem dX1_mustPrecede_97 : decode cX1_mustPrecede 97 = .ok (.iconst 3, 1) := by decide +kernel
theorem dX1_mustPrecede_98 : decode cX1_mustPrecede 98 = .ok (.imul, 1) := by decide +kernel
theorem dX1_mustPrecede_99 : decode cX1_mustPrecede 99 = .ok (.iload 5, 2) := by decide +kernel
theorem dX1_mustPrecede_101 : decode cX1_mustPrecede 101 = .ok (.iadd, 1) := by decide +kernel
theorem dX1_mustPrecede_102 : decode cX1_mustPrecede 102 = .ok (.iaload, 1) := by decide +kernel
theorem dX1_mustPrecede_103 : decode cX1_mustPrecede 103 = .ok (.iadd, 1) := by decide +kernel
theorem dX1_mustPrecede_104 : decode cX1_mustPrecede 104 = .ok (.if_icmp .ne 7, 3) := by decide +kernel
theorem dX1_mustPrecede_107 : decode cX1_mustPrecede 107 = .ok (.iconst 1, 1) := by decide +kernel
theorem dX1_mustPrecede_108 : decode cX1_mustPrecede 108 = .ok (.goto 4, 3) := by decide +kernel
theorem dX1_mustPrecede_111 : decode cX1_mustPrecede 111 = .ok (.iconst 0, 1) := by decide +kernel
theorem dX1_mustPrecede_112 : decode cX1_mustPrecede 112 = .ok (.istore 6, 2) := by decide +kernel
theorem dX1_mustPrecede_114 : decode cX1_mustPrecede 114 = .ok (.iload 4, 2) := by decide +kernel
theorem dX1_mustPrecede_116 : decode cX1_mustPrecede 116 = .ok (.ifCond .eq 8, 3) := by decide +kernel
theorem dX1_mustPrecede_119 : decode cX1_mustPrecede 119 = .ok (.iload 5, 2) := by decide +kernel
theorem dX1_mustPrecede_121 : decode cX1_mustPrecede 121 = .ok (.ifCond .ne 30, 3) := by decide +kernel
theorem dX1_mustPrecede_124 : decode cX1_mustPrecede 124 = .ok (.aload_n 0, 1) := by decide +kernel
theorem dX1_mustPrecede_125 : decode cX1_mustPrecede 125 = .ok (.iload_n 1, 1) := by decide +kernel
theorem dX1_mustPrecede_126 : decode cX1_mustPrecede 126 = .ok (.iload 4, 2) := by decide +kernel
theorem dX1_mustPrecede_128 : decode cX1_mustPrecede 128 = .ok (.invokevirtual 43, 3) := by decide +kernel
theorem dX1_mustPrecede_131 : decode cX1_mustPrecede 131 = .ok (.ifCond .eq 20, 3) := by decide +kernel
theorem dX1_mustPrecede_134 : decode cX1_mustPrecede 134 = .ok (.aload_n 0, 1) := by decide +kernel
theorem dX1_mustPrecede_135 : decode cX1_mustPrecede 135 = .ok (.iload_n 2, 1) := by decide +kernel
theorem dX1_mustPrecede_136 : decode cX1_mustPrecede 136 = .ok (.iload 5, 2) := by decide +kernel
theorem dX1_mustPrecede_138 : decode cX1_mustPrecede 138 = .ok (.invokevirtual 43, 3) := by decide +kernel
theorem dX1_mustPrecede_141 : decode cX1_mustPrecede 141 = .ok (.ifCond .eq 10, 3) := by decide +kernel
theorem dX1_mustPrecede_144 : decode cX1_mustPrecede 144 = .ok (.iload 6, 2) := by decide +kernel
theorem dX1_mustPrecede_146 : decode cX1_mustPrecede 146 = .ok (.ifCond .eq 5, 3) := by decide +kernel
theorem dX1_mustPrecede_149 : decode cX1_mustPrecede 149 = .ok (.iconst 1, 1) := by decide +kernel
theorem dX1_mustPrecede_150 : decode cX1_mustPrecede 150 = .ok (.ireturn, 1) := by decide +kernel
theorem dX1_mustPrecede_151 : decode cX1_mustPrecede 151 = .ok (.iinc 5 1, 3) := by decide +kernel
theorem dX1_mustPrecede_154 : decode cX1_mustPrecede 154 = .ok (.goto (-105), 3) := by decide +kernel
theorem dX1_mustPrecede_157 : decode cX1_mustPrecede 157 = .ok (.iinc 4 1, 3) := by decide +kernel
theorem dX1_mustPrecede_160 : decode cX1_mustPrecede 160 = .ok (.goto (-120), 3) := by decide +kernel
theorem dX1_mustPrecede_163 : decode cX1_mustPrecede 163 = .ok (.iconst 0, 1) := by decide +kernel
theorem dX1_mustPrecede_164 : decode cX1_mustPrecede 164 = .ok (.ireturn, 1) := by decide +kernel
theorem dX1_looks_0 : decode cX1_looks 0 = .ok (.iload_n 2, 1) := by decide +kernel
theorem dX1_looks_1 : decode cX1_looks 1 = .ok (.ifCond .ne 5, 3) := by decide +kernel
theorem dX1_looks_4 : decode cX1_looks 4 = .ok (.iconst 1, 1) := by decide +kernel
theorem dX1_looks_5 : decode cX1_looks 5 = .ok (.ireturn, 1) := by decide +kernel
theorem dX1_looks_6 : decode cX1_looks 6 = .ok (.iload_n 2, 1) := by decide +kernel
theorem dX1_looks_7 : decode cX1_looks 7 = .ok (.iconst 1, 1) := by decide +kernel
theorem dX1_looks_8 : decode cX1_looks 8 = .ok (.if_icmp .ne 21, 3) := by decide +kernel
theorem dX1_looks_11 : decode cX1_looks 11 = .ok (.aload_n 0, 1) := by decide +kernel
theorem dX1_looks_12 : decode cX1_looks 12 = .ok (.getfield 7, 3) := by decide +kernel
theorem dX1_looks_15 : decode cX1_looks 15 = .ok (.iload_n 1, 1) := by decide +kernel
theorem dX1_looks_16 : decode cX1_looks 16 = .ok (.iaload, 1) := by decide +kernel
theorem dX1_looks_17 : decode cX1_looks 17 = .ok (.iconst 5, 1) := by decide +kernel
theorem dX1_looks_18 : decode cX1_looks 18 = .ok (.if_icmp .eq 7, 3) := by decide +kernel
theorem dX1_looks_21 : decode cX1_looks 21 = .ok (.iconst 1, 1) := by decide +kernel
theorem dX1_looks_22 : decode cX1_looks 22 = .ok (.goto 22, 3) := by decide +kernel
theorem dX1_looks_25 : decode cX1_looks 25 = .ok (.iconst 0, 1) := by decide +kernel
theorem dX1_looks_26 : decode cX1_looks 26 = .ok (.goto 18, 3) := by decide +kernel
theorem dX1_looks_29 : decode cX1_looks 29 = .ok (.aload_n 0, 1) := by decide +kernel
theorem dX1_looks_30 : decode cX1_looks 30 = .ok (.getfield 7, 3) := by decide +kernel
theorem dX1_looks_33 : decode cX1_looks 33 = .ok (.iload_n 1, 1) := by decide +kernel
theorem dX1_looks_34 : decode cX1_looks 34 = .ok (.iaload, 1) := by decide +kernel
theorem dX1_looks_35 : decode cX1_looks 35 = .ok (.iconst 4, 1) := by decide +kernel
theorem dX1_looks_36 : decode cX1_looks 36 = .ok (.if_icmp .ge 7, 3) := by decide +kernel
theorem dX1_looks_39 : decode cX1_looks 39 = .ok (.iconst 1, 1) := by decide +kernel
theorem dX1_looks_40 : decode cX1_looks 40 = .ok (.goto 4, 3) := by decide +kernel
theorem dX1_looks_43 : decode cX1_looks 43 = .ok (.iconst 0, 1) := by decide +kernel
theorem dX1_looks_44 : decode cX1_looks 44 = .ok (.ireturn, 1) := by decide +kernel
end
section
set_option maxRecDepth 100000
theorem dL_law_0 : decode cL_law 0 = .ok (.new 7, 3) := by decide +kernel
theorem dL_law_3 : decode cL_law 3 = .ok (.dup, 1) := by decide +kernel
theorem dL_law_4 : decode cL_law 4 = .ok (.invokespecial 9, 3) := by decide +kernel
theorem dL_law_7 : decode cL_law 7 = .ok (.astore_n 1, 1) := by decide +kernel
theorem dL_law_8 : decode cL_law 8 = .ok (.new 10, 3) := by decide +kernel
theorem dL_law_11 : decode cL_law 11 = .ok (.dup, 1) := by decide +kernel
theorem dL_law_12 : decode cL_law 12 = .ok (.invokespecial 12, 3) := by decide +kernel
theorem dL_law_15 : decode cL_law 15 = .ok (.astore_n 2, 1) := by decide +kernel
theorem dL_law_16 : decode cL_law 16 = .ok (.iconst 0, 1) := by decide +kernel
theorem dL_law_17 : decode cL_law 17 = .ok (.istore_n 3, 1) := by decide +kernel
theorem dL_law_18 : decode cL_law 18 = .ok (.iload_n 3, 1) := by decide +kernel
theorem dL_law_19 : decode cL_law 19 = .ok (.aload_n 0, 1) := by decide +kernel
theorem dL_law_20 : decode cL_law 20 = .ok (.arraylength, 1) := by decide +kernel
theorem dL_law_21 : decode cL_law 21 = .ok (.iconst 5, 1) := by decide +kernel
theorem dL_law_22 : decode cL_law 22 = .ok (.isub, 1) := by decide +kernel
theorem dL_law_23 : decode cL_law 23 = .ok (.if_icmp .gt 436, 3) := by decide +kernel
theorem dL_law_26 : decode cL_law 26 = .ok (.aload_n 0, 1) := by decide +kernel
theorem dL_law_27 : decode cL_law 27 = .ok (.iload_n 3, 1) := by decide +kernel
theorem dL_law_28 : decode cL_law 28 = .ok (.iaload, 1) := by decide +kernel
theorem dL_law_29 : decode cL_law 29 = .ok (.bipush 15, 2) := by decide +kernel
theorem dL_law_31 : decode cL_law 31 = .ok (.iand, 1) := by decide +kernel
theorem dL_law_32 : decode cL_law 32 = .ok (.tableswitch 421 0 10 #[60, 113, 124, 157, 200, 243, 276, 309, 332, 365, 378], 60) := by decide +kernel
theorem dL_law_92 : decode cL_law 92 = .ok (.aload_n 1, 1) := by decide +kernel
theorem dL_law_93 : decode cL_law 93 = .ok (.aload_n 0, 1) := by decide +kernel
theorem dL_law_94 : decode cL_law 94 = .ok (.iload_n 3, 1) := by decide +kernel
theorem dL_law_95 : decode cL_law 95 = .ok (.iconst 1, 1) := by decide +kernel
theorem dL_law_96 : decode cL_law 96 = .ok (.iadd, 1) := by decide +kernel
theorem dL_law_97 : decode cL_law 97 = .ok (.iaload, 1) := by decide +kernel
theorem dL_law_98 : decode cL_law 98 = .ok (.aload_n 0, 1) := by decide +kernel
theorem dL_law_99 : decode cL_law 99 = .ok (.iload_n 3, 1) := by decide +kernel
theorem dL_law_100 : decode cL_law 100 = .ok (.iconst 2, 1) := by decide +kernel
theorem dL_law_101 : decode cL_law 101 = .ok (.iadd, 1) := by decide +kernel
theorem dL_law_102 : decode cL_law 102 = .ok (.iaload, 1) := by decide +kernel
theorem dL_law_103 : decode cL_law 103 = .ok (.aload_n 0, 1) := by decide +kernel
theorem dL_law_104 : decode cL_law 104 = .ok (.iload_n 3, 1) := by decide +kernel
theorem dL_law_105 : decode cL_law 105 = .ok (.iconst 3, 1) := by decide +kernel
theorem dL_law_106 : decode cL_law 106 = .ok (.iadd, 1) := by decide +kernel
theorem dL_law_107 : decode cL_law 107 = .ok (.iaload, 1) := by decide +kernel
theorem dL_law_108 : decode cL_law 108 = .ok (.aload_n 0, 1) := by decide +kernel
theorem dL_law_109 : decode cL_law 109 = .ok (.iload_n 3, 1) := by decide +kernel
theorem dL_law_110 : decode cL_law 110 = .ok (.iconst 4, 1) := by decide +kernel
theorem dL_law_111 : decode cL_law 111 = .ok (.iadd, 1) := by decide +kernel
theorem dL_law_112 : decode cL_law 112 = .ok (.iaload, 1) := by decide +kernel
theorem dL_law_113 : decode cL_law 113 = .ok (.invokevirtual 13, 3) := by decide +kernel
theorem dL_law_116 : decode cL_law 116 = .ok (.aload_n 2, 1) := by decide +kernel
theorem dL_law_117 : decode cL_law 117 = .ok (.aload_n 0, 1) := by decide +kernel
theorem dL_law_118 : decode cL_law 118 = .ok (.iload_n 3, 1) := by decide +kernel
theorem dL_law_119 : decode cL_law 119 = .ok (.iconst 1, 1) := by decide +kernel
theorem dL_law_120 : decode cL_law 120 = .ok (.iadd, 1) := by decide +kernel
theorem dL_law_121 : decode cL_law 121 = .ok (.iaload, 1) := by decide +kernel
theorem dL_law_122 : decode cL_law 122 = .ok (.aload_n 0, 1) := by decide +kernel
theorem dL_law_123 : decode cL_law 123 = .ok (.iload_n 3, 1) := by decide +kernel
theorem dL_law_124 : decode cL_law 124 = .ok (.iconst 2, 1) := by decide +kernel
theorem dL_law_125 : decode cL_law 125 = .ok (.iadd, 1) := by decide +kernel
theorem dL_law_126 : decode cL_law 126 = .ok (.iaload, 1) := by decide +kernel
theorem dL_law_127 : decode cL_law 127 = .ok (.aload_n 0, 1) := by decide +kernel
theorem dL_law_128 : decode cL_law 128 = .ok (.iload_n 3, 1) := by decide +kernel
theorem dL_law_129 : decode cL_law 129 = .ok (.iconst 3, 1) := by decide +kernel
theorem dL_law_130 : decode cL_law 130 = .ok (.iadd, 1) := by decide +kernel
theorem dL_law_131 : decode cL_law 131 = .ok (.iaload, 1) := by decide +kernel
theorem dL_law_132 : decode cL_law 132 = .ok (.aload_n 0, 1) := by decide +kernel
theorem dL_law_133 : decode cL_law 133 = .ok (.iload_n 3, 1) := by decide +kernel
theorem dL_law_134 : decode cL_law 134 = .ok (.iconst 4, 1) := by decide +kernel
theorem dL_law_135 : decode cL_law 135 = .ok (.iadd, 1) := by decide +kernel
theorem dL_law_136 : decode cL_law 136 = .ok (.iaload, 1) := by decide +kernel
theorem dL_law_137 : decode cL_law 137 = .ok (.invokevirtual 17, 3) := by decide +kernel
theorem dL_law_140 : decode cL_law 140 = .ok (.if_icmp .eq 313, 3) := by decide +kernel
theorem dL_law_143 : decode cL_law 143 = .ok (.iconst 0, 1) := by decide +kernel
theorem dL_law_144 : decode cL_law 144 = .ok (.ireturn, 1) := by decide +kernel
theorem dL_law_145 : decode cL_law 145 = .ok (.aload_n 1, 1) := by decide +kernel
theorem dL_law_146 : decode cL_law 146 = .ok (.invokevirtual 18, 3) := by decide +kernel
theorem dL_law_149 : decode cL_law 149 = .ok (.aload_n 2, 1) := by decide +kernel
theorem dL_law_150 : decode cL_law 150 = .ok (.invokevirtual 21, 3) := by decide +kernel
theorem dL_law_153 : decode cL_law 153 = .ok (.goto 300, 3) := by decide +kernel
theorem dL_law_156 : decode cL_law 156 = .ok (.aload_n 1, 1) := by decide +kernel
theorem dL_law_157 : decode cL_law 157 = .ok (.aload_n 0, 1) := by decide +kernel
theorem dL_law_158 : decode cL_law 158 = .ok (.iload_n 3, 1) := by decide +kernel
theorem dL_law_159 : decode cL_law 159 = .ok (.iconst 1, 1) := by decide +kernel
theorem dL_law_160 : decode cL_law 160 = .ok (.iadd, 1) := by decide +kernel
theorem dL_law_161 : decode cL_law 161 = .ok (.iaload, 1) := by decide +kernel
theorem dL_law_162 : decode cL_law 162 = .ok (.aload_n 0, 1) := by decide +kernel
theorem dL_law_163 : decode cL_law 163 = .ok (.iload_n 3, 1) := by decide +kernel
theorem dL_law_164 : decode cL_law 164 = .ok (.iconst 2, 1) := by decide +kernel
theorem dL_law_165 : decode cL_law 165 = .ok (.iadd, 1) := by decide +kernel
theorem dL_law_166 : decode cL_law 166 = .ok (.iaload, 1) := by decide +kernel
theorem dL_law_167 : decode cL_law 167 = .ok (.invokevirtual 22, 3) := by decide +kernel
theorem dL_law_170 : decode cL_law 170 = .ok (.aload_n 2, 1) := by decide +kernel
theorem dL_law_171 : decode cL_law 171 = .ok (.aload_n 0, 1) := by decide +kernel
theorem dL_law_172 : decode cL_law 172 = .ok (.iload_n 3, 1) := by decide +kernel
theorem dL_law_173 : decode cL_law 173 = .ok (.iconst 1, 1) := by decide +kernel
theorem dL_law_174 : decode cL_law 174 = .ok (.iadd, 1) := by decide +kernel
theorem dL_law_175 : decode cL_law 175 = .ok (.iaload, 1) := by decide +kernel
theorem dL_law_176 : decode cL_law 176 = .ok (.aload_n 0, 1) := by decide +kernel
theorem dL_law_177 : decode cL_law 177 = .ok (.iload_n 3, 1) := by decide +kernel
theorem dL_law_178 : decode cL_law 178 = .ok (.iconst 2, 1) := by decide +kernel
theorem dL_law_179 : decode cL_law 179 = .ok (.iadd, 1) := by decide +kernel
theorem dL_law_180 : decode cL_law 180 = .ok (.iaload, 1) := by decide +kernel
theorem dL_law_181 : decode cL_law 181 = .ok (.invokevirtual 26, 3) := by decide +kernel
theorem dL_law_184 : decode cL_law 184 = .ok (.if_icmp .eq 269, 3) := by decide +kernel
theorem dL_law_187 : decode cL_law 187 = .ok (.iconst 0, 1) := by decide +kernel
theorem dL_law_188 : decode cL_law 188 = .ok (.ireturn, 1) := by decide +kernel
theorem dL_law_189 : decode cL_law 189 = .ok (.aload_n 1, 1) := by decide +kernel
theorem dL_law_190 : decode cL_law 190 = .ok (.aload_n 0, 1) := by decide +kernel
theorem dL_law_191 : decode cL_law 191 = .ok (.iload_n 3, 1) := by decide +kernel
theorem dL_law_192 : decode cL_law 192 = .ok (.iconst 1, 1) := by decide +kernel
theorem dL_law_193 : decode cL_law 193 = .ok (.iadd, 1) := by decide +kernel
theorem dL_law_194 : decode cL_law 194 = .ok (.iaload, 1) := by decide +kernel
theorem dL_law_195 : decode cL_law 195 = .ok (.aload_n 0, 1) := by decide +kernel
theorem dL_law_196 : decode cL_law 196 = .ok (.iload_n 3, 1) := by decide +kernel
theorem dL_law_197 : decode cL_law 197 = .ok (.iconst 2, 1) := by decide +kernel
theorem dL_law_198 : decode cL_law 198 = .ok (.iadd, 1) := by decide +kernel
theorem dL_law_199 : decode cL_law 199 = .ok (.iaload, 1) := by decide +kernel
theorem dL_law_200 : decode cL_law 200 = .ok (.aload_n 0, 1) := by decide +kernel
theorem dL_law_201 : decode cL_law 201 = .ok (.iload_n 3, 1) := by decide +kernel
theorem dL_law_202 : decode cL_law 202 = .ok (.iconst 3, 1) := by decide +kernel
theorem dL_law_203 : decode cL_law 203 = .ok (.iadd, 1) := by decide +kernel
theorem dL_law_204 : decode cL_law 204 = .ok (.iaload, 1) := by decide +kernel
theorem dL_law_205 : decode cL_law 205 = .ok (.invokevirtual 27, 3) := by decide +kernel
theorem dL_law_208 : decode cL_law 208 = .ok (.aload_n 2, 1) := by decide +kernel
theorem dL_law_209 : decode cL_law 209 = .ok (.aload_n 0, 1) := by decide +kernel
theorem dL_law_210 : decode cL_law 210 = .ok (.iload_n 3, 1) := by decide +kernel
theorem dL_law_211 : decode cL_law 211 = .ok (.iconst 1, 1) := by decide +kernel
theorem dL_law_212 : decode cL_law 212 = .ok (.iadd, 1) := by decide +kernel
theorem dL_law_213 : decode cL_law 213 = .ok (.iaload, 1) := by decide +kernel
theorem dL_law_214 : decode cL_law 214 = .ok (.aload_n 0, 1) := by decide +kernel
theorem dL_law_215 : decode cL_law 215 = .ok (.iload_n 3, 1) := by decide +kernel
theorem dL_law_216 : decode cL_law 216 = .ok (.iconst 2, 1) := by decide +kernel
theorem dL_law_217 : decode cL_law 217 = .ok (.iadd, 1) := by decide +kernel
theorem dL_law_218 : decode cL_law 218 = .ok (.iaload, 1) := by decide +kernel
theorem dL_law_219 : decode cL_law 219 = .ok (.aload_n 0, 1) := by decide +kernel
theorem dL_law_220 : decode cL_law 220 = .ok (.iload_n 3, 1) := by decide +kernel
theorem dL_law_221 : decode cL_law 221 = .ok (.iconst 3, 1) := by decide +kernel
theorem dL_law_222 : decode cL_law 222 = .ok (.iadd, 1) := by decide +kernel
theorem dL_law_223 : decode cL_law 223 = .ok (.iaload, 1) := by decide +kernel
theorem dL_law_224 : decode cL_law 224 = .ok (.invokevirtual 31, 3) := by decide +kernel
theorem dL_law_227 : decode cL_law 227 = .ok (.if_icmp .eq 226, 3) := by decide +kernel
theorem dL_law_230 : decode cL_law 230 = .ok (.iconst 0, 1) := by decide +kernel
theorem dL_law_231 : decode cL_law 231 = .ok (.ireturn, 1) := by decide +kernel
theorem dL_law_232 : decode cL_law 232 = .ok (.aload_n 1, 1) := by decide +kernel
theorem dL_law_233 : decode cL_law 233 = .ok (.aload_n 0, 1) := by decide +kernel
theorem dL_law_234 : decode cL_law 234 = .ok (.iload_n 3, 1) := by decide +kernel
theorem dL_law_235 : decode cL_law 235 = .ok (.iconst 1, 1) := by decide +kernel
theorem dL_law_236 : decode cL_law 236 = .ok (.iadd, 1) := by decide +kernel
theorem dL_law_237 : decode cL_law 237 = .ok (.iaload, 1) := by decide +kernel
theorem dL_law_238 : decode cL_law 238 = .ok (.aload_n 0, 1) := by decide +kernel
theorem dL_law_239 : decode cL_law 239 = .ok (.iload_n 3, 1) := by decide +kernel
theorem dL_law_240 : decode cL_law 240 = .ok (.iconst 2, 1) := by decide +kernel
theorem dL_law_241 : decode cL_law 241 = .ok (.iadd, 1) := by decide +kernel
theorem dL_law_242 : decode cL_law 242 = .ok (.iaload, 1) := by decide +kernel
theorem dL_law_243 : decode cL_law 243 = .ok (.aload_n 0, 1) := by decide +kernel
theorem dL_law_244 : decode cL_law 244 = .ok (.iload_n 3, 1) := by decide +kernel
theorem dL_law_245 : decode cL_law 245 = .ok (.iconst 3, 1) := by decide +kernel
theorem dL_law_246 : decode cL_law 246 = .ok (.iadd, 1) := by decide +kernel
theorem dL_law_247 : decode cL_law 247 = .ok (.iaload, 1) := by decide +kernel
theorem dL_law_248 : decode cL_law 248 = .ok (.invokevirtual 32, 3) := by decide +kernel
theorem dL_law_251 : decode cL_law 251 = .ok (.aload_n 2, 1) := by decide +kernel
theorem dL_law_252 : decode cL_law 252 = .ok (.aload_n 0, 1) := by decide +kernel
theorem dL_law_253 : decode cL_law 253 = .ok (.iload_n 3, 1) := by decide +kernel
theorem dL_law_254 : decode cL_law 254 = .ok (.iconst 1, 1) := by decide +kernel
theorem dL_law_255 : decode cL_law 255 = .ok (.iadd, 1) := by decide +kernel
theorem dL_law_256 : decode cL_law 256 = .ok (.iaload, 1) := by decide +kernel
theorem dL_law_257 : decode cL_law 257 = .ok (.aload_n 0, 1) := by decide +kernel
theorem dL_law_258 : decode cL_law 258 = .ok (.iload_n 3, 1) := by decide +kernel
theorem dL_law_259 : decode cL_law 259 = .ok (.iconst 2, 1) := by decide +kernel
theorem dL_law_260 : decode cL_law 260 = .ok (.iadd, 1) := by decide +kernel
theorem dL_law_261 : decode cL_law 261 = .ok (.iaload, 1) := by decide +kernel
theorem dL_law_262 : decode cL_law 262 = .ok (.aload_n 0, 1) := by decide +kernel
theorem dL_law_263 : decode cL_law 263 = .ok (.iload_n 3, 1) := by decide +kernel
theorem dL_law_264 : decode cL_law 264 = .ok (.iconst 3, 1) := by decide +kernel
theorem dL_law_265 : decode cL_law 265 = .ok (.iadd, 1) := by decide +kernel
theorem dL_law_266 : decode cL_law 266 = .ok (.iaload, 1) := by decide +kernel
theorem dL_law_267 : decode cL_law 267 = .ok (.invokevirtual 35, 3) := by decide +kernel
theorem dL_law_270 : decode cL_law 270 = .ok (.if_icmp .eq 183, 3) := by decide +kernel
theorem dL_law_273 : decode cL_law 273 = .ok (.iconst 0, 1) := by decide +kernel
theorem dL_law_274 : decode cL_law 274 = .ok (.ireturn, 1) := by decide +kernel
theorem dL_law_275 : decode cL_law 275 = .ok (.aload_n 1, 1) := by decide +kernel
theorem dL_law_276 : decode cL_law 276 = .ok (.aload_n 0, 1) := by decide +kernel
theorem dL_law_277 : decode cL_law 277 = .ok (.iload_n 3, 1) := by decide +kernel
theorem dL_law_278 : decode cL_law 278 = .ok (.iconst 1, 1) := by decide +kernel
theorem dL_law_279 : decode cL_law 279 = .ok (.iadd, 1) := by decide +kernel
theorem dL_law_280 : decode cL_law 280 = .ok (.iaload, 1) := by decide +kernel
theorem dL_law_281 : decode cL_law 281 = .ok (.aload_n 0, 1) := by decide +kernel
theorem dL_law_282 : decode cL_law 282 = .ok (.iload_n 3, 1) := by decide +kernel
theorem dL_law_283 : decode cL_law 283 = .ok (.iconst 2, 1) := by decide +kernel
theorem dL_law_284 : decode cL_law 284 = .ok (.iadd, 1) := by decide +kernel
theorem dL_law_285 : decode cL_law 285 = .ok (.iaload, 1) := by decide +kernel
theorem dL_law_286 : decode cL_law 286 = .ok (.invokevirtual 36, 3) := by decide +kernel
theorem dL_law_289 : decode cL_law 289 = .ok (.aload_n 2, 1) := by decide +kernel
theorem dL_law_290 : decode cL_law 290 = .ok (.aload_n 0, 1) := by decide +kernel
theorem dL_law_291 : decode cL_law 291 = .ok (.iload_n 3, 1) := by decide +kernel
theorem dL_law_292 : decode cL_law 292 = .ok (.iconst 1, 1) := by decide +kernel
theorem dL_law_293 : decode cL_law 293 = .ok (.iadd, 1) := by decide +kernel
theorem dL_law_294 : decode cL_law 294 = .ok (.iaload, 1) := by decide +kernel
theorem dL_law_295 : decode cL_law 295 = .ok (.aload_n 0, 1) := by decide +kernel
theorem dL_law_296 : decode cL_law 296 = .ok (.iload_n 3, 1) := by decide +kernel
theorem dL_law_297 : decode cL_law 297 = .ok (.iconst 2, 1) := by decide +kernel
theorem dL_law_298 : decode cL_law 298 = .ok (.iadd, 1) := by decide +kernel
theorem dL_law_299 : decode cL_law 299 = .ok (.iaload, 1) := by decide +kernel
theorem dL_law_300 : decode cL_law 300 = .ok (.invokevirtual 39, 3) := by decide +kernel
theorem dL_law_303 : decode cL_law 303 = .ok (.if_icmp .eq 150, 3) := by decide +kernel
theorem dL_law_306 : decode cL_law 306 = .ok (.iconst 0, 1) := by decide +kernel
theorem dL_law_307 : decode cL_law 307 = .ok (.ireturn, 1) := by decide +kernel
theorem dL_law_308 : decode cL_law 308 = .ok (.aload_n 1, 1) := by decide +kernel
theorem dL_law_309 : decode cL_law 309 = .ok (.aload_n 0, 1) := by decide +kernel
theorem dL_law_310 : decode cL_law 310 = .ok (.iload_n 3, 1) := by decide +kernel
theorem dL_law_311 : decode cL_law 311 = .ok (.iconst 1, 1) := by decide +kernel
theorem dL_law_312 : decode cL_law 312 = .ok (.iadd, 1) := by decide +kernel
theorem dL_law_313 : decode cL_law 313 = .ok (.iaload, 1) := by decide +kernel
theorem dL_law_314 : decode cL_law 314 = .ok (.aload_n 0, 1) := by decide +kernel
theorem dL_law_315 : decode cL_law 315 = .ok (.iload_n 3, 1) := by decide +kernel
theorem dL_law_316 : decode cL_law 316 = .ok (.iconst 2, 1) := by decide +kernel
theorem dL_law_317 : decode cL_law 317 = .ok (.iadd, 1) := by decide +kernel
theorem dL_law_318 : decode cL_law 318 = .ok (.iaload, 1) := by decide +kernel
theorem dL_law_319 : decode cL_law 319 = .ok (.invokevirtual 40, 3) := by decide +kernel
theorem dL_law_322 : decode cL_law 322 = .ok (.aload_n 2, 1) := by decide +kernel
theorem dL_law_323 : decode cL_law 323 = .ok (.aload_n 0, 1) := by decide +kernel
theorem dL_law_324 : decode cL_law 324 = .ok (.iload_n 3, 1) := by decide +kernel
theorem dL_law_325 : decode cL_law 325 = .ok (.iconst 1, 1) := by decide +kernel
theorem dL_law_326 : decode cL_law 326 = .ok (.iadd, 1) := by decide +kernel
theorem dL_law_327 : decode cL_law 327 = .ok (.iaload, 1) := by decide +kernel
theorem dL_law_328 : decode cL_law 328 = .ok (.aload_n 0, 1) := by decide +kernel
theorem dL_law_329 : decode cL_law 329 = .ok (.iload_n 3, 1) := by decide +kernel
theorem dL_law_330 : decode cL_law 330 = .ok (.iconst 2, 1) := by decide +kernel
theorem dL_law_331 : decode cL_law 331 = .ok (.iadd, 1) := by decide +kernel
theorem dL_law_332 : decode cL_law 332 = .ok (.iaload, 1) := by decide +kernel
theorem dL_law_333 : decode cL_law 333 = .ok (.invokevirtual 43, 3) := by decide +kernel
theorem dL_law_336 : decode cL_law 336 = .ok (.if_icmp .eq 117, 3) := by decide +kernel
theorem dL_law_339 : decode cL_law 339 = .ok (.iconst 0, 1) := by decide +kernel
theorem dL_law_340 : decode cL_law 340 = .ok (.ireturn, 1) := by decide +kernel
theorem dL_law_341 : decode cL_law 341 = .ok (.aload_n 1, 1) := by decide +kernel
theorem dL_law_342 : decode cL_law 342 = .ok (.aload_n 0, 1) := by decide +kernel
theorem dL_law_343 : decode cL_law 343 = .ok (.iload_n 3, 1) := by decide +kernel
theorem dL_law_344 : decode cL_law 344 = .ok (.iconst 1, 1) := by decide +kernel
theorem dL_law_345 : decode cL_law 345 = .ok (.iadd, 1) := by decide +kernel
theorem dL_law_346 : decode cL_law 346 = .ok (.iaload, 1) := by decide +kernel
theorem dL_law_347 : decode cL_law 347 = .ok (.invokevirtual 44, 3) := by decide +kernel
theorem dL_law_350 : decode cL_law 350 = .ok (.aload_n 2, 1) := by decide +kernel
theorem dL_law_351 : decode cL_law 351 = .ok (.aload_n 0, 1) := by decide +kernel
theorem dL_law_352 : decode cL_law 352 = .ok (.iload_n 3, 1) := by decide +kernel
theorem dL_law_353 : decode cL_law 353 = .ok (.iconst 1, 1) := by decide +kernel
theorem dL_law_354 : decode cL_law 354 = .ok (.iadd, 1) := by decide +kernel
theorem dL_law_355 : decode cL_law 355 = .ok (.iaload, 1) := by decide +kernel
theorem dL_law_356 : decode cL_law 356 = .ok (.invokevirtual 48, 3) := by decide +kernel
theorem dL_law_359 : decode cL_law 359 = .ok (.if_icmp .eq 94, 3) := by decide +kernel
theorem dL_law_362 : decode cL_law 362 = .ok (.iconst 0, 1) := by decide +kernel
theorem dL_law_363 : decode cL_law 363 = .ok (.ireturn, 1) := by decide +kernel
theorem dL_law_364 : decode cL_law 364 = .ok (.aload_n 1, 1) := by decide +kernel
theorem dL_law_365 : decode cL_law 365 = .ok (.aload_n 0, 1) := by decide +kernel
theorem dL_law_366 : decode cL_law 366 = .ok (.iload_n 3, 1) := by decide +kernel
theorem dL_law_367 : decode cL_law 367 = .ok (.iconst 1, 1) := by decide +kernel
theorem dL_law_368 : decode cL_law 368 = .ok (.iadd, 1) := by decide +kernel
theorem dL_law_369 : decode cL_law 369 = .ok (.iaload, 1) := by decide +kernel
theorem dL_law_370 : decode cL_law 370 = .ok (.aload_n 0, 1) := by decide +kernel
theorem dL_law_371 : decode cL_law 371 = .ok (.iload_n 3, 1) := by decide +kernel
theorem dL_law_372 : decode cL_law 372 = .ok (.iconst 2, 1) := by decide +kernel
theorem dL_law_373 : decode cL_law 373 = .ok (.iadd, 1) := by decide +kernel
theorem dL_law_374 : decode cL_law 374 = .ok (.iaload, 1) := by decide +kernel
theorem dL_law_375 : decode cL_law 375 = .ok (.invokevirtual 49, 3) := by decide +kernel
theorem dL_law_378 : decode cL_law 378 = .ok (.aload_n 2, 1) := by decide +kernel
theorem dL_law_379 : decode cL_law 379 = .ok (.aload_n 0, 1) := by decide +kernel
theorem dL_law_380 : decode cL_law 380 = .ok (.iload_n 3, 1) := by decide +kernel
theorem dL_law_381 : decode cL_law 381 = .ok (.iconst 1, 1) := by decide +kernel
theorem dL_law_382 : decode cL_law 382 = .ok (.iadd, 1) := by decide +kernel
theorem dL_law_383 : decode cL_law 383 = .ok (.iaload, 1) := by decide +kernel
theorem dL_law_384 : decode cL_law 384 = .ok (.aload_n 0, 1) := by decide +kernel
theorem dL_law_385 : decode cL_law 385 = .ok (.iload_n 3, 1) := by decide +kernel
theorem dL_law_386 : decode cL_law 386 = .ok (.iconst 2, 1) := by decide +kernel
theorem dL_law_387 : decode cL_law 387 = .ok (.iadd, 1) := by decide +kernel
theorem dL_law_388 : decode cL_law 388 = .ok (.iaload, 1) := by decide +kernel
theorem dL_law_389 : decode cL_law 389 = .ok (.invokevirtual 52, 3) := by decide +kernel
theorem dL_law_392 : decode cL_law 392 = .ok (.if_icmp .eq 61, 3) := by decide +kernel
theorem dL_law_395 : decode cL_law 395 = .ok (.iconst 0, 1) := by decide +kernel
theorem dL_law_396 : decode cL_law 396 = .ok (.ireturn, 1) := by decide +kernel
theorem dL_law_397 : decode cL_law 397 = .ok (.aload_n 1, 1) := by decide +kernel
theorem dL_law_398 : decode cL_law 398 = .ok (.invokevirtual 53, 3) := by decide +kernel
theorem dL_law_401 : decode cL_law 401 = .ok (.aload_n 2, 1) := by decide +kernel
theorem dL_law_402 : decode cL_law 402 = .ok (.invokevirtual 57, 3) := by decide +kernel
theorem dL_law_405 : decode cL_law 405 = .ok (.if_icmp .eq 48, 3) := by decide +kernel
theorem dL_law_408 : decode cL_law 408 = .ok (.iconst 0, 1) := by decide +kernel
theorem dL_law_409 : decode cL_law 409 = .ok (.ireturn, 1) := by decide +kernel
theorem dL_law_410 : decode cL_law 410 = .ok (.aload_n 1, 1) := by decide +kernel
theorem dL_law_411 : decode cL_law 411 = .ok (.aload_n 0, 1) := by decide +kernel
theorem dL_law_412 : decode cL_law 412 = .ok (.iload_n 3, 1) := by decide +kernel
theorem dL_law_413 : decode cL_law 413 = .ok (.iconst 1, 1) := by decide +kernel
theorem dL_law_414 : decode cL_law 414 = .ok (.iadd, 1) := by decide +kernel
theorem dL_law_415 : decode cL_law 415 = .ok (.iaload, 1) := by decide +kernel
theorem dL_law_416 : decode cL_law 416 = .ok (.aload_n 0, 1) := by decide +kernel
theorem dL_law_417 : decode cL_law 417 = .ok (.iload_n 3, 1) := by decide +kernel
theorem dL_law_418 : decode cL_law 418 = .ok (.iconst 2, 1) := by decide +kernel
theorem dL_law_419 : decode cL_law 419 = .ok (.iadd, 1) := by decide +kernel
theorem dL_law_420 : decode cL_law 420 = .ok (.iaload, 1) := by decide +kernel
theorem dL_law_421 : decode cL_law 421 = .ok (.aload_n 0, 1) := by decide +kernel
theorem dL_law_422 : decode cL_law 422 = .ok (.iload_n 3, 1) := by decide +kernel
theorem dL_law_423 : decode cL_law 423 = .ok (.iconst 3, 1) := by decide +kernel
theorem dL_law_424 : decode cL_law 424 = .ok (.iadd, 1) := by decide +kernel
theorem dL_law_425 : decode cL_law 425 = .ok (.iaload, 1) := by decide +kernel
theorem dL_law_426 : decode cL_law 426 = .ok (.invokevirtual 58, 3) := by decide +kernel
theorem dL_law_429 : decode cL_law 429 = .ok (.aload_n 2, 1) := by decide +kernel
theorem dL_law_430 : decode cL_law 430 = .ok (.aload_n 0, 1) := by decide +kernel
theorem dL_law_431 : decode cL_law 431 = .ok (.iload_n 3, 1) := by decide +kernel
theorem dL_law_432 : decode cL_law 432 = .ok (.iconst 1, 1) := by decide +kernel
theorem dL_law_433 : decode cL_law 433 = .ok (.iadd, 1) := by decide +kernel
theorem dL_law_434 : decode cL_law 434 = .ok (.iaload, 1) := by decide +kernel
theorem dL_law_435 : decode cL_law 435 = .ok (.aload_n 0, 1) := by decide +kernel
theorem dL_law_436 : decode cL_law 436 = .ok (.iload_n 3, 1) := by decide +kernel
theorem dL_law_437 : decode cL_law 437 = .ok (.iconst 2, 1) := by decide +kernel
theorem dL_law_438 : decode cL_law 438 = .ok (.iadd, 1) := by decide +kernel
theorem dL_law_439 : decode cL_law 439 = .ok (.iaload, 1) := by decide +kernel
theorem dL_law_440 : decode cL_law 440 = .ok (.aload_n 0, 1) := by decide +kernel
theorem dL_law_441 : decode cL_law 441 = .ok (.iload_n 3, 1) := by decide +kernel
theorem dL_law_442 : decode cL_law 442 = .ok (.iconst 3, 1) := by decide +kernel
theorem dL_law_443 : decode cL_law 443 = .ok (.iadd, 1) := by decide +kernel
theorem dL_law_444 : decode cL_law 444 = .ok (.iaload, 1) := by decide +kernel
theorem dL_law_445 : decode cL_law 445 = .ok (.invokevirtual 62, 3) := by decide +kernel
theorem dL_law_448 : decode cL_law 448 = .ok (.if_icmp .eq 5, 3) := by decide +kernel
theorem dL_law_451 : decode cL_law 451 = .ok (.iconst 0, 1) := by decide +kernel
theorem dL_law_452 : decode cL_law 452 = .ok (.ireturn, 1) := by decide +kernel
theorem dL_law_453 : decode cL_law 453 = .ok (.iinc 3 5, 3) := by decide +kernel
theorem dL_law_456 : decode cL_law 456 = .ok (.goto (-438), 3) := by decide +kernel
theorem dL_law_459 : decode cL_law 459 = .ok (.iconst 1, 1) := by decide +kernel
theorem dL_law_460 : decode cL_law 460 = .ok (.ireturn, 1) := by decide +kernel
end
section
/-! the base: small words for answers and sets, contracts' forms, rows for calls and returns -/
abbrev vwCl : List vw_C := [(RX0, TX0, 12), (RX1, TX1, 6)]
/-- a truth as the machine's int -/
def bI (b : Bool) : Int32 := if b then 1 else 0
theorem bI_0 {b : Bool} : bI b = 0 ↔ b = false := by cases b <;> decide
theorem bI_n0 {b : Bool} : ¬ bI b = 0 ↔ b = true := by cases b <;> decide
theorem bI_1 {b : Bool} : bI b = 1 ↔ b = true := by cases b <;> decide
theorem bI_n1 {b : Bool} : ¬ bI b = 1 ↔ b = false := by cases b <;> decide
theorem bI_nar (b : Bool) : narrow .boolean (.int (bI b)) = .int (bI b) := by cases b <;> rfl
theorem bI_vp (b : Bool) : vp_nar .boolean (bI b) = bI b := by cases b <;> rfl
theorem nI_inc (i : Nat) : nI i + Int32.ofInt 1 = nI (i + 1) := nI_1 i
section BaseRows
variable {p : Program} {l : Launch} {e : Env} {R : Room} {s : State} {m : MethodId} {args : Array Value} {below : List Frame} {meth : Method} {c : Code} {H : Heap} {locs : List Loc} {cells slots : Nat} {Q : State → Prop}
variable {cc : ByteArray} {pc : Nat} {ls : Array Slot} {rest : List Value} {D : va_G} {tys : List (ClassId × FieldType)} {ws : va_W} {A : Nat → Prop} {H0 : Heap}
/-- the top of the stack under another name -/
theorem tope {x y : Int32} (h : x = y) (k : W p l e R s m args below meth c H locs cells slots Q (F0 m pc ls (.int y :: rest))) : W p l e R s m args below meth c H locs cells slots Q (F0 m pc ls (.int x :: rest)) := by
  rw [h]; exact k
def pB (D : va_G) (tys : List (ClassId × FieldType)) (w : va_W) : State → Prop := fun U => va_P D vwCl w U.heap ∧ va_K D vwCl tys U
theorem pB_blind {av : List Value} {w : va_W} : FrameBlind (va_Pc av (pB D tys w)) := by
  intro a U g mk h
  obtain ⟨h1, h2, h3⟩ := h
  exact ⟨h1, h2, va_K.moved (u := U) (U := U.calling g mk a) (Vm.Alike.refl U.vm) h3⟩
/-- a call of a method that changes nothing -/
theorem pcallV {own : String} {nL n index maxL : Nat} {y : MethodName} {bytes : ByteArray} {ret : Option FieldType} {wz : List Cond} {rm : Room} {b ci : Nat} {As : List Value} {r : Int32} {q : vw_C} {fs st0 : List Value}
    (S : CallFix p m c cc nL s args lw_all own) (hM : Met l y wz rm (va_Pc (.ref b :: As) (pB D tys ws)) (QcRead r) 0 0 (fun _ => False)) (cw : CallW R s args own q.1 index y bytes maxL ret wz rm 0 0 n)
    (hK : va_K D vwCl tys s) (hP : va_P D vwCl ws H) (hc : vwCl[ci]? = some q) (he : ws[0]? = some (b, .inr (ci, fs))) (hn : As.length = n) (hsz : ls.size = nL) (hst : st0 = As.reverse ++ .ref b :: rest) (hroom : (rest.map fun v => v.category).sum ≤ 8) (hdg : decode cc pc = .ok (.invokevirtual index, 3)) (hf : cells ≤ R.cells ∧ slots ≤ R.slots)
    (kk : W p l e R s m args below meth c H locs cells slots Q (F0 m (pc + 3) ls (.int r :: rest))) : W p l e R s m args below meth c H locs cells slots Q (F0 m pc ls st0) :=
  W.callR (W.runV (rest := rest) S hM cw ⟨pB_blind, va_recv hK hP hc he, fun U hU hW => ⟨rfl, by rw [hU]; exact hP, va_K.moved hW.alike hK⟩⟩ rfl hn hsz hst (lv_room hroom) hdg hf) kk
theorem pcallS {own : String} {nL n index maxL : Nat} {y : MethodName} {bytes : ByteArray} {ret : Option FieldType} {wz : List Cond} {rm : Room} {As : List Value} {r : Int32} {st0 : List Value}
    (S : CallFix p m c cc nL s args lw_all own) (hM : Met l y wz rm (va_Pc As (fun _ => True)) (QcRead r) 0 0 (fun _ => False)) (cw : CallB R s args own index y bytes maxL ret wz rm 0 0 n ∧ (Cond.static y).before args s = true)
    (hn : As.length = n) (hsz : ls.size = nL) (hst : st0 = As.reverse ++ rest) (hroom : (rest.map fun v => v.category).sum ≤ 8) (hdg : decode cc pc = .ok (.invokestatic index, 3)) (hf : cells ≤ R.cells ∧ slots ≤ R.slots)
    (kk : W p l e R s m args below meth c H locs cells slots Q (F0 m (pc + 3) ls (.int r :: rest))) : W p l e R s m args below meth c H locs cells slots Q (F0 m pc ls st0) :=
  W.callR (W.runS (rest := rest) S hM cw ⟨fun a U g mk h => ⟨h.1, trivial⟩, fun U hU hW => ⟨rfl, trivial⟩⟩ rfl hn hsz hst (lv_room hroom) hdg hf) kk
/-- a method's world at its start, and behind it -/
def iB (D : va_G) (tys : List (ClassId × FieldType)) (w : va_W) (sz : Nat) : State → Prop := fun U => U.heap.size = sz ∧ va_P D vwCl w U.heap ∧ va_K D vwCl tys U ∧ va_D (fun _ => True) w
def oB {T : Type} (D : va_G) (tys : List (ClassId × FieldType)) (w1 : T → va_W) (A : Nat → Prop) : T → State → Prop := fun u t => va_P D vwCl (w1 u) t.heap ∧ va_K D vwCl tys t ∧ va_D A (w1 u)
theorem iB_blind {av : List Value} {w : va_W} {sz : Nat} : FrameBlind (va_Pc av (iB D tys w sz)) := by
  intro a U g mk h
  obtain ⟨h0, h1, h2, h3, h4⟩ := h
  exact ⟨h0, h1, h2, va_K.moved (u := U) (U := U.calling g mk a) (Vm.Alike.refl U.vm) h3, h4⟩
/-- contracts of methods that change their world w to w1 u: with an int for an answer, with none -/
def MI (l : Launch) (y : MethodName) (wz : List Cond) (rm : Room) (av : List Value) (D : va_G) (tys : List (ClassId × FieldType)) (w : va_W) {T : Type} (post : Int32 → T → Prop) (w1 : T → va_W) : Prop :=
  ∀ sz : Nat, Met l y wz rm (va_Pc av (iB D tys w sz)) (va_Qi post (oB D tys w1 (va_A w sz)) (va_A w sz)) 0 0 (va_A w sz)
def MV (l : Launch) (y : MethodName) (wz : List Cond) (rm : Room) (av : List Value) (D : va_G) (tys : List (ClassId × FieldType)) (w : va_W) {T : Type} (post : T → Prop) (w1 : T → va_W) : Prop :=
  ∀ sz : Nat, Met l y wz rm (va_Pc av (iB D tys w sz)) (va_Qv post (oB D tys w1 (va_A w sz)) (va_A w sz)) 0 0 (va_A w sz)
/-- a call of a method that changes its world, cells isC of the caller's; what is at isR stays -/
theorem icallI {T : Type} {post : Int32 → T → Prop} {w1 : T → va_W} {wc wr : va_W} {tys' : List (ClassId × FieldType)} {own : String} {nL n index maxL : Nat} {y : MethodName} {bytes : ByteArray} {ret : Option FieldType} {wz : List Cond} {rm : Room} {b ci : Nat} {As : List Value} {q : vw_C} {fs st0 : List Value}
    (S : CallFix p m c cc nL s args lw_all own) (hM : MI l y wz rm (.ref b :: As) D tys wc post w1) (cw : CallW R s args own q.1 index y bytes maxL ret wz rm 0 0 n)
    (hK : va_K D vwCl tys s) (hP : va_P D vwCl ws H) (hD : va_D A ws) (hS : va_S A H0 H locs) (hA : ∀ q, H0.size ≤ q → A q) (isC isR : List Nat) (hC : isC.map (fun i => ws[i]?) = wc.map some) (hR : isR.map (fun i => ws[i]?) = wr.map some) (hnc : va_nd isC = true) (hnr : va_nd isR = true) (hdis : ∀ i ∈ isR, i ∉ isC)
    (hc : vwCl[ci]? = some q) (he : wc[0]? = some (b, .inr (ci, fs))) (hn : As.length = n) (hsz : ls.size = nL) (hst : st0 = As.reverse ++ .ref b :: rest) (hroom : (rest.map fun v => v.category).sum ≤ 8) (hdg : decode cc pc = .ok (.invokevirtual index, 3)) (hf : cells ≤ R.cells ∧ slots ≤ R.slots)
    (kk : ∀ (r : Int32) (u : T) (H1 : Heap) (locs1 : List Loc), post r u → va_P D vwCl (wr ++ w1 u) H1 → va_D A (wr ++ w1 u) → va_S A H0 H1 locs1 → W p l e R s m args below meth c H1 locs1 cells slots Q (F0 m (pc + 3) ls (.int r :: rest))) : W p l e R s m args below meth c H locs cells slots Q (F0 m pc ls st0) := by
  have hDc : va_D A wc := hD.sub isC hnc hC
  have hPc : va_P D vwCl wc H := by
    intro k x hx
    have h1 : (isC.map (fun i => ws[i]?))[k]? = some (some x) := by rw [hC, List.getElem?_map, hx]; rfl
    rw [List.getElem?_map] at h1
    cases hi : isC[k]? with
    | none => rw [hi] at h1; cases h1
    | some i => rw [hi] at h1; exact hP i x (Option.some.inj h1)
  have hFc : ∀ q, va_A wc H.size q → A q := va_free (wc := wc) hD hS hA isC hC
  refine va_calli (va_runV (rest := rest) S (hM H.size) cw ⟨iB_blind, va_recv hK hPc hc he, fun U hU hW => ⟨rfl, by rw [hU], by rw [hU]; exact hPc, va_K.moved hW.alike hK, hDc.weaken (fun _ _ _ _ => trivial)⟩⟩ rfl hn hsz hst (lv_room hroom) hdg hf) hS (fun q _ h => hFc q h) hFc (fun r u t H1 locs1 ht hvm hpost hB hz hk hS1 => ?_)
  obtain ⟨hP1, hK1, hD1⟩ := hB
  rw [ht] at hP1
  obtain ⟨hP2, hD2⟩ := va_join hP hD isC isR hC hR hnr hdis hk hFc hP1 hD1
  exact kk r u H1 locs1 hpost hP2 hD2 hS1
theorem icallV {T : Type} {post : T → Prop} {w1 : T → va_W} {wc wr : va_W} {own : String} {nL n index maxL : Nat} {y : MethodName} {bytes : ByteArray} {ret : Option FieldType} {wz : List Cond} {rm : Room} {b ci : Nat} {As : List Value} {q : vw_C} {fs st0 : List Value}
    (S : CallFix p m c cc nL s args lw_all own) (hM : MV l y wz rm (.ref b :: As) D tys wc post w1) (cw : CallW R s args own q.1 index y bytes maxL ret wz rm 0 0 n)
    (hK : va_K D vwCl tys s) (hP : va_P D vwCl ws H) (hD : va_D A ws) (hS : va_S A H0 H locs) (hA : ∀ q, H0.size ≤ q → A q) (isC isR : List Nat) (hC : isC.map (fun i => ws[i]?) = wc.map some) (hR : isR.map (fun i => ws[i]?) = wr.map some) (hnc : va_nd isC = true) (hnr : va_nd isR = true) (hdis : ∀ i ∈ isR, i ∉ isC)
    (hc : vwCl[ci]? = some q) (he : wc[0]? = some (b, .inr (ci, fs))) (hn : As.length = n) (hsz : ls.size = nL) (hst : st0 = As.reverse ++ .ref b :: rest) (hroom : (rest.map fun v => v.category).sum ≤ 8) (hdg : decode cc pc = .ok (.invokevirtual index, 3)) (hf : cells ≤ R.cells ∧ slots ≤ R.slots)
    (kk : ∀ (u : T) (H1 : Heap) (locs1 : List Loc), post u → va_P D vwCl (wr ++ w1 u) H1 → va_D A (wr ++ w1 u) → va_S A H0 H1 locs1 → W p l e R s m args below meth c H1 locs1 cells slots Q (F0 m (pc + 3) ls rest)) : W p l e R s m args below meth c H locs cells slots Q (F0 m pc ls st0) := by
  have hDc : va_D A wc := hD.sub isC hnc hC
  have hPc : va_P D vwCl wc H := by
    intro k x hx
    have h1 : (isC.map (fun i => ws[i]?))[k]? = some (some x) := by rw [hC, List.getElem?_map, hx]; rfl
    rw [List.getElem?_map] at h1
    cases hi : isC[k]? with
    | none => rw [hi] at h1; cases h1
    | some i => rw [hi] at h1; exact hP i x (Option.some.inj h1)
  have hFc : ∀ q, va_A wc H.size q → A q := va_free (wc := wc) hD hS hA isC hC
  refine va_callv (va_runV (rest := rest) S (hM H.size) cw ⟨iB_blind, va_recv hK hPc hc he, fun U hU hW => ⟨rfl, by rw [hU], by rw [hU]; exact hPc, va_K.moved hW.alike hK, hDc.weaken (fun _ _ _ _ => trivial)⟩⟩ rfl hn hsz hst (lv_room hroom) hdg hf) hS (fun q _ h => hFc q h) hFc (fun u t H1 locs1 ht hvm hpost hB hz hk hS1 => ?_)
  obtain ⟨hP1, hK1, hD1⟩ := hB
  rw [ht] at hP1
  obtain ⟨hP2, hD2⟩ := va_join hP hD isC isR hC hR hnr hdis hk hFc hP1 hD1
  exact kk u H1 locs1 hpost hP2 hD2 hS1
/-- array rows by a number's name: index nI k -/
theorem ldN (hexec : p.tables.exec = Jvm.exec) (hb : c.code = cc) (hK : va_K D vwCl tys s) (hP : va_P D vwCl ws H) (q0 t0 : Nat) {a : Nat} {cA : ClassId} {n : Nat} {f : Nat → Int32} (ha : ws[q0]? = some (a, .inl (cA, n, .inl f))) (ht : tys[t0]? = some (cA, .int)) {i : Int32} (k : Nat) (hi : i = nI k) (hk : k < n) (hn : n < 2 ^ 31) (hdg : decode cc pc = .ok (.iaload, 1))
    (kk : W p l e R s m args below meth c H locs cells slots Q (F0 m (pc + 1) ls (.int (f k) :: rest))) : W p l e R s m args below meth c H locs cells slots Q (F0 m pc ls (.int i :: .ref a :: rest)) := by
  subst hi
  refine va_iald hexec hb hK hP q0 t0 ha ht (vp_in_nI hk hn) hdg ?_
  rw [nI_clamp (Nat.lt_trans hk hn)]
  exact kk
theorem ldZ (hexec : p.tables.exec = Jvm.exec) (hb : c.code = cc) (hK : va_K D vwCl tys s) (hP : va_P D vwCl ws H) (q0 t0 : Nat) {a : Nat} {cA : ClassId} {n : Nat} {f : Nat → Int32} (ha : ws[q0]? = some (a, .inl (cA, n, .inl f))) (ht : tys[t0]? = some (cA, .boolean)) {i : Int32} (k : Nat) (hi : i = nI k) (hk : k < n) (hn : n < 2 ^ 31) (hdg : decode cc pc = .ok (.baload, 1))
    (kk : W p l e R s m args below meth c H locs cells slots Q (F0 m (pc + 1) ls (.int (f k) :: rest))) : W p l e R s m args below meth c H locs cells slots Q (F0 m pc ls (.int i :: .ref a :: rest)) := by
  subst hi
  refine va_zald hexec hb hK hP q0 t0 ha ht (vp_in_nI hk hn) hdg ?_
  rw [nI_clamp (Nat.lt_trans hk hn)]
  exact kk
theorem stN (hexec : p.tables.exec = Jvm.exec) (hb : c.code = cc) (hK : va_K D vwCl tys s) (hP : va_P D vwCl ws H) (hD : va_D A ws) (hS : va_S A H0 H locs) (q0 t0 : Nat) {a : Nat} {cA : ClassId} {n : Nat} {f : Nat → Int32} (ha : ws[q0]? = some (a, .inl (cA, n, .inl f))) (ht : tys[t0]? = some (cA, .int)) {i x : Int32} (k : Nat) (hi : i = nI k) (hk : k < n) (hn : n < 2 ^ 31) (hdg : decode cc pc = .ok (.iastore, 1))
    (kk : ∀ (H1 : Heap) (locs1 : List Loc), va_P D vwCl (ws.set q0 (a, .inl (cA, n, .inl (upd f k x)))) H1 → va_D A (ws.set q0 (a, .inl (cA, n, .inl (upd f k x)))) → va_S A H0 H1 locs1 → W p l e R s m args below meth c H1 locs1 cells slots Q (F0 m (pc + 1) ls rest)) : W p l e R s m args below meth c H locs cells slots Q (F0 m pc ls (.int x :: .int i :: .ref a :: rest)) := by
  subst hi
  refine va_iast hexec hb hK hP hD hS q0 t0 ha ht (vp_in_nI hk hn) hdg ?_
  rw [nI_clamp (Nat.lt_trans hk hn)]
  exact kk
theorem stZ (hexec : p.tables.exec = Jvm.exec) (hb : c.code = cc) (hK : va_K D vwCl tys s) (hP : va_P D vwCl ws H) (hD : va_D A ws) (hS : va_S A H0 H locs) (q0 t0 : Nat) {a : Nat} {cA : ClassId} {n : Nat} {f : Nat → Int32} (ha : ws[q0]? = some (a, .inl (cA, n, .inl f))) (ht : tys[t0]? = some (cA, .boolean)) {i x : Int32} (k : Nat) (hi : i = nI k) (hk : k < n) (hn : n < 2 ^ 31) (hx : vp_nar .boolean x = x) (hdg : decode cc pc = .ok (.bastore, 1))
    (kk : ∀ (H1 : Heap) (locs1 : List Loc), va_P D vwCl (ws.set q0 (a, .inl (cA, n, .inl (upd f k x)))) H1 → va_D A (ws.set q0 (a, .inl (cA, n, .inl (upd f k x)))) → va_S A H0 H1 locs1 → W p l e R s m args below meth c H1 locs1 cells slots Q (F0 m (pc + 1) ls rest)) : W p l e R s m args below meth c H locs cells slots Q (F0 m pc ls (.int x :: .int i :: .ref a :: rest)) := by
  subst hi
  refine va_zast hexec hb hK hP hD hS q0 t0 ha ht (vp_in_nI hk hn) hdg ?_
  rw [nI_clamp (Nat.lt_trans hk hn), hx]
  exact kk
end BaseRows
/-- a method's walk, from its entry, with Q for its end -/
theorem metM {l : Launch} {y : MethodName} {cc : ByteArray} {maxL : Nat} {ret : Option FieldType} {rm : Room} {av : List Value} {B : State → Prop} {Qc : Array Value → State → Outcome → State → Prop} {mc ms : Nat} {free : Addr → Prop} (hy : plainName y.cls = true) (hv : (lg_sl av).length ≤ maxL)
    (body : ∀ (p : Program) (e : Env) (s : State) (m : MethodId) (below : List Frame) (meth : Method) (c : Code), p.tables.exec = Jvm.exec → c.code = cc → meth.sig.returnType = ret → c.maxLocals = maxL → s.vm.findClass y.cls = some m.cls → (∀ w ∈ lw_all, w.before av.toArray s = true) → meth.locks = false → (meth.name = y.name) → B s → ∀ ls : Array Slot, lv_has ls maxL (lv_args 0 av) → W p l e rm s m av.toArray below meth c s.heap [] 0 0 (MQ below Qc av.toArray s mc ms free) (F0 m 0 ls [])) :
    Met l y (ws_ y cc maxL ret) rm (va_Pc av B) Qc mc ms free := by
  refine Met.ofW (cc := cc) (maxL := maxL) (ret := ret) hy rfl ?_
  intro p e s m args below meth c s₁ B' hml hv'
  obtain ⟨rfl, hB⟩ := hv'
  have hts := atoms_spec (ws := ws_ y cc maxL ret) B'.pre
  have hts : ∀ w ∈ lw_all, w.before _ s = true := fun w h => hts w (List.mem_cons_of_mem _ h)
  rw [lg_entry_eq]
  exact body p e s m below meth c B'.exec B'.bytes B'.returns hml (findClass_of_methodNamed B'.named) hts B'.notSynchronized (name_of_methodNamed B'.named B'.method).1 hB _ (lv_entry av hv)
/-- a method that changes nothing and answers an int -/
theorem pureI {l : Launch} {y : MethodName} {cc : ByteArray} {maxL : Nat} {rm : Room} {av : List Value} {B : State → Prop} {r : Int32} (hy : plainName y.cls = true) (hv : (lg_sl av).length ≤ maxL)
    (body : ∀ (p : Program) (e : Env) (s : State) (m : MethodId) (ar : Array Value) (below : List Frame) (meth : Method) (c : Code) (Q : State → Prop), p.tables.exec = Jvm.exec → c.code = cc → c.maxLocals = maxL → s.vm.findClass y.cls = some m.cls → (∀ w ∈ lw_all, w.before ar s = true) → B s →
      (∀ (v : Int32) (pc : Nat) (ls : Array Slot), v = r → decode cc pc = .ok (.ireturn, 1) → W p l e rm s m ar below meth c s.heap [] 0 0 Q (F0 m pc ls [.int v])) → ∀ ls : Array Slot, lv_has ls maxL (lv_args 0 av) → W p l e rm s m ar below meth c s.heap [] 0 0 Q (F0 m 0 ls [])) :
    Met l y (ws_ y cc maxL (some .int)) rm (va_Pc av B) (QcRead r) 0 0 (fun _ => False) := by
  refine metM hy hv ?_
  intro p e s m below meth c hx hb hr hml hown hts hlk _ hB ls hl
  refine body p e s m _ below meth c _ hx hb hml hown hts hB ?_ ls hl
  intro v pc ls hv hd
  subst hv
  exact W.iret hx hb hr (fun t ht _ => ⟨rfl, ht⟩) (fun q h => by cases h) hd hlk
/-- a method that changes nothing and answers a truth -/
theorem pureZ {l : Launch} {y : MethodName} {cc : ByteArray} {maxL : Nat} {rm : Room} {av : List Value} {B : State → Prop} {r : Bool} (hy : plainName y.cls = true) (hv : (lg_sl av).length ≤ maxL)
    (body : ∀ (p : Program) (e : Env) (s : State) (m : MethodId) (ar : Array Value) (below : List Frame) (meth : Method) (c : Code) (Q : State → Prop), p.tables.exec = Jvm.exec → c.code = cc → c.maxLocals = maxL → s.vm.findClass y.cls = some m.cls → (∀ w ∈ lw_all, w.before ar s = true) → B s →
      (∀ (v : Int32) (pc : Nat) (ls : Array Slot), v = bI r → decode cc pc = .ok (.ireturn, 1) → W p l e rm s m ar below meth c s.heap [] 0 0 Q (F0 m pc ls [.int v])) → ∀ ls : Array Slot, lv_has ls maxL (lv_args 0 av) → W p l e rm s m ar below meth c s.heap [] 0 0 Q (F0 m 0 ls [])) :
    Met l y (ws_ y cc maxL (some .boolean)) rm (va_Pc av B) (QcRead (bI r)) 0 0 (fun _ => False) := by
  refine metM hy hv ?_
  intro p e s m below meth c hx hb hr hml hown hts hlk _ hB ls hl
  refine body p e s m _ below meth c _ hx hb hml hown hts hB ?_ ls hl
  intro v pc ls hv hd
  subst hv
  exact W.zret hx hb hr (bI_nar r) (fun t ht _ => ⟨rfl, ht⟩) (fun q h => by cases h) hd hlk
/-- a method that changes its world and answers an int -/
theorem impI {l : Launch} {y : MethodName} {cc : ByteArray} {maxL : Nat} {rm : Room} {av : List Value} {D : va_G} {tys : List (ClassId × FieldType)} {w : va_W} {T : Type} {post : Int32 → T → Prop} {w1 : T → va_W} (hy : plainName y.cls = true) (hv : (lg_sl av).length ≤ maxL)
    (body : ∀ (p : Program) (e : Env) (s : State) (m : MethodId) (ar : Array Value) (below : List Frame) (meth : Method) (c : Code) (Q : State → Prop) (A : Nat → Prop), p.tables.exec = Jvm.exec → c.code = cc → c.maxLocals = maxL → s.vm.findClass y.cls = some m.cls → (∀ w ∈ lw_all, w.before ar s = true) → va_K D vwCl tys s → va_P D vwCl w s.heap → va_D A w → va_S A s.heap s.heap [] → (∀ q, s.heap.size ≤ q → A q) →
      (∀ (v : Int32) (u : T) (H : Heap) (locs : List Loc) (pc : Nat) (ls : Array Slot), post v u → va_P D vwCl (w1 u) H → va_D A (w1 u) → va_S A s.heap H locs → decode cc pc = .ok (.ireturn, 1) → W p l e rm s m ar below meth c H locs 0 0 Q (F0 m pc ls [.int v])) → ∀ ls : Array Slot, lv_has ls maxL (lv_args 0 av) → W p l e rm s m ar below meth c s.heap [] 0 0 Q (F0 m 0 ls [])) :
    MI l y (ws_ y cc maxL (some .int)) rm av D tys w post w1 := by
  intro sz
  refine metM hy hv ?_
  intro p e s m below meth c hx hb hr hml hown hts hlk _ hB ls hl
  obtain ⟨hsz, hP, hK, hD0⟩ := hB
  subst hsz
  refine body p e s m _ below meth c _ (va_A w s.heap.size) hx hb hml hown hts hK hP (hD0.self (sz := s.heap.size)) va_S.rf (fun q h => Or.inr h) ?_ ls hl
  intro v u H locs pc ls hp hP1 hD1 hS1 hd
  exact W.iret hx hb hr (fun t ht hW => ⟨⟨v, u, rfl, hp, by rw [ht]; exact hP1, va_K.moved hW.alike hK, hD1⟩, hS1.F ht⟩) hS1.2.2 hd hlk
/-- a method that changes its world and answers nothing -/
theorem impV {l : Launch} {y : MethodName} {cc : ByteArray} {maxL : Nat} {rm : Room} {av : List Value} {D : va_G} {tys : List (ClassId × FieldType)} {w : va_W} {T : Type} {post : T → Prop} {w1 : T → va_W} (hy : plainName y.cls = true) (hv : (lg_sl av).length ≤ maxL)
    (body : ∀ (p : Program) (e : Env) (s : State) (m : MethodId) (ar : Array Value) (below : List Frame) (meth : Method) (c : Code) (Q : State → Prop) (A : Nat → Prop), p.tables.exec = Jvm.exec → c.code = cc → c.maxLocals = maxL → s.vm.findClass y.cls = some m.cls → (∀ w ∈ lw_all, w.before ar s = true) → va_K D vwCl tys s → va_P D vwCl w s.heap → va_D A w → va_S A s.heap s.heap [] → (∀ q, s.heap.size ≤ q → A q) →
      (∀ (u : T) (H : Heap) (locs : List Loc) (pc : Nat) (ls : Array Slot), post u → va_P D vwCl (w1 u) H → va_D A (w1 u) → va_S A s.heap H locs → decode cc pc = .ok (.return_, 1) → W p l e rm s m ar below meth c H locs 0 0 Q (F0 m pc ls [])) → ∀ ls : Array Slot, lv_has ls maxL (lv_args 0 av) → W p l e rm s m ar below meth c s.heap [] 0 0 Q (F0 m 0 ls [])) :
    MV l y (ws_ y cc maxL none) rm av D tys w post w1 := by
  intro sz
  refine metM hy hv ?_
  intro p e s m below meth c hx hb hr hml hown hts hlk _ hB ls hl
  obtain ⟨hsz, hP, hK, hD0⟩ := hB
  subst hsz
  refine body p e s m _ below meth c _ (va_A w s.heap.size) hx hb hml hown hts hK hP (hD0.self (sz := s.heap.size)) va_S.rf (fun q h => Or.inr h) ?_ ls hl
  intro u H locs pc ls hp hP1 hD1 hS1 hd
  exact W.vret hx hb hr (fun t ht hW => ⟨⟨u, rfl, hp, by rw [ht]; exact hP1, va_K.moved hW.alike hK, hD1⟩, hS1.F ht⟩) hS1.2.2 hd hlk
end
section
/-! the two worlds, a row a field and an array (printed by gen/mkworlds.py) -/
def WX (a : Nat → Nat) (d : Nat → ClassId) (fc : Nat → Int32) (ct : Int32) (po : Nat → Int32) (ra : Nat → Int32) (sf : Nat → Int32) (oc : Nat → Int32) (rd : Int32) (be : Nat → Int32) (gs : Int32) (gr : Nat → Int32) (fi : Nat → Int32) (la : Nat → Int32) : va_W := [(a 0, .inr (0, [.ref (a 1), .int ct, .ref (a 2), .ref (a 3), .ref (a 4), .ref (a 5), .int rd, .ref (a 6), .int gs, .ref (a 7), .ref (a 8), .ref (a 9)])), (a 1, .inl (d 1, 96, .inl fc)), (a 2, .inl (d 2, 4, .inl po)), (a 3, .inl (d 3, 4, .inl ra)), (a 4, .inl (d 4, 4, .inl sf)), (a 5, .inl (d 5, 4, .inl oc)), (a 6, .inl (d 6, 4, .inl be)), (a 7, .inl (d 7, 4, .inl gr)), (a 8, .inl (d 8, 4, .inl fi)), (a 9, .inl (d 9, 4, .inl la))]
abbrev tyX (d : Nat → ClassId) : List (ClassId × FieldType) := [(d 1, .int), (d 2, .int), (d 3, .int), (d 4, .int), (d 5, .int), (d 6, .int), (d 7, .int), (d 8, .boolean), (d 9, .int)]
def WM (a : Nat → Nat) (d : Nat → ClassId) (mn : Int32) (mo : Nat → Int32) (mq : Nat → Int32) (ma : Nat → Int32) (mh : Nat → Int32) (mf : Nat → Int32) : va_W := [(a 0, .inr (1, [.int mn, .ref (a 1), .ref (a 2), .ref (a 3), .ref (a 4), .ref (a 5)])), (a 1, .inl (d 1, 4, .inl mo)), (a 2, .inl (d 2, 4, .inl mq)), (a 3, .inl (d 3, 12, .inl ma)), (a 4, .inl (d 4, 12, .inl mh)), (a 5, .inl (d 5, 96, .inl mf))]
abbrev tyM (d : Nat → ClassId) : List (ClassId × FieldType) := [(d 1, .int), (d 2, .int), (d 3, .int), (d 4, .int), (d 5, .int)]
section RowsX
variable {p : Program} {l : Launch} {e : Env} {R : Room} {s : State} {m : MethodId} {args : Array Value} {below : List Frame} {meth : Method} {c : Code} {H : Heap} {locs : List Loc} {cells slots : Nat} {Q : State → Prop}
variable {cc : ByteArray} {pc : Nat} {ls : Array Slot} {rest : List Value} {D : va_G} {A : Nat → Prop} {H0 : Heap}
variable {a : Nat → Nat} {d : Nat → ClassId} {fc : Nat → Int32} {ct : Int32} {po : Nat → Int32} {ra : Nat → Int32} {sf : Nat → Int32} {oc : Nat → Int32} {rd : Int32} {be : Nat → Int32} {gs : Int32} {gr : Nat → Int32} {fi : Nat → Int32} {la : Nat → Int32}
theorem gX_cells (hx : p.tables.exec = Jvm.exec) (hb : c.code = cc) (hts : ∀ w ∈ lw_all, w.before args s = true) (hown : s.vm.findClass RX0 = some m.cls) (hK : va_K D vwCl (tyX d) s) (hP : va_P D vwCl (WX a d fc ct po ra sf oc rd be gs gr fi la) H) (hdg : decode cc pc = .ok (.getfield 7, 3)) (kk : W p l e R s m args below meth c H locs cells slots Q (F0 m (pc + 3) ls (.ref (a 1) :: rest))) : W p l e R s m args below meth c H locs cells slots Q (F0 m pc ls (.ref (a 0) :: rest)) :=
  va_get (D := D) (ci := 0) (v := .ref (a 1)) (C := RX0) (T := TX0) (N := 12) hx hb hts in_X0 hown hK hP 0 rfl rfl 0 (by decide) (hts _ q38) (fun _ h9 => h9) rfl hdg kk
theorem lX_cells (hx : p.tables.exec = Jvm.exec) (hb : c.code = cc) (hK : va_K D vwCl (tyX d) s) (hP : va_P D vwCl (WX a d fc ct po ra sf oc rd be gs gr fi la) H) {i : Int32} (k : Nat) (hi : i = nI k) (hk : k < 96) (hdg : decode cc pc = .ok (.iaload, 1)) (kk : W p l e R s m args below meth c H locs cells slots Q (F0 m (pc + 1) ls (.int (fc k) :: rest))) : W p l e R s m args below meth c H locs cells slots Q (F0 m pc ls (.int i :: .ref (a 1) :: rest)) :=
  ldN hx hb hK hP 1 0 rfl rfl k hi hk (by decide) hdg kk
theorem sX_cells (hx : p.tables.exec = Jvm.exec) (hb : c.code = cc) (hK : va_K D vwCl (tyX d) s) (hP : va_P D vwCl (WX a d fc ct po ra sf oc rd be gs gr fi la) H) (hD : va_D A (WX a d fc ct po ra sf oc rd be gs gr fi la)) (hS : va_S A H0 H locs) {i x : Int32} (k : Nat) (hi : i = nI k) (hk : k < 96) (hdg : decode cc pc = .ok (.iastore, 1)) (kk : ∀ (H1 : Heap) (locs1 : List Loc), va_P D vwCl (WX a d (upd fc k x) ct po ra sf oc rd be gs gr fi la) H1 → va_D A (WX a d (upd fc k x) ct po ra sf oc rd be gs gr fi la) → va_S A H0 H1 locs1 → W p l e R s m args below meth c H1 locs1 cells slots Q (F0 m (pc + 1) ls rest)) : W p l e R s m args below meth c H locs cells slots Q (F0 m pc ls (.int x :: .int i :: .ref (a 1) :: rest)) :=
  stN hx hb hK hP hD hS 1 0 rfl rfl k hi hk (by decide) hdg kk
theorem gX_count (hx : p.tables.exec = Jvm.exec) (hb : c.code = cc) (hts : ∀ w ∈ lw_all, w.before args s = true) (hown : s.vm.findClass RX0 = some m.cls) (hK : va_K D vwCl (tyX d) s) (hP : va_P D vwCl (WX a d fc ct po ra sf oc rd be gs gr fi la) H) (hdg : decode cc pc = .ok (.getfield 38, 3)) (kk : W p l e R s m args below meth c H locs cells slots Q (F0 m (pc + 3) ls (.int ct :: rest))) : W p l e R s m args below meth c H locs cells slots Q (F0 m pc ls (.ref (a 0) :: rest)) :=
  va_get (D := D) (ci := 0) (v := .int ct) (C := RX0) (T := TX0) (N := 12) hx hb hts in_X0 hown hK hP 0 rfl rfl 1 (by decide) (hts _ q39) (fun _ h9 => h9) rfl hdg kk
theorem pX_count (hx : p.tables.exec = Jvm.exec) (hb : c.code = cc) (hts : ∀ w ∈ lw_all, w.before args s = true) (hown : s.vm.findClass RX0 = some m.cls) (hK : va_K D vwCl (tyX d) s) (hP : va_P D vwCl (WX a d fc ct po ra sf oc rd be gs gr fi la) H) (hD : va_D A (WX a d fc ct po ra sf oc rd be gs gr fi la)) (hS : va_S A H0 H locs) {x : Int32} (hdg : decode cc pc = .ok (.putfield 38, 3)) (kk : ∀ (H1 : Heap) (locs1 : List Loc), va_P D vwCl (WX a d fc x po ra sf oc rd be gs gr fi la) H1 → va_D A (WX a d fc x po ra sf oc rd be gs gr fi la) → va_S A H0 H1 locs1 → W p l e R s m args below meth c H1 locs1 cells slots Q (F0 m (pc + 3) ls rest)) : W p l e R s m args below meth c H locs cells slots Q (F0 m pc ls (.int x :: .ref (a 0) :: rest)) :=
  va_put (D := D) (ci := 0) (v := .int x) (ty := .int) (C := RX0) (T := TX0) (N := 12) hx hb hts in_X0 tyX0 tyX0_ok nmX0 hown hK hP hD hS 0 rfl rfl 1 (by decide) (hts _ q39) (fun _ h9 => h9) rfl (by decide +kernel) rfl rfl (Nat.le_of_ble_eq_true rfl) hdg kk
theorem gX_op (hx : p.tables.exec = Jvm.exec) (hb : c.code = cc) (hts : ∀ w ∈ lw_all, w.before args s = true) (hown : s.vm.findClass RX0 = some m.cls) (hK : va_K D vwCl (tyX d) s) (hP : va_P D vwCl (WX a d fc ct po ra sf oc rd be gs gr fi la) H) (hdg : decode cc pc = .ok (.getfield 13, 3)) (kk : W p l e R s m args below meth c H locs cells slots Q (F0 m (pc + 3) ls (.ref (a 2) :: rest))) : W p l e R s m args below meth c H locs cells slots Q (F0 m pc ls (.ref (a 0) :: rest)) :=
  va_get (D := D) (ci := 0) (v := .ref (a 2)) (C := RX0) (T := TX0) (N := 12) hx hb hts in_X0 hown hK hP 0 rfl rfl 2 (by decide) (hts _ q40) (fun _ h9 => h9) rfl hdg kk
theorem lX_op (hx : p.tables.exec = Jvm.exec) (hb : c.code = cc) (hK : va_K D vwCl (tyX d) s) (hP : va_P D vwCl (WX a d fc ct po ra sf oc rd be gs gr fi la) H) {i : Int32} (k : Nat) (hi : i = nI k) (hk : k < 4) (hdg : decode cc pc = .ok (.iaload, 1)) (kk : W p l e R s m args below meth c H locs cells slots Q (F0 m (pc + 1) ls (.int (po k) :: rest))) : W p l e R s m args below meth c H locs cells slots Q (F0 m pc ls (.int i :: .ref (a 2) :: rest)) :=
  ldN hx hb hK hP 2 1 rfl rfl k hi hk (by decide) hdg kk
theorem sX_op (hx : p.tables.exec = Jvm.exec) (hb : c.code = cc) (hK : va_K D vwCl (tyX d) s) (hP : va_P D vwCl (WX a d fc ct po ra sf oc rd be gs gr fi la) H) (hD : va_D A (WX a d fc ct po ra sf oc rd be gs gr fi la)) (hS : va_S A H0 H locs) {i x : Int32} (k : Nat) (hi : i = nI k) (hk : k < 4) (hdg : decode cc pc = .ok (.iastore, 1)) (kk : ∀ (H1 : Heap) (locs1 : List Loc), va_P D vwCl (WX a d fc ct (upd po k x) ra sf oc rd be gs gr fi la) H1 → va_D A (WX a d fc ct (upd po k x) ra sf oc rd be gs gr fi la) → va_S A H0 H1 locs1 → W p l e R s m args below meth c H1 locs1 cells slots Q (F0 m (pc + 1) ls rest)) : W p l e R s m args below meth c H locs cells slots Q (F0 m pc ls (.int x :: .int i :: .ref (a 2) :: rest)) :=
  stN hx hb hK hP hD hS 2 1 rfl rfl k hi hk (by decide) hdg kk
theorem gX_arrays (hx : p.tables.exec = Jvm.exec) (hb : c.code = cc) (hts : ∀ w ∈ lw_all, w.before args s = true) (hown : s.vm.findClass RX0 = some m.cls) (hK : va_K D vwCl (tyX d) s) (hP : va_P D vwCl (WX a d fc ct po ra sf oc rd be gs gr fi la) H) (hdg : decode cc pc = .ok (.getfield 16, 3)) (kk : W p l e R s m args below meth c H locs cells slots Q (F0 m (pc + 3) ls (.ref (a 3) :: rest))) : W p l e R s m args below meth c H locs cells slots Q (F0 m pc ls (.ref (a 0) :: rest)) :=
  va_get (D := D) (ci := 0) (v := .ref (a 3)) (C := RX0) (T := TX0) (N := 12) hx hb hts in_X0 hown hK hP 0 rfl rfl 3 (by decide) (hts _ q41) (fun _ h9 => h9) rfl hdg kk
theorem lX_arrays (hx : p.tables.exec = Jvm.exec) (hb : c.code = cc) (hK : va_K D vwCl (tyX d) s) (hP : va_P D vwCl (WX a d fc ct po ra sf oc rd be gs gr fi la) H) {i : Int32} (k : Nat) (hi : i = nI k) (hk : k < 4) (hdg : decode cc pc = .ok (.iaload, 1)) (kk : W p l e R s m args below meth c H locs cells slots Q (F0 m (pc + 1) ls (.int (ra k) :: rest))) : W p l e R s m args below meth c H locs cells slots Q (F0 m pc ls (.int i :: .ref (a 3) :: rest)) :=
  ldN hx hb hK hP 3 2 rfl rfl k hi hk (by decide) hdg kk
theorem sX_arrays (hx : p.tables.exec = Jvm.exec) (hb : c.code = cc) (hK : va_K D vwCl (tyX d) s) (hP : va_P D vwCl (WX a d fc ct po ra sf oc rd be gs gr fi la) H) (hD : va_D A (WX a d fc ct po ra sf oc rd be gs gr fi la)) (hS : va_S A H0 H locs) {i x : Int32} (k : Nat) (hi : i = nI k) (hk : k < 4) (hdg : decode cc pc = .ok (.iastore, 1)) (kk : ∀ (H1 : Heap) (locs1 : List Loc), va_P D vwCl (WX a d fc ct po (upd ra k x) sf oc rd be gs gr fi la) H1 → va_D A (WX a d fc ct po (upd ra k x) sf oc rd be gs gr fi la) → va_S A H0 H1 locs1 → W p l e R s m args below meth c H1 locs1 cells slots Q (F0 m (pc + 1) ls rest)) : W p l e R s m args below meth c H locs cells slots Q (F0 m pc ls (.int x :: .int i :: .ref (a 3) :: rest)) :=
  stN hx hb hK hP hD hS 3 2 rfl rfl k hi hk (by decide) hdg kk
theorem gX_shifts (hx : p.tables.exec = Jvm.exec) (hb : c.code = cc) (hts : ∀ w ∈ lw_all, w.before args s = true) (hown : s.vm.findClass RX0 = some m.cls) (hK : va_K D vwCl (tyX d) s) (hP : va_P D vwCl (WX a d fc ct po ra sf oc rd be gs gr fi la) H) (hdg : decode cc pc = .ok (.getfield 19, 3)) (kk : W p l e R s m args below meth c H locs cells slots Q (F0 m (pc + 3) ls (.ref (a 4) :: rest))) : W p l e R s m args below meth c H locs cells slots Q (F0 m pc ls (.ref (a 0) :: rest)) :=
  va_get (D := D) (ci := 0) (v := .ref (a 4)) (C := RX0) (T := TX0) (N := 12) hx hb hts in_X0 hown hK hP 0 rfl rfl 4 (by decide) (hts _ q42) (fun _ h9 => h9) rfl hdg kk
theorem lX_shifts (hx : p.tables.exec = Jvm.exec) (hb : c.code = cc) (hK : va_K D vwCl (tyX d) s) (hP : va_P D vwCl (WX a d fc ct po ra sf oc rd be gs gr fi la) H) {i : Int32} (k : Nat) (hi : i = nI k) (hk : k < 4) (hdg : decode cc pc = .ok (.iaload, 1)) (kk : W p l e R s m args below meth c H locs cells slots Q (F0 m (pc + 1) ls (.int (sf k) :: rest))) : W p l e R s m args below meth c H locs cells slots Q (F0 m pc ls (.int i :: .ref (a 4) :: rest)) :=
  ldN hx hb hK hP 4 3 rfl rfl k hi hk (by decide) hdg kk
theorem sX_shifts (hx : p.tables.exec = Jvm.exec) (hb : c.code = cc) (hK : va_K D vwCl (tyX d) s) (hP : va_P D vwCl (WX a d fc ct po ra sf oc rd be gs gr fi la) H) (hD : va_D A (WX a d fc ct po ra sf oc rd be gs gr fi la)) (hS : va_S A H0 H locs) {i x : Int32} (k : Nat) (hi : i = nI k) (hk : k < 4) (hdg : decode cc pc = .ok (.iastore, 1)) (kk : ∀ (H1 : Heap) (locs1 : List Loc), va_P D vwCl (WX a d fc ct po ra (upd sf k x) oc rd be gs gr fi la) H1 → va_D A (WX a d fc ct po ra (upd sf k x) oc rd be gs gr fi la) → va_S A H0 H1 locs1 → W p l e R s m args below meth c H1 locs1 cells slots Q (F0 m (pc + 1) ls rest)) : W p l e R s m args below meth c H locs cells slots Q (F0 m pc ls (.int x :: .int i :: .ref (a 4) :: rest)) :=
  stN hx hb hK hP hD hS 4 3 rfl rfl k hi hk (by decide) hdg kk
theorem gX_constant (hx : p.tables.exec = Jvm.exec) (hb : c.code = cc) (hts : ∀ w ∈ lw_all, w.before args s = true) (hown : s.vm.findClass RX0 = some m.cls) (hK : va_K D vwCl (tyX d) s) (hP : va_P D vwCl (WX a d fc ct po ra sf oc rd be gs gr fi la) H) (hdg : decode cc pc = .ok (.getfield 22, 3)) (kk : W p l e R s m args below meth c H locs cells slots Q (F0 m (pc + 3) ls (.ref (a 5) :: rest))) : W p l e R s m args below meth c H locs cells slots Q (F0 m pc ls (.ref (a 0) :: rest)) :=
  va_get (D := D) (ci := 0) (v := .ref (a 5)) (C := RX0) (T := TX0) (N := 12) hx hb hts in_X0 hown hK hP 0 rfl rfl 5 (by decide) (hts _ q43) (fun _ h9 => h9) rfl hdg kk
theorem lX_constant (hx : p.tables.exec = Jvm.exec) (hb : c.code = cc) (hK : va_K D vwCl (tyX d) s) (hP : va_P D vwCl (WX a d fc ct po ra sf oc rd be gs gr fi la) H) {i : Int32} (k : Nat) (hi : i = nI k) (hk : k < 4) (hdg : decode cc pc = .ok (.iaload, 1)) (kk : W p l e R s m args below meth c H locs cells slots Q (F0 m (pc + 1) ls (.int (oc k) :: rest))) : W p l e R s m args below meth c H locs cells slots Q (F0 m pc ls (.int i :: .ref (a 5) :: rest)) :=
  ldN hx hb hK hP 5 4 rfl rfl k hi hk (by decide) hdg kk
theorem sX_constant (hx : p.tables.exec = Jvm.exec) (hb : c.code = cc) (hK : va_K D vwCl (tyX d) s) (hP : va_P D vwCl (WX a d fc ct po ra sf oc rd be gs gr fi la) H) (hD : va_D A (WX a d fc ct po ra sf oc rd be gs gr fi la)) (hS : va_S A H0 H locs) {i x : Int32} (k : Nat) (hi : i = nI k) (hk : k < 4) (hdg : decode cc pc = .ok (.iastore, 1)) (kk : ∀ (H1 : Heap) (locs1 : List Loc), va_P D vwCl (WX a d fc ct po ra sf (upd oc k x) rd be gs gr fi la) H1 → va_D A (WX a d fc ct po ra sf (upd oc k x) rd be gs gr fi la) → va_S A H0 H1 locs1 → W p l e R s m args below meth c H1 locs1 cells slots Q (F0 m (pc + 1) ls rest)) : W p l e R s m args below meth c H locs cells slots Q (F0 m pc ls (.int x :: .int i :: .ref (a 5) :: rest)) :=
  stN hx hb hK hP hD hS 5 4 rfl rfl k hi hk (by decide) hdg kk
theorem gX_ready (hx : p.tables.exec = Jvm.exec) (hb : c.code = cc) (hts : ∀ w ∈ lw_all, w.before args s = true) (hown : s.vm.findClass RX0 = some m.cls) (hK : va_K D vwCl (tyX d) s) (hP : va_P D vwCl (WX a d fc ct po ra sf oc rd be gs gr fi la) H) (hdg : decode cc pc = .ok (.getfield 49, 3)) (kk : W p l e R s m args below meth c H locs cells slots Q (F0 m (pc + 3) ls (.int rd :: rest))) : W p l e R s m args below meth c H locs cells slots Q (F0 m pc ls (.ref (a 0) :: rest)) :=
  va_get (D := D) (ci := 0) (v := .int rd) (C := RX0) (T := TX0) (N := 12) hx hb hts in_X0 hown hK hP 0 rfl rfl 6 (by decide) (hts _ q44) (fun _ h9 => h9) rfl hdg kk
theorem pX_ready (hx : p.tables.exec = Jvm.exec) (hb : c.code = cc) (hts : ∀ w ∈ lw_all, w.before args s = true) (hown : s.vm.findClass RX0 = some m.cls) (hK : va_K D vwCl (tyX d) s) (hP : va_P D vwCl (WX a d fc ct po ra sf oc rd be gs gr fi la) H) (hD : va_D A (WX a d fc ct po ra sf oc rd be gs gr fi la)) (hS : va_S A H0 H locs) {x : Int32} (hn : narrow .boolean (.int x) = .int x) (hf : fits .boolean (.int x) = true) (hdg : decode cc pc = .ok (.putfield 49, 3)) (kk : ∀ (H1 : Heap) (locs1 : List Loc), va_P D vwCl (WX a d fc ct po ra sf oc x be gs gr fi la) H1 → va_D A (WX a d fc ct po ra sf oc x be gs gr fi la) → va_S A H0 H1 locs1 → W p l e R s m args below meth c H1 locs1 cells slots Q (F0 m (pc + 3) ls rest)) : W p l e R s m args below meth c H locs cells slots Q (F0 m pc ls (.int x :: .ref (a 0) :: rest)) :=
  va_put (D := D) (ci := 0) (v := .int x) (ty := .boolean) (C := RX0) (T := TX0) (N := 12) hx hb hts in_X0 tyX0 tyX0_ok nmX0 hown hK hP hD hS 0 rfl rfl 6 (by decide) (hts _ q44) (fun _ h9 => h9) rfl (by decide +kernel) hn hf (Nat.le_of_ble_eq_true rfl) hdg kk
theorem gX_behind (hx : p.tables.exec = Jvm.exec) (hb : c.code = cc) (hts : ∀ w ∈ lw_all, w.before args s = true) (hown : s.vm.findClass RX0 = some m.cls) (hK : va_K D vwCl (tyX d) s) (hP : va_P D vwCl (WX a d fc ct po ra sf oc rd be gs gr fi la) H) (hdg : decode cc pc = .ok (.getfield 25, 3)) (kk : W p l e R s m args below meth c H locs cells slots Q (F0 m (pc + 3) ls (.ref (a 6) :: rest))) : W p l e R s m args below meth c H locs cells slots Q (F0 m pc ls (.ref (a 0) :: rest)) :=
  va_get (D := D) (ci := 0) (v := .ref (a 6)) (C := RX0) (T := TX0) (N := 12) hx hb hts in_X0 hown hK hP 0 rfl rfl 7 (by decide) (hts _ q45) (fun _ h9 => h9) rfl hdg kk
theorem lX_behind (hx : p.tables.exec = Jvm.exec) (hb : c.code = cc) (hK : va_K D vwCl (tyX d) s) (hP : va_P D vwCl (WX a d fc ct po ra sf oc rd be gs gr fi la) H) {i : Int32} (k : Nat) (hi : i = nI k) (hk : k < 4) (hdg : decode cc pc = .ok (.iaload, 1)) (kk : W p l e R s m args below meth c H locs cells slots Q (F0 m (pc + 1) ls (.int (be k) :: rest))) : W p l e R s m args below meth c H locs cells slots Q (F0 m pc ls (.int i :: .ref (a 6) :: rest)) :=
  ldN hx hb hK hP 6 5 rfl rfl k hi hk (by decide) hdg kk
theorem sX_behind (hx : p.tables.exec = Jvm.exec) (hb : c.code = cc) (hK : va_K D vwCl (tyX d) s) (hP : va_P D vwCl (WX a d fc ct po ra sf oc rd be gs gr fi la) H) (hD : va_D A (WX a d fc ct po ra sf oc rd be gs gr fi la)) (hS : va_S A H0 H locs) {i x : Int32} (k : Nat) (hi : i = nI k) (hk : k < 4) (hdg : decode cc pc = .ok (.iastore, 1)) (kk : ∀ (H1 : Heap) (locs1 : List Loc), va_P D vwCl (WX a d fc ct po ra sf oc rd (upd be k x) gs gr fi la) H1 → va_D A (WX a d fc ct po ra sf oc rd (upd be k x) gs gr fi la) → va_S A H0 H1 locs1 → W p l e R s m args below meth c H1 locs1 cells slots Q (F0 m (pc + 1) ls rest)) : W p l e R s m args below meth c H locs cells slots Q (F0 m pc ls (.int x :: .int i :: .ref (a 6) :: rest)) :=
  stN hx hb hK hP hD hS 6 5 rfl rfl k hi hk (by decide) hdg kk
theorem gX_groups (hx : p.tables.exec = Jvm.exec) (hb : c.code = cc) (hts : ∀ w ∈ lw_all, w.before args s = true) (hown : s.vm.findClass RX0 = some m.cls) (hK : va_K D vwCl (tyX d) s) (hP : va_P D vwCl (WX a d fc ct po ra sf oc rd be gs gr fi la) H) (hdg : decode cc pc = .ok (.getfield 87, 3)) (kk : W p l e R s m args below meth c H locs cells slots Q (F0 m (pc + 3) ls (.int gs :: rest))) : W p l e R s m args below meth c H locs cells slots Q (F0 m pc ls (.ref (a 0) :: rest)) :=
  va_get (D := D) (ci := 0) (v := .int gs) (C := RX0) (T := TX0) (N := 12) hx hb hts in_X0 hown hK hP 0 rfl rfl 8 (by decide) (hts _ q46) (fun _ h9 => h9) rfl hdg kk
theorem pX_groups (hx : p.tables.exec = Jvm.exec) (hb : c.code = cc) (hts : ∀ w ∈ lw_all, w.before args s = true) (hown : s.vm.findClass RX0 = some m.cls) (hK : va_K D vwCl (tyX d) s) (hP : va_P D vwCl (WX a d fc ct po ra sf oc rd be gs gr fi la) H) (hD : va_D A (WX a d fc ct po ra sf oc rd be gs gr fi la)) (hS : va_S A H0 H locs) {x : Int32} (hdg : decode cc pc = .ok (.putfield 87, 3)) (kk : ∀ (H1 : Heap) (locs1 : List Loc), va_P D vwCl (WX a d fc ct po ra sf oc rd be x gr fi la) H1 → va_D A (WX a d fc ct po ra sf oc rd be x gr fi la) → va_S A H0 H1 locs1 → W p l e R s m args below meth c H1 locs1 cells slots Q (F0 m (pc + 3) ls rest)) : W p l e R s m args below meth c H locs cells slots Q (F0 m pc ls (.int x :: .ref (a 0) :: rest)) :=
  va_put (D := D) (ci := 0) (v := .int x) (ty := .int) (C := RX0) (T := TX0) (N := 12) hx hb hts in_X0 tyX0 tyX0_ok nmX0 hown hK hP hD hS 0 rfl rfl 8 (by decide) (hts _ q46) (fun _ h9 => h9) rfl (by decide +kernel) rfl rfl (Nat.le_of_ble_eq_true rfl) hdg kk
theorem gX_group (hx : p.tables.exec = Jvm.exec) (hb : c.code = cc) (hts : ∀ w ∈ lw_all, w.before args s = true) (hown : s.vm.findClass RX0 = some m.cls) (hK : va_K D vwCl (tyX d) s) (hP : va_P D vwCl (WX a d fc ct po ra sf oc rd be gs gr fi la) H) (hdg : decode cc pc = .ok (.getfield 28, 3)) (kk : W p l e R s m args below meth c H locs cells slots Q (F0 m (pc + 3) ls (.ref (a 7) :: rest))) : W p l e R s m args below meth c H locs cells slots Q (F0 m pc ls (.ref (a 0) :: rest)) :=
  va_get (D := D) (ci := 0) (v := .ref (a 7)) (C := RX0) (T := TX0) (N := 12) hx hb hts in_X0 hown hK hP 0 rfl rfl 9 (by decide) (hts _ q47) (fun _ h9 => h9) rfl hdg kk
theorem lX_group (hx : p.tables.exec = Jvm.exec) (hb : c.code = cc) (hK : va_K D vwCl (tyX d) s) (hP : va_P D vwCl (WX a d fc ct po ra sf oc rd be gs gr fi la) H) {i : Int32} (k : Nat) (hi : i = nI k) (hk : k < 4) (hdg : decode cc pc = .ok (.iaload, 1)) (kk : W p l e R s m args below meth c H locs cells slots Q (F0 m (pc + 1) ls (.int (gr k) :: rest))) : W p l e R s m args below meth c H locs cells slots Q (F0 m pc ls (.int i :: .ref (a 7) :: rest)) :=
  ldN hx hb hK hP 7 6 rfl rfl k hi hk (by decide) hdg kk
theorem sX_group (hx : p.tables.exec = Jvm.exec) (hb : c.code = cc) (hK : va_K D vwCl (tyX d) s) (hP : va_P D vwCl (WX a d fc ct po ra sf oc rd be gs gr fi la) H) (hD : va_D A (WX a d fc ct po ra sf oc rd be gs gr fi la)) (hS : va_S A H0 H locs) {i x : Int32} (k : Nat) (hi : i = nI k) (hk : k < 4) (hdg : decode cc pc = .ok (.iastore, 1)) (kk : ∀ (H1 : Heap) (locs1 : List Loc), va_P D vwCl (WX a d fc ct po ra sf oc rd be gs (upd gr k x) fi la) H1 → va_D A (WX a d fc ct po ra sf oc rd be gs (upd gr k x) fi la) → va_S A H0 H1 locs1 → W p l e R s m args below meth c H1 locs1 cells slots Q (F0 m (pc + 1) ls rest)) : W p l e R s m args below meth c H locs cells slots Q (F0 m pc ls (.int x :: .int i :: .ref (a 7) :: rest)) :=
  stN hx hb hK hP hD hS 7 6 rfl rfl k hi hk (by decide) hdg kk
theorem gX_fits (hx : p.tables.exec = Jvm.exec) (hb : c.code = cc) (hts : ∀ w ∈ lw_all, w.before args s = true) (hown : s.vm.findClass RX0 = some m.cls) (hK : va_K D vwCl (tyX d) s) (hP : va_P D vwCl (WX a d fc ct po ra sf oc rd be gs gr fi la) H) (hdg : decode cc pc = .ok (.getfield 31, 3)) (kk : W p l e R s m args below meth c H locs cells slots Q (F0 m (pc + 3) ls (.ref (a 8) :: rest))) : W p l e R s m args below meth c H locs cells slots Q (F0 m pc ls (.ref (a 0) :: rest)) :=
  va_get (D := D) (ci := 0) (v := .ref (a 8)) (C := RX0) (T := TX0) (N := 12) hx hb hts in_X0 hown hK hP 0 rfl rfl 10 (by decide) (hts _ q48) (fun _ h9 => h9) rfl hdg kk
theorem lX_fits (hx : p.tables.exec = Jvm.exec) (hb : c.code = cc) (hK : va_K D vwCl (tyX d) s) (hP : va_P D vwCl (WX a d fc ct po ra sf oc rd be gs gr fi la) H) {i : Int32} (k : Nat) (hi : i = nI k) (hk : k < 4) (hdg : decode cc pc = .ok (.baload, 1)) (kk : W p l e R s m args below meth c H locs cells slots Q (F0 m (pc + 1) ls (.int (fi k) :: rest))) : W p l e R s m args below meth c H locs cells slots Q (F0 m pc ls (.int i :: .ref (a 8) :: rest)) :=
  ldZ hx hb hK hP 8 7 rfl rfl k hi hk (by decide) hdg kk
theorem sX_fits (hx : p.tables.exec = Jvm.exec) (hb : c.code = cc) (hK : va_K D vwCl (tyX d) s) (hP : va_P D vwCl (WX a d fc ct po ra sf oc rd be gs gr fi la) H) (hD : va_D A (WX a d fc ct po ra sf oc rd be gs gr fi la)) (hS : va_S A H0 H locs) {i x : Int32} (k : Nat) (hi : i = nI k) (hk : k < 4) (hz : vp_nar .boolean x = x) (hdg : decode cc pc = .ok (.bastore, 1)) (kk : ∀ (H1 : Heap) (locs1 : List Loc), va_P D vwCl (WX a d fc ct po ra sf oc rd be gs gr (upd fi k x) la) H1 → va_D A (WX a d fc ct po ra sf oc rd be gs gr (upd fi k x) la) → va_S A H0 H1 locs1 → W p l e R s m args below meth c H1 locs1 cells slots Q (F0 m (pc + 1) ls rest)) : W p l e R s m args below meth c H locs cells slots Q (F0 m pc ls (.int x :: .int i :: .ref (a 8) :: rest)) :=
  stZ hx hb hK hP hD hS 8 7 rfl rfl k hi hk (by decide) hz hdg kk
theorem gX_lane (hx : p.tables.exec = Jvm.exec) (hb : c.code = cc) (hts : ∀ w ∈ lw_all, w.before args s = true) (hown : s.vm.findClass RX0 = some m.cls) (hK : va_K D vwCl (tyX d) s) (hP : va_P D vwCl (WX a d fc ct po ra sf oc rd be gs gr fi la) H) (hdg : decode cc pc = .ok (.getfield 35, 3)) (kk : W p l e R s m args below meth c H locs cells slots Q (F0 m (pc + 3) ls (.ref (a 9) :: rest))) : W p l e R s m args below meth c H locs cells slots Q (F0 m pc ls (.ref (a 0) :: rest)) :=
  va_get (D := D) (ci := 0) (v := .ref (a 9)) (C := RX0) (T := TX0) (N := 12) hx hb hts in_X0 hown hK hP 0 rfl rfl 11 (by decide) (hts _ q49) (fun _ h9 => h9) rfl hdg kk
theorem lX_lane (hx : p.tables.exec = Jvm.exec) (hb : c.code = cc) (hK : va_K D vwCl (tyX d) s) (hP : va_P D vwCl (WX a d fc ct po ra sf oc rd be gs gr fi la) H) {i : Int32} (k : Nat) (hi : i = nI k) (hk : k < 4) (hdg : decode cc pc = .ok (.iaload, 1)) (kk : W p l e R s m args below meth c H locs cells slots Q (F0 m (pc + 1) ls (.int (la k) :: rest))) : W p l e R s m args below meth c H locs cells slots Q (F0 m pc ls (.int i :: .ref (a 9) :: rest)) :=
  ldN hx hb hK hP 9 8 rfl rfl k hi hk (by decide) hdg kk
theorem sX_lane (hx : p.tables.exec = Jvm.exec) (hb : c.code = cc) (hK : va_K D vwCl (tyX d) s) (hP : va_P D vwCl (WX a d fc ct po ra sf oc rd be gs gr fi la) H) (hD : va_D A (WX a d fc ct po ra sf oc rd be gs gr fi la)) (hS : va_S A H0 H locs) {i x : Int32} (k : Nat) (hi : i = nI k) (hk : k < 4) (hdg : decode cc pc = .ok (.iastore, 1)) (kk : ∀ (H1 : Heap) (locs1 : List Loc), va_P D vwCl (WX a d fc ct po ra sf oc rd be gs gr fi (upd la k x)) H1 → va_D A (WX a d fc ct po ra sf oc rd be gs gr fi (upd la k x)) → va_S A H0 H1 locs1 → W p l e R s m args below meth c H1 locs1 cells slots Q (F0 m (pc + 1) ls rest)) : W p l e R s m args below meth c H locs cells slots Q (F0 m pc ls (.int x :: .int i :: .ref (a 9) :: rest)) :=
  stN hx hb hK hP hD hS 9 8 rfl rfl k hi hk (by decide) hdg kk
end RowsX
section RowsM
variable {p : Program} {l : Launch} {e : Env} {R : Room} {s : State} {m : MethodId} {args : Array Value} {below : List Frame} {meth : Method} {c : Code} {H : Heap} {locs : List Loc} {cells slots : Nat} {Q : State → Prop}
variable {cc : ByteArray} {pc : Nat} {ls : Array Slot} {rest : List Value} {D : va_G} {A : Nat → Prop} {H0 : Heap}
variable {a : Nat → Nat} {d : Nat → ClassId} {mn : Int32} {mo : Nat → Int32} {mq : Nat → Int32} {ma : Nat → Int32} {mh : Nat → Int32} {mf : Nat → Int32}
theorem gM_size (hx : p.tables.exec = Jvm.exec) (hb : c.code = cc) (hts : ∀ w ∈ lw_all, w.before args s = true) (hown : s.vm.findClass RX1 = some m.cls) (hK : va_K D vwCl (tyM d) s) (hP : va_P D vwCl (WM a d mn mo mq ma mh mf) H) (hdg : decode cc pc = .ok (.getfield 25, 3)) (kk : W p l e R s m args below meth c H locs cells slots Q (F0 m (pc + 3) ls (.int mn :: rest))) : W p l e R s m args below meth c H locs cells slots Q (F0 m pc ls (.ref (a 0) :: rest)) :=
  va_get (D := D) (ci := 1) (v := .int mn) (C := RX1) (T := TX1) (N := 6) hx hb hts in_X1 hown hK hP 0 rfl rfl 0 (by decide) (hts _ q224) (fun _ h9 => h9) rfl hdg kk
theorem pM_size (hx : p.tables.exec = Jvm.exec) (hb : c.code = cc) (hts : ∀ w ∈ lw_all, w.before args s = true) (hown : s.vm.findClass RX1 = some m.cls) (hK : va_K D vwCl (tyM d) s) (hP : va_P D vwCl (WM a d mn mo mq ma mh mf) H) (hD : va_D A (WM a d mn mo mq ma mh mf)) (hS : va_S A H0 H locs) {x : Int32} (hdg : decode cc pc = .ok (.putfield 25, 3)) (kk : ∀ (H1 : Heap) (locs1 : List Loc), va_P D vwCl (WM a d x mo mq ma mh mf) H1 → va_D A (WM a d x mo mq ma mh mf) → va_S A H0 H1 locs1 → W p l e R s m args below meth c H1 locs1 cells slots Q (F0 m (pc + 3) ls rest)) : W p l e R s m args below meth c H locs cells slots Q (F0 m pc ls (.int x :: .ref (a 0) :: rest)) :=
  va_put (D := D) (ci := 1) (v := .int x) (ty := .int) (C := RX1) (T := TX1) (N := 6) hx hb hts in_X1 tyX1 tyX1_ok nmX1 hown hK hP hD hS 0 rfl rfl 0 (by decide) (hts _ q224) (fun _ h9 => h9) rfl (by decide +kernel) rfl rfl (Nat.le_of_ble_eq_true rfl) hdg kk
theorem gM_ops (hx : p.tables.exec = Jvm.exec) (hb : c.code = cc) (hts : ∀ w ∈ lw_all, w.before args s = true) (hown : s.vm.findClass RX1 = some m.cls) (hK : va_K D vwCl (tyM d) s) (hP : va_P D vwCl (WM a d mn mo mq ma mh mf) H) (hdg : decode cc pc = .ok (.getfield 7, 3)) (kk : W p l e R s m args below meth c H locs cells slots Q (F0 m (pc + 3) ls (.ref (a 1) :: rest))) : W p l e R s m args below meth c H locs cells slots Q (F0 m pc ls (.ref (a 0) :: rest)) :=
  va_get (D := D) (ci := 1) (v := .ref (a 1)) (C := RX1) (T := TX1) (N := 6) hx hb hts in_X1 hown hK hP 0 rfl rfl 1 (by decide) (hts _ q225) (fun _ h9 => h9) rfl hdg kk
theorem lM_ops (hx : p.tables.exec = Jvm.exec) (hb : c.code = cc) (hK : va_K D vwCl (tyM d) s) (hP : va_P D vwCl (WM a d mn mo mq ma mh mf) H) {i : Int32} (k : Nat) (hi : i = nI k) (hk : k < 4) (hdg : decode cc pc = .ok (.iaload, 1)) (kk : W p l e R s m args below meth c H locs cells slots Q (F0 m (pc + 1) ls (.int (mo k) :: rest))) : W p l e R s m args below meth c H locs cells slots Q (F0 m pc ls (.int i :: .ref (a 1) :: rest)) :=
  ldN hx hb hK hP 1 0 rfl rfl k hi hk (by decide) hdg kk
theorem sM_ops (hx : p.tables.exec = Jvm.exec) (hb : c.code = cc) (hK : va_K D vwCl (tyM d) s) (hP : va_P D vwCl (WM a d mn mo mq ma mh mf) H) (hD : va_D A (WM a d mn mo mq ma mh mf)) (hS : va_S A H0 H locs) {i x : Int32} (k : Nat) (hi : i = nI k) (hk : k < 4) (hdg : decode cc pc = .ok (.iastore, 1)) (kk : ∀ (H1 : Heap) (locs1 : List Loc), va_P D vwCl (WM a d mn (upd mo k x) mq ma mh mf) H1 → va_D A (WM a d mn (upd mo k x) mq ma mh mf) → va_S A H0 H1 locs1 → W p l e R s m args below meth c H1 locs1 cells slots Q (F0 m (pc + 1) ls rest)) : W p l e R s m args below meth c H locs cells slots Q (F0 m pc ls (.int x :: .int i :: .ref (a 1) :: rest)) :=
  stN hx hb hK hP hD hS 1 0 rfl rfl k hi hk (by decide) hdg kk
theorem gM_constants (hx : p.tables.exec = Jvm.exec) (hb : c.code = cc) (hts : ∀ w ∈ lw_all, w.before args s = true) (hown : s.vm.findClass RX1 = some m.cls) (hK : va_K D vwCl (tyM d) s) (hP : va_P D vwCl (WM a d mn mo mq ma mh mf) H) (hdg : decode cc pc = .ok (.getfield 13, 3)) (kk : W p l e R s m args below meth c H locs cells slots Q (F0 m (pc + 3) ls (.ref (a 2) :: rest))) : W p l e R s m args below meth c H locs cells slots Q (F0 m pc ls (.ref (a 0) :: rest)) :=
  va_get (D := D) (ci := 1) (v := .ref (a 2)) (C := RX1) (T := TX1) (N := 6) hx hb hts in_X1 hown hK hP 0 rfl rfl 2 (by decide) (hts _ q226) (fun _ h9 => h9) rfl hdg kk
theorem lM_constants (hx : p.tables.exec = Jvm.exec) (hb : c.code = cc) (hK : va_K D vwCl (tyM d) s) (hP : va_P D vwCl (WM a d mn mo mq ma mh mf) H) {i : Int32} (k : Nat) (hi : i = nI k) (hk : k < 4) (hdg : decode cc pc = .ok (.iaload, 1)) (kk : W p l e R s m args below meth c H locs cells slots Q (F0 m (pc + 1) ls (.int (mq k) :: rest))) : W p l e R s m args below meth c H locs cells slots Q (F0 m pc ls (.int i :: .ref (a 2) :: rest)) :=
  ldN hx hb hK hP 2 1 rfl rfl k hi hk (by decide) hdg kk
theorem sM_constants (hx : p.tables.exec = Jvm.exec) (hb : c.code = cc) (hK : va_K D vwCl (tyM d) s) (hP : va_P D vwCl (WM a d mn mo mq ma mh mf) H) (hD : va_D A (WM a d mn mo mq ma mh mf)) (hS : va_S A H0 H locs) {i x : Int32} (k : Nat) (hi : i = nI k) (hk : k < 4) (hdg : decode cc pc = .ok (.iastore, 1)) (kk : ∀ (H1 : Heap) (locs1 : List Loc), va_P D vwCl (WM a d mn mo (upd mq k x) ma mh mf) H1 → va_D A (WM a d mn mo (upd mq k x) ma mh mf) → va_S A H0 H1 locs1 → W p l e R s m args below meth c H1 locs1 cells slots Q (F0 m (pc + 1) ls rest)) : W p l e R s m args below meth c H locs cells slots Q (F0 m pc ls (.int x :: .int i :: .ref (a 2) :: rest)) :=
  stN hx hb hK hP hD hS 2 1 rfl rfl k hi hk (by decide) hdg kk
theorem gM_arrays (hx : p.tables.exec = Jvm.exec) (hb : c.code = cc) (hts : ∀ w ∈ lw_all, w.before args s = true) (hown : s.vm.findClass RX1 = some m.cls) (hK : va_K D vwCl (tyM d) s) (hP : va_P D vwCl (WM a d mn mo mq ma mh mf) H) (hdg : decode cc pc = .ok (.getfield 16, 3)) (kk : W p l e R s m args below meth c H locs cells slots Q (F0 m (pc + 3) ls (.ref (a 3) :: rest))) : W p l e R s m args below meth c H locs cells slots Q (F0 m pc ls (.ref (a 0) :: rest)) :=
  va_get (D := D) (ci := 1) (v := .ref (a 3)) (C := RX1) (T := TX1) (N := 6) hx hb hts in_X1 hown hK hP 0 rfl rfl 3 (by decide) (hts _ q227) (fun _ h9 => h9) rfl hdg kk
theorem lM_arrays (hx : p.tables.exec = Jvm.exec) (hb : c.code = cc) (hK : va_K D vwCl (tyM d) s) (hP : va_P D vwCl (WM a d mn mo mq ma mh mf) H) {i : Int32} (k : Nat) (hi : i = nI k) (hk : k < 12) (hdg : decode cc pc = .ok (.iaload, 1)) (kk : W p l e R s m args below meth c H locs cells slots Q (F0 m (pc + 1) ls (.int (ma k) :: rest))) : W p l e R s m args below meth c H locs cells slots Q (F0 m pc ls (.int i :: .ref (a 3) :: rest)) :=
  ldN hx hb hK hP 3 2 rfl rfl k hi hk (by decide) hdg kk
theorem sM_arrays (hx : p.tables.exec = Jvm.exec) (hb : c.code = cc) (hK : va_K D vwCl (tyM d) s) (hP : va_P D vwCl (WM a d mn mo mq ma mh mf) H) (hD : va_D A (WM a d mn mo mq ma mh mf)) (hS : va_S A H0 H locs) {i x : Int32} (k : Nat) (hi : i = nI k) (hk : k < 12) (hdg : decode cc pc = .ok (.iastore, 1)) (kk : ∀ (H1 : Heap) (locs1 : List Loc), va_P D vwCl (WM a d mn mo mq (upd ma k x) mh mf) H1 → va_D A (WM a d mn mo mq (upd ma k x) mh mf) → va_S A H0 H1 locs1 → W p l e R s m args below meth c H1 locs1 cells slots Q (F0 m (pc + 1) ls rest)) : W p l e R s m args below meth c H locs cells slots Q (F0 m pc ls (.int x :: .int i :: .ref (a 3) :: rest)) :=
  stN hx hb hK hP hD hS 3 2 rfl rfl k hi hk (by decide) hdg kk
theorem gM_shifts (hx : p.tables.exec = Jvm.exec) (hb : c.code = cc) (hts : ∀ w ∈ lw_all, w.before args s = true) (hown : s.vm.findClass RX1 = some m.cls) (hK : va_K D vwCl (tyM d) s) (hP : va_P D vwCl (WM a d mn mo mq ma mh mf) H) (hdg : decode cc pc = .ok (.getfield 19, 3)) (kk : W p l e R s m args below meth c H locs cells slots Q (F0 m (pc + 3) ls (.ref (a 4) :: rest))) : W p l e R s m args below meth c H locs cells slots Q (F0 m pc ls (.ref (a 0) :: rest)) :=
  va_get (D := D) (ci := 1) (v := .ref (a 4)) (C := RX1) (T := TX1) (N := 6) hx hb hts in_X1 hown hK hP 0 rfl rfl 4 (by decide) (hts _ q228) (fun _ h9 => h9) rfl hdg kk
theorem lM_shifts (hx : p.tables.exec = Jvm.exec) (hb : c.code = cc) (hK : va_K D vwCl (tyM d) s) (hP : va_P D vwCl (WM a d mn mo mq ma mh mf) H) {i : Int32} (k : Nat) (hi : i = nI k) (hk : k < 12) (hdg : decode cc pc = .ok (.iaload, 1)) (kk : W p l e R s m args below meth c H locs cells slots Q (F0 m (pc + 1) ls (.int (mh k) :: rest))) : W p l e R s m args below meth c H locs cells slots Q (F0 m pc ls (.int i :: .ref (a 4) :: rest)) :=
  ldN hx hb hK hP 4 3 rfl rfl k hi hk (by decide) hdg kk
theorem sM_shifts (hx : p.tables.exec = Jvm.exec) (hb : c.code = cc) (hK : va_K D vwCl (tyM d) s) (hP : va_P D vwCl (WM a d mn mo mq ma mh mf) H) (hD : va_D A (WM a d mn mo mq ma mh mf)) (hS : va_S A H0 H locs) {i x : Int32} (k : Nat) (hi : i = nI k) (hk : k < 12) (hdg : decode cc pc = .ok (.iastore, 1)) (kk : ∀ (H1 : Heap) (locs1 : List Loc), va_P D vwCl (WM a d mn mo mq ma (upd mh k x) mf) H1 → va_D A (WM a d mn mo mq ma (upd mh k x) mf) → va_S A H0 H1 locs1 → W p l e R s m args below meth c H1 locs1 cells slots Q (F0 m (pc + 1) ls rest)) : W p l e R s m args below meth c H locs cells slots Q (F0 m pc ls (.int x :: .int i :: .ref (a 4) :: rest)) :=
  stN hx hb hK hP hD hS 4 3 rfl rfl k hi hk (by decide) hdg kk
theorem gM_cells (hx : p.tables.exec = Jvm.exec) (hb : c.code = cc) (hts : ∀ w ∈ lw_all, w.before args s = true) (hown : s.vm.findClass RX1 = some m.cls) (hK : va_K D vwCl (tyM d) s) (hP : va_P D vwCl (WM a d mn mo mq ma mh mf) H) (hdg : decode cc pc = .ok (.getfield 22, 3)) (kk : W p l e R s m args below meth c H locs cells slots Q (F0 m (pc + 3) ls (.ref (a 5) :: rest))) : W p l e R s m args below meth c H locs cells slots Q (F0 m pc ls (.ref (a 0) :: rest)) :=
  va_get (D := D) (ci := 1) (v := .ref (a 5)) (C := RX1) (T := TX1) (N := 6) hx hb hts in_X1 hown hK hP 0 rfl rfl 5 (by decide) (hts _ q229) (fun _ h9 => h9) rfl hdg kk
theorem lM_cells (hx : p.tables.exec = Jvm.exec) (hb : c.code = cc) (hK : va_K D vwCl (tyM d) s) (hP : va_P D vwCl (WM a d mn mo mq ma mh mf) H) {i : Int32} (k : Nat) (hi : i = nI k) (hk : k < 96) (hdg : decode cc pc = .ok (.iaload, 1)) (kk : W p l e R s m args below meth c H locs cells slots Q (F0 m (pc + 1) ls (.int (mf k) :: rest))) : W p l e R s m args below meth c H locs cells slots Q (F0 m pc ls (.int i :: .ref (a 5) :: rest)) :=
  ldN hx hb hK hP 5 4 rfl rfl k hi hk (by decide) hdg kk
theorem sM_cells (hx : p.tables.exec = Jvm.exec) (hb : c.code = cc) (hK : va_K D vwCl (tyM d) s) (hP : va_P D vwCl (WM a d mn mo mq ma mh mf) H) (hD : va_D A (WM a d mn mo mq ma mh mf)) (hS : va_S A H0 H locs) {i x : Int32} (k : Nat) (hi : i = nI k) (hk : k < 96) (hdg : decode cc pc = .ok (.iastore, 1)) (kk : ∀ (H1 : Heap) (locs1 : List Loc), va_P D vwCl (WM a d mn mo mq ma mh (upd mf k x)) H1 → va_D A (WM a d mn mo mq ma mh (upd mf k x)) → va_S A H0 H1 locs1 → W p l e R s m args below meth c H1 locs1 cells slots Q (F0 m (pc + 1) ls rest)) : W p l e R s m args below meth c H locs cells slots Q (F0 m pc ls (.int x :: .int i :: .ref (a 5) :: rest)) :=
  stN hx hb hK hP hD hS 5 4 rfl rfl k hi hk (by decide) hdg kk
end RowsM
end
section
/-! the functions that the methods compute, in plain Lean -/
def arI (x p : Int32) : Int32 := (x >>> ((2 * p) &&& 31)) &&& 3
def shI (x p : Int32) : Int32 := ((x >>> ((4 * p) &&& 31)) &&& 15) - 4
def badA (x : Int32) : Bool := decide (x < 0) || decide (2 < x)
def badS (x : Int32) : Bool := decide (x < -4) || decide (4 < x)
def badC (x : Int32) : Bool := decide (x < 0) || decide (32 ≤ x)
def noSt (n x : Int32) : Bool := decide (x < 0) || decide (n ≤ x)
/-- array and shift of a statement's part: in LaneLoops packed, in the model at s * 3 + p -/
def aX (ra : Nat → Int32) (s p : Nat) : Int32 := arI (ra s) (nI p)
def hX (sf : Nat → Int32) (s p : Nat) : Int32 := shI (sf s) (nI p)
def aM (ma : Nat → Int32) (s p : Nat) : Int32 := ma (s * 3 + p)
def rdG (po : Nat → Int32) (s p : Nat) : Bool := if p = 1 then !decide (po s = 5) else decide (po s ≤ 3)
def mtG (a h : Nat → Nat → Int32) (x p y q : Nat) (d : Int32) : Bool := decide (a x p = a y q) && decide (h x p = h y q + d)
def fdG (a h : Nat → Nat → Int32) (po : Nat → Int32) (x y : Nat) (d : Int32) : Bool := (rdG po y 1 && mtG a h x 0 y 1 d) || (rdG po y 2 && mtG a h x 0 y 2 d)
def spG (a h : Nat → Nat → Int32) (po : Nat → Int32) (x y : Nat) (d : Int32) : Bool := (rdG po x 1 && mtG a h x 1 y 0 d) || (rdG po x 2 && mtG a h x 2 y 0 d)
def prG (a h : Nat → Nat → Int32) (po : Nat → Int32) (x y : Nat) (d : Int32) : Bool := !(decide (d = 0) && decide (y ≤ x)) && (mtG a h x 0 y 0 d || (fdG a h po x y d || spG a h po x y d))
def paG (a h : Nat → Nat → Int32) (po : Nat → Int32) (x y : Nat) : Nat → Nat → Bool
  | _, 0 => false
  | i, n + 1 => prG a h po x y (nI i) || paG a h po x y (i + 1) n
/-- one round of one statement -/
def rsG (o c x y : Int32) : Int32 := if o = 0 then x + y else if o = 1 then x - y else if o = 2 then x * y else if o = 3 then (if x < y then x else y) else if o = 4 then x + c else if o = 5 then c else x * c
def ixG (a h : Nat → Nat → Int32) (s p i : Nat) : Int32 := a s p * 32 + nI i + h s p
def ixN (a h : Nat → Nat → Int32) (s p i : Nat) : Nat := (ixG a h s p i).toNatClampNeg
def okG (a h : Nat → Nat → Int32) (s i : Nat) : Prop := ∀ p, p < 3 → ∃ k, k < 96 ∧ ixG a h s p i = nI k
def reG (a h : Nat → Nat → Int32) (po oc : Nat → Int32) (s i : Nat) (f : Nat → Int32) : Int32 := rsG (po s) (oc s) (f (ixN a h s 1 i)) (f (ixN a h s 2 i))
def stG (a h : Nat → Nat → Int32) (po oc : Nat → Int32) (s i : Nat) (f : Nat → Int32) : Nat → Int32 := upd f (ixN a h s 0 i) (reG a h po oc s i f)
theorem okG_eq {a h : Nat → Nat → Int32} {s i p : Nat} (ok : okG a h s i) (hp : p < 3) : ixG a h s p i = nI (ixN a h s p i) ∧ ixN a h s p i < 96 := by
  obtain ⟨k, hk, he⟩ := ok p hp
  have h1 : ixN a h s p i = k := by unfold ixN; rw [he]; exact nI_clamp (by omega)
  rw [h1]
  exact ⟨he, hk⟩
/-! sets of statements, as masks -/
def mkS (r : Nat → Bool) : Int32 := bI (r 0) + 2 * bI (r 1) + 4 * bI (r 2) + 8 * bI (r 3)
theorem mkS_congr {r q : Nat → Bool} (h : ∀ i, i < 4 → r i = q i) : mkS r = mkS q := by
  unfold mkS
  rw [h 0 (by omega), h 1 (by omega), h 2 (by omega), h 3 (by omega)]
theorem mkS_bit4 : ∀ b0 b1 b2 b3 : Bool, ((bI b0 + 2 * bI b1 + 4 * bI b2 + 8 * bI b3) >>> (nI 0 &&& 31)) &&& 1 = bI b0 ∧ ((bI b0 + 2 * bI b1 + 4 * bI b2 + 8 * bI b3) >>> (nI 1 &&& 31)) &&& 1 = bI b1 ∧ ((bI b0 + 2 * bI b1 + 4 * bI b2 + 8 * bI b3) >>> (nI 2 &&& 31)) &&& 1 = bI b2 ∧ ((bI b0 + 2 * bI b1 + 4 * bI b2 + 8 * bI b3) >>> (nI 3 &&& 31)) &&& 1 = bI b3 := by decide +kernel
theorem mkS_bit (r : Nat → Bool) {s : Nat} (hs : s < 4) : (mkS r >>> (nI s &&& 31)) &&& 1 = bI (r s) := by
  have h := mkS_bit4 (r 0) (r 1) (r 2) (r 3)
  rcases (show s = 0 ∨ s = 1 ∨ s = 2 ∨ s = 3 by omega) with rfl | rfl | rfl | rfl
  · exact h.1
  · exact h.2.1
  · exact h.2.2.1
  · exact h.2.2.2
theorem mkS_or8 : ∀ a0 a1 a2 a3 b0 b1 b2 b3 : Bool, (bI a0 + 2 * bI a1 + 4 * bI a2 + 8 * bI a3) ||| (bI b0 + 2 * bI b1 + 4 * bI b2 + 8 * bI b3) = bI (a0 || b0) + 2 * bI (a1 || b1) + 4 * bI (a2 || b2) + 8 * bI (a3 || b3) := by decide +kernel
theorem mkS_or (r q : Nat → Bool) : mkS r ||| mkS q = mkS (fun i => r i || q i) := mkS_or8 _ _ _ _ _ _ _ _
theorem mkS_one {s : Nat} (hs : s < 4) : (1 : Int32) <<< (nI s &&& 31) = mkS (fun i => i == s) := by
  rcases (show s = 0 ∨ s = 1 ∨ s = 2 ∨ s = 3 by omega) with rfl | rfl | rfl | rfl <;> decide +kernel
def interS (r q : Nat → Bool) : Bool := (r 0 && q 0) || (r 1 && q 1) || (r 2 && q 2) || (r 3 && q 3)
theorem mkS_and8 : ∀ a0 a1 a2 a3 b0 b1 b2 b3 : Bool, ((bI a0 + 2 * bI a1 + 4 * bI a2 + 8 * bI a3) &&& (bI b0 + 2 * bI b1 + 4 * bI b2 + 8 * bI b3) = 0) ↔ ((a0 && b0) || (a1 && b1) || (a2 && b2) || (a3 && b3)) = false := by decide +kernel
theorem mkS_and (r q : Nat → Bool) : mkS r &&& mkS q = 0 ↔ interS r q = false := mkS_and8 _ _ _ _ _ _ _ _
theorem interS_f {r q : Nat → Bool} : interS r q = false ↔ ∀ i, i < 4 → r i = true → q i = true → False := by
  unfold interS
  constructor
  · intro h i hi h1 h2
    rcases (show i = 0 ∨ i = 1 ∨ i = 2 ∨ i = 3 by omega) with rfl | rfl | rfl | rfl <;> simp [h1, h2] at h
  · intro h
    have h0 := h 0 (by omega); have h1 := h 1 (by omega); have h2 := h 2 (by omega); have h3 := h 3 (by omega)
    cases e0 : r 0 <;> cases e1 : r 1 <;> cases e2 : r 2 <;> cases e3 : r 3 <;> simp_all
theorem mkS_0 : mkS (fun _ => false) = 0 := by decide +kernel
theorem mkS_z4 : ∀ a0 a1 a2 a3 : Bool, (bI a0 + 2 * bI a1 + 4 * bI a2 + 8 * bI a3 = 0) ↔ (a0 || a1 || a2 || a3) = false := by decide +kernel
theorem mkS_z (r : Nat → Bool) : mkS r = 0 ↔ ∀ i, i < 4 → r i = false := by
  have h : mkS r = 0 ↔ (r 0 || r 1 || r 2 || r 3) = false := mkS_z4 _ _ _ _
  rw [h]
  constructor
  · intro h i hi
    simp only [Bool.or_eq_false_iff] at h
    rcases (show i = 0 ∨ i = 1 ∨ i = 2 ∨ i = 3 by omega) with rfl | rfl | rfl | rfl
    · exact h.1.1.1
    · exact h.1.1.2
    · exact h.1.2
    · exact h.2
  · intro h
    rw [h 0 (by omega), h 1 (by omega), h 2 (by omega), h 3 (by omega)]; rfl
/-- at most one -/
def oneS (r : Nat → Bool) : Bool := !((r 0 && r 1) || (r 0 && r 2) || (r 0 && r 3) || (r 1 && r 2) || (r 1 && r 3) || (r 2 && r 3))
theorem mkS_one4 : ∀ a0 a1 a2 a3 : Bool, ((bI a0 + 2 * bI a1 + 4 * bI a2 + 8 * bI a3) &&& ((bI a0 + 2 * bI a1 + 4 * bI a2 + 8 * bI a3) - 1) = 0) ↔ (!((a0 && a1) || (a0 && a2) || (a0 && a3) || (a1 && a2) || (a1 && a3) || (a2 && a3))) = true := by decide +kernel
theorem mkS_ones (r : Nat → Bool) : mkS r &&& (mkS r - 1) = 0 ↔ oneS r = true := mkS_one4 _ _ _ _
def lowS (r : Nat → Bool) : Nat := if r 0 then 0 else if r 1 then 1 else if r 2 then 2 else 3
theorem lowS_lt (r : Nat → Bool) : lowS r < 4 := by unfold lowS; split <;> (try split) <;> (try split) <;> omega
/-! the plan's words: behind as a relation R, circles, free sets -/
def ccS (N : Nat) (R : Nat → Nat → Bool) (s : Nat) : Nat → Bool := fun t => decide (t < N) && (R s t && R t s)
def frS (R : Nat → Nat → Bool) (P Q : Nat → Bool) : Nat → Nat → Bool
  | _, 0 => true
  | t, n + 1 => ((P t || Q t) || !(interS (R t) P)) && frS R P Q (t + 1) n
def nxS (N : Nat) (R : Nat → Nat → Bool) (Q : Nat → Bool) : Nat → Nat → (Nat → Bool)
  | _, 0 => fun _ => false
  | s, n + 1 => if (!(Q s) && frS R (ccS N R s) Q 0 N) = true then ccS N R s else nxS N R Q (s + 1) n
def flG (a h : Nat → Nat → Int32) (po : Nat → Int32) (s : Nat) : Bool := !(fdG a h po s s 1 || (fdG a h po s s 2 || fdG a h po s s 3))
/-- what a plan is: groups gr 0 .. gr (k - 1) of the statements below N, g s the group of s; who must come first lies in no later group; fi j: group j is one statement that fits into lanes -/
def PlanOK (a h : Nat → Nat → Int32) (po : Nat → Int32) (N : Nat) (gs : Int32) (gr fi : Nat → Int32) : Prop :=
  ∃ (k : Nat) (g : Nat → Nat), k ≤ 4 ∧ gs = nI k ∧ (∀ s, s < N → g s < k) ∧ (∀ j, j < k → gr j = mkS (fun s => decide (s < N) && decide (g s = j))) ∧ (∀ x y, x < N → y < N → paG a h po x y 0 9 = true → g x ≤ g y) ∧
    ∀ j, j < k → fi j = 0 ∨ (fi j = 1 ∧ ∃ s, s < N ∧ (∀ t, t < N → (g t = j ↔ t = s)) ∧ flG a h po s = true)
end
section
/-! LaneLoops: the methods that change nothing (printed by gen/p12.py) -/
theorem t_badA1 {x : Int32} (h : x < 0) : 1 = bI (badA x) := by simp [badA, h, bI]
theorem t_badA2 {x : Int32} (h : ¬ x ≤ 2) : 1 = bI (badA x) := by have h2 := Int32.not_le.mp h; simp [badA, h2, bI]
theorem t_badA3 {x : Int32} (h : ¬ x < 0) (h2 : x ≤ 2) : 0 = bI (badA x) := by have h3 := Int32.not_lt.mpr h2; simp [badA, h, h3, bI]
theorem t_badS1 {x : Int32} (h : x < -4) : 1 = bI (badS x) := by simp [badS, h, bI]
theorem t_badS2 {x : Int32} (h : ¬ x ≤ 4) : 1 = bI (badS x) := by have h2 := Int32.not_le.mp h; simp [badS, h2, bI]
theorem t_badS3 {x : Int32} (h : ¬ x < -4) (h2 : x ≤ 4) : 0 = bI (badS x) := by have h3 := Int32.not_lt.mpr h2; simp [badS, h, h3, bI]
theorem t_noSt1 {n x : Int32} (h : x < 0) : 1 = bI (noSt n x) := by simp [noSt, h, bI]
theorem t_noSt2 {n x : Int32} (h : ¬ x < n) : 1 = bI (noSt n x) := by have h2 := Int32.not_lt.mp h; simp [noSt, h2, bI]
theorem t_noSt3 {n x : Int32} (h : ¬ x < 0) (h2 : x < n) : 0 = bI (noSt n x) := by have h3 := Int32.not_le.mpr h2; simp [noSt, h, h3, bI]
theorem t_badC1 {x : Int32} (h : x < 0) : badC x = true := by simp [badC, h]
theorem t_badC2 {x : Int32} (h : ¬ x < 32) : badC x = true := by have h2 := Int32.not_lt.mp h; simp [badC, h2]
theorem t_badC3 {x : Int32} (h : ¬ x < 0) (h2 : x < 32) : badC x = false := by have h3 := Int32.not_le.mpr h2; simp [badC, h, h3]
abbrev rmX0_badArray : Room := { frames := 0, cells := 0, slots := 0, locals := 0 }
set_option maxHeartbeats 4000000 in
set_option maxRecDepth 100000 in
theorem mX0_badArray (l : Launch)  (v : Int32)  : Met l yX0_badArray (ws_ yX0_badArray cX0_badArray 1 (some .boolean)) rmX0_badArray (va_Pc [.int v] (fun _ => True)) (QcRead (bI (badA v))) 0 0 (fun _ => False) := by
  refine pureZ (by decide) (Nat.le_of_ble_eq_true rfl) ?_
  intro p e s m ar below meth c Q hx hb hml hown hts hB hret ls hl
  have hown : s.vm.findClass RX0 = some m.cls := hown
  have hl : lv_has ls 1 [(0, .int v)] := hl
  refine lv_iload_n hx hb dX0_badArray_0 rfl (lv_at hl 0 rfl) ?_
  refine lv_if_lt (tgt := 9) hx hb dX0_badArray_1 (by decide) (fun c_1 => ?_) (fun c_1 => ?_)
  · skip
    refine lv_iconst (v := 1) hx hb dX0_badArray_9 (by decide) ?_
    refine lv_goto (tgt := 14) hx hb dX0_badArray_10 (by decide) ?_
    exact hret _ _ _ (t_badA1 c_1) dX0_badArray_14
  · skip
    refine lv_iload_n hx hb dX0_badArray_4 rfl (lv_at hl 0 rfl) ?_
    refine lv_iconst (v := 2) hx hb dX0_badArray_5 (by decide) ?_
    refine lv_icmp_le (tgt := 13) hx hb dX0_badArray_6 (by decide) (fun c_6 => ?_) (fun c_6 => ?_)
    · skip
      refine lv_iconst (v := 0) hx hb dX0_badArray_13 (by decide) ?_
      exact hret _ _ _ (t_badA3 c_1 c_6) dX0_badArray_14
    · skip
      refine lv_iconst (v := 1) hx hb dX0_badArray_9 (by decide) ?_
      refine lv_goto (tgt := 14) hx hb dX0_badArray_10 (by decide) ?_
      exact hret _ _ _ (t_badA2 c_6) dX0_badArray_14
theorem kX0_badArray {p : Program} {l : Launch} {e : Env} {R : Room} {s : State} {m : MethodId} {args : Array Value} {below : List Frame} {meth : Method} {c : Code} {H : Heap} {locs : List Loc} {cells slots : Nat} {Q : State → Prop} {cc : ByteArray} {pc nL : Nat} {ls : Array Slot} {rest : List Value}  (S : CallFix p m c cc nL s args lw_all RX0) (v : Int32)  (hR : rmX0_badArray.frames + 1 ≤ R.frames ∧ 8 + (1 + 11) + rmX0_badArray.locals ≤ R.locals) (hsz : ls.size = nL) (hroom : (rest.map fun v => v.category).sum ≤ 8) (hdg : decode cc pc = .ok (.invokestatic 42, 3)) (hf : cells ≤ R.cells ∧ slots ≤ R.slots) (kk : W p l e R s m args below meth c H locs cells slots Q (F0 m (pc + 3) ls (.int (bI (badA v)) :: rest))) : W p l e R s m args below meth c H locs cells slots Q (F0 m pc ls (.int v :: rest)) :=
  pcallS (As := [.int v]) S (mX0_badArray l v) (va_cwS 1 S.2.2.2.2 (lw_S q81 q82 q28 q83) rfl rfl rfl (by decide +kernel) hR) rfl hsz rfl hroom hdg hf kk
abbrev rmX0_badShift : Room := { frames := 0, cells := 0, slots := 0, locals := 0 }
set_option maxHeartbeats 4000000 in
set_option maxRecDepth 100000 in
theorem mX0_badShift (l : Launch)  (v : Int32)  : Met l yX0_badShift (ws_ yX0_badShift cX0_badShift 1 (some .boolean)) rmX0_badShift (va_Pc [.int v] (fun _ => True)) (QcRead (bI (badS v))) 0 0 (fun _ => False) := by
  refine pureZ (by decide) (Nat.le_of_ble_eq_true rfl) ?_
  intro p e s m ar below meth c Q hx hb hml hown hts hB hret ls hl
  have hown : s.vm.findClass RX0 = some m.cls := hown
  have hl : lv_has ls 1 [(0, .int v)] := hl
  refine lv_iload_n hx hb dX0_badShift_0 rfl (lv_at hl 0 rfl) ?_
  refine lv_bipush (v := (-4)) hx hb dX0_badShift_1 (by decide) ?_
  refine lv_icmp_lt (tgt := 11) hx hb dX0_badShift_3 (by decide) (fun c_3 => ?_) (fun c_3 => ?_)
  · skip
    refine lv_iconst (v := 1) hx hb dX0_badShift_11 (by decide) ?_
    refine lv_goto (tgt := 16) hx hb dX0_badShift_12 (by decide) ?_
    exact hret _ _ _ (t_badS1 c_3) dX0_badShift_16
  · skip
    refine lv_iload_n hx hb dX0_badShift_6 rfl (lv_at hl 0 rfl) ?_
    refine lv_iconst (v := 4) hx hb dX0_badShift_7 (by decide) ?_
    refine lv_icmp_le (tgt := 15) hx hb dX0_badShift_8 (by decide) (fun c_8 => ?_) (fun c_8 => ?_)
    · skip
      refine lv_iconst (v := 0) hx hb dX0_badShift_15 (by decide) ?_
      exact hret _ _ _ (t_badS3 c_3 c_8) dX0_badShift_16
    · skip
      refine lv_iconst (v := 1) hx hb dX0_badShift_11 (by decide) ?_
      refine lv_goto (tgt := 16) hx hb dX0_badShift_12 (by decide) ?_
      exact hret _ _ _ (t_badS2 c_8) dX0_badShift_16
theorem kX0_badShift {p : Program} {l : Launch} {e : Env} {R : Room} {s : State} {m : MethodId} {args : Array Value} {below : List Frame} {meth : Method} {c : Code} {H : Heap} {locs : List Loc} {cells slots : Nat} {Q : State → Prop} {cc : ByteArray} {pc nL : Nat} {ls : Array Slot} {rest : List Value}  (S : CallFix p m c cc nL s args lw_all RX0) (v : Int32)  (hR : rmX0_badShift.frames + 1 ≤ R.frames ∧ 8 + (1 + 11) + rmX0_badShift.locals ≤ R.locals) (hsz : ls.size = nL) (hroom : (rest.map fun v => v.category).sum ≤ 8) (hdg : decode cc pc = .ok (.invokestatic 46, 3)) (hf : cells ≤ R.cells ∧ slots ≤ R.slots) (kk : W p l e R s m args below meth c H locs cells slots Q (F0 m (pc + 3) ls (.int (bI (badS v)) :: rest))) : W p l e R s m args below meth c H locs cells slots Q (F0 m pc ls (.int v :: rest)) :=
  pcallS (As := [.int v]) S (mX0_badShift l v) (va_cwS 1 S.2.2.2.2 (lw_S q84 q85 q28 q86) rfl rfl rfl (by decide +kernel) hR) rfl hsz rfl hroom hdg hf kk
abbrev rmX0_noStatement : Room := { frames := 0, cells := 0, slots := 0, locals := 0 }
set_option maxHeartbeats 4000000 in
set_option maxRecDepth 100000 in
theorem mX0_noStatement (l : Launch) {D : va_G} {a : Nat → Nat} {d : Nat → ClassId} {fc : Nat → Int32} {ct : Int32} {po ra sf oc : Nat → Int32} {rd : Int32} {be : Nat → Int32} {gs : Int32} {gr fi la : Nat → Int32}  (v : Int32)  : Met l yX0_noStatement (ws_ yX0_noStatement cX0_noStatement 2 (some .boolean)) rmX0_noStatement (va_Pc [.ref (a 0), .int v] (pB D (tyX d) (WX a d fc ct po ra sf oc rd be gs gr fi la))) (QcRead (bI (noSt ct v))) 0 0 (fun _ => False) := by
  refine pureZ (by decide) (Nat.le_of_ble_eq_true rfl) ?_
  intro p e s m ar below meth c Q hx hb hml hown hts hB hret ls hl
  obtain ⟨hP, hK⟩ := hB
  have hown : s.vm.findClass RX0 = some m.cls := hown
  have hl : lv_has ls 2 [(0, .ref (a 0)), (1, .int v)] := hl
  refine lv_iload_n hx hb dX0_noStatement_0 rfl (lv_at hl 1 rfl) ?_
  refine lv_if_lt (tgt := 12) hx hb dX0_noStatement_1 (by decide) (fun c_1 => ?_) (fun c_1 => ?_)
  · skip
    refine lv_iconst (v := 1) hx hb dX0_noStatement_12 (by decide) ?_
    refine lv_goto (tgt := 17) hx hb dX0_noStatement_13 (by decide) ?_
    exact hret _ _ _ (t_noSt1 c_1) dX0_noStatement_17
  · skip
    refine lv_iload_n hx hb dX0_noStatement_4 rfl (lv_at hl 1 rfl) ?_
    refine lv_aload_n hx hb dX0_noStatement_5 rfl (lv_at hl 0 rfl) ?_
    refine gX_count hx hb hts hown hK hP dX0_noStatement_6 ?_
    refine lv_icmp_lt (tgt := 16) hx hb dX0_noStatement_9 (by decide) (fun c_9 => ?_) (fun c_9 => ?_)
    · skip
      refine lv_iconst (v := 0) hx hb dX0_noStatement_16 (by decide) ?_
      exact hret _ _ _ (t_noSt3 c_1 c_9) dX0_noStatement_17
    · skip
      refine lv_iconst (v := 1) hx hb dX0_noStatement_12 (by decide) ?_
      refine lv_goto (tgt := 17) hx hb dX0_noStatement_13 (by decide) ?_
      exact hret _ _ _ (t_noSt2 c_9) dX0_noStatement_17
theorem kX0_noStatement {p : Program} {l : Launch} {e : Env} {R : Room} {s : State} {m : MethodId} {args : Array Value} {below : List Frame} {meth : Method} {c : Code} {H : Heap} {locs : List Loc} {cells slots : Nat} {Q : State → Prop} {cc : ByteArray} {pc nL : Nat} {ls : Array Slot} {rest : List Value} {D : va_G} {a : Nat → Nat} {d : Nat → ClassId} {fc : Nat → Int32} {ct : Int32} {po ra sf oc : Nat → Int32} {rd : Int32} {be : Nat → Int32} {gs : Int32} {gr fi la : Nat → Int32}  (S : CallFix p m c cc nL s args lw_all RX0) (hK : va_K D vwCl (tyX d) s) (hP : va_P D vwCl (WX a d fc ct po ra sf oc rd be gs gr fi la) H) (v : Int32)  (hR : rmX0_noStatement.frames + 1 ≤ R.frames ∧ 8 + (2 + 11) + rmX0_noStatement.locals ≤ R.locals) (hsz : ls.size = nL) (hroom : (rest.map fun v => v.category).sum ≤ 8) (hdg : decode cc pc = .ok (.invokevirtual 53, 3)) (hf : cells ≤ R.cells ∧ slots ≤ R.slots) (kk : W p l e R s m args below meth c H locs cells slots Q (F0 m (pc + 3) ls (.int (bI (noSt ct v)) :: rest))) : W p l e R s m args below meth c H locs cells slots Q (F0 m pc ls (.int v :: .ref (a 0) :: rest)) :=
  pcallV (q := (RX0, TX0, 12)) (ci := 0) (As := [.int v]) S (mX0_noStatement l v) (cwV 1 S.2.2.2.2 (lw_V q95 q97 qs0 q28 q98) rfl rfl rfl (by decide +kernel) hR) hK hP rfl rfl rfl hsz rfl hroom hdg hf kk
abbrev rmX0_arrayOf : Room := { frames := 0, cells := 0, slots := 0, locals := 0 }
set_option maxHeartbeats 4000000 in
set_option maxRecDepth 100000 in
theorem mX0_arrayOf (l : Launch) {D : va_G} {a : Nat → Nat} {d : Nat → ClassId} {fc : Nat → Int32} {ct : Int32} {po ra sf oc : Nat → Int32} {rd : Int32} {be : Nat → Int32} {gs : Int32} {gr fi la : Nat → Int32}  (x : Nat) (q : Nat)  (hx4 : x < 4) : Met l yX0_arrayOf (ws_ yX0_arrayOf cX0_arrayOf 3 (some .int)) rmX0_arrayOf (va_Pc [.ref (a 0), .int (nI x), .int (nI q)] (pB D (tyX d) (WX a d fc ct po ra sf oc rd be gs gr fi la))) (QcRead (aX ra x q)) 0 0 (fun _ => False) := by
  refine pureI (by decide) (Nat.le_of_ble_eq_true rfl) ?_
  intro p e s m ar below meth c Q hx hb hml hown hts hB hret ls hl
  obtain ⟨hP, hK⟩ := hB
  have hown : s.vm.findClass RX0 = some m.cls := hown
  have hl : lv_has ls 3 [(0, .ref (a 0)), (1, .int (nI x)), (2, .int (nI q))] := hl
  refine lv_aload_n hx hb dX0_arrayOf_0 rfl (lv_at hl 0 rfl) ?_
  refine gX_arrays hx hb hts hown hK hP dX0_arrayOf_1 ?_
  refine lv_iload_n hx hb dX0_arrayOf_4 rfl (lv_at hl 1 rfl) ?_
  refine lX_arrays hx hb hK hP x rfl (by omega) dX0_arrayOf_5 ?_
  refine lv_iconst (v := 2) hx hb dX0_arrayOf_6 (by decide) ?_
  refine lv_iload_n hx hb dX0_arrayOf_7 rfl (lv_at hl 2 rfl) ?_
  refine lv_imul hx hb dX0_arrayOf_8 ?_
  refine lv_ishr hx hb dX0_arrayOf_9 ?_
  refine lv_iconst (v := 3) hx hb dX0_arrayOf_10 (by decide) ?_
  refine lv_iand hx hb dX0_arrayOf_11 ?_
  exact hret _ _ _ rfl dX0_arrayOf_12
theorem kX0_arrayOf {p : Program} {l : Launch} {e : Env} {R : Room} {s : State} {m : MethodId} {args : Array Value} {below : List Frame} {meth : Method} {c : Code} {H : Heap} {locs : List Loc} {cells slots : Nat} {Q : State → Prop} {cc : ByteArray} {pc nL : Nat} {ls : Array Slot} {rest : List Value} {D : va_G} {a : Nat → Nat} {d : Nat → ClassId} {fc : Nat → Int32} {ct : Int32} {po ra sf oc : Nat → Int32} {rd : Int32} {be : Nat → Int32} {gs : Int32} {gr fi la : Nat → Int32}  (S : CallFix p m c cc nL s args lw_all RX0) (hK : va_K D vwCl (tyX d) s) (hP : va_P D vwCl (WX a d fc ct po ra sf oc rd be gs gr fi la) H) (x : Nat) (q : Nat)  (hx4 : x < 4) (hR : rmX0_arrayOf.frames + 1 ≤ R.frames ∧ 8 + (3 + 11) + rmX0_arrayOf.locals ≤ R.locals) (hsz : ls.size = nL) (hroom : (rest.map fun v => v.category).sum ≤ 8) (hdg : decode cc pc = .ok (.invokevirtual 56, 3)) (hf : cells ≤ R.cells ∧ slots ≤ R.slots) (kk : W p l e R s m args below meth c H locs cells slots Q (F0 m (pc + 3) ls (.int (aX ra x q) :: rest))) : W p l e R s m args below meth c H locs cells slots Q (F0 m pc ls (.int (nI q) :: .int (nI x) :: .ref (a 0) :: rest)) :=
  pcallV (q := (RX0, TX0, 12)) (ci := 0) (As := [.int (nI x), .int (nI q)]) S (mX0_arrayOf l x q hx4) (cwV 2 S.2.2.2.2 (lw_V q139 q141 qs8 q28 q142) rfl rfl rfl (by decide +kernel) hR) hK hP rfl rfl rfl hsz rfl hroom hdg hf kk
abbrev rmX0_shiftOf : Room := { frames := 0, cells := 0, slots := 0, locals := 0 }
set_option maxHeartbeats 4000000 in
set_option maxRecDepth 100000 in
theorem mX0_shiftOf (l : Launch) {D : va_G} {a : Nat → Nat} {d : Nat → ClassId} {fc : Nat → Int32} {ct : Int32} {po ra sf oc : Nat → Int32} {rd : Int32} {be : Nat → Int32} {gs : Int32} {gr fi la : Nat → Int32}  (x : Nat) (q : Nat)  (hx4 : x < 4) : Met l yX0_shiftOf (ws_ yX0_shiftOf cX0_shiftOf 3 (some .int)) rmX0_shiftOf (va_Pc [.ref (a 0), .int (nI x), .int (nI q)] (pB D (tyX d) (WX a d fc ct po ra sf oc rd be gs gr fi la))) (QcRead (hX sf x q)) 0 0 (fun _ => False) := by
  refine pureI (by decide) (Nat.le_of_ble_eq_true rfl) ?_
  intro p e s m ar below meth c Q hx hb hml hown hts hB hret ls hl
  obtain ⟨hP, hK⟩ := hB
  have hown : s.vm.findClass RX0 = some m.cls := hown
  have hl : lv_has ls 3 [(0, .ref (a 0)), (1, .int (nI x)), (2, .int (nI q))] := hl
  refine lv_aload_n hx hb dX0_shiftOf_0 rfl (lv_at hl 0 rfl) ?_
  refine gX_shifts hx hb hts hown hK hP dX0_shiftOf_1 ?_
  refine lv_iload_n hx hb dX0_shiftOf_4 rfl (lv_at hl 1 rfl) ?_
  refine lX_shifts hx hb hK hP x rfl (by omega) dX0_shiftOf_5 ?_
  refine lv_iconst (v := 4) hx hb dX0_shiftOf_6 (by decide) ?_
  refine lv_iload_n hx hb dX0_shiftOf_7 rfl (lv_at hl 2 rfl) ?_
  refine lv_imul hx hb dX0_shiftOf_8 ?_
  refine lv_ishr hx hb dX0_shiftOf_9 ?_
  refine lv_bipush (v := 15) hx hb dX0_shiftOf_10 (by decide) ?_
  refine lv_iand hx hb dX0_shiftOf_12 ?_
  refine lv_iconst (v := 4) hx hb dX0_shiftOf_13 (by decide) ?_
  refine lv_isub hx hb dX0_shiftOf_14 ?_
  exact hret _ _ _ rfl dX0_shiftOf_15
theorem kX0_shiftOf {p : Program} {l : Launch} {e : Env} {R : Room} {s : State} {m : MethodId} {args : Array Value} {below : List Frame} {meth : Method} {c : Code} {H : Heap} {locs : List Loc} {cells slots : Nat} {Q : State → Prop} {cc : ByteArray} {pc nL : Nat} {ls : Array Slot} {rest : List Value} {D : va_G} {a : Nat → Nat} {d : Nat → ClassId} {fc : Nat → Int32} {ct : Int32} {po ra sf oc : Nat → Int32} {rd : Int32} {be : Nat → Int32} {gs : Int32} {gr fi la : Nat → Int32}  (S : CallFix p m c cc nL s args lw_all RX0) (hK : va_K D vwCl (tyX d) s) (hP : va_P D vwCl (WX a d fc ct po ra sf oc rd be gs gr fi la) H) (x : Nat) (q : Nat)  (hx4 : x < 4) (hR : rmX0_shiftOf.frames + 1 ≤ R.frames ∧ 8 + (3 + 11) + rmX0_shiftOf.locals ≤ R.locals) (hsz : ls.size = nL) (hroom : (rest.map fun v => v.category).sum ≤ 8) (hdg : decode cc pc = .ok (.invokevirtual 60, 3)) (hf : cells ≤ R.cells ∧ slots ≤ R.slots) (kk : W p l e R s m args below meth c H locs cells slots Q (F0 m (pc + 3) ls (.int (hX sf x q) :: rest))) : W p l e R s m args below meth c H locs cells slots Q (F0 m pc ls (.int (nI q) :: .int (nI x) :: .ref (a 0) :: rest)) :=
  pcallV (q := (RX0, TX0, 12)) (ci := 0) (As := [.int (nI x), .int (nI q)]) S (mX0_shiftOf l x q hx4) (cwV 2 S.2.2.2.2 (lw_V q115 q117 qs2 q28 q118) rfl rfl rfl (by decide +kernel) hR) hK hP rfl rfl rfl hsz rfl hroom hdg hf kk
abbrev rmX0_reads : Room := { frames := 0, cells := 0, slots := 0, locals := 0 }
set_option maxHeartbeats 4000000 in
set_option maxRecDepth 100000 in
theorem mX0_reads (l : Launch) {D : va_G} {a : Nat → Nat} {d : Nat → ClassId} {fc : Nat → Int32} {ct : Int32} {po ra sf oc : Nat → Int32} {rd : Int32} {be : Nat → Int32} {gs : Int32} {gr fi la : Nat → Int32}  (x : Nat) (q : Nat)  (hx4 : x < 4) (hq3 : q < 3) : Met l yX0_reads (ws_ yX0_reads cX0_reads 3 (some .boolean)) rmX0_reads (va_Pc [.ref (a 0), .int (nI x), .int (nI q)] (pB D (tyX d) (WX a d fc ct po ra sf oc rd be gs gr fi la))) (QcRead (bI (rdG po x q))) 0 0 (fun _ => False) := by
  refine pureZ (by decide) (Nat.le_of_ble_eq_true rfl) ?_
  intro p e s m ar below meth c Q hx hb hml hown hts hB hret ls hl
  obtain ⟨hP, hK⟩ := hB
  have hown : s.vm.findClass RX0 = some m.cls := hown
  have hl : lv_has ls 3 [(0, .ref (a 0)), (1, .int (nI x)), (2, .int (nI q))] := hl
  refine lv_iload_n hx hb dX0_reads_0 rfl (lv_at hl 2 rfl) ?_
  refine lv_iconst (v := 1) hx hb dX0_reads_1 (by decide) ?_
  refine lv_icmp_ne (tgt := 23) hx hb dX0_reads_2 (by decide) (fun c_2 => ?_) (fun c_2 => ?_)
  · skip
    have c_2 : ¬ q = 1 := fun h => c_2 (by rw [h]; rfl)
    refine lv_aload_n hx hb dX0_reads_23 rfl (lv_at hl 0 rfl) ?_
    refine gX_op hx hb hts hown hK hP dX0_reads_24 ?_
    refine lv_iload_n hx hb dX0_reads_27 rfl (lv_at hl 1 rfl) ?_
    refine lX_op hx hb hK hP x rfl (by omega) dX0_reads_28 ?_
    refine lv_iconst (v := 3) hx hb dX0_reads_29 (by decide) ?_
    refine lv_icmp_gt (tgt := 37) hx hb dX0_reads_30 (by decide) (fun c_30 => ?_) (fun c_30 => ?_)
    · skip
      have c_30 := Int32.not_le.mpr c_30
      refine lv_iconst (v := 0) hx hb dX0_reads_37 (by decide) ?_
      exact hret _ _ _ (by simp [rdG, bI, c_2, c_30]) dX0_reads_38
    · skip
      have c_30 := Int32.not_lt.mp c_30
      refine lv_iconst (v := 1) hx hb dX0_reads_33 (by decide) ?_
      refine lv_goto (tgt := 38) hx hb dX0_reads_34 (by decide) ?_
      exact hret _ _ _ (by simp [rdG, bI, c_2, c_30]) dX0_reads_38
  · skip
    have c_2 : q = 1 := (nI_eq (a := q) (b := 1) (by omega) (by omega)).mp c_2
    refine lv_aload_n hx hb dX0_reads_5 rfl (lv_at hl 0 rfl) ?_
    refine gX_op hx hb hts hown hK hP dX0_reads_6 ?_
    refine lv_iload_n hx hb dX0_reads_9 rfl (lv_at hl 1 rfl) ?_
    refine lX_op hx hb hK hP x rfl (by omega) dX0_reads_10 ?_
    refine lv_iconst (v := 5) hx hb dX0_reads_11 (by decide) ?_
    refine lv_icmp_eq (tgt := 19) hx hb dX0_reads_12 (by decide) (fun c_12 => ?_) (fun c_12 => ?_)
    · skip
      refine lv_iconst (v := 0) hx hb dX0_reads_19 (by decide) ?_
      refine lv_goto (tgt := 38) hx hb dX0_reads_20 (by decide) ?_
      exact hret _ _ _ (by simp [rdG, bI, c_2, c_12]) dX0_reads_38
    · skip
      refine lv_iconst (v := 1) hx hb dX0_reads_15 (by decide) ?_
      refine lv_goto (tgt := 38) hx hb dX0_reads_16 (by decide) ?_
      exact hret _ _ _ (by simp [rdG, bI, c_2, c_12]) dX0_reads_38
theorem kX0_reads {p : Program} {l : Launch} {e : Env} {R : Room} {s : State} {m : MethodId} {args : Array Value} {below : List Frame} {meth : Method} {c : Code} {H : Heap} {locs : List Loc} {cells slots : Nat} {Q : State → Prop} {cc : ByteArray} {pc nL : Nat} {ls : Array Slot} {rest : List Value} {D : va_G} {a : Nat → Nat} {d : Nat → ClassId} {fc : Nat → Int32} {ct : Int32} {po ra sf oc : Nat → Int32} {rd : Int32} {be : Nat → Int32} {gs : Int32} {gr fi la : Nat → Int32}  (S : CallFix p m c cc nL s args lw_all RX0) (hK : va_K D vwCl (tyX d) s) (hP : va_P D vwCl (WX a d fc ct po ra sf oc rd be gs gr fi la) H) (x : Nat) (q : Nat)  (hx4 : x < 4) (hq3 : q < 3) (hR : rmX0_reads.frames + 1 ≤ R.frames ∧ 8 + (3 + 11) + rmX0_reads.locals ≤ R.locals) (hsz : ls.size = nL) (hroom : (rest.map fun v => v.category).sum ≤ 8) (hdg : decode cc pc = .ok (.invokevirtual 63, 3)) (hf : cells ≤ R.cells ∧ slots ≤ R.slots) (kk : W p l e R s m args below meth c H locs cells slots Q (F0 m (pc + 3) ls (.int (bI (rdG po x q)) :: rest))) : W p l e R s m args below meth c H locs cells slots Q (F0 m pc ls (.int (nI q) :: .int (nI x) :: .ref (a 0) :: rest)) :=
  pcallV (q := (RX0, TX0, 12)) (ci := 0) (As := [.int (nI x), .int (nI q)]) S (mX0_reads l x q hx4 hq3) (cwV 2 S.2.2.2.2 (lw_V q147 q149 qs10 q28 q150) rfl rfl rfl (by decide +kernel) hR) hK hP rfl rfl rfl hsz rfl hroom hdg hf kk
abbrev rmX0_meets : Room := { frames := 1, cells := 0, slots := 0, locals := 22 }
set_option maxHeartbeats 4000000 in
set_option maxRecDepth 100000 in
theorem mX0_meets (l : Launch) {D : va_G} {a : Nat → Nat} {d : Nat → ClassId} {fc : Nat → Int32} {ct : Int32} {po ra sf oc : Nat → Int32} {rd : Int32} {be : Nat → Int32} {gs : Int32} {gr fi la : Nat → Int32}  (x : Nat) (q : Nat) (y : Nat) (r : Nat) (v : Int32)  (hx4 : x < 4) (hy4 : y < 4) : Met l yX0_meets (ws_ yX0_meets cX0_meets 6 (some .boolean)) rmX0_meets (va_Pc [.ref (a 0), .int (nI x), .int (nI q), .int (nI y), .int (nI r), .int v] (pB D (tyX d) (WX a d fc ct po ra sf oc rd be gs gr fi la))) (QcRead (bI (mtG (aX ra) (hX sf) x q y r v))) 0 0 (fun _ => False) := by
  refine pureZ (by decide) (Nat.le_of_ble_eq_true rfl) ?_
  intro p e s m ar below meth c Q hx hb hml hown hts hB hret ls hl
  obtain ⟨hP, hK⟩ := hB
  have hown : s.vm.findClass RX0 = some m.cls := hown
  have hl : lv_has ls 6 [(0, .ref (a 0)), (1, .int (nI x)), (2, .int (nI q)), (3, .int (nI y)), (4, .int (nI r)), (5, .int v)] := hl
  refine lv_aload_n hx hb dX0_meets_0 rfl (lv_at hl 0 rfl) ?_
  refine lv_iload_n hx hb dX0_meets_1 rfl (lv_at hl 1 rfl) ?_
  refine lv_iload_n hx hb dX0_meets_2 rfl (lv_at hl 2 rfl) ?_
  refine kX0_arrayOf ⟨hx, hb, hml, hown, hts⟩ hK hP x q  (by omega) ⟨by decide, by decide⟩ hl.1 (Nat.le_of_ble_eq_true rfl) dX0_meets_3 ⟨Nat.zero_le _, Nat.zero_le _⟩ ?_
  refine lv_aload_n hx hb dX0_meets_6 rfl (lv_at hl 0 rfl) ?_
  refine lv_iload_n hx hb dX0_meets_7 rfl (lv_at hl 3 rfl) ?_
  refine lv_iload hx hb dX0_meets_8 (lv_at hl 4 rfl) ?_
  refine kX0_arrayOf ⟨hx, hb, hml, hown, hts⟩ hK hP y r  (by omega) ⟨by decide, by decide⟩ hl.1 (Nat.le_of_ble_eq_true rfl) dX0_meets_10 ⟨Nat.zero_le _, Nat.zero_le _⟩ ?_
  refine lv_icmp_ne (tgt := 39) hx hb dX0_meets_13 (by decide) (fun c_13 => ?_) (fun c_13 => ?_)
  · skip
    refine lv_iconst (v := 0) hx hb dX0_meets_39 (by decide) ?_
    exact hret _ _ _ (by simp [mtG, bI, c_13]) dX0_meets_40
  · skip
    refine lv_aload_n hx hb dX0_meets_16 rfl (lv_at hl 0 rfl) ?_
    refine lv_iload_n hx hb dX0_meets_17 rfl (lv_at hl 1 rfl) ?_
    refine lv_iload_n hx hb dX0_meets_18 rfl (lv_at hl 2 rfl) ?_
    refine kX0_shiftOf ⟨hx, hb, hml, hown, hts⟩ hK hP x q  (by omega) ⟨by decide, by decide⟩ hl.1 (Nat.le_of_ble_eq_true rfl) dX0_meets_19 ⟨Nat.zero_le _, Nat.zero_le _⟩ ?_
    refine lv_aload_n hx hb dX0_meets_22 rfl (lv_at hl 0 rfl) ?_
    refine lv_iload_n hx hb dX0_meets_23 rfl (lv_at hl 3 rfl) ?_
    refine lv_iload hx hb dX0_meets_24 (lv_at hl 4 rfl) ?_
    refine kX0_shiftOf ⟨hx, hb, hml, hown, hts⟩ hK hP y r  (by omega) ⟨by decide, by decide⟩ hl.1 (Nat.le_of_ble_eq_true rfl) dX0_meets_26 ⟨Nat.zero_le _, Nat.zero_le _⟩ ?_
    refine lv_iload hx hb dX0_meets_29 (lv_at hl 5 rfl) ?_
    refine lv_iadd hx hb dX0_meets_31 ?_
    refine lv_icmp_ne (tgt := 39) hx hb dX0_meets_32 (by decide) (fun c_32 => ?_) (fun c_32 => ?_)
    · skip
      refine lv_iconst (v := 0) hx hb dX0_meets_39 (by decide) ?_
      exact hret _ _ _ (by simp [mtG, bI, c_13, c_32]) dX0_meets_40
    · skip
      refine lv_iconst (v := 1) hx hb dX0_meets_35 (by decide) ?_
      refine lv_goto (tgt := 40) hx hb dX0_meets_36 (by decide) ?_
      exact hret _ _ _ (by simp [mtG, bI, c_13, c_32]) dX0_meets_40
theorem kX0_meets {p : Program} {l : Launch} {e : Env} {R : Room} {s : State} {m : MethodId} {args : Array Value} {below : List Frame} {meth : Method} {c : Code} {H : Heap} {locs : List Loc} {cells slots : Nat} {Q : State → Prop} {cc : ByteArray} {pc nL : Nat} {ls : Array Slot} {rest : List Value} {D : va_G} {a : Nat → Nat} {d : Nat → ClassId} {fc : Nat → Int32} {ct : Int32} {po ra sf oc : Nat → Int32} {rd : Int32} {be : Nat → Int32} {gs : Int32} {gr fi la : Nat → Int32}  (S : CallFix p m c cc nL s args lw_all RX0) (hK : va_K D vwCl (tyX d) s) (hP : va_P D vwCl (WX a d fc ct po ra sf oc rd be gs gr fi la) H) (x : Nat) (q : Nat) (y : Nat) (r : Nat) (v : Int32)  (hx4 : x < 4) (hy4 : y < 4) (hR : rmX0_meets.frames + 1 ≤ R.frames ∧ 8 + (6 + 11) + rmX0_meets.locals ≤ R.locals) (hsz : ls.size = nL) (hroom : (rest.map fun v => v.category).sum ≤ 8) (hdg : decode cc pc = .ok (.invokevirtual 67, 3)) (hf : cells ≤ R.cells ∧ slots ≤ R.slots) (kk : W p l e R s m args below meth c H locs cells slots Q (F0 m (pc + 3) ls (.int (bI (mtG (aX ra) (hX sf) x q y r v)) :: rest))) : W p l e R s m args below meth c H locs cells slots Q (F0 m pc ls (.int v :: .int (nI r) :: .int (nI y) :: .int (nI q) :: .int (nI x) :: .ref (a 0) :: rest)) :=
  pcallV (q := (RX0, TX0, 12)) (ci := 0) (As := [.int (nI x), .int (nI q), .int (nI y), .int (nI r), .int v]) S (mX0_meets l x q y r v hx4 hy4) (cwV 5 S.2.2.2.2 (lw_V q135 q137 qs7 q28 q138) rfl rfl rfl (by decide +kernel) hR) hK hP rfl rfl rfl hsz rfl hroom hdg hf kk
abbrev rmX0_feeds : Room := { frames := 2, cells := 0, slots := 0, locals := 47 }
set_option maxHeartbeats 4000000 in
set_option maxRecDepth 100000 in
theorem mX0_feeds (l : Launch) {D : va_G} {a : Nat → Nat} {d : Nat → ClassId} {fc : Nat → Int32} {ct : Int32} {po ra sf oc : Nat → Int32} {rd : Int32} {be : Nat → Int32} {gs : Int32} {gr fi la : Nat → Int32}  (x : Nat) (y : Nat) (v : Int32)  (hx4 : x < 4) (hy4 : y < 4) : Met l yX0_feeds (ws_ yX0_feeds cX0_feeds 6 (some .boolean)) rmX0_feeds (va_Pc [.ref (a 0), .int (nI x), .int (nI y), .int v] (pB D (tyX d) (WX a d fc ct po ra sf oc rd be gs gr fi la))) (QcRead (bI (fdG (aX ra) (hX sf) po x y v))) 0 0 (fun _ => False) := by
  refine pureZ (by decide) (Nat.le_of_ble_eq_true rfl) ?_
  intro p e s m ar below meth c Q hx hb hml hown hts hB hret ls hl
  obtain ⟨hP, hK⟩ := hB
  have hown : s.vm.findClass RX0 = some m.cls := hown
  have hl : lv_has ls 6 [(0, .ref (a 0)), (1, .int (nI x)), (2, .int (nI y)), (3, .int v)] := hl
  refine lv_iconst (v := 1) hx hb dX0_feeds_0 (by decide) ?_
  refine lv_istore (lv' := [(4, .int 1), (0, .ref (a 0)), (1, .int (nI x)), (2, .int (nI y)), (3, .int v)]) hx hb dX0_feeds_1 hl (by decide) rfl (fun ls hl => ?_)
  refine lv_iload hx hb dX0_feeds_3 (lv_at hl 0 rfl) ?_
  refine lv_iconst (v := 3) hx hb dX0_feeds_5 (by decide) ?_
  refine lv_icmp_ge (tgt := 52) hx hb dX0_feeds_6 (by decide) (fun c_6 => absurd c_6 (by decide)) (fun c_6 => ?_)
  refine lv_aload_n hx hb dX0_feeds_9 rfl (lv_at hl 1 rfl) ?_
  refine lv_iload_n hx hb dX0_feeds_10 rfl (lv_at hl 3 rfl) ?_
  refine lv_iload hx hb dX0_feeds_11 (lv_at hl 0 rfl) ?_
  refine kX0_reads ⟨hx, hb, hml, hown, hts⟩ hK hP y 1  (by omega) (by omega) ⟨by decide, by decide⟩ hl.1 (Nat.le_of_ble_eq_true rfl) dX0_feeds_13 ⟨Nat.zero_le _, Nat.zero_le _⟩ ?_
  refine lv_if_eq (tgt := 36) hx hb dX0_feeds_16 (by decide) (fun c_16 => ?_) (fun c_16 => ?_)
  · skip
    have c_16 := bI_0.mp c_16
    refine lv_iconst (v := 0) hx hb dX0_feeds_36 (by decide) ?_
    refine lv_istore (lv' := [(5, .int 0), (4, .int 1), (0, .ref (a 0)), (1, .int (nI x)), (2, .int (nI y)), (3, .int v)]) hx hb dX0_feeds_37 hl (by decide) rfl (fun ls hl => ?_)
    refine lv_iload hx hb dX0_feeds_39 (lv_at hl 0 rfl) ?_
    refine lv_if_eq (tgt := 46) hx hb dX0_feeds_41 (by decide) (fun c_41 => ?_) (fun c_41 => absurd (by decide) c_41)
    refine lv_iinc (v := 2) (lv' := [(4, .int 2), (5, .int 0), (0, .ref (a 0)), (1, .int (nI x)), (2, .int (nI y)), (3, .int v)]) hx hb dX0_feeds_46 hl (k := 1) rfl (by decide) (by decide) rfl (fun ls hl => ?_)
    refine lv_goto (tgt := 3) hx hb dX0_feeds_49 (by decide) ?_
    refine lv_iload hx hb dX0_feeds_3 (lv_at hl 0 rfl) ?_
    refine lv_iconst (v := 3) hx hb dX0_feeds_5 (by decide) ?_
    refine lv_icmp_ge (tgt := 52) hx hb dX0_feeds_6 (by decide) (fun c_6 => absurd c_6 (by decide)) (fun c_6 => ?_)
    refine lv_aload_n hx hb dX0_feeds_9 rfl (lv_at hl 2 rfl) ?_
    refine lv_iload_n hx hb dX0_feeds_10 rfl (lv_at hl 4 rfl) ?_
    refine lv_iload hx hb dX0_feeds_11 (lv_at hl 0 rfl) ?_
    refine kX0_reads ⟨hx, hb, hml, hown, hts⟩ hK hP y 2  (by omega) (by omega) ⟨by decide, by decide⟩ hl.1 (Nat.le_of_ble_eq_true rfl) dX0_feeds_13 ⟨Nat.zero_le _, Nat.zero_le _⟩ ?_
    refine lv_if_eq (tgt := 36) hx hb dX0_feeds_16 (by decide) (fun c_16' => ?_) (fun c_16' => ?_)
    · skip
      have c_16' := bI_0.mp c_16'
      refine lv_iconst (v := 0) hx hb dX0_feeds_36 (by decide) ?_
      refine lv_istore (lv' := [(5, .int 0), (4, .int 2), (0, .ref (a 0)), (1, .int (nI x)), (2, .int (nI y)), (3, .int v)]) hx hb dX0_feeds_37 hl (by decide) rfl (fun ls hl => ?_)
      refine lv_iload hx hb dX0_feeds_39 (lv_at hl 0 rfl) ?_
      refine lv_if_eq (tgt := 46) hx hb dX0_feeds_41 (by decide) (fun c_41 => ?_) (fun c_41 => absurd (by decide) c_41)
      refine lv_iinc (v := 3) (lv' := [(4, .int 3), (5, .int 0), (0, .ref (a 0)), (1, .int (nI x)), (2, .int (nI y)), (3, .int v)]) hx hb dX0_feeds_46 hl (k := 1) rfl (by decide) (by decide) rfl (fun ls hl => ?_)
      refine lv_goto (tgt := 3) hx hb dX0_feeds_49 (by decide) ?_
      refine lv_iload hx hb dX0_feeds_3 (lv_at hl 0 rfl) ?_
      refine lv_iconst (v := 3) hx hb dX0_feeds_5 (by decide) ?_
      refine lv_icmp_ge (tgt := 52) hx hb dX0_feeds_6 (by decide) (fun c_6 => ?_) (fun c_6 => absurd (by decide) c_6)
      refine lv_iconst (v := 0) hx hb dX0_feeds_52 (by decide) ?_
      exact hret _ _ _ (by simp [fdG, bI, c_16, c_16']) dX0_feeds_53
    · skip
      have c_16' := bI_n0.mp c_16'
      refine lv_aload_n hx hb dX0_feeds_19 rfl (lv_at hl 2 rfl) ?_
      refine lv_iload_n hx hb dX0_feeds_20 rfl (lv_at hl 3 rfl) ?_
      refine lv_iconst (v := 0) hx hb dX0_feeds_21 (by decide) ?_
      refine lv_iload_n hx hb dX0_feeds_22 rfl (lv_at hl 4 rfl) ?_
      refine lv_iload hx hb dX0_feeds_23 (lv_at hl 0 rfl) ?_
      refine lv_iload_n hx hb dX0_feeds_25 rfl (lv_at hl 5 rfl) ?_
      refine kX0_meets ⟨hx, hb, hml, hown, hts⟩ hK hP x 0 y 2 v  (by omega) (by omega) ⟨by decide, by decide⟩ hl.1 (Nat.le_of_ble_eq_true rfl) dX0_feeds_26 ⟨Nat.zero_le _, Nat.zero_le _⟩ ?_
      refine lv_if_eq (tgt := 36) hx hb dX0_feeds_29 (by decide) (fun c_29 => ?_) (fun c_29 => ?_)
      · skip
        have c_29 := bI_0.mp c_29
        refine lv_iconst (v := 0) hx hb dX0_feeds_36 (by decide) ?_
        refine lv_istore (lv' := [(5, .int 0), (4, .int 2), (0, .ref (a 0)), (1, .int (nI x)), (2, .int (nI y)), (3, .int v)]) hx hb dX0_feeds_37 hl (by decide) rfl (fun ls hl => ?_)
        refine lv_iload hx hb dX0_feeds_39 (lv_at hl 0 rfl) ?_
        refine lv_if_eq (tgt := 46) hx hb dX0_feeds_41 (by decide) (fun c_41 => ?_) (fun c_41 => absurd (by decide) c_41)
        refine lv_iinc (v := 3) (lv' := [(4, .int 3), (5, .int 0), (0, .ref (a 0)), (1, .int (nI x)), (2, .int (nI y)), (3, .int v)]) hx hb dX0_feeds_46 hl (k := 1) rfl (by decide) (by decide) rfl (fun ls hl => ?_)
        refine lv_goto (tgt := 3) hx hb dX0_feeds_49 (by decide) ?_
        refine lv_iload hx hb dX0_feeds_3 (lv_at hl 0 rfl) ?_
        refine lv_iconst (v := 3) hx hb dX0_feeds_5 (by decide) ?_
        refine lv_icmp_ge (tgt := 52) hx hb dX0_feeds_6 (by decide) (fun c_6 => ?_) (fun c_6 => absurd (by decide) c_6)
        refine lv_iconst (v := 0) hx hb dX0_feeds_52 (by decide) ?_
        exact hret _ _ _ (by simp [fdG, bI, c_16, c_16', c_29]) dX0_feeds_53
      · skip
        have c_29 := bI_n0.mp c_29
        refine lv_iconst (v := 1) hx hb dX0_feeds_32 (by decide) ?_
        refine lv_goto (tgt := 37) hx hb dX0_feeds_33 (by decide) ?_
        refine lv_istore (lv' := [(5, .int 1), (4, .int 2), (0, .ref (a 0)), (1, .int (nI x)), (2, .int (nI y)), (3, .int v)]) hx hb dX0_feeds_37 hl (by decide) rfl (fun ls hl => ?_)
        refine lv_iload hx hb dX0_feeds_39 (lv_at hl 0 rfl) ?_
        refine lv_if_eq (tgt := 46) hx hb dX0_feeds_41 (by decide) (fun c_41 => absurd c_41 (by decide)) (fun c_41 => ?_)
        refine lv_iconst (v := 1) hx hb dX0_feeds_44 (by decide) ?_
        exact hret _ _ _ (by simp [fdG, bI, c_16, c_16', c_29]) dX0_feeds_45
  · skip
    have c_16 := bI_n0.mp c_16
    refine lv_aload_n hx hb dX0_feeds_19 rfl (lv_at hl 1 rfl) ?_
    refine lv_iload_n hx hb dX0_feeds_20 rfl (lv_at hl 2 rfl) ?_
    refine lv_iconst (v := 0) hx hb dX0_feeds_21 (by decide) ?_
    refine lv_iload_n hx hb dX0_feeds_22 rfl (lv_at hl 3 rfl) ?_
    refine lv_iload hx hb dX0_feeds_23 (lv_at hl 0 rfl) ?_
    refine lv_iload_n hx hb dX0_feeds_25 rfl (lv_at hl 4 rfl) ?_
    refine kX0_meets ⟨hx, hb, hml, hown, hts⟩ hK hP x 0 y 1 v  (by omega) (by omega) ⟨by decide, by decide⟩ hl.1 (Nat.le_of_ble_eq_true rfl) dX0_feeds_26 ⟨Nat.zero_le _, Nat.zero_le _⟩ ?_
    refine lv_if_eq (tgt := 36) hx hb dX0_feeds_29 (by decide) (fun c_29 => ?_) (fun c_29 => ?_)
    · skip
      have c_29 := bI_0.mp c_29
      refine lv_iconst (v := 0) hx hb dX0_feeds_36 (by decide) ?_
      refine lv_istore (lv' := [(5, .int 0), (4, .int 1), (0, .ref (a 0)), (1, .int (nI x)), (2, .int (nI y)), (3, .int v)]) hx hb dX0_feeds_37 hl (by decide) rfl (fun ls hl => ?_)
      refine lv_iload hx hb dX0_feeds_39 (lv_at hl 0 rfl) ?_
      refine lv_if_eq (tgt := 46) hx hb dX0_feeds_41 (by decide) (fun c_41 => ?_) (fun c_41 => absurd (by decide) c_41)
      refine lv_iinc (v := 2) (lv' := [(4, .int 2), (5, .int 0), (0, .ref (a 0)), (1, .int (nI x)), (2, .int (nI y)), (3, .int v)]) hx hb dX0_feeds_46 hl (k := 1) rfl (by decide) (by decide) rfl (fun ls hl => ?_)
      refine lv_goto (tgt := 3) hx hb dX0_feeds_49 (by decide) ?_
      refine lv_iload hx hb dX0_feeds_3 (lv_at hl 0 rfl) ?_
      refine lv_iconst (v := 3) hx hb dX0_feeds_5 (by decide) ?_
      refine lv_icmp_ge (tgt := 52) hx hb dX0_feeds_6 (by decide) (fun c_6 => absurd c_6 (by decide)) (fun c_6 => ?_)
      refine lv_aload_n hx hb dX0_feeds_9 rfl (lv_at hl 2 rfl) ?_
      refine lv_iload_n hx hb dX0_feeds_10 rfl (lv_at hl 4 rfl) ?_
      refine lv_iload hx hb dX0_feeds_11 (lv_at hl 0 rfl) ?_
      refine kX0_reads ⟨hx, hb, hml, hown, hts⟩ hK hP y 2  (by omega) (by omega) ⟨by decide, by decide⟩ hl.1 (Nat.le_of_ble_eq_true rfl) dX0_feeds_13 ⟨Nat.zero_le _, Nat.zero_le _⟩ ?_
      refine lv_if_eq (tgt := 36) hx hb dX0_feeds_16 (by decide) (fun c_16' => ?_) (fun c_16' => ?_)
      · skip
        have c_16' := bI_0.mp c_16'
        refine lv_iconst (v := 0) hx hb dX0_feeds_36 (by decide) ?_
        refine lv_istore (lv' := [(5, .int 0), (4, .int 2), (0, .ref (a 0)), (1, .int (nI x)), (2, .int (nI y)), (3, .int v)]) hx hb dX0_feeds_37 hl (by decide) rfl (fun ls hl => ?_)
        refine lv_iload hx hb dX0_feeds_39 (lv_at hl 0 rfl) ?_
        refine lv_if_eq (tgt := 46) hx hb dX0_feeds_41 (by decide) (fun c_41 => ?_) (fun c_41 => absurd (by decide) c_41)
        refine lv_iinc (v := 3) (lv' := [(4, .int 3), (5, .int 0), (0, .ref (a 0)), (1, .int (nI x)), (2, .int (nI y)), (3, .int v)]) hx hb dX0_feeds_46 hl (k := 1) rfl (by decide) (by decide) rfl (fun ls hl => ?_)
        refine lv_goto (tgt := 3) hx hb dX0_feeds_49 (by decide) ?_
        refine lv_iload hx hb dX0_feeds_3 (lv_at hl 0 rfl) ?_
        refine lv_iconst (v := 3) hx hb dX0_feeds_5 (by decide) ?_
        refine lv_icmp_ge (tgt := 52) hx hb dX0_feeds_6 (by decide) (fun c_6 => ?_) (fun c_6 => absurd (by decide) c_6)
        refine lv_iconst (v := 0) hx hb dX0_feeds_52 (by decide) ?_
        exact hret _ _ _ (by simp [fdG, bI, c_16, c_29, c_16']) dX0_feeds_53
      · skip
        have c_16' := bI_n0.mp c_16'
        refine lv_aload_n hx hb dX0_feeds_19 rfl (lv_at hl 2 rfl) ?_
        refine lv_iload_n hx hb dX0_feeds_20 rfl (lv_at hl 3 rfl) ?_
        refine lv_iconst (v := 0) hx hb dX0_feeds_21 (by decide) ?_
        refine lv_iload_n hx hb dX0_feeds_22 rfl (lv_at hl 4 rfl) ?_
        refine lv_iload hx hb dX0_feeds_23 (lv_at hl 0 rfl) ?_
        refine lv_iload_n hx hb dX0_feeds_25 rfl (lv_at hl 5 rfl) ?_
        refine kX0_meets ⟨hx, hb, hml, hown, hts⟩ hK hP x 0 y 2 v  (by omega) (by omega) ⟨by decide, by decide⟩ hl.1 (Nat.le_of_ble_eq_true rfl) dX0_feeds_26 ⟨Nat.zero_le _, Nat.zero_le _⟩ ?_
        refine lv_if_eq (tgt := 36) hx hb dX0_feeds_29 (by decide) (fun c_29' => ?_) (fun c_29' => ?_)
        · skip
          have c_29' := bI_0.mp c_29'
          refine lv_iconst (v := 0) hx hb dX0_feeds_36 (by decide) ?_
          refine lv_istore (lv' := [(5, .int 0), (4, .int 2), (0, .ref (a 0)), (1, .int (nI x)), (2, .int (nI y)), (3, .int v)]) hx hb dX0_feeds_37 hl (by decide) rfl (fun ls hl => ?_)
          refine lv_iload hx hb dX0_feeds_39 (lv_at hl 0 rfl) ?_
          refine lv_if_eq (tgt := 46) hx hb dX0_feeds_41 (by decide) (fun c_41 => ?_) (fun c_41 => absurd (by decide) c_41)
          refine lv_iinc (v := 3) (lv' := [(4, .int 3), (5, .int 0), (0, .ref (a 0)), (1, .int (nI x)), (2, .int (nI y)), (3, .int v)]) hx hb dX0_feeds_46 hl (k := 1) rfl (by decide) (by decide) rfl (fun ls hl => ?_)
          refine lv_goto (tgt := 3) hx hb dX0_feeds_49 (by decide) ?_
          refine lv_iload hx hb dX0_feeds_3 (lv_at hl 0 rfl) ?_
          refine lv_iconst (v := 3) hx hb dX0_feeds_5 (by decide) ?_
          refine lv_icmp_ge (tgt := 52) hx hb dX0_feeds_6 (by decide) (fun c_6 => ?_) (fun c_6 => absurd (by decide) c_6)
          refine lv_iconst (v := 0) hx hb dX0_feeds_52 (by decide) ?_
          exact hret _ _ _ (by simp [fdG, bI, c_16, c_29, c_16', c_29']) dX0_feeds_53
        · skip
          have c_29' := bI_n0.mp c_29'
          refine lv_iconst (v := 1) hx hb dX0_feeds_32 (by decide) ?_
          refine lv_goto (tgt := 37) hx hb dX0_feeds_33 (by decide) ?_
          refine lv_istore (lv' := [(5, .int 1), (4, .int 2), (0, .ref (a 0)), (1, .int (nI x)), (2, .int (nI y)), (3, .int v)]) hx hb dX0_feeds_37 hl (by decide) rfl (fun ls hl => ?_)
          refine lv_iload hx hb dX0_feeds_39 (lv_at hl 0 rfl) ?_
          refine lv_if_eq (tgt := 46) hx hb dX0_feeds_41 (by decide) (fun c_41 => absurd c_41 (by decide)) (fun c_41 => ?_)
          refine lv_iconst (v := 1) hx hb dX0_feeds_44 (by decide) ?_
          exact hret _ _ _ (by simp [fdG, bI, c_16, c_29, c_16', c_29']) dX0_feeds_45
    · skip
      have c_29 := bI_n0.mp c_29
      refine lv_iconst (v := 1) hx hb dX0_feeds_32 (by decide) ?_
      refine lv_goto (tgt := 37) hx hb dX0_feeds_33 (by decide) ?_
      refine lv_istore (lv' := [(5, .int 1), (4, .int 1), (0, .ref (a 0)), (1, .int (nI x)), (2, .int (nI y)), (3, .int v)]) hx hb dX0_feeds_37 hl (by decide) rfl (fun ls hl => ?_)
      refine lv_iload hx hb dX0_feeds_39 (lv_at hl 0 rfl) ?_
      refine lv_if_eq (tgt := 46) hx hb dX0_feeds_41 (by decide) (fun c_41 => absurd c_41 (by decide)) (fun c_41 => ?_)
      refine lv_iconst (v := 1) hx hb dX0_feeds_44 (by decide) ?_
      exact hret _ _ _ (by simp [fdG, bI, c_16, c_29]) dX0_feeds_45
theorem kX0_feeds {p : Program} {l : Launch} {e : Env} {R : Room} {s : State} {m : MethodId} {args : Array Value} {below : List Frame} {meth : Method} {c : Code} {H : Heap} {locs : List Loc} {cells slots : Nat} {Q : State → Prop} {cc : ByteArray} {pc nL : Nat} {ls : Array Slot} {rest : List Value} {D : va_G} {a : Nat → Nat} {d : Nat → ClassId} {fc : Nat → Int32} {ct : Int32} {po ra sf oc : Nat → Int32} {rd : Int32} {be : Nat → Int32} {gs : Int32} {gr fi la : Nat → Int32}  (S : CallFix p m c cc nL s args lw_all RX0) (hK : va_K D vwCl (tyX d) s) (hP : va_P D vwCl (WX a d fc ct po ra sf oc rd be gs gr fi la) H) (x : Nat) (y : Nat) (v : Int32)  (hx4 : x < 4) (hy4 : y < 4) (hR : rmX0_feeds.frames + 1 ≤ R.frames ∧ 8 + (6 + 11) + rmX0_feeds.locals ≤ R.locals) (hsz : ls.size = nL) (hroom : (rest.map fun v => v.category).sum ≤ 8) (hdg : decode cc pc = .ok (.invokevirtual 71, 3)) (hf : cells ≤ R.cells ∧ slots ≤ R.slots) (kk : W p l e R s m args below meth c H locs cells slots Q (F0 m (pc + 3) ls (.int (bI (fdG (aX ra) (hX sf) po x y v)) :: rest))) : W p l e R s m args below meth c H locs cells slots Q (F0 m pc ls (.int v :: .int (nI y) :: .int (nI x) :: .ref (a 0) :: rest)) :=
  pcallV (q := (RX0, TX0, 12)) (ci := 0) (As := [.int (nI x), .int (nI y), .int v]) S (mX0_feeds l x y v hx4 hy4) (cwV 3 S.2.2.2.2 (lw_V q143 q145 qs9 q28 q146) rfl rfl rfl (by decide +kernel) hR) hK hP rfl rfl rfl hsz rfl hroom hdg hf kk
abbrev rmX0_spoils : Room := { frames := 2, cells := 0, slots := 0, locals := 47 }
set_option maxHeartbeats 4000000 in
set_option maxRecDepth 100000 in
theorem mX0_spoils (l : Launch) {D : va_G} {a : Nat → Nat} {d : Nat → ClassId} {fc : Nat → Int32} {ct : Int32} {po ra sf oc : Nat → Int32} {rd : Int32} {be : Nat → Int32} {gs : Int32} {gr fi la : Nat → Int32}  (x : Nat) (y : Nat) (v : Int32)  (hx4 : x < 4) (hy4 : y < 4) : Met l yX0_spoils (ws_ yX0_spoils cX0_spoils 6 (some .boolean)) rmX0_spoils (va_Pc [.ref (a 0), .int (nI x), .int (nI y), .int v] (pB D (tyX d) (WX a d fc ct po ra sf oc rd be gs gr fi la))) (QcRead (bI (spG (aX ra) (hX sf) po x y v))) 0 0 (fun _ => False) := by
  refine pureZ (by decide) (Nat.le_of_ble_eq_true rfl) ?_
  intro p e s m ar below meth c Q hx hb hml hown hts hB hret ls hl
  obtain ⟨hP, hK⟩ := hB
  have hown : s.vm.findClass RX0 = some m.cls := hown
  have hl : lv_has ls 6 [(0, .ref (a 0)), (1, .int (nI x)), (2, .int (nI y)), (3, .int v)] := hl
  refine lv_iconst (v := 1) hx hb dX0_spoils_0 (by decide) ?_
  refine lv_istore (lv' := [(4, .int 1), (0, .ref (a 0)), (1, .int (nI x)), (2, .int (nI y)), (3, .int v)]) hx hb dX0_spoils_1 hl (by decide) rfl (fun ls hl => ?_)
  refine lv_iload hx hb dX0_spoils_3 (lv_at hl 0 rfl) ?_
  refine lv_iconst (v := 3) hx hb dX0_spoils_5 (by decide) ?_
  refine lv_icmp_ge (tgt := 52) hx hb dX0_spoils_6 (by decide) (fun c_6 => absurd c_6 (by decide)) (fun c_6 => ?_)
  refine lv_aload_n hx hb dX0_spoils_9 rfl (lv_at hl 1 rfl) ?_
  refine lv_iload_n hx hb dX0_spoils_10 rfl (lv_at hl 2 rfl) ?_
  refine lv_iload hx hb dX0_spoils_11 (lv_at hl 0 rfl) ?_
  refine kX0_reads ⟨hx, hb, hml, hown, hts⟩ hK hP x 1  (by omega) (by omega) ⟨by decide, by decide⟩ hl.1 (Nat.le_of_ble_eq_true rfl) dX0_spoils_13 ⟨Nat.zero_le _, Nat.zero_le _⟩ ?_
  refine lv_if_eq (tgt := 36) hx hb dX0_spoils_16 (by decide) (fun c_16 => ?_) (fun c_16 => ?_)
  · skip
    have c_16 := bI_0.mp c_16
    refine lv_iconst (v := 0) hx hb dX0_spoils_36 (by decide) ?_
    refine lv_istore (lv' := [(5, .int 0), (4, .int 1), (0, .ref (a 0)), (1, .int (nI x)), (2, .int (nI y)), (3, .int v)]) hx hb dX0_spoils_37 hl (by decide) rfl (fun ls hl => ?_)
    refine lv_iload hx hb dX0_spoils_39 (lv_at hl 0 rfl) ?_
    refine lv_if_eq (tgt := 46) hx hb dX0_spoils_41 (by decide) (fun c_41 => ?_) (fun c_41 => absurd (by decide) c_41)
    refine lv_iinc (v := 2) (lv' := [(4, .int 2), (5, .int 0), (0, .ref (a 0)), (1, .int (nI x)), (2, .int (nI y)), (3, .int v)]) hx hb dX0_spoils_46 hl (k := 1) rfl (by decide) (by decide) rfl (fun ls hl => ?_)
    refine lv_goto (tgt := 3) hx hb dX0_spoils_49 (by decide) ?_
    refine lv_iload hx hb dX0_spoils_3 (lv_at hl 0 rfl) ?_
    refine lv_iconst (v := 3) hx hb dX0_spoils_5 (by decide) ?_
    refine lv_icmp_ge (tgt := 52) hx hb dX0_spoils_6 (by decide) (fun c_6 => absurd c_6 (by decide)) (fun c_6 => ?_)
    refine lv_aload_n hx hb dX0_spoils_9 rfl (lv_at hl 2 rfl) ?_
    refine lv_iload_n hx hb dX0_spoils_10 rfl (lv_at hl 3 rfl) ?_
    refine lv_iload hx hb dX0_spoils_11 (lv_at hl 0 rfl) ?_
    refine kX0_reads ⟨hx, hb, hml, hown, hts⟩ hK hP x 2  (by omega) (by omega) ⟨by decide, by decide⟩ hl.1 (Nat.le_of_ble_eq_true rfl) dX0_spoils_13 ⟨Nat.zero_le _, Nat.zero_le _⟩ ?_
    refine lv_if_eq (tgt := 36) hx hb dX0_spoils_16 (by decide) (fun c_16' => ?_) (fun c_16' => ?_)
    · skip
      have c_16' := bI_0.mp c_16'
      refine lv_iconst (v := 0) hx hb dX0_spoils_36 (by decide) ?_
      refine lv_istore (lv' := [(5, .int 0), (4, .int 2), (0, .ref (a 0)), (1, .int (nI x)), (2, .int (nI y)), (3, .int v)]) hx hb dX0_spoils_37 hl (by decide) rfl (fun ls hl => ?_)
      refine lv_iload hx hb dX0_spoils_39 (lv_at hl 0 rfl) ?_
      refine lv_if_eq (tgt := 46) hx hb dX0_spoils_41 (by decide) (fun c_41 => ?_) (fun c_41 => absurd (by decide) c_41)
      refine lv_iinc (v := 3) (lv' := [(4, .int 3), (5, .int 0), (0, .ref (a 0)), (1, .int (nI x)), (2, .int (nI y)), (3, .int v)]) hx hb dX0_spoils_46 hl (k := 1) rfl (by decide) (by decide) rfl (fun ls hl => ?_)
      refine lv_goto (tgt := 3) hx hb dX0_spoils_49 (by decide) ?_
      refine lv_iload hx hb dX0_spoils_3 (lv_at hl 0 rfl) ?_
      refine lv_iconst (v := 3) hx hb dX0_spoils_5 (by decide) ?_
      refine lv_icmp_ge (tgt := 52) hx hb dX0_spoils_6 (by decide) (fun c_6 => ?_) (fun c_6 => absurd (by decide) c_6)
      refine lv_iconst (v := 0) hx hb dX0_spoils_52 (by decide) ?_
      exact hret _ _ _ (by simp [spG, bI, c_16, c_16']) dX0_spoils_53
    · skip
      have c_16' := bI_n0.mp c_16'
      refine lv_aload_n hx hb dX0_spoils_19 rfl (lv_at hl 2 rfl) ?_
      refine lv_iload_n hx hb dX0_spoils_20 rfl (lv_at hl 3 rfl) ?_
      refine lv_iload hx hb dX0_spoils_21 (lv_at hl 0 rfl) ?_
      refine lv_iload_n hx hb dX0_spoils_23 rfl (lv_at hl 4 rfl) ?_
      refine lv_iconst (v := 0) hx hb dX0_spoils_24 (by decide) ?_
      refine lv_iload_n hx hb dX0_spoils_25 rfl (lv_at hl 5 rfl) ?_
      refine kX0_meets ⟨hx, hb, hml, hown, hts⟩ hK hP x 2 y 0 v  (by omega) (by omega) ⟨by decide, by decide⟩ hl.1 (Nat.le_of_ble_eq_true rfl) dX0_spoils_26 ⟨Nat.zero_le _, Nat.zero_le _⟩ ?_
      refine lv_if_eq (tgt := 36) hx hb dX0_spoils_29 (by decide) (fun c_29 => ?_) (fun c_29 => ?_)
      · skip
        have c_29 := bI_0.mp c_29
        refine lv_iconst (v := 0) hx hb dX0_spoils_36 (by decide) ?_
        refine lv_istore (lv' := [(5, .int 0), (4, .int 2), (0, .ref (a 0)), (1, .int (nI x)), (2, .int (nI y)), (3, .int v)]) hx hb dX0_spoils_37 hl (by decide) rfl (fun ls hl => ?_)
        refine lv_iload hx hb dX0_spoils_39 (lv_at hl 0 rfl) ?_
        refine lv_if_eq (tgt := 46) hx hb dX0_spoils_41 (by decide) (fun c_41 => ?_) (fun c_41 => absurd (by decide) c_41)
        refine lv_iinc (v := 3) (lv' := [(4, .int 3), (5, .int 0), (0, .ref (a 0)), (1, .int (nI x)), (2, .int (nI y)), (3, .int v)]) hx hb dX0_spoils_46 hl (k := 1) rfl (by decide) (by decide) rfl (fun ls hl => ?_)
        refine lv_goto (tgt := 3) hx hb dX0_spoils_49 (by decide) ?_
        refine lv_iload hx hb dX0_spoils_3 (lv_at hl 0 rfl) ?_
        refine lv_iconst (v := 3) hx hb dX0_spoils_5 (by decide) ?_
        refine lv_icmp_ge (tgt := 52) hx hb dX0_spoils_6 (by decide) (fun c_6 => ?_) (fun c_6 => absurd (by decide) c_6)
        refine lv_iconst (v := 0) hx hb dX0_spoils_52 (by decide) ?_
        exact hret _ _ _ (by simp [spG, bI, c_16, c_16', c_29]) dX0_spoils_53
      · skip
        have c_29 := bI_n0.mp c_29
        refine lv_iconst (v := 1) hx hb dX0_spoils_32 (by decide) ?_
        refine lv_goto (tgt := 37) hx hb dX0_spoils_33 (by decide) ?_
        refine lv_istore (lv' := [(5, .int 1), (4, .int 2), (0, .ref (a 0)), (1, .int (nI x)), (2, .int (nI y)), (3, .int v)]) hx hb dX0_spoils_37 hl (by decide) rfl (fun ls hl => ?_)
        refine lv_iload hx hb dX0_spoils_39 (lv_at hl 0 rfl) ?_
        refine lv_if_eq (tgt := 46) hx hb dX0_spoils_41 (by decide) (fun c_41 => absurd c_41 (by decide)) (fun c_41 => ?_)
        refine lv_iconst (v := 1) hx hb dX0_spoils_44 (by decide) ?_
        exact hret _ _ _ (by simp [spG, bI, c_16, c_16', c_29]) dX0_spoils_45
  · skip
    have c_16 := bI_n0.mp c_16
    refine lv_aload_n hx hb dX0_spoils_19 rfl (lv_at hl 1 rfl) ?_
    refine lv_iload_n hx hb dX0_spoils_20 rfl (lv_at hl 2 rfl) ?_
    refine lv_iload hx hb dX0_spoils_21 (lv_at hl 0 rfl) ?_
    refine lv_iload_n hx hb dX0_spoils_23 rfl (lv_at hl 3 rfl) ?_
    refine lv_iconst (v := 0) hx hb dX0_spoils_24 (by decide) ?_
    refine lv_iload_n hx hb dX0_spoils_25 rfl (lv_at hl 4 rfl) ?_
    refine kX0_meets ⟨hx, hb, hml, hown, hts⟩ hK hP x 1 y 0 v  (by omega) (by omega) ⟨by decide, by decide⟩ hl.1 (Nat.le_of_ble_eq_true rfl) dX0_spoils_26 ⟨Nat.zero_le _, Nat.zero_le _⟩ ?_
    refine lv_if_eq (tgt := 36) hx hb dX0_spoils_29 (by decide) (fun c_29 => ?_) (fun c_29 => ?_)
    · skip
      have c_29 := bI_0.mp c_29
      refine lv_iconst (v := 0) hx hb dX0_spoils_36 (by decide) ?_
      refine lv_istore (lv' := [(5, .int 0), (4, .int 1), (0, .ref (a 0)), (1, .int (nI x)), (2, .int (nI y)), (3, .int v)]) hx hb dX0_spoils_37 hl (by decide) rfl (fun ls hl => ?_)
      refine lv_iload hx hb dX0_spoils_39 (lv_at hl 0 rfl) ?_
      refine lv_if_eq (tgt := 46) hx hb dX0_spoils_41 (by decide) (fun c_41 => ?_) (fun c_41 => absurd (by decide) c_41)
      refine lv_iinc (v := 2) (lv' := [(4, .int 2), (5, .int 0), (0, .ref (a 0)), (1, .int (nI x)), (2, .int (nI y)), (3, .int v)]) hx hb dX0_spoils_46 hl (k := 1) rfl (by decide) (by decide) rfl (fun ls hl => ?_)
      refine lv_goto (tgt := 3) hx hb dX0_spoils_49 (by decide) ?_
      refine lv_iload hx hb dX0_spoils_3 (lv_at hl 0 rfl) ?_
      refine lv_iconst (v := 3) hx hb dX0_spoils_5 (by decide) ?_
      refine lv_icmp_ge (tgt := 52) hx hb dX0_spoils_6 (by decide) (fun c_6 => absurd c_6 (by decide)) (fun c_6 => ?_)
      refine lv_aload_n hx hb dX0_spoils_9 rfl (lv_at hl 2 rfl) ?_
      refine lv_iload_n hx hb dX0_spoils_10 rfl (lv_at hl 3 rfl) ?_
      refine lv_iload hx hb dX0_spoils_11 (lv_at hl 0 rfl) ?_
      refine kX0_reads ⟨hx, hb, hml, hown, hts⟩ hK hP x 2  (by omega) (by omega) ⟨by decide, by decide⟩ hl.1 (Nat.le_of_ble_eq_true rfl) dX0_spoils_13 ⟨Nat.zero_le _, Nat.zero_le _⟩ ?_
      refine lv_if_eq (tgt := 36) hx hb dX0_spoils_16 (by decide) (fun c_16' => ?_) (fun c_16' => ?_)
      · skip
        have c_16' := bI_0.mp c_16'
        refine lv_iconst (v := 0) hx hb dX0_spoils_36 (by decide) ?_
        refine lv_istore (lv' := [(5, .int 0), (4, .int 2), (0, .ref (a 0)), (1, .int (nI x)), (2, .int (nI y)), (3, .int v)]) hx hb dX0_spoils_37 hl (by decide) rfl (fun ls hl => ?_)
        refine lv_iload hx hb dX0_spoils_39 (lv_at hl 0 rfl) ?_
        refine lv_if_eq (tgt := 46) hx hb dX0_spoils_41 (by decide) (fun c_41 => ?_) (fun c_41 => absurd (by decide) c_41)
        refine lv_iinc (v := 3) (lv' := [(4, .int 3), (5, .int 0), (0, .ref (a 0)), (1, .int (nI x)), (2, .int (nI y)), (3, .int v)]) hx hb dX0_spoils_46 hl (k := 1) rfl (by decide) (by decide) rfl (fun ls hl => ?_)
        refine lv_goto (tgt := 3) hx hb dX0_spoils_49 (by decide) ?_
        refine lv_iload hx hb dX0_spoils_3 (lv_at hl 0 rfl) ?_
        refine lv_iconst (v := 3) hx hb dX0_spoils_5 (by decide) ?_
        refine lv_icmp_ge (tgt := 52) hx hb dX0_spoils_6 (by decide) (fun c_6 => ?_) (fun c_6 => absurd (by decide) c_6)
        refine lv_iconst (v := 0) hx hb dX0_spoils_52 (by decide) ?_
        exact hret _ _ _ (by simp [spG, bI, c_16, c_29, c_16']) dX0_spoils_53
      · skip
        have c_16' := bI_n0.mp c_16'
        refine lv_aload_n hx hb dX0_spoils_19 rfl (lv_at hl 2 rfl) ?_
        refine lv_iload_n hx hb dX0_spoils_20 rfl (lv_at hl 3 rfl) ?_
        refine lv_iload hx hb dX0_spoils_21 (lv_at hl 0 rfl) ?_
        refine lv_iload_n hx hb dX0_spoils_23 rfl (lv_at hl 4 rfl) ?_
        refine lv_iconst (v := 0) hx hb dX0_spoils_24 (by decide) ?_
        refine lv_iload_n hx hb dX0_spoils_25 rfl (lv_at hl 5 rfl) ?_
        refine kX0_meets ⟨hx, hb, hml, hown, hts⟩ hK hP x 2 y 0 v  (by omega) (by omega) ⟨by decide, by decide⟩ hl.1 (Nat.le_of_ble_eq_true rfl) dX0_spoils_26 ⟨Nat.zero_le _, Nat.zero_le _⟩ ?_
        refine lv_if_eq (tgt := 36) hx hb dX0_spoils_29 (by decide) (fun c_29' => ?_) (fun c_29' => ?_)
        · skip
          have c_29' := bI_0.mp c_29'
          refine lv_iconst (v := 0) hx hb dX0_spoils_36 (by decide) ?_
          refine lv_istore (lv' := [(5, .int 0), (4, .int 2), (0, .ref (a 0)), (1, .int (nI x)), (2, .int (nI y)), (3, .int v)]) hx hb dX0_spoils_37 hl (by decide) rfl (fun ls hl => ?_)
          refine lv_iload hx hb dX0_spoils_39 (lv_at hl 0 rfl) ?_
          refine lv_if_eq (tgt := 46) hx hb dX0_spoils_41 (by decide) (fun c_41 => ?_) (fun c_41 => absurd (by decide) c_41)
          refine lv_iinc (v := 3) (lv' := [(4, .int 3), (5, .int 0), (0, .ref (a 0)), (1, .int (nI x)), (2, .int (nI y)), (3, .int v)]) hx hb dX0_spoils_46 hl (k := 1) rfl (by decide) (by decide) rfl (fun ls hl => ?_)
          refine lv_goto (tgt := 3) hx hb dX0_spoils_49 (by decide) ?_
          refine lv_iload hx hb dX0_spoils_3 (lv_at hl 0 rfl) ?_
          refine lv_iconst (v := 3) hx hb dX0_spoils_5 (by decide) ?_
          refine lv_icmp_ge (tgt := 52) hx hb dX0_spoils_6 (by decide) (fun c_6 => ?_) (fun c_6 => absurd (by decide) c_6)
          refine lv_iconst (v := 0) hx hb dX0_spoils_52 (by decide) ?_
          exact hret _ _ _ (by simp [spG, bI, c_16, c_29, c_16', c_29']) dX0_spoils_53
        · skip
          have c_29' := bI_n0.mp c_29'
          refine lv_iconst (v := 1) hx hb dX0_spoils_32 (by decide) ?_
          refine lv_goto (tgt := 37) hx hb dX0_spoils_33 (by decide) ?_
          refine lv_istore (lv' := [(5, .int 1), (4, .int 2), (0, .ref (a 0)), (1, .int (nI x)), (2, .int (nI y)), (3, .int v)]) hx hb dX0_spoils_37 hl (by decide) rfl (fun ls hl => ?_)
          refine lv_iload hx hb dX0_spoils_39 (lv_at hl 0 rfl) ?_
          refine lv_if_eq (tgt := 46) hx hb dX0_spoils_41 (by decide) (fun c_41 => absurd c_41 (by decide)) (fun c_41 => ?_)
          refine lv_iconst (v := 1) hx hb dX0_spoils_44 (by decide) ?_
          exact hret _ _ _ (by simp [spG, bI, c_16, c_29, c_16', c_29']) dX0_spoils_45
    · skip
      have c_29 := bI_n0.mp c_29
      refine lv_iconst (v := 1) hx hb dX0_spoils_32 (by decide) ?_
      refine lv_goto (tgt := 37) hx hb dX0_spoils_33 (by decide) ?_
      refine lv_istore (lv' := [(5, .int 1), (4, .int 1), (0, .ref (a 0)), (1, .int (nI x)), (2, .int (nI y)), (3, .int v)]) hx hb dX0_spoils_37 hl (by decide) rfl (fun ls hl => ?_)
      refine lv_iload hx hb dX0_spoils_39 (lv_at hl 0 rfl) ?_
      refine lv_if_eq (tgt := 46) hx hb dX0_spoils_41 (by decide) (fun c_41 => absurd c_41 (by decide)) (fun c_41 => ?_)
      refine lv_iconst (v := 1) hx hb dX0_spoils_44 (by decide) ?_
      exact hret _ _ _ (by simp [spG, bI, c_16, c_29]) dX0_spoils_45
theorem kX0_spoils {p : Program} {l : Launch} {e : Env} {R : Room} {s : State} {m : MethodId} {args : Array Value} {below : List Frame} {meth : Method} {c : Code} {H : Heap} {locs : List Loc} {cells slots : Nat} {Q : State → Prop} {cc : ByteArray} {pc nL : Nat} {ls : Array Slot} {rest : List Value} {D : va_G} {a : Nat → Nat} {d : Nat → ClassId} {fc : Nat → Int32} {ct : Int32} {po ra sf oc : Nat → Int32} {rd : Int32} {be : Nat → Int32} {gs : Int32} {gr fi la : Nat → Int32}  (S : CallFix p m c cc nL s args lw_all RX0) (hK : va_K D vwCl (tyX d) s) (hP : va_P D vwCl (WX a d fc ct po ra sf oc rd be gs gr fi la) H) (x : Nat) (y : Nat) (v : Int32)  (hx4 : x < 4) (hy4 : y < 4) (hR : rmX0_spoils.frames + 1 ≤ R.frames ∧ 8 + (6 + 11) + rmX0_spoils.locals ≤ R.locals) (hsz : ls.size = nL) (hroom : (rest.map fun v => v.category).sum ≤ 8) (hdg : decode cc pc = .ok (.invokevirtual 75, 3)) (hf : cells ≤ R.cells ∧ slots ≤ R.slots) (kk : W p l e R s m args below meth c H locs cells slots Q (F0 m (pc + 3) ls (.int (bI (spG (aX ra) (hX sf) po x y v)) :: rest))) : W p l e R s m args below meth c H locs cells slots Q (F0 m pc ls (.int v :: .int (nI y) :: .int (nI x) :: .ref (a 0) :: rest)) :=
  pcallV (q := (RX0, TX0, 12)) (ci := 0) (As := [.int (nI x), .int (nI y), .int v]) S (mX0_spoils l x y v hx4 hy4) (cwV 3 S.2.2.2.2 (lw_V q151 q153 qs11 q28 q154) rfl rfl rfl (by decide +kernel) hR) hK hP rfl rfl rfl hsz rfl hroom hdg hf kk
abbrev rmX0_precedes : Room := { frames := 3, cells := 0, slots := 0, locals := 72 }
set_option maxHeartbeats 4000000 in
set_option maxRecDepth 100000 in
theorem mX0_precedes (l : Launch) {D : va_G} {a : Nat → Nat} {d : Nat → ClassId} {fc : Nat → Int32} {ct : Int32} {po ra sf oc : Nat → Int32} {rd : Int32} {be : Nat → Int32} {gs : Int32} {gr fi la : Nat → Int32}  (x : Nat) (y : Nat) (v : Int32)  (hx4 : x < 4) (hy4 : y < 4) : Met l yX0_precedes (ws_ yX0_precedes cX0_precedes 4 (some .boolean)) rmX0_precedes (va_Pc [.ref (a 0), .int (nI x), .int (nI y), .int v] (pB D (tyX d) (WX a d fc ct po ra sf oc rd be gs gr fi la))) (QcRead (bI (prG (aX ra) (hX sf) po x y v))) 0 0 (fun _ => False) := by
  refine pureZ (by decide) (Nat.le_of_ble_eq_true rfl) ?_
  intro p e s m ar below meth c Q hx hb hml hown hts hB hret ls hl
  obtain ⟨hP, hK⟩ := hB
  have hown : s.vm.findClass RX0 = some m.cls := hown
  have hl : lv_has ls 4 [(0, .ref (a 0)), (1, .int (nI x)), (2, .int (nI y)), (3, .int v)] := hl
  refine lv_iload_n hx hb dX0_precedes_0 rfl (lv_at hl 3 rfl) ?_
  refine lv_if_ne (tgt := 11) hx hb dX0_precedes_1 (by decide) (fun c_1 => ?_) (fun c_1 => ?_)
  · skip
    have c_1 := decide_eq_false c_1
    refine lv_aload_n hx hb dX0_precedes_11 rfl (lv_at hl 0 rfl) ?_
    refine lv_iload_n hx hb dX0_precedes_12 rfl (lv_at hl 1 rfl) ?_
    refine lv_iconst (v := 0) hx hb dX0_precedes_13 (by decide) ?_
    refine lv_iload_n hx hb dX0_precedes_14 rfl (lv_at hl 2 rfl) ?_
    refine lv_iconst (v := 0) hx hb dX0_precedes_15 (by decide) ?_
    refine lv_iload_n hx hb dX0_precedes_16 rfl (lv_at hl 3 rfl) ?_
    refine kX0_meets ⟨hx, hb, hml, hown, hts⟩ hK hP x 0 y 0 v  (by omega) (by omega) ⟨by decide, by decide⟩ hl.1 (Nat.le_of_ble_eq_true rfl) dX0_precedes_17 ⟨Nat.zero_le _, Nat.zero_le _⟩ ?_
    refine lv_if_eq (tgt := 25) hx hb dX0_precedes_20 (by decide) (fun c_20 => ?_) (fun c_20 => ?_)
    · skip
      have c_20 := bI_0.mp c_20
      refine lv_aload_n hx hb dX0_precedes_25 rfl (lv_at hl 0 rfl) ?_
      refine lv_iload_n hx hb dX0_precedes_26 rfl (lv_at hl 1 rfl) ?_
      refine lv_iload_n hx hb dX0_precedes_27 rfl (lv_at hl 2 rfl) ?_
      refine lv_iload_n hx hb dX0_precedes_28 rfl (lv_at hl 3 rfl) ?_
      refine kX0_feeds ⟨hx, hb, hml, hown, hts⟩ hK hP x y v  (by omega) (by omega) ⟨by decide, by decide⟩ hl.1 (Nat.le_of_ble_eq_true rfl) dX0_precedes_29 ⟨Nat.zero_le _, Nat.zero_le _⟩ ?_
      refine lv_if_ne (tgt := 45) hx hb dX0_precedes_32 (by decide) (fun c_32 => ?_) (fun c_32 => ?_)
      · skip
        have c_32 := bI_n0.mp c_32
        refine lv_iconst (v := 1) hx hb dX0_precedes_45 (by decide) ?_
        refine lv_goto (tgt := 50) hx hb dX0_precedes_46 (by decide) ?_
        exact hret _ _ _ (by simp [prG, bI, c_1, c_20, c_32]) dX0_precedes_50
      · skip
        have c_32 := bI_0.mp c_32
        refine lv_aload_n hx hb dX0_precedes_35 rfl (lv_at hl 0 rfl) ?_
        refine lv_iload_n hx hb dX0_precedes_36 rfl (lv_at hl 1 rfl) ?_
        refine lv_iload_n hx hb dX0_precedes_37 rfl (lv_at hl 2 rfl) ?_
        refine lv_iload_n hx hb dX0_precedes_38 rfl (lv_at hl 3 rfl) ?_
        refine kX0_spoils ⟨hx, hb, hml, hown, hts⟩ hK hP x y v  (by omega) (by omega) ⟨by decide, by decide⟩ hl.1 (Nat.le_of_ble_eq_true rfl) dX0_precedes_39 ⟨Nat.zero_le _, Nat.zero_le _⟩ ?_
        refine lv_if_eq (tgt := 49) hx hb dX0_precedes_42 (by decide) (fun c_42 => ?_) (fun c_42 => ?_)
        · skip
          have c_42 := bI_0.mp c_42
          refine lv_iconst (v := 0) hx hb dX0_precedes_49 (by decide) ?_
          exact hret _ _ _ (by simp [prG, bI, c_1, c_20, c_32, c_42]) dX0_precedes_50
        · skip
          have c_42 := bI_n0.mp c_42
          refine lv_iconst (v := 1) hx hb dX0_precedes_45 (by decide) ?_
          refine lv_goto (tgt := 50) hx hb dX0_precedes_46 (by decide) ?_
          exact hret _ _ _ (by simp [prG, bI, c_1, c_20, c_32, c_42]) dX0_precedes_50
    · skip
      have c_20 := bI_n0.mp c_20
      refine lv_iconst (v := 1) hx hb dX0_precedes_23 (by decide) ?_
      exact hret _ _ _ (by simp [prG, bI, c_1, c_20]) dX0_precedes_24
  · skip
    have c_1 := decide_eq_true c_1
    refine lv_iload_n hx hb dX0_precedes_4 rfl (lv_at hl 1 rfl) ?_
    refine lv_iload_n hx hb dX0_precedes_5 rfl (lv_at hl 2 rfl) ?_
    refine lv_icmp_lt (tgt := 11) hx hb dX0_precedes_6 (by decide) (fun c_6 => ?_) (fun c_6 => ?_)
    · skip
      have c_6 : ¬ y ≤ x := by have h9 := (nI_ltI (a := x) (b := y) (by omega) (by omega)).mp c_6; omega
      refine lv_aload_n hx hb dX0_precedes_11 rfl (lv_at hl 0 rfl) ?_
      refine lv_iload_n hx hb dX0_precedes_12 rfl (lv_at hl 1 rfl) ?_
      refine lv_iconst (v := 0) hx hb dX0_precedes_13 (by decide) ?_
      refine lv_iload_n hx hb dX0_precedes_14 rfl (lv_at hl 2 rfl) ?_
      refine lv_iconst (v := 0) hx hb dX0_precedes_15 (by decide) ?_
      refine lv_iload_n hx hb dX0_precedes_16 rfl (lv_at hl 3 rfl) ?_
      refine kX0_meets ⟨hx, hb, hml, hown, hts⟩ hK hP x 0 y 0 v  (by omega) (by omega) ⟨by decide, by decide⟩ hl.1 (Nat.le_of_ble_eq_true rfl) dX0_precedes_17 ⟨Nat.zero_le _, Nat.zero_le _⟩ ?_
      refine lv_if_eq (tgt := 25) hx hb dX0_precedes_20 (by decide) (fun c_20 => ?_) (fun c_20 => ?_)
      · skip
        have c_20 := bI_0.mp c_20
        refine lv_aload_n hx hb dX0_precedes_25 rfl (lv_at hl 0 rfl) ?_
        refine lv_iload_n hx hb dX0_precedes_26 rfl (lv_at hl 1 rfl) ?_
        refine lv_iload_n hx hb dX0_precedes_27 rfl (lv_at hl 2 rfl) ?_
        refine lv_iload_n hx hb dX0_precedes_28 rfl (lv_at hl 3 rfl) ?_
        refine kX0_feeds ⟨hx, hb, hml, hown, hts⟩ hK hP x y v  (by omega) (by omega) ⟨by decide, by decide⟩ hl.1 (Nat.le_of_ble_eq_true rfl) dX0_precedes_29 ⟨Nat.zero_le _, Nat.zero_le _⟩ ?_
        refine lv_if_ne (tgt := 45) hx hb dX0_precedes_32 (by decide) (fun c_32 => ?_) (fun c_32 => ?_)
        · skip
          have c_32 := bI_n0.mp c_32
          refine lv_iconst (v := 1) hx hb dX0_precedes_45 (by decide) ?_
          refine lv_goto (tgt := 50) hx hb dX0_precedes_46 (by decide) ?_
          exact hret _ _ _ (by simp [prG, bI, c_1, c_6, c_20, c_32]) dX0_precedes_50
        · skip
          have c_32 := bI_0.mp c_32
          refine lv_aload_n hx hb dX0_precedes_35 rfl (lv_at hl 0 rfl) ?_
          refine lv_iload_n hx hb dX0_precedes_36 rfl (lv_at hl 1 rfl) ?_
          refine lv_iload_n hx hb dX0_precedes_37 rfl (lv_at hl 2 rfl) ?_
          refine lv_iload_n hx hb dX0_precedes_38 rfl (lv_at hl 3 rfl) ?_
          refine kX0_spoils ⟨hx, hb, hml, hown, hts⟩ hK hP x y v  (by omega) (by omega) ⟨by decide, by decide⟩ hl.1 (Nat.le_of_ble_eq_true rfl) dX0_precedes_39 ⟨Nat.zero_le _, Nat.zero_le _⟩ ?_
          refine lv_if_eq (tgt := 49) hx hb dX0_precedes_42 (by decide) (fun c_42 => ?_) (fun c_42 => ?_)
          · skip
            have c_42 := bI_0.mp c_42
            refine lv_iconst (v := 0) hx hb dX0_precedes_49 (by decide) ?_
            exact hret _ _ _ (by simp [prG, bI, c_1, c_6, c_20, c_32, c_42]) dX0_precedes_50
          · skip
            have c_42 := bI_n0.mp c_42
            refine lv_iconst (v := 1) hx hb dX0_precedes_45 (by decide) ?_
            refine lv_goto (tgt := 50) hx hb dX0_precedes_46 (by decide) ?_
            exact hret _ _ _ (by simp [prG, bI, c_1, c_6, c_20, c_32, c_42]) dX0_precedes_50
      · skip
        have c_20 := bI_n0.mp c_20
        refine lv_iconst (v := 1) hx hb dX0_precedes_23 (by decide) ?_
        exact hret _ _ _ (by simp [prG, bI, c_1, c_6, c_20]) dX0_precedes_24
    · skip
      have c_6 : y ≤ x := by have h9 : ¬ x < y := fun h => c_6 ((nI_ltI (a := x) (b := y) (by omega) (by omega)).mpr h); omega
      refine lv_iconst (v := 0) hx hb dX0_precedes_9 (by decide) ?_
      exact hret _ _ _ (by simp [prG, bI, c_1, c_6]) dX0_precedes_10
theorem kX0_precedes {p : Program} {l : Launch} {e : Env} {R : Room} {s : State} {m : MethodId} {args : Array Value} {below : List Frame} {meth : Method} {c : Code} {H : Heap} {locs : List Loc} {cells slots : Nat} {Q : State → Prop} {cc : ByteArray} {pc nL : Nat} {ls : Array Slot} {rest : List Value} {D : va_G} {a : Nat → Nat} {d : Nat → ClassId} {fc : Nat → Int32} {ct : Int32} {po ra sf oc : Nat → Int32} {rd : Int32} {be : Nat → Int32} {gs : Int32} {gr fi la : Nat → Int32}  (S : CallFix p m c cc nL s args lw_all RX0) (hK : va_K D vwCl (tyX d) s) (hP : va_P D vwCl (WX a d fc ct po ra sf oc rd be gs gr fi la) H) (x : Nat) (y : Nat) (v : Int32)  (hx4 : x < 4) (hy4 : y < 4) (hR : rmX0_precedes.frames + 1 ≤ R.frames ∧ 8 + (4 + 11) + rmX0_precedes.locals ≤ R.locals) (hsz : ls.size = nL) (hroom : (rest.map fun v => v.category).sum ≤ 8) (hdg : decode cc pc = .ok (.invokevirtual 78, 3)) (hf : cells ≤ R.cells ∧ slots ≤ R.slots) (kk : W p l e R s m args below meth c H locs cells slots Q (F0 m (pc + 3) ls (.int (bI (prG (aX ra) (hX sf) po x y v)) :: rest))) : W p l e R s m args below meth c H locs cells slots Q (F0 m pc ls (.int v :: .int (nI y) :: .int (nI x) :: .ref (a 0) :: rest)) :=
  pcallV (q := (RX0, TX0, 12)) (ci := 0) (As := [.int (nI x), .int (nI y), .int v]) S (mX0_precedes l x y v hx4 hy4) (cwV 3 S.2.2.2.2 (lw_V q131 q133 qs6 q28 q134) rfl rfl rfl (by decide +kernel) hR) hK hP rfl rfl rfl hsz rfl hroom hdg hf kk
end
section
/-! LaneLoops: loops that change nothing (printed by gen/p13.py) -/
def ouG (h : Nat → Nat → Int32) (x : Nat) (v : Int32) : Bool := badC (v + h x 0) || (badC (v + h x 1) || badC (v + h x 2))
theorem acc_add {P : Nat → Bool} {t : Nat} (h : P t = true) : mkS (fun u => decide (u < t) && P u) ||| mkS (fun i => i == t) = mkS (fun u => decide (u < t + 1) && P u) := by
  rw [mkS_or]
  refine mkS_congr fun i _ => ?_
  by_cases e : i = t
  · subst e; simp [h]
  · have e2 : (i < t + 1) ↔ i < t := by omega
    simp [e, e2]
theorem acc_skip {P : Nat → Bool} {t : Nat} (h : P t = false) : mkS (fun u => decide (u < t) && P u) = mkS (fun u => decide (u < t + 1) && P u) := by
  refine mkS_congr fun i _ => ?_
  by_cases e : i = t
  · subst e; simp [h]
  · have e2 : (i < t + 1) ↔ i < t := by omega
    simp [e2]
theorem acc_0 {P : Nat → Bool} : 0 = mkS (fun u => decide (u < 0) && P u) := by
  rw [← mkS_0]
  exact mkS_congr fun i _ => by simp
theorem badA_nat {v : Int32} (h : badA v = false) : ∃ j, j < 3 ∧ v = nI j := by
  unfold badA at h
  simp only [Bool.or_eq_false_iff, decide_eq_false_iff_not] at h
  obtain ⟨j, hj, e⟩ := nI_of2 (M := 2) (n := 2) (by decide) h.1 (Int32.not_lt.mp h.2)
  exact ⟨j, by omega, e⟩
theorem badC_nat {v : Int32} (h : badC v = false) : ∃ j, j < 32 ∧ v = nI j := by
  unfold badC at h
  simp only [Bool.or_eq_false_iff, decide_eq_false_iff_not] at h
  have h2 := Int32.not_le.mp h.2
  obtain ⟨j, hj, e⟩ := nI_of h.1
  subst e
  exact ⟨j, (nI_ltI (b := 32) hj (by omega)).mp h2, rfl⟩
theorem noSt_nat {N : Nat} {v : Int32} (hN : N ≤ 4) (h : noSt (nI N) v = false) : ∃ j, j < N ∧ v = nI j := by
  unfold noSt at h
  simp only [Bool.or_eq_false_iff, decide_eq_false_iff_not] at h
  have h2 := Int32.not_le.mp h.2
  obtain ⟨j, hj, e⟩ := nI_of h.1
  subst e
  exact ⟨j, (nI_ltI (b := N) hj (by omega)).mp h2, rfl⟩
theorem ix_nat {v : Int32} (h : badA v = false) {i : Nat} (hi : i < 32) : ∃ j, j < 96 ∧ v * 32 + nI i = nI j := by
  obtain ⟨b, hb, rfl⟩ := badA_nat h
  refine ⟨b * 32 + i, by omega, ?_⟩
  rw [← nI_add, ← pk_mul]; rfl
def gtG (fc : Nat → Int32) (v w : Int32) : Int32 := if badA v || badC w then 0 else fc (v * 32 + w).toNatClampNeg
def smF (fc : Nat → Int32) (v : Int32) : Nat → Int32
  | 0 => 0
  | k + 1 => smF fc v k + fc (v * 32 + nI k).toNatClampNeg
def smG (fc : Nat → Int32) (v : Int32) : Int32 := if badA v then 0 else smF fc v 32
def dfF (fc : Nat → Int32) (v w : Int32) : Nat → Int32
  | 0 => 0
  | k + 1 => if fc (v * 32 + nI k).toNatClampNeg = fc (w * 32 + nI k).toNatClampNeg then dfF fc v w k else dfF fc v w k + 1
def dfG (fc : Nat → Int32) (v w : Int32) : Int32 := if badA v || badA w then -1 else dfF fc v w 32
def mpG (a h : Nat → Nat → Int32) (po : Nat → Int32) (n v w t : Int32) : Bool := !(decide (t < 0) || (decide (8 < t) || (noSt n v || noSt n w))) && prG a h po v.toNatClampNeg w.toNatClampNeg t
abbrev rmX0_precedesAtAll : Room := { frames := 4, cells := 0, slots := 0, locals := 95 }
set_option maxHeartbeats 4000000 in
set_option maxRecDepth 100000 in
theorem mX0_precedesAtAll (l : Launch) {D : va_G} {a : Nat → Nat} {d : Nat → ClassId} {fc : Nat → Int32} {ct : Int32} {po ra sf oc : Nat → Int32} {rd : Int32} {be : Nat → Int32} {gs : Int32} {gr fi la : Nat → Int32}  (x : Nat) (y : Nat)  (hx4 : x < 4) (hy4 : y < 4) : Met l yX0_precedesAtAll (ws_ yX0_precedesAtAll cX0_precedesAtAll 5 (some .boolean)) rmX0_precedesAtAll (va_Pc [.ref (a 0), .int (nI x), .int (nI y)] (pB D (tyX d) (WX a d fc ct po ra sf oc rd be gs gr fi la))) (QcRead (bI (paG (aX ra) (hX sf) po x y 0 9))) 0 0 (fun _ => False) := by
  refine pureZ (by decide) (Nat.le_of_ble_eq_true rfl) ?_
  intro p e s m ar below meth c Q hx hb hml hown hts hB hret ls hl
  obtain ⟨hP, hK⟩ := hB
  have hown : s.vm.findClass RX0 = some m.cls := hown
  have hl : lv_has ls 5 [(0, .ref (a 0)), (1, .int (nI x)), (2, .int (nI y))] := hl
  refine lv_iconst (v := 0) hx hb dX0_precedesAtAll_0 (by decide) ?_
  refine lv_istore_n (lv' := [(3, .int 0), (0, .ref (a 0)), (1, .int (nI x)), (2, .int (nI y))]) hx hb dX0_precedesAtAll_1 rfl hl (by decide) rfl (fun ls hl => ?_)
  have L2 : ∀ (n i : Nat) , i + n = 9 → (paG (aX ra) (hX sf) po x y 0 9 = paG (aX ra) (hX sf) po x y i n) → ∀ ls : Array Slot, lv_has ls 5 [(0, .ref (a 0)), (1, .int (nI x)), (2, .int (nI y)), (3, .int (nI i))] → W p l e rmX0_precedesAtAll s m ar below meth c s.heap [] 0 0 Q (F0 m 2 ls []) := by
    intro n
    induction n with
    | zero =>
      intro i  hin hv ls hl
      refine lv_iload_n hx hb dX0_precedesAtAll_2 rfl (lv_at hl 3 rfl) ?_
      refine lv_bipush (v := 8) hx hb dX0_precedesAtAll_3 (by decide) ?_
      refine lv_icmp_gt (tgt := 30) hx hb dX0_precedesAtAll_5 (by decide) (fun c_5 => ?_) (fun c_5 => absurd (nI_lt (a := 8) (b := i) (by omega) (by omega)) c_5)
      refine lv_iconst (v := 0) hx hb dX0_precedesAtAll_30 (by decide) ?_
      exact hret _ _ _ (by rw [hv]; rfl) dX0_precedesAtAll_31
    | succ n ih =>
      intro i  hin hv ls hl
      refine lv_iload_n hx hb dX0_precedesAtAll_2 rfl (lv_at hl 3 rfl) ?_
      refine lv_bipush (v := 8) hx hb dX0_precedesAtAll_3 (by decide) ?_
      refine lv_icmp_gt (tgt := 30) hx hb dX0_precedesAtAll_5 (by decide) (fun c_5 => absurd c_5 (nI_nlt (a := 8) (b := i) (by omega) (by omega))) (fun c_5 => ?_)
      refine lv_aload_n hx hb dX0_precedesAtAll_8 rfl (lv_at hl 0 rfl) ?_
      refine lv_iload_n hx hb dX0_precedesAtAll_9 rfl (lv_at hl 1 rfl) ?_
      refine lv_iload_n hx hb dX0_precedesAtAll_10 rfl (lv_at hl 2 rfl) ?_
      refine lv_iload_n hx hb dX0_precedesAtAll_11 rfl (lv_at hl 3 rfl) ?_
      refine kX0_precedes ⟨hx, hb, hml, hown, hts⟩ hK hP x y (nI i)  (by omega) (by omega) ⟨by decide, by decide⟩ hl.1 (Nat.le_of_ble_eq_true rfl) dX0_precedesAtAll_12 ⟨Nat.zero_le _, Nat.zero_le _⟩ ?_
      refine lv_istore (lv' := [(4, .int (bI (prG (aX ra) (hX sf) po x y (nI i)))), (0, .ref (a 0)), (1, .int (nI x)), (2, .int (nI y)), (3, .int (nI i))]) hx hb dX0_precedesAtAll_15 hl (by decide) rfl (fun ls hl => ?_)
      refine lv_iload hx hb dX0_precedesAtAll_17 (lv_at hl 0 rfl) ?_
      refine lv_if_eq (tgt := 24) hx hb dX0_precedesAtAll_19 (by decide) (fun c_19 => ?_) (fun c_19 => ?_)
      · skip
        have c_19 := bI_0.mp c_19
        refine lv_iinc (v := (nI (i + 1))) (lv' := [(3, .int (nI (i + 1))), (4, .int (bI (prG (aX ra) (hX sf) po x y (nI i)))), (0, .ref (a 0)), (1, .int (nI x)), (2, .int (nI y))]) hx hb dX0_precedesAtAll_24 hl (k := 4) rfl (nI_inc _) (by decide) rfl (fun ls hl => ?_)
        refine lv_goto (tgt := 2) hx hb dX0_precedesAtAll_27 (by decide) ?_
        exact ih (i + 1)  (by omega) (by rw [hv]; simp [paG, c_19]) ls (lv_sub hl [2, 3, 4, 0] rfl)
      · skip
        have c_19 := bI_n0.mp c_19
        refine lv_iconst (v := 1) hx hb dX0_precedesAtAll_22 (by decide) ?_
        exact hret _ _ _ (by rw [hv]; simp [paG, bI, c_19]) dX0_precedesAtAll_23
  exact L2 (9 - 0) 0  (by omega) rfl ls (lv_sub hl [1, 2, 3, 0] rfl)
theorem kX0_precedesAtAll {p : Program} {l : Launch} {e : Env} {R : Room} {s : State} {m : MethodId} {args : Array Value} {below : List Frame} {meth : Method} {c : Code} {H : Heap} {locs : List Loc} {cells slots : Nat} {Q : State → Prop} {cc : ByteArray} {pc nL : Nat} {ls : Array Slot} {rest : List Value} {D : va_G} {a : Nat → Nat} {d : Nat → ClassId} {fc : Nat → Int32} {ct : Int32} {po ra sf oc : Nat → Int32} {rd : Int32} {be : Nat → Int32} {gs : Int32} {gr fi la : Nat → Int32}  (S : CallFix p m c cc nL s args lw_all RX0) (hK : va_K D vwCl (tyX d) s) (hP : va_P D vwCl (WX a d fc ct po ra sf oc rd be gs gr fi la) H) (x : Nat) (y : Nat)  (hx4 : x < 4) (hy4 : y < 4) (hR : rmX0_precedesAtAll.frames + 1 ≤ R.frames ∧ 8 + (5 + 11) + rmX0_precedesAtAll.locals ≤ R.locals) (hsz : ls.size = nL) (hroom : (rest.map fun v => v.category).sum ≤ 8) (hdg : decode cc pc = .ok (.invokevirtual 81, 3)) (hf : cells ≤ R.cells ∧ slots ≤ R.slots) (kk : W p l e R s m args below meth c H locs cells slots Q (F0 m (pc + 3) ls (.int (bI (paG (aX ra) (hX sf) po x y 0 9)) :: rest))) : W p l e R s m args below meth c H locs cells slots Q (F0 m pc ls (.int (nI y) :: .int (nI x) :: .ref (a 0) :: rest)) :=
  pcallV (q := (RX0, TX0, 12)) (ci := 0) (As := [.int (nI x), .int (nI y)]) S (mX0_precedesAtAll l x y hx4 hy4) (cwV 2 S.2.2.2.2 (lw_V q127 q129 qs5 q28 q130) rfl rfl rfl (by decide +kernel) hR) hK hP rfl rfl rfl hsz rfl hroom hdg hf kk
abbrev rmX0_fitsLanes : Room := { frames := 3, cells := 0, slots := 0, locals := 72 }
set_option maxHeartbeats 4000000 in
set_option maxRecDepth 100000 in
theorem mX0_fitsLanes (l : Launch) {D : va_G} {a : Nat → Nat} {d : Nat → ClassId} {fc : Nat → Int32} {ct : Int32} {po ra sf oc : Nat → Int32} {rd : Int32} {be : Nat → Int32} {gs : Int32} {gr fi la : Nat → Int32}  (x : Nat)  (hx4 : x < 4) : Met l yX0_fitsLanes (ws_ yX0_fitsLanes cX0_fitsLanes 4 (some .boolean)) rmX0_fitsLanes (va_Pc [.ref (a 0), .int (nI x)] (pB D (tyX d) (WX a d fc ct po ra sf oc rd be gs gr fi la))) (QcRead (bI (flG (aX ra) (hX sf) po x))) 0 0 (fun _ => False) := by
  refine pureZ (by decide) (Nat.le_of_ble_eq_true rfl) ?_
  intro p e s m ar below meth c Q hx hb hml hown hts hB hret ls hl
  obtain ⟨hP, hK⟩ := hB
  have hown : s.vm.findClass RX0 = some m.cls := hown
  have hl : lv_has ls 4 [(0, .ref (a 0)), (1, .int (nI x))] := hl
  refine lv_iconst (v := 1) hx hb dX0_fitsLanes_0 (by decide) ?_
  refine lv_istore_n (lv' := [(2, .int 1), (0, .ref (a 0)), (1, .int (nI x))]) hx hb dX0_fitsLanes_1 rfl hl (by decide) rfl (fun ls hl => ?_)
  refine lv_iload_n hx hb dX0_fitsLanes_2 rfl (lv_at hl 0 rfl) ?_
  refine lv_iconst (v := 4) hx hb dX0_fitsLanes_3 (by decide) ?_
  refine lv_icmp_ge (tgt := 27) hx hb dX0_fitsLanes_4 (by decide) (fun c_4 => absurd c_4 (by decide)) (fun c_4 => ?_)
  refine lv_aload_n hx hb dX0_fitsLanes_7 rfl (lv_at hl 1 rfl) ?_
  refine lv_iload_n hx hb dX0_fitsLanes_8 rfl (lv_at hl 2 rfl) ?_
  refine lv_iload_n hx hb dX0_fitsLanes_9 rfl (lv_at hl 2 rfl) ?_
  refine lv_iload_n hx hb dX0_fitsLanes_10 rfl (lv_at hl 0 rfl) ?_
  refine kX0_feeds ⟨hx, hb, hml, hown, hts⟩ hK hP x x 1  (by omega) (by omega) ⟨by decide, by decide⟩ hl.1 (Nat.le_of_ble_eq_true rfl) dX0_fitsLanes_11 ⟨Nat.zero_le _, Nat.zero_le _⟩ ?_
  refine lv_istore_n (lv' := [(3, .int (bI (fdG (aX ra) (hX sf) po x x 1))), (2, .int 1), (0, .ref (a 0)), (1, .int (nI x))]) hx hb dX0_fitsLanes_14 rfl hl (by decide) rfl (fun ls hl => ?_)
  refine lv_iload_n hx hb dX0_fitsLanes_15 rfl (lv_at hl 0 rfl) ?_
  refine lv_if_eq (tgt := 21) hx hb dX0_fitsLanes_16 (by decide) (fun c_16 => ?_) (fun c_16 => ?_)
  · skip
    have c_16 := bI_0.mp c_16
    refine lv_iinc (v := 2) (lv' := [(2, .int 2), (3, .int (bI (fdG (aX ra) (hX sf) po x x 1))), (0, .ref (a 0)), (1, .int (nI x))]) hx hb dX0_fitsLanes_21 hl (k := 1) rfl (by decide) (by decide) rfl (fun ls hl => ?_)
    refine lv_goto (tgt := 2) hx hb dX0_fitsLanes_24 (by decide) ?_
    refine lv_iload_n hx hb dX0_fitsLanes_2 rfl (lv_at hl 0 rfl) ?_
    refine lv_iconst (v := 4) hx hb dX0_fitsLanes_3 (by decide) ?_
    refine lv_icmp_ge (tgt := 27) hx hb dX0_fitsLanes_4 (by decide) (fun c_4 => absurd c_4 (by decide)) (fun c_4 => ?_)
    refine lv_aload_n hx hb dX0_fitsLanes_7 rfl (lv_at hl 2 rfl) ?_
    refine lv_iload_n hx hb dX0_fitsLanes_8 rfl (lv_at hl 3 rfl) ?_
    refine lv_iload_n hx hb dX0_fitsLanes_9 rfl (lv_at hl 3 rfl) ?_
    refine lv_iload_n hx hb dX0_fitsLanes_10 rfl (lv_at hl 0 rfl) ?_
    refine kX0_feeds ⟨hx, hb, hml, hown, hts⟩ hK hP x x 2  (by omega) (by omega) ⟨by decide, by decide⟩ hl.1 (Nat.le_of_ble_eq_true rfl) dX0_fitsLanes_11 ⟨Nat.zero_le _, Nat.zero_le _⟩ ?_
    refine lv_istore_n (lv' := [(3, .int (bI (fdG (aX ra) (hX sf) po x x 2))), (2, .int 2), (0, .ref (a 0)), (1, .int (nI x))]) hx hb dX0_fitsLanes_14 rfl hl (by decide) rfl (fun ls hl => ?_)
    refine lv_iload_n hx hb dX0_fitsLanes_15 rfl (lv_at hl 0 rfl) ?_
    refine lv_if_eq (tgt := 21) hx hb dX0_fitsLanes_16 (by decide) (fun c_16' => ?_) (fun c_16' => ?_)
    · skip
      have c_16' := bI_0.mp c_16'
      refine lv_iinc (v := 3) (lv' := [(2, .int 3), (3, .int (bI (fdG (aX ra) (hX sf) po x x 2))), (0, .ref (a 0)), (1, .int (nI x))]) hx hb dX0_fitsLanes_21 hl (k := 1) rfl (by decide) (by decide) rfl (fun ls hl => ?_)
      refine lv_goto (tgt := 2) hx hb dX0_fitsLanes_24 (by decide) ?_
      refine lv_iload_n hx hb dX0_fitsLanes_2 rfl (lv_at hl 0 rfl) ?_
      refine lv_iconst (v := 4) hx hb dX0_fitsLanes_3 (by decide) ?_
      refine lv_icmp_ge (tgt := 27) hx hb dX0_fitsLanes_4 (by decide) (fun c_4 => absurd c_4 (by decide)) (fun c_4 => ?_)
      refine lv_aload_n hx hb dX0_fitsLanes_7 rfl (lv_at hl 2 rfl) ?_
      refine lv_iload_n hx hb dX0_fitsLanes_8 rfl (lv_at hl 3 rfl) ?_
      refine lv_iload_n hx hb dX0_fitsLanes_9 rfl (lv_at hl 3 rfl) ?_
      refine lv_iload_n hx hb dX0_fitsLanes_10 rfl (lv_at hl 0 rfl) ?_
      refine kX0_feeds ⟨hx, hb, hml, hown, hts⟩ hK hP x x 3  (by omega) (by omega) ⟨by decide, by decide⟩ hl.1 (Nat.le_of_ble_eq_true rfl) dX0_fitsLanes_11 ⟨Nat.zero_le _, Nat.zero_le _⟩ ?_
      refine lv_istore_n (lv' := [(3, .int (bI (fdG (aX ra) (hX sf) po x x 3))), (2, .int 3), (0, .ref (a 0)), (1, .int (nI x))]) hx hb dX0_fitsLanes_14 rfl hl (by decide) rfl (fun ls hl => ?_)
      refine lv_iload_n hx hb dX0_fitsLanes_15 rfl (lv_at hl 0 rfl) ?_
      refine lv_if_eq (tgt := 21) hx hb dX0_fitsLanes_16 (by decide) (fun c_16'' => ?_) (fun c_16'' => ?_)
      · skip
        have c_16'' := bI_0.mp c_16''
        refine lv_iinc (v := 4) (lv' := [(2, .int 4), (3, .int (bI (fdG (aX ra) (hX sf) po x x 3))), (0, .ref (a 0)), (1, .int (nI x))]) hx hb dX0_fitsLanes_21 hl (k := 1) rfl (by decide) (by decide) rfl (fun ls hl => ?_)
        refine lv_goto (tgt := 2) hx hb dX0_fitsLanes_24 (by decide) ?_
        refine lv_iload_n hx hb dX0_fitsLanes_2 rfl (lv_at hl 0 rfl) ?_
        refine lv_iconst (v := 4) hx hb dX0_fitsLanes_3 (by decide) ?_
        refine lv_icmp_ge (tgt := 27) hx hb dX0_fitsLanes_4 (by decide) (fun c_4 => ?_) (fun c_4 => absurd (by decide) c_4)
        refine lv_iconst (v := 1) hx hb dX0_fitsLanes_27 (by decide) ?_
        exact hret _ _ _ (by simp [flG, bI, c_16, c_16', c_16'']) dX0_fitsLanes_28
      · skip
        have c_16'' := bI_n0.mp c_16''
        refine lv_iconst (v := 0) hx hb dX0_fitsLanes_19 (by decide) ?_
        exact hret _ _ _ (by simp [flG, bI, c_16, c_16', c_16'']) dX0_fitsLanes_20
    · skip
      have c_16' := bI_n0.mp c_16'
      refine lv_iconst (v := 0) hx hb dX0_fitsLanes_19 (by decide) ?_
      exact hret _ _ _ (by simp [flG, bI, c_16, c_16']) dX0_fitsLanes_20
  · skip
    have c_16 := bI_n0.mp c_16
    refine lv_iconst (v := 0) hx hb dX0_fitsLanes_19 (by decide) ?_
    exact hret _ _ _ (by simp [flG, bI, c_16]) dX0_fitsLanes_20
theorem kX0_fitsLanes {p : Program} {l : Launch} {e : Env} {R : Room} {s : State} {m : MethodId} {args : Array Value} {below : List Frame} {meth : Method} {c : Code} {H : Heap} {locs : List Loc} {cells slots : Nat} {Q : State → Prop} {cc : ByteArray} {pc nL : Nat} {ls : Array Slot} {rest : List Value} {D : va_G} {a : Nat → Nat} {d : Nat → ClassId} {fc : Nat → Int32} {ct : Int32} {po ra sf oc : Nat → Int32} {rd : Int32} {be : Nat → Int32} {gs : Int32} {gr fi la : Nat → Int32}  (S : CallFix p m c cc nL s args lw_all RX0) (hK : va_K D vwCl (tyX d) s) (hP : va_P D vwCl (WX a d fc ct po ra sf oc rd be gs gr fi la) H) (x : Nat)  (hx4 : x < 4) (hR : rmX0_fitsLanes.frames + 1 ≤ R.frames ∧ 8 + (4 + 11) + rmX0_fitsLanes.locals ≤ R.locals) (hsz : ls.size = nL) (hroom : (rest.map fun v => v.category).sum ≤ 8) (hdg : decode cc pc = .ok (.invokevirtual 100, 3)) (hf : cells ≤ R.cells ∧ slots ≤ R.slots) (kk : W p l e R s m args below meth c H locs cells slots Q (F0 m (pc + 3) ls (.int (bI (flG (aX ra) (hX sf) po x)) :: rest))) : W p l e R s m args below meth c H locs cells slots Q (F0 m pc ls (.int (nI x) :: .ref (a 0) :: rest)) :=
  pcallV (q := (RX0, TX0, 12)) (ci := 0) (As := [.int (nI x)]) S (mX0_fitsLanes l x hx4) (cwV 1 S.2.2.2.2 (lw_V q174 q176 qs16 q28 q177) rfl rfl rfl (by decide +kernel) hR) hK hP rfl rfl rfl hsz rfl hroom hdg hf kk
abbrev rmX0_outside : Room := { frames := 1, cells := 0, slots := 0, locals := 22 }
set_option maxHeartbeats 4000000 in
set_option maxRecDepth 100000 in
theorem mX0_outside (l : Launch) {D : va_G} {a : Nat → Nat} {d : Nat → ClassId} {fc : Nat → Int32} {ct : Int32} {po ra sf oc : Nat → Int32} {rd : Int32} {be : Nat → Int32} {gs : Int32} {gr fi la : Nat → Int32}  (x : Nat) (v : Int32)  (hx4 : x < 4) : Met l yX0_outside (ws_ yX0_outside cX0_outside 5 (some .boolean)) rmX0_outside (va_Pc [.ref (a 0), .int (nI x), .int v] (pB D (tyX d) (WX a d fc ct po ra sf oc rd be gs gr fi la))) (QcRead (bI (ouG (hX sf) x v))) 0 0 (fun _ => False) := by
  refine pureZ (by decide) (Nat.le_of_ble_eq_true rfl) ?_
  intro p e s m ar below meth c Q hx hb hml hown hts hB hret ls hl
  obtain ⟨hP, hK⟩ := hB
  have hown : s.vm.findClass RX0 = some m.cls := hown
  have hl : lv_has ls 5 [(0, .ref (a 0)), (1, .int (nI x)), (2, .int v)] := hl
  refine lv_iconst (v := 0) hx hb dX0_outside_0 (by decide) ?_
  refine lv_istore_n (lv' := [(3, .int 0), (0, .ref (a 0)), (1, .int (nI x)), (2, .int v)]) hx hb dX0_outside_1 rfl hl (by decide) rfl (fun ls hl => ?_)
  refine lv_iload_n hx hb dX0_outside_2 rfl (lv_at hl 0 rfl) ?_
  refine lv_iconst (v := 3) hx hb dX0_outside_3 (by decide) ?_
  refine lv_icmp_ge (tgt := 37) hx hb dX0_outside_4 (by decide) (fun c_4 => absurd c_4 (by decide)) (fun c_4 => ?_)
  refine lv_iload_n hx hb dX0_outside_7 rfl (lv_at hl 3 rfl) ?_
  refine lv_aload_n hx hb dX0_outside_8 rfl (lv_at hl 1 rfl) ?_
  refine lv_iload_n hx hb dX0_outside_9 rfl (lv_at hl 2 rfl) ?_
  refine lv_iload_n hx hb dX0_outside_10 rfl (lv_at hl 0 rfl) ?_
  refine kX0_shiftOf ⟨hx, hb, hml, hown, hts⟩ hK hP x 0  (by omega) ⟨by decide, by decide⟩ hl.1 (Nat.le_of_ble_eq_true rfl) dX0_outside_11 ⟨Nat.zero_le _, Nat.zero_le _⟩ ?_
  refine lv_iadd hx hb dX0_outside_14 ?_
  refine lv_istore (lv' := [(4, .int (v + (hX sf x 0))), (3, .int 0), (0, .ref (a 0)), (1, .int (nI x)), (2, .int v)]) hx hb dX0_outside_15 hl (by decide) rfl (fun ls hl => ?_)
  refine lv_iload hx hb dX0_outside_17 (lv_at hl 0 rfl) ?_
  refine lv_if_lt (tgt := 29) hx hb dX0_outside_19 (by decide) (fun c_19 => ?_) (fun c_19 => ?_)
  · skip
    have c_19 := t_badC1 c_19
    refine lv_iconst (v := 1) hx hb dX0_outside_29 (by decide) ?_
    exact hret _ _ _ (by simp [ouG, bI, c_19]) dX0_outside_30
  · skip
    refine lv_iload hx hb dX0_outside_22 (lv_at hl 0 rfl) ?_
    refine lv_bipush (v := 32) hx hb dX0_outside_24 (by decide) ?_
    refine lv_icmp_lt (tgt := 31) hx hb dX0_outside_26 (by decide) (fun c_26 => ?_) (fun c_26 => ?_)
    · skip
      have c_26 := t_badC3 c_19 c_26
      refine lv_iinc (v := 1) (lv' := [(3, .int 1), (4, .int (v + (hX sf x 0))), (0, .ref (a 0)), (1, .int (nI x)), (2, .int v)]) hx hb dX0_outside_31 hl (k := 1) rfl (by decide) (by decide) rfl (fun ls hl => ?_)
      refine lv_goto (tgt := 2) hx hb dX0_outside_34 (by decide) ?_
      refine lv_iload_n hx hb dX0_outside_2 rfl (lv_at hl 0 rfl) ?_
      refine lv_iconst (v := 3) hx hb dX0_outside_3 (by decide) ?_
      refine lv_icmp_ge (tgt := 37) hx hb dX0_outside_4 (by decide) (fun c_4 => absurd c_4 (by decide)) (fun c_4 => ?_)
      refine lv_iload_n hx hb dX0_outside_7 rfl (lv_at hl 4 rfl) ?_
      refine lv_aload_n hx hb dX0_outside_8 rfl (lv_at hl 2 rfl) ?_
      refine lv_iload_n hx hb dX0_outside_9 rfl (lv_at hl 3 rfl) ?_
      refine lv_iload_n hx hb dX0_outside_10 rfl (lv_at hl 0 rfl) ?_
      refine kX0_shiftOf ⟨hx, hb, hml, hown, hts⟩ hK hP x 1  (by omega) ⟨by decide, by decide⟩ hl.1 (Nat.le_of_ble_eq_true rfl) dX0_outside_11 ⟨Nat.zero_le _, Nat.zero_le _⟩ ?_
      refine lv_iadd hx hb dX0_outside_14 ?_
      refine lv_istore (lv' := [(4, .int (v + (hX sf x 1))), (3, .int 1), (0, .ref (a 0)), (1, .int (nI x)), (2, .int v)]) hx hb dX0_outside_15 hl (by decide) rfl (fun ls hl => ?_)
      refine lv_iload hx hb dX0_outside_17 (lv_at hl 0 rfl) ?_
      refine lv_if_lt (tgt := 29) hx hb dX0_outside_19 (by decide) (fun c_19' => ?_) (fun c_19' => ?_)
      · skip
        have c_19' := t_badC1 c_19'
        refine lv_iconst (v := 1) hx hb dX0_outside_29 (by decide) ?_
        exact hret _ _ _ (by simp [ouG, bI, c_19, c_26, c_19']) dX0_outside_30
      · skip
        refine lv_iload hx hb dX0_outside_22 (lv_at hl 0 rfl) ?_
        refine lv_bipush (v := 32) hx hb dX0_outside_24 (by decide) ?_
        refine lv_icmp_lt (tgt := 31) hx hb dX0_outside_26 (by decide) (fun c_26' => ?_) (fun c_26' => ?_)
        · skip
          have c_26' := t_badC3 c_19' c_26'
          refine lv_iinc (v := 2) (lv' := [(3, .int 2), (4, .int (v + (hX sf x 1))), (0, .ref (a 0)), (1, .int (nI x)), (2, .int v)]) hx hb dX0_outside_31 hl (k := 1) rfl (by decide) (by decide) rfl (fun ls hl => ?_)
          refine lv_goto (tgt := 2) hx hb dX0_outside_34 (by decide) ?_
          refine lv_iload_n hx hb dX0_outside_2 rfl (lv_at hl 0 rfl) ?_
          refine lv_iconst (v := 3) hx hb dX0_outside_3 (by decide) ?_
          refine lv_icmp_ge (tgt := 37) hx hb dX0_outside_4 (by decide) (fun c_4 => absurd c_4 (by decide)) (fun c_4 => ?_)
          refine lv_iload_n hx hb dX0_outside_7 rfl (lv_at hl 4 rfl) ?_
          refine lv_aload_n hx hb dX0_outside_8 rfl (lv_at hl 2 rfl) ?_
          refine lv_iload_n hx hb dX0_outside_9 rfl (lv_at hl 3 rfl) ?_
          refine lv_iload_n hx hb dX0_outside_10 rfl (lv_at hl 0 rfl) ?_
          refine kX0_shiftOf ⟨hx, hb, hml, hown, hts⟩ hK hP x 2  (by omega) ⟨by decide, by decide⟩ hl.1 (Nat.le_of_ble_eq_true rfl) dX0_outside_11 ⟨Nat.zero_le _, Nat.zero_le _⟩ ?_
          refine lv_iadd hx hb dX0_outside_14 ?_
          refine lv_istore (lv' := [(4, .int (v + (hX sf x 2))), (3, .int 2), (0, .ref (a 0)), (1, .int (nI x)), (2, .int v)]) hx hb dX0_outside_15 hl (by decide) rfl (fun ls hl => ?_)
          refine lv_iload hx hb dX0_outside_17 (lv_at hl 0 rfl) ?_
          refine lv_if_lt (tgt := 29) hx hb dX0_outside_19 (by decide) (fun c_19'' => ?_) (fun c_19'' => ?_)
          · skip
            have c_19'' := t_badC1 c_19''
            refine lv_iconst (v := 1) hx hb dX0_outside_29 (by decide) ?_
            exact hret _ _ _ (by simp [ouG, bI, c_19, c_26, c_19', c_26', c_19'']) dX0_outside_30
          · skip
            refine lv_iload hx hb dX0_outside_22 (lv_at hl 0 rfl) ?_
            refine lv_bipush (v := 32) hx hb dX0_outside_24 (by decide) ?_
            refine lv_icmp_lt (tgt := 31) hx hb dX0_outside_26 (by decide) (fun c_26'' => ?_) (fun c_26'' => ?_)
            · skip
              have c_26'' := t_badC3 c_19'' c_26''
              refine lv_iinc (v := 3) (lv' := [(3, .int 3), (4, .int (v + (hX sf x 2))), (0, .ref (a 0)), (1, .int (nI x)), (2, .int v)]) hx hb dX0_outside_31 hl (k := 1) rfl (by decide) (by decide) rfl (fun ls hl => ?_)
              refine lv_goto (tgt := 2) hx hb dX0_outside_34 (by decide) ?_
              refine lv_iload_n hx hb dX0_outside_2 rfl (lv_at hl 0 rfl) ?_
              refine lv_iconst (v := 3) hx hb dX0_outside_3 (by decide) ?_
              refine lv_icmp_ge (tgt := 37) hx hb dX0_outside_4 (by decide) (fun c_4 => ?_) (fun c_4 => absurd (by decide) c_4)
              refine lv_iconst (v := 0) hx hb dX0_outside_37 (by decide) ?_
              exact hret _ _ _ (by simp [ouG, bI, c_19, c_26, c_19', c_26', c_19'', c_26'']) dX0_outside_38
            · skip
              have c_26'' := t_badC2 c_26''
              refine lv_iconst (v := 1) hx hb dX0_outside_29 (by decide) ?_
              exact hret _ _ _ (by simp [ouG, bI, c_19, c_26, c_19', c_26', c_19'', c_26'']) dX0_outside_30
        · skip
          have c_26' := t_badC2 c_26'
          refine lv_iconst (v := 1) hx hb dX0_outside_29 (by decide) ?_
          exact hret _ _ _ (by simp [ouG, bI, c_19, c_26, c_19', c_26']) dX0_outside_30
    · skip
      have c_26 := t_badC2 c_26
      refine lv_iconst (v := 1) hx hb dX0_outside_29 (by decide) ?_
      exact hret _ _ _ (by simp [ouG, bI, c_19, c_26]) dX0_outside_30
theorem kX0_outside {p : Program} {l : Launch} {e : Env} {R : Room} {s : State} {m : MethodId} {args : Array Value} {below : List Frame} {meth : Method} {c : Code} {H : Heap} {locs : List Loc} {cells slots : Nat} {Q : State → Prop} {cc : ByteArray} {pc nL : Nat} {ls : Array Slot} {rest : List Value} {D : va_G} {a : Nat → Nat} {d : Nat → ClassId} {fc : Nat → Int32} {ct : Int32} {po ra sf oc : Nat → Int32} {rd : Int32} {be : Nat → Int32} {gs : Int32} {gr fi la : Nat → Int32}  (S : CallFix p m c cc nL s args lw_all RX0) (hK : va_K D vwCl (tyX d) s) (hP : va_P D vwCl (WX a d fc ct po ra sf oc rd be gs gr fi la) H) (x : Nat) (v : Int32)  (hx4 : x < 4) (hR : rmX0_outside.frames + 1 ≤ R.frames ∧ 8 + (5 + 11) + rmX0_outside.locals ≤ R.locals) (hsz : ls.size = nL) (hroom : (rest.map fun v => v.category).sum ≤ 8) (hdg : decode cc pc = .ok (.invokevirtual 120, 3)) (hf : cells ≤ R.cells ∧ slots ≤ R.slots) (kk : W p l e R s m args below meth c H locs cells slots Q (F0 m (pc + 3) ls (.int (bI (ouG (hX sf) x v)) :: rest))) : W p l e R s m args below meth c H locs cells slots Q (F0 m pc ls (.int v :: .int (nI x) :: .ref (a 0) :: rest)) :=
  pcallV (q := (RX0, TX0, 12)) (ci := 0) (As := [.int (nI x), .int v]) S (mX0_outside l x v hx4) (cwV 2 S.2.2.2.2 (lw_V q111 q113 qs1 q28 q114) rfl rfl rfl (by decide +kernel) hR) hK hP rfl rfl rfl hsz rfl hroom hdg hf kk
abbrev rmX0_source : Room := { frames := 1, cells := 0, slots := 0, locals := 22 }
set_option maxHeartbeats 4000000 in
set_option maxRecDepth 100000 in
theorem mX0_source (l : Launch) {D : va_G} {a : Nat → Nat} {d : Nat → ClassId} {fc : Nat → Int32} {ct : Int32} {po ra sf oc : Nat → Int32} {rd : Int32} {be : Nat → Int32} {gs : Int32} {gr fi la : Nat → Int32}  (x : Nat) (q : Nat) (i : Nat) (k : Nat) (hx4 : x < 4) (hk : k < 96) (hi : ixG (aX ra) (hX sf) x q i = nI k) : Met l yX0_source (ws_ yX0_source cX0_source 4 (some .int)) rmX0_source (va_Pc [.ref (a 0), .int (nI x), .int (nI q), .int (nI i)] (pB D (tyX d) (WX a d fc ct po ra sf oc rd be gs gr fi la))) (QcRead (fc k)) 0 0 (fun _ => False) := by
  refine pureI (by decide) (Nat.le_of_ble_eq_true rfl) ?_
  intro p e s m ar below meth c Q hx hb hml hown hts hB hret ls hl
  obtain ⟨hP, hK⟩ := hB
  have hown : s.vm.findClass RX0 = some m.cls := hown
  have hl : lv_has ls 4 [(0, .ref (a 0)), (1, .int (nI x)), (2, .int (nI q)), (3, .int (nI i))] := hl
  refine lv_aload_n hx hb dX0_source_0 rfl (lv_at hl 0 rfl) ?_
  refine gX_cells hx hb hts hown hK hP dX0_source_1 ?_
  refine lv_aload_n hx hb dX0_source_4 rfl (lv_at hl 0 rfl) ?_
  refine lv_iload_n hx hb dX0_source_5 rfl (lv_at hl 1 rfl) ?_
  refine lv_iload_n hx hb dX0_source_6 rfl (lv_at hl 2 rfl) ?_
  refine kX0_arrayOf ⟨hx, hb, hml, hown, hts⟩ hK hP x q  (by omega) ⟨by decide, by decide⟩ hl.1 (Nat.le_of_ble_eq_true rfl) dX0_source_7 ⟨Nat.zero_le _, Nat.zero_le _⟩ ?_
  refine lv_bipush (v := 32) hx hb dX0_source_10 (by decide) ?_
  refine lv_imul hx hb dX0_source_12 ?_
  refine lv_iload_n hx hb dX0_source_13 rfl (lv_at hl 3 rfl) ?_
  refine lv_iadd hx hb dX0_source_14 ?_
  refine lv_aload_n hx hb dX0_source_15 rfl (lv_at hl 0 rfl) ?_
  refine lv_iload_n hx hb dX0_source_16 rfl (lv_at hl 1 rfl) ?_
  refine lv_iload_n hx hb dX0_source_17 rfl (lv_at hl 2 rfl) ?_
  refine kX0_shiftOf ⟨hx, hb, hml, hown, hts⟩ hK hP x q  (by omega) ⟨by decide, by decide⟩ hl.1 (Nat.le_of_ble_eq_true rfl) dX0_source_18 ⟨Nat.zero_le _, Nat.zero_le _⟩ ?_
  refine lv_iadd hx hb dX0_source_21 ?_
  refine lX_cells hx hb hK hP k hi hk dX0_source_22 ?_
  exact hret _ _ _ rfl dX0_source_23
theorem kX0_source {p : Program} {l : Launch} {e : Env} {R : Room} {s : State} {m : MethodId} {args : Array Value} {below : List Frame} {meth : Method} {c : Code} {H : Heap} {locs : List Loc} {cells slots : Nat} {Q : State → Prop} {cc : ByteArray} {pc nL : Nat} {ls : Array Slot} {rest : List Value} {D : va_G} {a : Nat → Nat} {d : Nat → ClassId} {fc : Nat → Int32} {ct : Int32} {po ra sf oc : Nat → Int32} {rd : Int32} {be : Nat → Int32} {gs : Int32} {gr fi la : Nat → Int32}  (S : CallFix p m c cc nL s args lw_all RX0) (hK : va_K D vwCl (tyX d) s) (hP : va_P D vwCl (WX a d fc ct po ra sf oc rd be gs gr fi la) H) (x : Nat) (q : Nat) (i : Nat) (k : Nat) (hx4 : x < 4) (hk : k < 96) (hi : ixG (aX ra) (hX sf) x q i = nI k) (hR : rmX0_source.frames + 1 ≤ R.frames ∧ 8 + (4 + 11) + rmX0_source.locals ≤ R.locals) (hsz : ls.size = nL) (hroom : (rest.map fun v => v.category).sum ≤ 8) (hdg : decode cc pc = .ok (.invokevirtual 109, 3)) (hf : cells ≤ R.cells ∧ slots ≤ R.slots) (kk : W p l e R s m args below meth c H locs cells slots Q (F0 m (pc + 3) ls (.int (fc k) :: rest))) : W p l e R s m args below meth c H locs cells slots Q (F0 m pc ls (.int (nI i) :: .int (nI q) :: .int (nI x) :: .ref (a 0) :: rest)) :=
  pcallV (q := (RX0, TX0, 12)) (ci := 0) (As := [.int (nI x), .int (nI q), .int (nI i)]) S (mX0_source l x q i k hx4 hk hi) (cwV 3 S.2.2.2.2 (lw_V q186 q188 qs19 q28 q189) rfl rfl rfl (by decide +kernel) hR) hK hP rfl rfl rfl hsz rfl hroom hdg hf kk
abbrev rmX0_result : Room := { frames := 2, cells := 0, slots := 0, locals := 45 }
set_option maxHeartbeats 4000000 in
set_option maxRecDepth 100000 in
theorem mX0_result (l : Launch) {D : va_G} {a : Nat → Nat} {d : Nat → ClassId} {fc : Nat → Int32} {ct : Int32} {po ra sf oc : Nat → Int32} {rd : Int32} {be : Nat → Int32} {gs : Int32} {gr fi la : Nat → Int32}  (x : Nat) (i : Nat)  (hx4 : x < 4) (ok : okG (aX ra) (hX sf) x i) : Met l yX0_result (ws_ yX0_result cX0_result 5 (some .int)) rmX0_result (va_Pc [.ref (a 0), .int (nI x), .int (nI i)] (pB D (tyX d) (WX a d fc ct po ra sf oc rd be gs gr fi la))) (QcRead (reG (aX ra) (hX sf) po oc x i fc)) 0 0 (fun _ => False) := by
  refine pureI (by decide) (Nat.le_of_ble_eq_true rfl) ?_
  intro p e s m ar below meth c Q hx hb hml hown hts hB hret ls hl
  obtain ⟨hP, hK⟩ := hB
  have hown : s.vm.findClass RX0 = some m.cls := hown
  have hl : lv_has ls 5 [(0, .ref (a 0)), (1, .int (nI x)), (2, .int (nI i))] := hl
  refine lv_aload_n hx hb dX0_result_0 rfl (lv_at hl 0 rfl) ?_
  refine lv_iload_n hx hb dX0_result_1 rfl (lv_at hl 1 rfl) ?_
  refine lv_iconst (v := 1) hx hb dX0_result_2 (by decide) ?_
  refine lv_iload_n hx hb dX0_result_3 rfl (lv_at hl 2 rfl) ?_
  refine kX0_source ⟨hx, hb, hml, hown, hts⟩ hK hP x 1 i (ixN (aX ra) (hX sf) x 1 i) hx4 (okG_eq ok (by decide)).2 (okG_eq ok (by decide)).1 ⟨by decide, by decide⟩ hl.1 (Nat.le_of_ble_eq_true rfl) dX0_result_4 ⟨Nat.zero_le _, Nat.zero_le _⟩ ?_
  refine lv_istore_n (lv' := [(3, .int (fc (ixN (aX ra) (hX sf) x 1 i))), (0, .ref (a 0)), (1, .int (nI x)), (2, .int (nI i))]) hx hb dX0_result_7 rfl hl (by decide) rfl (fun ls hl => ?_)
  refine lv_aload_n hx hb dX0_result_8 rfl (lv_at hl 1 rfl) ?_
  refine lv_iload_n hx hb dX0_result_9 rfl (lv_at hl 2 rfl) ?_
  refine lv_iconst (v := 2) hx hb dX0_result_10 (by decide) ?_
  refine lv_iload_n hx hb dX0_result_11 rfl (lv_at hl 3 rfl) ?_
  refine kX0_source ⟨hx, hb, hml, hown, hts⟩ hK hP x 2 i (ixN (aX ra) (hX sf) x 2 i) hx4 (okG_eq ok (by decide)).2 (okG_eq ok (by decide)).1 ⟨by decide, by decide⟩ hl.1 (Nat.le_of_ble_eq_true rfl) dX0_result_12 ⟨Nat.zero_le _, Nat.zero_le _⟩ ?_
  refine lv_istore (lv' := [(4, .int (fc (ixN (aX ra) (hX sf) x 2 i))), (3, .int (fc (ixN (aX ra) (hX sf) x 1 i))), (0, .ref (a 0)), (1, .int (nI x)), (2, .int (nI i))]) hx hb dX0_result_15 hl (by decide) rfl (fun ls hl => ?_)
  refine lv_aload_n hx hb dX0_result_17 rfl (lv_at hl 2 rfl) ?_
  refine gX_op hx hb hts hown hK hP dX0_result_18 ?_
  refine lv_iload_n hx hb dX0_result_21 rfl (lv_at hl 3 rfl) ?_
  refine lX_op hx hb hK hP x rfl (by omega) dX0_result_22 ?_
  by_cases h0 : po x = 0
  · skip
    refine lv_tableIn (tgt := 60) (off := 37) hx hb dX0_result_23 (by rw [h0]; decide) (by rw [h0]; decide) (by rw [h0]; rfl) (by decide) ?_
    refine lv_iload_n hx hb dX0_result_60 rfl (lv_at hl 1 rfl) ?_
    refine lv_iload hx hb dX0_result_61 (lv_at hl 0 rfl) ?_
    refine lv_iadd hx hb dX0_result_63 ?_
    exact hret _ _ _ (by simp [reG, rsG, h0]) dX0_result_64
  by_cases h1 : po x = 1
  · skip
    refine lv_tableIn (tgt := 65) (off := 42) hx hb dX0_result_23 (by rw [h1]; decide) (by rw [h1]; decide) (by rw [h1]; rfl) (by decide) ?_
    refine lv_iload_n hx hb dX0_result_65 rfl (lv_at hl 1 rfl) ?_
    refine lv_iload hx hb dX0_result_66 (lv_at hl 0 rfl) ?_
    refine lv_isub hx hb dX0_result_68 ?_
    exact hret _ _ _ (by simp [reG, rsG, h1]) dX0_result_69
  by_cases h2 : po x = 2
  · skip
    refine lv_tableIn (tgt := 70) (off := 47) hx hb dX0_result_23 (by rw [h2]; decide) (by rw [h2]; decide) (by rw [h2]; rfl) (by decide) ?_
    refine lv_iload_n hx hb dX0_result_70 rfl (lv_at hl 1 rfl) ?_
    refine lv_iload hx hb dX0_result_71 (lv_at hl 0 rfl) ?_
    refine lv_imul hx hb dX0_result_73 ?_
    exact hret _ _ _ (by simp [reG, rsG, h2]) dX0_result_74
  by_cases h3 : po x = 3
  · skip
    refine lv_tableIn (tgt := 75) (off := 52) hx hb dX0_result_23 (by rw [h3]; decide) (by rw [h3]; decide) (by rw [h3]; rfl) (by decide) ?_
    refine lv_iload_n hx hb dX0_result_75 rfl (lv_at hl 1 rfl) ?_
    refine lv_iload hx hb dX0_result_76 (lv_at hl 0 rfl) ?_
    refine lv_icmp_ge (tgt := 85) hx hb dX0_result_78 (by decide) (fun c_78 => ?_) (fun c_78 => ?_)
    · skip
      have c_78 := Int32.not_lt.mpr c_78
      refine lv_iload hx hb dX0_result_85 (lv_at hl 0 rfl) ?_
      exact hret _ _ _ (by simp [reG, rsG, h3, c_78]) dX0_result_87
    · skip
      have c_78 := Int32.not_le.mp c_78
      refine lv_iload_n hx hb dX0_result_81 rfl (lv_at hl 1 rfl) ?_
      refine lv_goto (tgt := 87) hx hb dX0_result_82 (by decide) ?_
      exact hret _ _ _ (by simp [reG, rsG, h3, c_78]) dX0_result_87
  by_cases h4 : po x = 4
  · skip
    refine lv_tableIn (tgt := 88) (off := 65) hx hb dX0_result_23 (by rw [h4]; decide) (by rw [h4]; decide) (by rw [h4]; rfl) (by decide) ?_
    refine lv_iload_n hx hb dX0_result_88 rfl (lv_at hl 1 rfl) ?_
    refine lv_aload_n hx hb dX0_result_89 rfl (lv_at hl 2 rfl) ?_
    refine gX_constant hx hb hts hown hK hP dX0_result_90 ?_
    refine lv_iload_n hx hb dX0_result_93 rfl (lv_at hl 3 rfl) ?_
    refine lX_constant hx hb hK hP x rfl (by omega) dX0_result_94 ?_
    refine lv_iadd hx hb dX0_result_95 ?_
    exact hret _ _ _ (by simp [reG, rsG, h4]) dX0_result_96
  by_cases h5 : po x = 5
  · skip
    refine lv_tableIn (tgt := 97) (off := 74) hx hb dX0_result_23 (by rw [h5]; decide) (by rw [h5]; decide) (by rw [h5]; rfl) (by decide) ?_
    refine lv_aload_n hx hb dX0_result_97 rfl (lv_at hl 2 rfl) ?_
    refine gX_constant hx hb hts hown hK hP dX0_result_98 ?_
    refine lv_iload_n hx hb dX0_result_101 rfl (lv_at hl 3 rfl) ?_
    refine lX_constant hx hb hK hP x rfl (by omega) dX0_result_102 ?_
    exact hret _ _ _ (by simp [reG, rsG, h5]) dX0_result_103
  refine lv_tableOut (tgt := 104) hx hb dX0_result_23 (by have e0 := lv_neT (a := 0) h0 rfl; have e1 := lv_neT (a := 1) h1 rfl; have e2 := lv_neT (a := 2) h2 rfl; have e3 := lv_neT (a := 3) h3 rfl; have e4 := lv_neT (a := 4) h4 rfl; have e5 := lv_neT (a := 5) h5 rfl; omega) (by decide) ?_
  refine lv_iload_n hx hb dX0_result_104 rfl (lv_at hl 1 rfl) ?_
  refine lv_aload_n hx hb dX0_result_105 rfl (lv_at hl 2 rfl) ?_
  refine gX_constant hx hb hts hown hK hP dX0_result_106 ?_
  refine lv_iload_n hx hb dX0_result_109 rfl (lv_at hl 3 rfl) ?_
  refine lX_constant hx hb hK hP x rfl (by omega) dX0_result_110 ?_
  refine lv_imul hx hb dX0_result_111 ?_
  exact hret _ _ _ (by simp [reG, rsG, h0, h1, h2, h3, h4, h5]) dX0_result_112
theorem kX0_result {p : Program} {l : Launch} {e : Env} {R : Room} {s : State} {m : MethodId} {args : Array Value} {below : List Frame} {meth : Method} {c : Code} {H : Heap} {locs : List Loc} {cells slots : Nat} {Q : State → Prop} {cc : ByteArray} {pc nL : Nat} {ls : Array Slot} {rest : List Value} {D : va_G} {a : Nat → Nat} {d : Nat → ClassId} {fc : Nat → Int32} {ct : Int32} {po ra sf oc : Nat → Int32} {rd : Int32} {be : Nat → Int32} {gs : Int32} {gr fi la : Nat → Int32}  (S : CallFix p m c cc nL s args lw_all RX0) (hK : va_K D vwCl (tyX d) s) (hP : va_P D vwCl (WX a d fc ct po ra sf oc rd be gs gr fi la) H) (x : Nat) (i : Nat)  (hx4 : x < 4) (ok : okG (aX ra) (hX sf) x i) (hR : rmX0_result.frames + 1 ≤ R.frames ∧ 8 + (5 + 11) + rmX0_result.locals ≤ R.locals) (hsz : ls.size = nL) (hroom : (rest.map fun v => v.category).sum ≤ 8) (hdg : decode cc pc = .ok (.invokevirtual 113, 3)) (hf : cells ≤ R.cells ∧ slots ≤ R.slots) (kk : W p l e R s m args below meth c H locs cells slots Q (F0 m (pc + 3) ls (.int (reG (aX ra) (hX sf) po oc x i fc) :: rest))) : W p l e R s m args below meth c H locs cells slots Q (F0 m pc ls (.int (nI i) :: .int (nI x) :: .ref (a 0) :: rest)) :=
  pcallV (q := (RX0, TX0, 12)) (ci := 0) (As := [.int (nI x), .int (nI i)]) S (mX0_result l x i hx4 ok) (cwV 2 S.2.2.2.2 (lw_V q182 q184 qs18 q28 q185) rfl rfl rfl (by decide +kernel) hR) hK hP rfl rfl rfl hsz rfl hroom hdg hf kk
abbrev rmX0_circleOf : Room := { frames := 0, cells := 0, slots := 0, locals := 0 }
set_option maxHeartbeats 4000000 in
set_option maxRecDepth 100000 in
theorem mX0_circleOf (l : Launch) {D : va_G} {a : Nat → Nat} {d : Nat → ClassId} {fc : Nat → Int32} {po ra sf oc : Nat → Int32} {rd : Int32} {be : Nat → Int32} {gs : Int32} {gr fi la : Nat → Int32} {N : Nat} {Rr : Nat → Nat → Bool} (x : Nat)  (hxN : x < N) (hN4 : N ≤ 4) (hB : ∀ t, t < N → be t = mkS (Rr t)) : Met l yX0_circleOf (ws_ yX0_circleOf cX0_circleOf 4 (some .int)) rmX0_circleOf (va_Pc [.ref (a 0), .int (nI x)] (pB D (tyX d) (WX a d fc (nI N) po ra sf oc rd be gs gr fi la))) (QcRead (mkS (ccS N Rr x))) 0 0 (fun _ => False) := by
  refine pureI (by decide) (Nat.le_of_ble_eq_true rfl) ?_
  intro p e s m ar below meth c Q hx hb hml hown hts hB hret ls hl
  obtain ⟨hP, hK⟩ := hB
  have hown : s.vm.findClass RX0 = some m.cls := hown
  have hl : lv_has ls 4 [(0, .ref (a 0)), (1, .int (nI x))] := hl
  refine lv_iconst (v := 0) hx hb dX0_circleOf_0 (by decide) ?_
  refine lv_istore_n (lv' := [(2, .int 0), (0, .ref (a 0)), (1, .int (nI x))]) hx hb dX0_circleOf_1 rfl hl (by decide) rfl (fun ls hl => ?_)
  refine lv_iconst (v := 0) hx hb dX0_circleOf_2 (by decide) ?_
  refine lv_istore_n (lv' := [(3, .int 0), (2, .int 0), (0, .ref (a 0)), (1, .int (nI x))]) hx hb dX0_circleOf_3 rfl hl (by decide) rfl (fun ls hl => ?_)
  have L4 : ∀ (n t : Nat) (w2 : Int32), t + n = N → (w2 = mkS (fun u => decide (u < t) && (Rr x u && Rr u x))) → ∀ ls : Array Slot, lv_has ls 4 [(0, .ref (a 0)), (1, .int (nI x)), (2, .int w2), (3, .int (nI t))] → W p l e rmX0_circleOf s m ar below meth c s.heap [] 0 0 Q (F0 m 4 ls []) := by
    intro n
    induction n with
    | zero =>
      intro t w2 hin hw ls hl
      refine lv_iload_n hx hb dX0_circleOf_4 rfl (lv_at hl 3 rfl) ?_
      refine lv_aload_n hx hb dX0_circleOf_5 rfl (lv_at hl 0 rfl) ?_
      refine gX_count hx hb hts hown hK hP dX0_circleOf_6 ?_
      refine lv_icmp_ge (tgt := 52) hx hb dX0_circleOf_9 (by decide) (fun c_9 => ?_) (fun c_9 => absurd (nI_le (a := N) (b := t) (by omega) (by omega)) c_9)
      refine lv_iload_n hx hb dX0_circleOf_52 rfl (lv_at hl 2 rfl) ?_
      exact hret _ _ _ (by rw [hw, show t = N by omega]; rfl) dX0_circleOf_53
    | succ n ih =>
      intro t w2 hin hw ls hl
      refine lv_iload_n hx hb dX0_circleOf_4 rfl (lv_at hl 3 rfl) ?_
      refine lv_aload_n hx hb dX0_circleOf_5 rfl (lv_at hl 0 rfl) ?_
      refine gX_count hx hb hts hown hK hP dX0_circleOf_6 ?_
      refine lv_icmp_ge (tgt := 52) hx hb dX0_circleOf_9 (by decide) (fun c_9 => absurd c_9 (nI_ge (a := t) (b := N) (by omega) (by omega))) (fun c_9 => ?_)
      refine lv_aload_n hx hb dX0_circleOf_12 rfl (lv_at hl 0 rfl) ?_
      refine gX_behind hx hb hts hown hK hP dX0_circleOf_13 ?_
      refine lv_iload_n hx hb dX0_circleOf_16 rfl (lv_at hl 1 rfl) ?_
      refine lX_behind hx hb hK hP x rfl (by omega) dX0_circleOf_17 ?_
      refine lv_iload_n hx hb dX0_circleOf_18 rfl (lv_at hl 3 rfl) ?_
      refine lv_ishr hx hb dX0_circleOf_19 ?_
      refine lv_iconst (v := 1) hx hb dX0_circleOf_20 (by decide) ?_
      refine lv_iand hx hb dX0_circleOf_21 ?_
      refine tope (y := (bI (Rr x t))) (by rw [hB x (by omega)]; exact mkS_bit _ (by omega)) ?_
      refine lv_iconst (v := 1) hx hb dX0_circleOf_22 (by decide) ?_
      refine lv_icmp_ne (tgt := 46) hx hb dX0_circleOf_23 (by decide) (fun c_23 => ?_) (fun c_23 => ?_)
      · skip
        have c_23 := bI_n1.mp c_23
        refine lv_iinc (v := (nI (t + 1))) (lv' := [(3, .int (nI (t + 1))), (0, .ref (a 0)), (1, .int (nI x)), (2, .int w2)]) hx hb dX0_circleOf_46 hl (k := 3) rfl (nI_inc _) (by decide) rfl (fun ls hl => ?_)
        refine lv_goto (tgt := 4) hx hb dX0_circleOf_49 (by decide) ?_
        exact ih (t + 1) w2 (by omega) (by rw [hw]; exact acc_skip (by simp [c_23])) ls (lv_sub hl [1, 2, 3, 0] rfl)
      · skip
        have c_23 := bI_1.mp c_23
        refine lv_aload_n hx hb dX0_circleOf_26 rfl (lv_at hl 0 rfl) ?_
        refine gX_behind hx hb hts hown hK hP dX0_circleOf_27 ?_
        refine lv_iload_n hx hb dX0_circleOf_30 rfl (lv_at hl 3 rfl) ?_
        refine lX_behind hx hb hK hP t rfl (by omega) dX0_circleOf_31 ?_
        refine lv_iload_n hx hb dX0_circleOf_32 rfl (lv_at hl 1 rfl) ?_
        refine lv_ishr hx hb dX0_circleOf_33 ?_
        refine lv_iconst (v := 1) hx hb dX0_circleOf_34 (by decide) ?_
        refine lv_iand hx hb dX0_circleOf_35 ?_
        refine tope (y := (bI (Rr t x))) (by rw [hB t (by omega)]; exact mkS_bit _ (by omega)) ?_
        refine lv_iconst (v := 1) hx hb dX0_circleOf_36 (by decide) ?_
        refine lv_icmp_ne (tgt := 46) hx hb dX0_circleOf_37 (by decide) (fun c_37 => ?_) (fun c_37 => ?_)
        · skip
          have c_37 := bI_n1.mp c_37
          refine lv_iinc (v := (nI (t + 1))) (lv' := [(3, .int (nI (t + 1))), (0, .ref (a 0)), (1, .int (nI x)), (2, .int w2)]) hx hb dX0_circleOf_46 hl (k := 3) rfl (nI_inc _) (by decide) rfl (fun ls hl => ?_)
          refine lv_goto (tgt := 4) hx hb dX0_circleOf_49 (by decide) ?_
          exact ih (t + 1) w2 (by omega) (by rw [hw]; exact acc_skip (by simp [c_23, c_37])) ls (lv_sub hl [1, 2, 3, 0] rfl)
        · skip
          have c_37 := bI_1.mp c_37
          refine lv_iload_n hx hb dX0_circleOf_40 rfl (lv_at hl 2 rfl) ?_
          refine lv_iconst (v := 1) hx hb dX0_circleOf_41 (by decide) ?_
          refine lv_iload_n hx hb dX0_circleOf_42 rfl (lv_at hl 3 rfl) ?_
          refine lv_ishl hx hb dX0_circleOf_43 ?_
          refine tope (y := (mkS (fun i => i == t))) (mkS_one (by omega)) ?_
          refine lv_ior hx hb dX0_circleOf_44 ?_
          refine lv_istore_n (lv' := [(2, .int (w2 ||| (mkS (fun i => i == t)))), (0, .ref (a 0)), (1, .int (nI x)), (3, .int (nI t))]) hx hb dX0_circleOf_45 rfl hl (by decide) rfl (fun ls hl => ?_)
          refine lv_iinc (v := (nI (t + 1))) (lv' := [(3, .int (nI (t + 1))), (2, .int (w2 ||| (mkS (fun i => i == t)))), (0, .ref (a 0)), (1, .int (nI x))]) hx hb dX0_circleOf_46 hl (k := 3) rfl (nI_inc _) (by decide) rfl (fun ls hl => ?_)
          refine lv_goto (tgt := 4) hx hb dX0_circleOf_49 (by decide) ?_
          exact ih (t + 1) (w2 ||| (mkS (fun i => i == t))) (by omega) (by rw [hw]; exact acc_add (by simp [c_23, c_37])) ls (lv_sub hl [2, 3, 1, 0] rfl)
  exact L4 (N - 0) 0 0 (by omega) acc_0 ls (lv_sub hl [2, 3, 1, 0] rfl)
theorem kX0_circleOf {p : Program} {l : Launch} {e : Env} {R : Room} {s : State} {m : MethodId} {args : Array Value} {below : List Frame} {meth : Method} {c : Code} {H : Heap} {locs : List Loc} {cells slots : Nat} {Q : State → Prop} {cc : ByteArray} {pc nL : Nat} {ls : Array Slot} {rest : List Value} {D : va_G} {a : Nat → Nat} {d : Nat → ClassId} {fc : Nat → Int32} {po ra sf oc : Nat → Int32} {rd : Int32} {be : Nat → Int32} {gs : Int32} {gr fi la : Nat → Int32} {N : Nat} {Rr : Nat → Nat → Bool} (S : CallFix p m c cc nL s args lw_all RX0) (hK : va_K D vwCl (tyX d) s) (hP : va_P D vwCl (WX a d fc (nI N) po ra sf oc rd be gs gr fi la) H) (x : Nat)  (hxN : x < N) (hN4 : N ≤ 4) (hB : ∀ t, t < N → be t = mkS (Rr t)) (hR : rmX0_circleOf.frames + 1 ≤ R.frames ∧ 8 + (4 + 11) + rmX0_circleOf.locals ≤ R.locals) (hsz : ls.size = nL) (hroom : (rest.map fun v => v.category).sum ≤ 8) (hdg : decode cc pc = .ok (.invokevirtual 103, 3)) (hf : cells ≤ R.cells ∧ slots ≤ R.slots) (kk : W p l e R s m args below meth c H locs cells slots Q (F0 m (pc + 3) ls (.int (mkS (ccS N Rr x)) :: rest))) : W p l e R s m args below meth c H locs cells slots Q (F0 m pc ls (.int (nI x) :: .ref (a 0) :: rest)) :=
  pcallV (q := (RX0, TX0, 12)) (ci := 0) (As := [.int (nI x)]) S (mX0_circleOf l x hxN hN4 hB) (cwV 1 S.2.2.2.2 (lw_V q159 q161 qs13 q28 q162) rfl rfl rfl (by decide +kernel) hR) hK hP rfl rfl rfl hsz rfl hroom hdg hf kk
abbrev rmX0_free : Room := { frames := 0, cells := 0, slots := 0, locals := 0 }
set_option maxHeartbeats 4000000 in
set_option maxRecDepth 100000 in
theorem mX0_free (l : Launch) {D : va_G} {a : Nat → Nat} {d : Nat → ClassId} {fc : Nat → Int32} {po ra sf oc : Nat → Int32} {rd : Int32} {be : Nat → Int32} {gs : Int32} {gr fi la : Nat → Int32} {N : Nat} {Rr : Nat → Nat → Bool} (P : Nat → Bool) (Qs : Nat → Bool)  (hN4 : N ≤ 4) (hB : ∀ t, t < N → be t = mkS (Rr t)) : Met l yX0_free (ws_ yX0_free cX0_free 5 (some .boolean)) rmX0_free (va_Pc [.ref (a 0), .int (mkS P), .int (mkS Qs)] (pB D (tyX d) (WX a d fc (nI N) po ra sf oc rd be gs gr fi la))) (QcRead (bI (frS Rr P Qs 0 N))) 0 0 (fun _ => False) := by
  refine pureZ (by decide) (Nat.le_of_ble_eq_true rfl) ?_
  intro p e s m ar below meth c Q hx hb hml hown hts hB hret ls hl
  obtain ⟨hP, hK⟩ := hB
  have hown : s.vm.findClass RX0 = some m.cls := hown
  have hl : lv_has ls 5 [(0, .ref (a 0)), (1, .int (mkS P)), (2, .int (mkS Qs))] := hl
  refine lv_iconst (v := 0) hx hb dX0_free_0 (by decide) ?_
  refine lv_istore_n (lv' := [(3, .int 0), (0, .ref (a 0)), (1, .int (mkS P)), (2, .int (mkS Qs))]) hx hb dX0_free_1 rfl hl (by decide) rfl (fun ls hl => ?_)
  have L2 : ∀ (n t : Nat) , t + n = N → (frS Rr P Qs 0 N = frS Rr P Qs t n) → ∀ ls : Array Slot, lv_has ls 5 [(0, .ref (a 0)), (1, .int (mkS P)), (2, .int (mkS Qs)), (3, .int (nI t))] → W p l e rmX0_free s m ar below meth c s.heap [] 0 0 Q (F0 m 2 ls []) := by
    intro n
    induction n with
    | zero =>
      intro t  hin hv ls hl
      refine lv_iload_n hx hb dX0_free_2 rfl (lv_at hl 3 rfl) ?_
      refine lv_aload_n hx hb dX0_free_3 rfl (lv_at hl 0 rfl) ?_
      refine gX_count hx hb hts hown hK hP dX0_free_4 ?_
      refine lv_icmp_ge (tgt := 51) hx hb dX0_free_7 (by decide) (fun c_7 => ?_) (fun c_7 => absurd (nI_le (a := N) (b := t) (by omega) (by omega)) c_7)
      refine lv_iconst (v := 1) hx hb dX0_free_51 (by decide) ?_
      exact hret _ _ _ (by rw [hv]; rfl) dX0_free_52
    | succ n ih =>
      intro t  hin hv ls hl
      refine lv_iload_n hx hb dX0_free_2 rfl (lv_at hl 3 rfl) ?_
      refine lv_aload_n hx hb dX0_free_3 rfl (lv_at hl 0 rfl) ?_
      refine gX_count hx hb hts hown hK hP dX0_free_4 ?_
      refine lv_icmp_ge (tgt := 51) hx hb dX0_free_7 (by decide) (fun c_7 => absurd c_7 (nI_ge (a := t) (b := N) (by omega) (by omega))) (fun c_7 => ?_)
      refine lv_iload_n hx hb dX0_free_10 rfl (lv_at hl 1 rfl) ?_
      refine lv_iload_n hx hb dX0_free_11 rfl (lv_at hl 2 rfl) ?_
      refine lv_ior hx hb dX0_free_12 ?_
      refine tope (y := (mkS (fun i => P i || Qs i))) (mkS_or _ _) ?_
      refine lv_iload_n hx hb dX0_free_13 rfl (lv_at hl 3 rfl) ?_
      refine lv_ishr hx hb dX0_free_14 ?_
      refine lv_iconst (v := 1) hx hb dX0_free_15 (by decide) ?_
      refine lv_iand hx hb dX0_free_16 ?_
      refine tope (y := (bI (P t || Qs t))) (mkS_bit _ (by omega)) ?_
      refine lv_if_ne (tgt := 24) hx hb dX0_free_17 (by decide) (fun c_17 => ?_) (fun c_17 => ?_)
      · skip
        have c_17 := bI_n0.mp c_17
        refine lv_iconst (v := 0) hx hb dX0_free_24 (by decide) ?_
        refine lv_istore (lv' := [(4, .int 0), (0, .ref (a 0)), (1, .int (mkS P)), (2, .int (mkS Qs)), (3, .int (nI t))]) hx hb dX0_free_25 hl (by decide) rfl (fun ls hl => ?_)
        refine lv_iload hx hb dX0_free_27 (lv_at hl 0 rfl) ?_
        refine lv_if_eq (tgt := 45) hx hb dX0_free_29 (by decide) (fun c_29 => ?_) (fun c_29 => absurd (by decide) c_29)
        refine lv_iinc (v := (nI (t + 1))) (lv' := [(3, .int (nI (t + 1))), (4, .int 0), (0, .ref (a 0)), (1, .int (mkS P)), (2, .int (mkS Qs))]) hx hb dX0_free_45 hl (k := 4) rfl (nI_inc _) (by decide) rfl (fun ls hl => ?_)
        refine lv_goto (tgt := 2) hx hb dX0_free_48 (by decide) ?_
        exact ih (t + 1)  (by omega) (by rw [hv]; simp [frS, c_17]) ls (lv_sub hl [2, 3, 4, 0] rfl)
      · skip
        have c_17 := bI_0.mp c_17
        refine lv_iconst (v := 1) hx hb dX0_free_20 (by decide) ?_
        refine lv_goto (tgt := 25) hx hb dX0_free_21 (by decide) ?_
        refine lv_istore (lv' := [(4, .int 1), (0, .ref (a 0)), (1, .int (mkS P)), (2, .int (mkS Qs)), (3, .int (nI t))]) hx hb dX0_free_25 hl (by decide) rfl (fun ls hl => ?_)
        refine lv_iload hx hb dX0_free_27 (lv_at hl 0 rfl) ?_
        refine lv_if_eq (tgt := 45) hx hb dX0_free_29 (by decide) (fun c_29 => absurd c_29 (by decide)) (fun c_29 => ?_)
        refine lv_aload_n hx hb dX0_free_32 rfl (lv_at hl 1 rfl) ?_
        refine gX_behind hx hb hts hown hK hP dX0_free_33 ?_
        refine lv_iload_n hx hb dX0_free_36 rfl (lv_at hl 4 rfl) ?_
        refine lX_behind hx hb hK hP t rfl (by omega) dX0_free_37 ?_
        refine lv_iload_n hx hb dX0_free_38 rfl (lv_at hl 2 rfl) ?_
        refine lv_iand hx hb dX0_free_39 ?_
        refine lv_if_eq (tgt := 45) hx hb dX0_free_40 (by decide) (fun c_40 => ?_) (fun c_40 => ?_)
        · skip
          have c_40 : interS (Rr t) P = false := by rw [hB t (by omega)] at c_40; exact (mkS_and _ _).mp c_40
          refine lv_iinc (v := (nI (t + 1))) (lv' := [(3, .int (nI (t + 1))), (4, .int 1), (0, .ref (a 0)), (1, .int (mkS P)), (2, .int (mkS Qs))]) hx hb dX0_free_45 hl (k := 4) rfl (nI_inc _) (by decide) rfl (fun ls hl => ?_)
          refine lv_goto (tgt := 2) hx hb dX0_free_48 (by decide) ?_
          exact ih (t + 1)  (by omega) (by rw [hv]; simp [frS, c_17, c_40]) ls (lv_sub hl [2, 3, 4, 0] rfl)
        · skip
          have c_40 : interS (Rr t) P = true := by rw [hB t (by omega)] at c_40; exact eq_true_of_ne_false (fun h => c_40 ((mkS_and _ _).mpr h))
          refine lv_iconst (v := 0) hx hb dX0_free_43 (by decide) ?_
          exact hret _ _ _ (by rw [hv]; simp [frS, bI, c_17, c_40]) dX0_free_44
  exact L2 (N - 0) 0  (by omega) rfl ls (lv_sub hl [1, 2, 3, 0] rfl)
theorem kX0_free {p : Program} {l : Launch} {e : Env} {R : Room} {s : State} {m : MethodId} {args : Array Value} {below : List Frame} {meth : Method} {c : Code} {H : Heap} {locs : List Loc} {cells slots : Nat} {Q : State → Prop} {cc : ByteArray} {pc nL : Nat} {ls : Array Slot} {rest : List Value} {D : va_G} {a : Nat → Nat} {d : Nat → ClassId} {fc : Nat → Int32} {po ra sf oc : Nat → Int32} {rd : Int32} {be : Nat → Int32} {gs : Int32} {gr fi la : Nat → Int32} {N : Nat} {Rr : Nat → Nat → Bool} (S : CallFix p m c cc nL s args lw_all RX0) (hK : va_K D vwCl (tyX d) s) (hP : va_P D vwCl (WX a d fc (nI N) po ra sf oc rd be gs gr fi la) H) (P : Nat → Bool) (Qs : Nat → Bool)  (hN4 : N ≤ 4) (hB : ∀ t, t < N → be t = mkS (Rr t)) (hR : rmX0_free.frames + 1 ≤ R.frames ∧ 8 + (5 + 11) + rmX0_free.locals ≤ R.locals) (hsz : ls.size = nL) (hroom : (rest.map fun v => v.category).sum ≤ 8) (hdg : decode cc pc = .ok (.invokevirtual 106, 3)) (hf : cells ≤ R.cells ∧ slots ≤ R.slots) (kk : W p l e R s m args below meth c H locs cells slots Q (F0 m (pc + 3) ls (.int (bI (frS Rr P Qs 0 N)) :: rest))) : W p l e R s m args below meth c H locs cells slots Q (F0 m pc ls (.int (mkS Qs) :: .int (mkS P) :: .ref (a 0) :: rest)) :=
  pcallV (q := (RX0, TX0, 12)) (ci := 0) (As := [.int (mkS P), .int (mkS Qs)]) S (mX0_free l P Qs hN4 hB) (cwV 2 S.2.2.2.2 (lw_V q163 q165 qs14 q28 q166) rfl rfl rfl (by decide +kernel) hR) hK hP rfl rfl rfl hsz rfl hroom hdg hf kk
abbrev rmX0_oneStatement : Room := { frames := 0, cells := 0, slots := 0, locals := 0 }
set_option maxHeartbeats 4000000 in
set_option maxRecDepth 100000 in
theorem mX0_oneStatement (l : Launch) {D : va_G} {a : Nat → Nat} {d : Nat → ClassId} {fc : Nat → Int32} {ct : Int32} {po ra sf oc : Nat → Int32} {rd : Int32} {be : Nat → Int32} {gs : Int32} {gr fi la : Nat → Int32}  (P : Nat → Bool)  : Met l yX0_oneStatement (ws_ yX0_oneStatement cX0_oneStatement 2 (some .boolean)) rmX0_oneStatement (va_Pc [.ref (a 0), .int (mkS P)] (pB D (tyX d) (WX a d fc ct po ra sf oc rd be gs gr fi la))) (QcRead (bI (oneS P))) 0 0 (fun _ => False) := by
  refine pureZ (by decide) (Nat.le_of_ble_eq_true rfl) ?_
  intro p e s m ar below meth c Q hx hb hml hown hts hB hret ls hl
  obtain ⟨hP, hK⟩ := hB
  have hown : s.vm.findClass RX0 = some m.cls := hown
  have hl : lv_has ls 2 [(0, .ref (a 0)), (1, .int (mkS P))] := hl
  refine lv_iload_n hx hb dX0_oneStatement_0 rfl (lv_at hl 1 rfl) ?_
  refine lv_iload_n hx hb dX0_oneStatement_1 rfl (lv_at hl 1 rfl) ?_
  refine lv_iconst (v := 1) hx hb dX0_oneStatement_2 (by decide) ?_
  refine lv_isub hx hb dX0_oneStatement_3 ?_
  refine lv_iand hx hb dX0_oneStatement_4 ?_
  refine lv_if_ne (tgt := 12) hx hb dX0_oneStatement_5 (by decide) (fun c_5 => ?_) (fun c_5 => ?_)
  · skip
    have c_5 : oneS P = false := eq_false_of_ne_true (fun h => c_5 ((mkS_ones P).mpr h))
    refine lv_iconst (v := 0) hx hb dX0_oneStatement_12 (by decide) ?_
    exact hret _ _ _ (by simp [bI, c_5]) dX0_oneStatement_13
  · skip
    have c_5 : oneS P = true := (mkS_ones P).mp c_5
    refine lv_iconst (v := 1) hx hb dX0_oneStatement_8 (by decide) ?_
    refine lv_goto (tgt := 13) hx hb dX0_oneStatement_9 (by decide) ?_
    exact hret _ _ _ (by simp [bI, c_5]) dX0_oneStatement_13
theorem kX0_oneStatement {p : Program} {l : Launch} {e : Env} {R : Room} {s : State} {m : MethodId} {args : Array Value} {below : List Frame} {meth : Method} {c : Code} {H : Heap} {locs : List Loc} {cells slots : Nat} {Q : State → Prop} {cc : ByteArray} {pc nL : Nat} {ls : Array Slot} {rest : List Value} {D : va_G} {a : Nat → Nat} {d : Nat → ClassId} {fc : Nat → Int32} {ct : Int32} {po ra sf oc : Nat → Int32} {rd : Int32} {be : Nat → Int32} {gs : Int32} {gr fi la : Nat → Int32}  (S : CallFix p m c cc nL s args lw_all RX0) (hK : va_K D vwCl (tyX d) s) (hP : va_P D vwCl (WX a d fc ct po ra sf oc rd be gs gr fi la) H) (P : Nat → Bool)  (hR : rmX0_oneStatement.frames + 1 ≤ R.frames ∧ 8 + (2 + 11) + rmX0_oneStatement.locals ≤ R.locals) (hsz : ls.size = nL) (hroom : (rest.map fun v => v.category).sum ≤ 8) (hdg : decode cc pc = .ok (.invokevirtual 94, 3)) (hf : cells ≤ R.cells ∧ slots ≤ R.slots) (kk : W p l e R s m args below meth c H locs cells slots Q (F0 m (pc + 3) ls (.int (bI (oneS P)) :: rest))) : W p l e R s m args below meth c H locs cells slots Q (F0 m pc ls (.int (mkS P) :: .ref (a 0) :: rest)) :=
  pcallV (q := (RX0, TX0, 12)) (ci := 0) (As := [.int (mkS P)]) S (mX0_oneStatement l P) (cwV 1 S.2.2.2.2 (lw_V q167 q169 qs15 q28 q170) rfl rfl rfl (by decide +kernel) hR) hK hP rfl rfl rfl hsz rfl hroom hdg hf kk
abbrev rmX0_lowest : Room := { frames := 0, cells := 0, slots := 0, locals := 0 }
set_option maxHeartbeats 4000000 in
set_option maxRecDepth 100000 in
theorem mX0_lowest (l : Launch)  (P : Nat → Bool)  : Met l yX0_lowest (ws_ yX0_lowest cX0_lowest 2 (some .int)) rmX0_lowest (va_Pc [.int (mkS P)] (fun _ => True)) (QcRead (nI (lowS P))) 0 0 (fun _ => False) := by
  refine pureI (by decide) (Nat.le_of_ble_eq_true rfl) ?_
  intro p e s m ar below meth c Q hx hb hml hown hts hB hret ls hl
  have hown : s.vm.findClass RX0 = some m.cls := hown
  have hl : lv_has ls 2 [(0, .int (mkS P))] := hl
  refine lv_iconst (v := 0) hx hb dX0_lowest_0 (by decide) ?_
  refine lv_istore_n (lv' := [(1, .int 0), (0, .int (mkS P))]) hx hb dX0_lowest_1 rfl hl (by decide) rfl (fun ls hl => ?_)
  refine lv_iload_n hx hb dX0_lowest_2 rfl (lv_at hl 0 rfl) ?_
  refine lv_iconst (v := 3) hx hb dX0_lowest_3 (by decide) ?_
  refine lv_icmp_ge (tgt := 21) hx hb dX0_lowest_4 (by decide) (fun c_4 => absurd c_4 (by decide)) (fun c_4 => ?_)
  refine lv_iload_n hx hb dX0_lowest_7 rfl (lv_at hl 1 rfl) ?_
  refine lv_iload_n hx hb dX0_lowest_8 rfl (lv_at hl 0 rfl) ?_
  refine lv_ishr hx hb dX0_lowest_9 ?_
  refine lv_iconst (v := 1) hx hb dX0_lowest_10 (by decide) ?_
  refine lv_iand hx hb dX0_lowest_11 ?_
  refine tope (y := (bI (P 0))) (mkS_bit P (s := 0) (by decide)) ?_
  refine lv_if_ne (tgt := 21) hx hb dX0_lowest_12 (by decide) (fun c_12 => ?_) (fun c_12 => ?_)
  · skip
    have c_12 := bI_n0.mp c_12
    refine lv_iload_n hx hb dX0_lowest_21 rfl (lv_at hl 0 rfl) ?_
    exact hret _ _ _ (by rw [show lowS P = 0 by simp [lowS, c_12]]; rfl) dX0_lowest_22
  · skip
    have c_12 := bI_0.mp c_12
    refine lv_iinc (v := 1) (lv' := [(1, .int 1), (0, .int (mkS P))]) hx hb dX0_lowest_15 hl (k := 0) rfl (by decide) (by decide) rfl (fun ls hl => ?_)
    refine lv_goto (tgt := 2) hx hb dX0_lowest_18 (by decide) ?_
    refine lv_iload_n hx hb dX0_lowest_2 rfl (lv_at hl 0 rfl) ?_
    refine lv_iconst (v := 3) hx hb dX0_lowest_3 (by decide) ?_
    refine lv_icmp_ge (tgt := 21) hx hb dX0_lowest_4 (by decide) (fun c_4 => absurd c_4 (by decide)) (fun c_4 => ?_)
    refine lv_iload_n hx hb dX0_lowest_7 rfl (lv_at hl 1 rfl) ?_
    refine lv_iload_n hx hb dX0_lowest_8 rfl (lv_at hl 0 rfl) ?_
    refine lv_ishr hx hb dX0_lowest_9 ?_
    refine lv_iconst (v := 1) hx hb dX0_lowest_10 (by decide) ?_
    refine lv_iand hx hb dX0_lowest_11 ?_
    refine tope (y := (bI (P 1))) (mkS_bit P (s := 1) (by decide)) ?_
    refine lv_if_ne (tgt := 21) hx hb dX0_lowest_12 (by decide) (fun c_12' => ?_) (fun c_12' => ?_)
    · skip
      have c_12' := bI_n0.mp c_12'
      refine lv_iload_n hx hb dX0_lowest_21 rfl (lv_at hl 0 rfl) ?_
      exact hret _ _ _ (by rw [show lowS P = 1 by simp [lowS, c_12, c_12']]; rfl) dX0_lowest_22
    · skip
      have c_12' := bI_0.mp c_12'
      refine lv_iinc (v := 2) (lv' := [(1, .int 2), (0, .int (mkS P))]) hx hb dX0_lowest_15 hl (k := 0) rfl (by decide) (by decide) rfl (fun ls hl => ?_)
      refine lv_goto (tgt := 2) hx hb dX0_lowest_18 (by decide) ?_
      refine lv_iload_n hx hb dX0_lowest_2 rfl (lv_at hl 0 rfl) ?_
      refine lv_iconst (v := 3) hx hb dX0_lowest_3 (by decide) ?_
      refine lv_icmp_ge (tgt := 21) hx hb dX0_lowest_4 (by decide) (fun c_4 => absurd c_4 (by decide)) (fun c_4 => ?_)
      refine lv_iload_n hx hb dX0_lowest_7 rfl (lv_at hl 1 rfl) ?_
      refine lv_iload_n hx hb dX0_lowest_8 rfl (lv_at hl 0 rfl) ?_
      refine lv_ishr hx hb dX0_lowest_9 ?_
      refine lv_iconst (v := 1) hx hb dX0_lowest_10 (by decide) ?_
      refine lv_iand hx hb dX0_lowest_11 ?_
      refine tope (y := (bI (P 2))) (mkS_bit P (s := 2) (by decide)) ?_
      refine lv_if_ne (tgt := 21) hx hb dX0_lowest_12 (by decide) (fun c_12'' => ?_) (fun c_12'' => ?_)
      · skip
        have c_12'' := bI_n0.mp c_12''
        refine lv_iload_n hx hb dX0_lowest_21 rfl (lv_at hl 0 rfl) ?_
        exact hret _ _ _ (by rw [show lowS P = 2 by simp [lowS, c_12, c_12', c_12'']]; rfl) dX0_lowest_22
      · skip
        have c_12'' := bI_0.mp c_12''
        refine lv_iinc (v := 3) (lv' := [(1, .int 3), (0, .int (mkS P))]) hx hb dX0_lowest_15 hl (k := 0) rfl (by decide) (by decide) rfl (fun ls hl => ?_)
        refine lv_goto (tgt := 2) hx hb dX0_lowest_18 (by decide) ?_
        refine lv_iload_n hx hb dX0_lowest_2 rfl (lv_at hl 0 rfl) ?_
        refine lv_iconst (v := 3) hx hb dX0_lowest_3 (by decide) ?_
        refine lv_icmp_ge (tgt := 21) hx hb dX0_lowest_4 (by decide) (fun c_4 => ?_) (fun c_4 => absurd (by decide) c_4)
        refine lv_iload_n hx hb dX0_lowest_21 rfl (lv_at hl 0 rfl) ?_
        exact hret _ _ _ (by rw [show lowS P = 3 by simp [lowS, c_12, c_12', c_12'']]; rfl) dX0_lowest_22
theorem kX0_lowest {p : Program} {l : Launch} {e : Env} {R : Room} {s : State} {m : MethodId} {args : Array Value} {below : List Frame} {meth : Method} {c : Code} {H : Heap} {locs : List Loc} {cells slots : Nat} {Q : State → Prop} {cc : ByteArray} {pc nL : Nat} {ls : Array Slot} {rest : List Value}  (S : CallFix p m c cc nL s args lw_all RX0) (P : Nat → Bool)  (hR : rmX0_lowest.frames + 1 ≤ R.frames ∧ 8 + (2 + 11) + rmX0_lowest.locals ≤ R.locals) (hsz : ls.size = nL) (hroom : (rest.map fun v => v.category).sum ≤ 8) (hdg : decode cc pc = .ok (.invokestatic 97, 3)) (hf : cells ≤ R.cells ∧ slots ≤ R.slots) (kk : W p l e R s m args below meth c H locs cells slots Q (F0 m (pc + 3) ls (.int (nI (lowS P)) :: rest))) : W p l e R s m args below meth c H locs cells slots Q (F0 m pc ls (.int (mkS P) :: rest)) :=
  pcallS (As := [.int (mkS P)]) S (mX0_lowest l P) (va_cwS 1 S.2.2.2.2 (lw_S q171 q172 q28 q173) rfl rfl rfl (by decide +kernel) hR) rfl hsz rfl hroom hdg hf kk
abbrev rmX0_nextGroup : Room := { frames := 1, cells := 0, slots := 0, locals := 24 }
set_option maxHeartbeats 4000000 in
set_option maxRecDepth 100000 in
theorem mX0_nextGroup (l : Launch) {D : va_G} {a : Nat → Nat} {d : Nat → ClassId} {fc : Nat → Int32} {po ra sf oc : Nat → Int32} {rd : Int32} {be : Nat → Int32} {gs : Int32} {gr fi la : Nat → Int32} {N : Nat} {Rr : Nat → Nat → Bool} (Qs : Nat → Bool)  (hN4 : N ≤ 4) (hB : ∀ t, t < N → be t = mkS (Rr t)) : Met l yX0_nextGroup (ws_ yX0_nextGroup cX0_nextGroup 5 (some .int)) rmX0_nextGroup (va_Pc [.ref (a 0), .int (mkS Qs)] (pB D (tyX d) (WX a d fc (nI N) po ra sf oc rd be gs gr fi la))) (QcRead (mkS (nxS N Rr Qs 0 N))) 0 0 (fun _ => False) := by
  refine pureI (by decide) (Nat.le_of_ble_eq_true rfl) ?_
  intro p e s m ar below meth c Q hx hb hml hown hts hB hret ls hl
  obtain ⟨hP, hK⟩ := hB
  have hown : s.vm.findClass RX0 = some m.cls := hown
  have hl : lv_has ls 5 [(0, .ref (a 0)), (1, .int (mkS Qs))] := hl
  refine lv_iconst (v := 0) hx hb dX0_nextGroup_0 (by decide) ?_
  refine lv_istore_n (lv' := [(2, .int 0), (0, .ref (a 0)), (1, .int (mkS Qs))]) hx hb dX0_nextGroup_1 rfl hl (by decide) rfl (fun ls hl => ?_)
  have L2 : ∀ (n x : Nat) , x + n = N → (nxS N Rr Qs 0 N = nxS N Rr Qs x n) → ∀ ls : Array Slot, lv_has ls 5 [(0, .ref (a 0)), (1, .int (mkS Qs)), (2, .int (nI x))] → W p l e rmX0_nextGroup s m ar below meth c s.heap [] 0 0 Q (F0 m 2 ls []) := by
    intro n
    induction n with
    | zero =>
      intro x  hin hv ls hl
      refine lv_iload_n hx hb dX0_nextGroup_2 rfl (lv_at hl 2 rfl) ?_
      refine lv_aload_n hx hb dX0_nextGroup_3 rfl (lv_at hl 0 rfl) ?_
      refine gX_count hx hb hts hown hK hP dX0_nextGroup_4 ?_
      refine lv_icmp_ge (tgt := 45) hx hb dX0_nextGroup_7 (by decide) (fun c_7 => ?_) (fun c_7 => absurd (nI_le (a := N) (b := x) (by omega) (by omega)) c_7)
      refine lv_iconst (v := 0) hx hb dX0_nextGroup_45 (by decide) ?_
      exact hret _ _ _ (by rw [hv]; exact mkS_0.symm) dX0_nextGroup_46
    | succ n ih =>
      intro x  hin hv ls hl
      refine lv_iload_n hx hb dX0_nextGroup_2 rfl (lv_at hl 2 rfl) ?_
      refine lv_aload_n hx hb dX0_nextGroup_3 rfl (lv_at hl 0 rfl) ?_
      refine gX_count hx hb hts hown hK hP dX0_nextGroup_4 ?_
      refine lv_icmp_ge (tgt := 45) hx hb dX0_nextGroup_7 (by decide) (fun c_7 => absurd c_7 (nI_ge (a := x) (b := N) (by omega) (by omega))) (fun c_7 => ?_)
      refine lv_iload_n hx hb dX0_nextGroup_10 rfl (lv_at hl 1 rfl) ?_
      refine lv_iload_n hx hb dX0_nextGroup_11 rfl (lv_at hl 2 rfl) ?_
      refine lv_ishr hx hb dX0_nextGroup_12 ?_
      refine lv_iconst (v := 1) hx hb dX0_nextGroup_13 (by decide) ?_
      refine lv_iand hx hb dX0_nextGroup_14 ?_
      refine tope (y := (bI (Qs x))) (mkS_bit _ (by omega)) ?_
      refine lv_if_ne (tgt := 39) hx hb dX0_nextGroup_15 (by decide) (fun c_15 => ?_) (fun c_15 => ?_)
      · skip
        have c_15 := bI_n0.mp c_15
        refine lv_iinc (v := (nI (x + 1))) (lv' := [(2, .int (nI (x + 1))), (0, .ref (a 0)), (1, .int (mkS Qs))]) hx hb dX0_nextGroup_39 hl (k := 2) rfl (nI_inc _) (by decide) rfl (fun ls hl => ?_)
        refine lv_goto (tgt := 2) hx hb dX0_nextGroup_42 (by decide) ?_
        exact ih (x + 1)  (by omega) (by rw [hv]; simp [nxS, c_15]) ls (lv_sub hl [1, 2, 0] rfl)
      · skip
        have c_15 := bI_0.mp c_15
        refine lv_aload_n hx hb dX0_nextGroup_18 rfl (lv_at hl 0 rfl) ?_
        refine lv_iload_n hx hb dX0_nextGroup_19 rfl (lv_at hl 2 rfl) ?_
        refine kX0_circleOf ⟨hx, hb, hml, hown, hts⟩ hK hP x  (by omega) hN4 hB ⟨by decide, by decide⟩ hl.1 (Nat.le_of_ble_eq_true rfl) dX0_nextGroup_20 ⟨Nat.zero_le _, Nat.zero_le _⟩ ?_
        refine lv_istore_n (lv' := [(3, .int (mkS (ccS N Rr x))), (0, .ref (a 0)), (1, .int (mkS Qs)), (2, .int (nI x))]) hx hb dX0_nextGroup_23 rfl hl (by decide) rfl (fun ls hl => ?_)
        refine lv_aload_n hx hb dX0_nextGroup_24 rfl (lv_at hl 1 rfl) ?_
        refine lv_iload_n hx hb dX0_nextGroup_25 rfl (lv_at hl 0 rfl) ?_
        refine lv_iload_n hx hb dX0_nextGroup_26 rfl (lv_at hl 2 rfl) ?_
        refine kX0_free ⟨hx, hb, hml, hown, hts⟩ hK hP (ccS N Rr x) Qs  hN4 hB ⟨by decide, by decide⟩ hl.1 (Nat.le_of_ble_eq_true rfl) dX0_nextGroup_27 ⟨Nat.zero_le _, Nat.zero_le _⟩ ?_
        refine lv_istore (lv' := [(4, .int (bI (frS Rr (ccS N Rr x) Qs 0 N))), (3, .int (mkS (ccS N Rr x))), (0, .ref (a 0)), (1, .int (mkS Qs)), (2, .int (nI x))]) hx hb dX0_nextGroup_30 hl (by decide) rfl (fun ls hl => ?_)
        refine lv_iload hx hb dX0_nextGroup_32 (lv_at hl 0 rfl) ?_
        refine lv_if_eq (tgt := 39) hx hb dX0_nextGroup_34 (by decide) (fun c_34 => ?_) (fun c_34 => ?_)
        · skip
          have c_34 := bI_0.mp c_34
          refine lv_iinc (v := (nI (x + 1))) (lv' := [(2, .int (nI (x + 1))), (4, .int (bI (frS Rr (ccS N Rr x) Qs 0 N))), (3, .int (mkS (ccS N Rr x))), (0, .ref (a 0)), (1, .int (mkS Qs))]) hx hb dX0_nextGroup_39 hl (k := 4) rfl (nI_inc _) (by decide) rfl (fun ls hl => ?_)
          refine lv_goto (tgt := 2) hx hb dX0_nextGroup_42 (by decide) ?_
          exact ih (x + 1)  (by omega) (by rw [hv]; simp [nxS, c_15, c_34]) ls (lv_sub hl [3, 4, 0] rfl)
        · skip
          have c_34 := bI_n0.mp c_34
          refine lv_iload_n hx hb dX0_nextGroup_37 rfl (lv_at hl 1 rfl) ?_
          exact hret _ _ _ (by rw [hv]; simp [nxS, c_15, c_34]) dX0_nextGroup_38
  exact L2 (N - 0) 0  (by omega) rfl ls (lv_sub hl [1, 2, 0] rfl)
theorem kX0_nextGroup {p : Program} {l : Launch} {e : Env} {R : Room} {s : State} {m : MethodId} {args : Array Value} {below : List Frame} {meth : Method} {c : Code} {H : Heap} {locs : List Loc} {cells slots : Nat} {Q : State → Prop} {cc : ByteArray} {pc nL : Nat} {ls : Array Slot} {rest : List Value} {D : va_G} {a : Nat → Nat} {d : Nat → ClassId} {fc : Nat → Int32} {po ra sf oc : Nat → Int32} {rd : Int32} {be : Nat → Int32} {gs : Int32} {gr fi la : Nat → Int32} {N : Nat} {Rr : Nat → Nat → Bool} (S : CallFix p m c cc nL s args lw_all RX0) (hK : va_K D vwCl (tyX d) s) (hP : va_P D vwCl (WX a d fc (nI N) po ra sf oc rd be gs gr fi la) H) (Qs : Nat → Bool)  (hN4 : N ≤ 4) (hB : ∀ t, t < N → be t = mkS (Rr t)) (hR : rmX0_nextGroup.frames + 1 ≤ R.frames ∧ 8 + (5 + 11) + rmX0_nextGroup.locals ≤ R.locals) (hsz : ls.size = nL) (hroom : (rest.map fun v => v.category).sum ≤ 8) (hdg : decode cc pc = .ok (.invokevirtual 90, 3)) (hf : cells ≤ R.cells ∧ slots ≤ R.slots) (kk : W p l e R s m args below meth c H locs cells slots Q (F0 m (pc + 3) ls (.int (mkS (nxS N Rr Qs 0 N)) :: rest))) : W p l e R s m args below meth c H locs cells slots Q (F0 m pc ls (.int (mkS Qs) :: .ref (a 0) :: rest)) :=
  pcallV (q := (RX0, TX0, 12)) (ci := 0) (As := [.int (mkS Qs)]) S (mX0_nextGroup l Qs hN4 hB) (cwV 1 S.2.2.2.2 (lw_V q155 q157 qs12 q28 q158) rfl rfl rfl (by decide +kernel) hR) hK hP rfl rfl rfl hsz rfl hroom hdg hf kk
abbrev rmX0_size : Room := { frames := 0, cells := 0, slots := 0, locals := 0 }
set_option maxHeartbeats 4000000 in
set_option maxRecDepth 100000 in
theorem mX0_size (l : Launch) {D : va_G} {a : Nat → Nat} {d : Nat → ClassId} {fc : Nat → Int32} {ct : Int32} {po ra sf oc : Nat → Int32} {rd : Int32} {be : Nat → Int32} {gs : Int32} {gr fi la : Nat → Int32}   : Met l yX0_size (ws_ yX0_size cX0_size 1 (some .int)) rmX0_size (va_Pc [.ref (a 0)] (pB D (tyX d) (WX a d fc ct po ra sf oc rd be gs gr fi la))) (QcRead (ct)) 0 0 (fun _ => False) := by
  refine pureI (by decide) (Nat.le_of_ble_eq_true rfl) ?_
  intro p e s m ar below meth c Q hx hb hml hown hts hB hret ls hl
  obtain ⟨hP, hK⟩ := hB
  have hown : s.vm.findClass RX0 = some m.cls := hown
  have hl : lv_has ls 1 [(0, .ref (a 0))] := hl
  refine lv_aload_n hx hb dX0_size_0 rfl (lv_at hl 0 rfl) ?_
  refine gX_count hx hb hts hown hK hP dX0_size_1 ?_
  exact hret _ _ _ rfl dX0_size_4
end
section
/-! LaneLoops: the public questions (printed by gen/p14.py) -/
theorem ix_nat2 {v w : Int32} (h : badA v = false) (hw : badC w = false) : ∃ j, j < 96 ∧ v * 32 + w = nI j := by
  obtain ⟨i, hi, rfl⟩ := badC_nat hw
  exact ix_nat h hi
abbrev rmX0_get : Room := { frames := 1, cells := 0, slots := 0, locals := 20 }
set_option maxHeartbeats 4000000 in
set_option maxRecDepth 100000 in
theorem mX0_get (l : Launch) {D : va_G} {a : Nat → Nat} {d : Nat → ClassId} {fc : Nat → Int32} {ct : Int32} {po ra sf oc : Nat → Int32} {rd : Int32} {be : Nat → Int32} {gs : Int32} {gr fi la : Nat → Int32}  (v : Int32) (w : Int32)  : Met l yX0_get (ws_ yX0_get cX0_get 3 (some .int)) rmX0_get (va_Pc [.ref (a 0), .int v, .int w] (pB D (tyX d) (WX a d fc ct po ra sf oc rd be gs gr fi la))) (QcRead (gtG fc v w)) 0 0 (fun _ => False) := by
  refine pureI (by decide) (Nat.le_of_ble_eq_true rfl) ?_
  intro p e s m ar below meth c Q hx hb hml hown hts hB hret ls hl
  obtain ⟨hP, hK⟩ := hB
  have hown : s.vm.findClass RX0 = some m.cls := hown
  have hl : lv_has ls 3 [(0, .ref (a 0)), (1, .int v), (2, .int w)] := hl
  refine lv_iload_n hx hb dX0_get_0 rfl (lv_at hl 1 rfl) ?_
  refine kX0_badArray ⟨hx, hb, hml, hown, hts⟩ v   ⟨by decide, by decide⟩ hl.1 (Nat.le_of_ble_eq_true rfl) dX0_get_1 ⟨Nat.zero_le _, Nat.zero_le _⟩ ?_
  refine lv_if_ne (tgt := 17) hx hb dX0_get_4 (by decide) (fun c_4 => ?_) (fun c_4 => ?_)
  · skip
    have c_4 := bI_n0.mp c_4
    refine lv_iconst (v := 0) hx hb dX0_get_17 (by decide) ?_
    exact hret _ _ _ (by simp [gtG, c_4]) dX0_get_18
  · skip
    have c_4 := bI_0.mp c_4
    refine lv_iload_n hx hb dX0_get_7 rfl (lv_at hl 2 rfl) ?_
    refine lv_if_lt (tgt := 17) hx hb dX0_get_8 (by decide) (fun c_8 => ?_) (fun c_8 => ?_)
    · skip
      have c_8 := t_badC1 c_8
      refine lv_iconst (v := 0) hx hb dX0_get_17 (by decide) ?_
      exact hret _ _ _ (by simp [gtG, c_4, c_8]) dX0_get_18
    · skip
      refine lv_iload_n hx hb dX0_get_11 rfl (lv_at hl 2 rfl) ?_
      refine lv_bipush (v := 32) hx hb dX0_get_12 (by decide) ?_
      refine lv_icmp_lt (tgt := 19) hx hb dX0_get_14 (by decide) (fun c_14 => ?_) (fun c_14 => ?_)
      · skip
        obtain ⟨j, hj, ej⟩ := ix_nat2 c_4 (t_badC3 c_8 c_14)
        refine lv_aload_n hx hb dX0_get_19 rfl (lv_at hl 0 rfl) ?_
        refine gX_cells hx hb hts hown hK hP dX0_get_20 ?_
        refine lv_iload_n hx hb dX0_get_23 rfl (lv_at hl 1 rfl) ?_
        refine lv_bipush (v := 32) hx hb dX0_get_24 (by decide) ?_
        refine lv_imul hx hb dX0_get_26 ?_
        refine lv_iload_n hx hb dX0_get_27 rfl (lv_at hl 2 rfl) ?_
        refine lv_iadd hx hb dX0_get_28 ?_
        refine lX_cells hx hb hK hP j ej hj dX0_get_29 ?_
        exact hret _ _ _ (by have e8 := t_badC3 c_8 c_14; simp only [gtG, c_4, e8, ej]; rw [nI_clamp (by omega)]; rfl) dX0_get_30
      · skip
        have c_14 := t_badC2 c_14
        refine lv_iconst (v := 0) hx hb dX0_get_17 (by decide) ?_
        exact hret _ _ _ (by simp [gtG, c_4, c_8, c_14]) dX0_get_18
abbrev rmX0_sum : Room := { frames := 1, cells := 0, slots := 0, locals := 20 }
set_option maxHeartbeats 4000000 in
set_option maxRecDepth 100000 in
theorem mX0_sum (l : Launch) {D : va_G} {a : Nat → Nat} {d : Nat → ClassId} {fc : Nat → Int32} {ct : Int32} {po ra sf oc : Nat → Int32} {rd : Int32} {be : Nat → Int32} {gs : Int32} {gr fi la : Nat → Int32}  (v : Int32)  : Met l yX0_sum (ws_ yX0_sum cX0_sum 4 (some .int)) rmX0_sum (va_Pc [.ref (a 0), .int v] (pB D (tyX d) (WX a d fc ct po ra sf oc rd be gs gr fi la))) (QcRead (smG fc v)) 0 0 (fun _ => False) := by
  refine pureI (by decide) (Nat.le_of_ble_eq_true rfl) ?_
  intro p e s m ar below meth c Q hx hb hml hown hts hB hret ls hl
  obtain ⟨hP, hK⟩ := hB
  have hown : s.vm.findClass RX0 = some m.cls := hown
  have hl : lv_has ls 4 [(0, .ref (a 0)), (1, .int v)] := hl
  refine lv_iload_n hx hb dX0_sum_0 rfl (lv_at hl 1 rfl) ?_
  refine kX0_badArray ⟨hx, hb, hml, hown, hts⟩ v   ⟨by decide, by decide⟩ hl.1 (Nat.le_of_ble_eq_true rfl) dX0_sum_1 ⟨Nat.zero_le _, Nat.zero_le _⟩ ?_
  refine lv_if_eq (tgt := 9) hx hb dX0_sum_4 (by decide) (fun c_4 => ?_) (fun c_4 => ?_)
  · skip
    have c_4 := bI_0.mp c_4
    refine lv_iconst (v := 0) hx hb dX0_sum_9 (by decide) ?_
    refine lv_istore_n (lv' := [(2, .int 0), (0, .ref (a 0)), (1, .int v)]) hx hb dX0_sum_10 rfl hl (by decide) rfl (fun ls hl => ?_)
    refine lv_iconst (v := 0) hx hb dX0_sum_11 (by decide) ?_
    refine lv_istore_n (lv' := [(3, .int 0), (2, .int 0), (0, .ref (a 0)), (1, .int v)]) hx hb dX0_sum_12 rfl hl (by decide) rfl (fun ls hl => ?_)
    have L13 : ∀ (n i : Nat) (w2 : Int32), i + n = 32 → (w2 = smF fc v i) → ∀ ls : Array Slot, lv_has ls 4 [(0, .ref (a 0)), (1, .int v), (2, .int w2), (3, .int (nI i))] → W p l e rmX0_sum s m ar below meth c s.heap [] 0 0 Q (F0 m 13 ls []) := by
      intro n
      induction n with
      | zero =>
        intro i w2 hin hw ls hl
        refine lv_iload_n hx hb dX0_sum_13 rfl (lv_at hl 3 rfl) ?_
        refine lv_bipush (v := 32) hx hb dX0_sum_14 (by decide) ?_
        refine lv_icmp_ge (tgt := 39) hx hb dX0_sum_16 (by decide) (fun c_16 => ?_) (fun c_16 => absurd (nI_le (a := 32) (b := i) (by omega) (by omega)) c_16)
        refine lv_iload_n hx hb dX0_sum_39 rfl (lv_at hl 2 rfl) ?_
        exact hret _ _ _ (by rw [hw, show i = 32 by omega]; simp [smG, c_4]) dX0_sum_40
      | succ n ih =>
        intro i w2 hin hw ls hl
        refine lv_iload_n hx hb dX0_sum_13 rfl (lv_at hl 3 rfl) ?_
        refine lv_bipush (v := 32) hx hb dX0_sum_14 (by decide) ?_
        refine lv_icmp_ge (tgt := 39) hx hb dX0_sum_16 (by decide) (fun c_16 => absurd c_16 (nI_ge (a := i) (b := 32) (by omega) (by omega))) (fun c_16 => ?_)
        obtain ⟨j, hj, ej⟩ := ix_nat (i := i) c_4 (by omega)
        refine lv_iload_n hx hb dX0_sum_19 rfl (lv_at hl 2 rfl) ?_
        refine lv_aload_n hx hb dX0_sum_20 rfl (lv_at hl 0 rfl) ?_
        refine gX_cells hx hb hts hown hK hP dX0_sum_21 ?_
        refine lv_iload_n hx hb dX0_sum_24 rfl (lv_at hl 1 rfl) ?_
        refine lv_bipush (v := 32) hx hb dX0_sum_25 (by decide) ?_
        refine lv_imul hx hb dX0_sum_27 ?_
        refine lv_iload_n hx hb dX0_sum_28 rfl (lv_at hl 3 rfl) ?_
        refine lv_iadd hx hb dX0_sum_29 ?_
        refine lX_cells hx hb hK hP j ej hj dX0_sum_30 ?_
        refine lv_iadd hx hb dX0_sum_31 ?_
        refine lv_istore_n (lv' := [(2, .int (w2 + (fc j))), (0, .ref (a 0)), (1, .int v), (3, .int (nI i))]) hx hb dX0_sum_32 rfl hl (by decide) rfl (fun ls hl => ?_)
        refine lv_iinc (v := (nI (i + 1))) (lv' := [(3, .int (nI (i + 1))), (2, .int (w2 + (fc j))), (0, .ref (a 0)), (1, .int v)]) hx hb dX0_sum_33 hl (k := 3) rfl (nI_inc _) (by decide) rfl (fun ls hl => ?_)
        refine lv_goto (tgt := 13) hx hb dX0_sum_36 (by decide) ?_
        exact ih (i + 1) (w2 + (fc j)) (by omega) (by rw [hw]; simp only [smF]; rw [ej, nI_clamp (by omega)]) ls (lv_sub hl [2, 3, 1, 0] rfl)
    exact L13 (32 - 0) 0 0 (by omega) rfl ls (lv_sub hl [2, 3, 1, 0] rfl)
  · skip
    have c_4 := bI_n0.mp c_4
    refine lv_iconst (v := 0) hx hb dX0_sum_7 (by decide) ?_
    exact hret _ _ _ (by simp [smG, c_4]) dX0_sum_8
abbrev rmX0_differ : Room := { frames := 1, cells := 0, slots := 0, locals := 20 }
set_option maxHeartbeats 4000000 in
set_option maxRecDepth 100000 in
theorem mX0_differ (l : Launch) {D : va_G} {a : Nat → Nat} {d : Nat → ClassId} {fc : Nat → Int32} {ct : Int32} {po ra sf oc : Nat → Int32} {rd : Int32} {be : Nat → Int32} {gs : Int32} {gr fi la : Nat → Int32}  (v : Int32) (w : Int32)  : Met l yX0_differ (ws_ yX0_differ cX0_differ 5 (some .int)) rmX0_differ (va_Pc [.ref (a 0), .int v, .int w] (pB D (tyX d) (WX a d fc ct po ra sf oc rd be gs gr fi la))) (QcRead (dfG fc v w)) 0 0 (fun _ => False) := by
  refine pureI (by decide) (Nat.le_of_ble_eq_true rfl) ?_
  intro p e s m ar below meth c Q hx hb hml hown hts hB hret ls hl
  obtain ⟨hP, hK⟩ := hB
  have hown : s.vm.findClass RX0 = some m.cls := hown
  have hl : lv_has ls 5 [(0, .ref (a 0)), (1, .int v), (2, .int w)] := hl
  refine lv_iload_n hx hb dX0_differ_0 rfl (lv_at hl 1 rfl) ?_
  refine kX0_badArray ⟨hx, hb, hml, hown, hts⟩ v   ⟨by decide, by decide⟩ hl.1 (Nat.le_of_ble_eq_true rfl) dX0_differ_1 ⟨Nat.zero_le _, Nat.zero_le _⟩ ?_
  refine lv_if_ne (tgt := 14) hx hb dX0_differ_4 (by decide) (fun c_4 => ?_) (fun c_4 => ?_)
  · skip
    have c_4 := bI_n0.mp c_4
    refine lv_iconst (v := (-1)) hx hb dX0_differ_14 (by decide) ?_
    exact hret _ _ _ (by simp [dfG, c_4]) dX0_differ_15
  · skip
    have c_4 := bI_0.mp c_4
    refine lv_iload_n hx hb dX0_differ_7 rfl (lv_at hl 2 rfl) ?_
    refine kX0_badArray ⟨hx, hb, hml, hown, hts⟩ w   ⟨by decide, by decide⟩ hl.1 (Nat.le_of_ble_eq_true rfl) dX0_differ_8 ⟨Nat.zero_le _, Nat.zero_le _⟩ ?_
    refine lv_if_eq (tgt := 16) hx hb dX0_differ_11 (by decide) (fun c_11 => ?_) (fun c_11 => ?_)
    · skip
      have c_11 := bI_0.mp c_11
      refine lv_iconst (v := 0) hx hb dX0_differ_16 (by decide) ?_
      refine lv_istore_n (lv' := [(3, .int 0), (0, .ref (a 0)), (1, .int v), (2, .int w)]) hx hb dX0_differ_17 rfl hl (by decide) rfl (fun ls hl => ?_)
      refine lv_iconst (v := 0) hx hb dX0_differ_18 (by decide) ?_
      refine lv_istore (lv' := [(4, .int 0), (3, .int 0), (0, .ref (a 0)), (1, .int v), (2, .int w)]) hx hb dX0_differ_19 hl (by decide) rfl (fun ls hl => ?_)
      have L21 : ∀ (n i : Nat) (w3 : Int32), i + n = 32 → (w3 = dfF fc v w i) → ∀ ls : Array Slot, lv_has ls 5 [(0, .ref (a 0)), (1, .int v), (2, .int w), (3, .int w3), (4, .int (nI i))] → W p l e rmX0_differ s m ar below meth c s.heap [] 0 0 Q (F0 m 21 ls []) := by
        intro n
        induction n with
        | zero =>
          intro i w3 hin hw ls hl
          refine lv_iload hx hb dX0_differ_21 (lv_at hl 4 rfl) ?_
          refine lv_bipush (v := 32) hx hb dX0_differ_23 (by decide) ?_
          refine lv_icmp_ge (tgt := 64) hx hb dX0_differ_25 (by decide) (fun c_25 => ?_) (fun c_25 => absurd (nI_le (a := 32) (b := i) (by omega) (by omega)) c_25)
          refine lv_iload_n hx hb dX0_differ_64 rfl (lv_at hl 3 rfl) ?_
          exact hret _ _ _ (by rw [hw, show i = 32 by omega]; simp [dfG, c_4, c_11]) dX0_differ_65
        | succ n ih =>
          intro i w3 hin hw ls hl
          refine lv_iload hx hb dX0_differ_21 (lv_at hl 4 rfl) ?_
          refine lv_bipush (v := 32) hx hb dX0_differ_23 (by decide) ?_
          refine lv_icmp_ge (tgt := 64) hx hb dX0_differ_25 (by decide) (fun c_25 => absurd c_25 (nI_ge (a := i) (b := 32) (by omega) (by omega))) (fun c_25 => ?_)
          obtain ⟨j, hj, ej⟩ := ix_nat (i := i) c_4 (by omega)
          obtain ⟨k, hk, ek⟩ := ix_nat (i := i) c_11 (by omega)
          refine lv_aload_n hx hb dX0_differ_28 rfl (lv_at hl 0 rfl) ?_
          refine gX_cells hx hb hts hown hK hP dX0_differ_29 ?_
          refine lv_iload_n hx hb dX0_differ_32 rfl (lv_at hl 1 rfl) ?_
          refine lv_bipush (v := 32) hx hb dX0_differ_33 (by decide) ?_
          refine lv_imul hx hb dX0_differ_35 ?_
          refine lv_iload hx hb dX0_differ_36 (lv_at hl 4 rfl) ?_
          refine lv_iadd hx hb dX0_differ_38 ?_
          refine lX_cells hx hb hK hP j ej hj dX0_differ_39 ?_
          refine lv_aload_n hx hb dX0_differ_40 rfl (lv_at hl 0 rfl) ?_
          refine gX_cells hx hb hts hown hK hP dX0_differ_41 ?_
          refine lv_iload_n hx hb dX0_differ_44 rfl (lv_at hl 2 rfl) ?_
          refine lv_bipush (v := 32) hx hb dX0_differ_45 (by decide) ?_
          refine lv_imul hx hb dX0_differ_47 ?_
          refine lv_iload hx hb dX0_differ_48 (lv_at hl 4 rfl) ?_
          refine lv_iadd hx hb dX0_differ_50 ?_
          refine lX_cells hx hb hK hP k ek hk dX0_differ_51 ?_
          refine lv_icmp_eq (tgt := 58) hx hb dX0_differ_52 (by decide) (fun c_52 => ?_) (fun c_52 => ?_)
          · skip
            refine lv_iinc (v := (nI (i + 1))) (lv' := [(4, .int (nI (i + 1))), (0, .ref (a 0)), (1, .int v), (2, .int w), (3, .int w3)]) hx hb dX0_differ_58 hl (k := 4) rfl (nI_inc _) (by decide) rfl (fun ls hl => ?_)
            refine lv_goto (tgt := 21) hx hb dX0_differ_61 (by decide) ?_
            exact ih (i + 1) w3 (by omega) (by rw [hw]; simp only [dfF]; rw [ej, ek, nI_clamp (show j < 2 ^ 31 by omega), nI_clamp (show k < 2 ^ 31 by omega)]; simp [c_52]) ls (lv_sub hl [1, 2, 3, 4, 0] rfl)
          · skip
            refine lv_iinc (v := (w3 + 1)) (lv' := [(3, .int (w3 + 1)), (0, .ref (a 0)), (1, .int v), (2, .int w), (4, .int (nI i))]) hx hb dX0_differ_55 hl (k := 3) rfl rfl (by decide) rfl (fun ls hl => ?_)
            refine lv_iinc (v := (nI (i + 1))) (lv' := [(4, .int (nI (i + 1))), (3, .int (w3 + 1)), (0, .ref (a 0)), (1, .int v), (2, .int w)]) hx hb dX0_differ_58 hl (k := 4) rfl (nI_inc _) (by decide) rfl (fun ls hl => ?_)
            refine lv_goto (tgt := 21) hx hb dX0_differ_61 (by decide) ?_
            exact ih (i + 1) (w3 + 1) (by omega) (by rw [hw]; simp only [dfF]; rw [ej, ek, nI_clamp (show j < 2 ^ 31 by omega), nI_clamp (show k < 2 ^ 31 by omega)]; simp [c_52]) ls (lv_sub hl [2, 3, 4, 1, 0] rfl)
      exact L21 (32 - 0) 0 0 (by omega) rfl ls (lv_sub hl [2, 3, 4, 1, 0] rfl)
    · skip
      have c_11 := bI_n0.mp c_11
      refine lv_iconst (v := (-1)) hx hb dX0_differ_14 (by decide) ?_
      exact hret _ _ _ (by simp [dfG, c_4, c_11]) dX0_differ_15
abbrev rmX0_mustPrecede : Room := { frames := 4, cells := 0, slots := 0, locals := 95 }
set_option maxHeartbeats 4000000 in
set_option maxRecDepth 100000 in
theorem mX0_mustPrecede (l : Launch) {D : va_G} {a : Nat → Nat} {d : Nat → ClassId} {fc : Nat → Int32} {po ra sf oc : Nat → Int32} {rd : Int32} {be : Nat → Int32} {gs : Int32} {gr fi la : Nat → Int32} {N : Nat} (v : Int32) (w : Int32) (t : Int32)  (hN4 : N ≤ 4) : Met l yX0_mustPrecede (ws_ yX0_mustPrecede cX0_mustPrecede 4 (some .boolean)) rmX0_mustPrecede (va_Pc [.ref (a 0), .int v, .int w, .int t] (pB D (tyX d) (WX a d fc (nI N) po ra sf oc rd be gs gr fi la))) (QcRead (bI (mpG (aX ra) (hX sf) po (nI N) v w t))) 0 0 (fun _ => False) := by
  refine pureZ (by decide) (Nat.le_of_ble_eq_true rfl) ?_
  intro p e s m ar below meth c Q hx hb hml hown hts hB hret ls hl
  obtain ⟨hP, hK⟩ := hB
  have hown : s.vm.findClass RX0 = some m.cls := hown
  have hl : lv_has ls 4 [(0, .ref (a 0)), (1, .int v), (2, .int w), (3, .int t)] := hl
  refine lv_iload_n hx hb dX0_mustPrecede_0 rfl (lv_at hl 3 rfl) ?_
  refine lv_if_lt (tgt := 26) hx hb dX0_mustPrecede_1 (by decide) (fun c_1 => ?_) (fun c_1 => ?_)
  · skip
    have c_1 := decide_eq_true c_1
    refine lv_iconst (v := 0) hx hb dX0_mustPrecede_26 (by decide) ?_
    exact hret _ _ _ (by simp only [mpG, c_1]; simp [bI]) dX0_mustPrecede_27
  · skip
    have c_1 := decide_eq_false c_1
    refine lv_iload_n hx hb dX0_mustPrecede_4 rfl (lv_at hl 3 rfl) ?_
    refine lv_bipush (v := 8) hx hb dX0_mustPrecede_5 (by decide) ?_
    refine lv_icmp_gt (tgt := 26) hx hb dX0_mustPrecede_7 (by decide) (fun c_7 => ?_) (fun c_7 => ?_)
    · skip
      have c_7 := decide_eq_true c_7
      refine lv_iconst (v := 0) hx hb dX0_mustPrecede_26 (by decide) ?_
      exact hret _ _ _ (by simp only [mpG, c_1, c_7]; simp [bI]) dX0_mustPrecede_27
    · skip
      have c_7 := decide_eq_false c_7
      refine lv_aload_n hx hb dX0_mustPrecede_10 rfl (lv_at hl 0 rfl) ?_
      refine lv_iload_n hx hb dX0_mustPrecede_11 rfl (lv_at hl 1 rfl) ?_
      refine kX0_noStatement ⟨hx, hb, hml, hown, hts⟩ hK hP v   ⟨by decide, by decide⟩ hl.1 (Nat.le_of_ble_eq_true rfl) dX0_mustPrecede_12 ⟨Nat.zero_le _, Nat.zero_le _⟩ ?_
      refine lv_if_ne (tgt := 26) hx hb dX0_mustPrecede_15 (by decide) (fun c_15 => ?_) (fun c_15 => ?_)
      · skip
        have c_15 := bI_n0.mp c_15
        refine lv_iconst (v := 0) hx hb dX0_mustPrecede_26 (by decide) ?_
        exact hret _ _ _ (by simp only [mpG, c_1, c_7, c_15]; simp [bI]) dX0_mustPrecede_27
      · skip
        have c_15 := bI_0.mp c_15
        refine lv_aload_n hx hb dX0_mustPrecede_18 rfl (lv_at hl 0 rfl) ?_
        refine lv_iload_n hx hb dX0_mustPrecede_19 rfl (lv_at hl 2 rfl) ?_
        refine kX0_noStatement ⟨hx, hb, hml, hown, hts⟩ hK hP w   ⟨by decide, by decide⟩ hl.1 (Nat.le_of_ble_eq_true rfl) dX0_mustPrecede_20 ⟨Nat.zero_le _, Nat.zero_le _⟩ ?_
        refine lv_if_eq (tgt := 28) hx hb dX0_mustPrecede_23 (by decide) (fun c_23 => ?_) (fun c_23 => ?_)
        · skip
          have c_23 := bI_0.mp c_23
          obtain ⟨x, hxN, rfl⟩ := noSt_nat hN4 c_15
          obtain ⟨y, hyN, rfl⟩ := noSt_nat hN4 c_23
          refine lv_aload_n hx hb dX0_mustPrecede_28 rfl (lv_at hl 0 rfl) ?_
          refine lv_iload_n hx hb dX0_mustPrecede_29 rfl (lv_at hl 1 rfl) ?_
          refine lv_iload_n hx hb dX0_mustPrecede_30 rfl (lv_at hl 2 rfl) ?_
          refine lv_iload_n hx hb dX0_mustPrecede_31 rfl (lv_at hl 3 rfl) ?_
          refine kX0_precedes ⟨hx, hb, hml, hown, hts⟩ hK hP x y t  (by omega) (by omega) ⟨by decide, by decide⟩ hl.1 (Nat.le_of_ble_eq_true rfl) dX0_mustPrecede_32 ⟨Nat.zero_le _, Nat.zero_le _⟩ ?_
          exact hret _ _ _ (by simp only [mpG, c_1, c_7, c_15, c_23, nI_clamp (show x < 2 ^ 31 by omega), nI_clamp (show y < 2 ^ 31 by omega)]; simp) dX0_mustPrecede_35
        · skip
          have c_23 := bI_n0.mp c_23
          refine lv_iconst (v := 0) hx hb dX0_mustPrecede_26 (by decide) ?_
          exact hret _ _ _ (by simp only [mpG, c_1, c_7, c_15, c_23]; simp [bI]) dX0_mustPrecede_27
end
section
/-! LaneLoops: clear, store, set, ramp, statement, exchange (printed by gen/p15.py) -/
def setG (fc : Nat → Int32) (v w t : Int32) : Int32 × (Nat → Int32) := if badA v then (-1, fc) else if badC w then (-5, fc) else (fc (v * 32 + w).toNatClampNeg, upd fc (v * 32 + w).toNatClampNeg t)
def rpF (fc : Nat → Int32) (v b t : Int32) : Nat → (Nat → Int32)
  | 0 => fc
  | k + 1 => upd (rpF fc v b t k) (v * 32 + nI k).toNatClampNeg (b + nI k * t)
def rpG (fc : Nat → Int32) (v b t : Int32) : Int32 × (Nat → Int32) := if badA v then (-1, fc) else (0, rpF fc v b t 32)
/-- count, ready, operations, arrays, shifts, constants -/
abbrev XB : Type := Int32 × Int32 × (Nat → Int32) × (Nat → Int32) × (Nat → Int32) × (Nat → Int32)
def bad3A (x : Int32) : Bool := badA (arI x 0) || (badA (arI x 1) || badA (arI x 2))
def bad3S (x : Int32) : Bool := badS (shI x 0) || (badS (shI x 1) || badS (shI x 2))
def badO (o : Int32) : Bool := decide (o < 0) || decide (6 < o)
def smtG (N : Nat) (B : XB) (o x y t : Int32) : Int32 × XB := if bad3A x then (-1, B) else if bad3S y then (-2, B) else if badO o then (-3, B) else if 4 ≤ N then (-4, B) else (nI N, (nI (N + 1), 0, upd B.2.2.1 N o, upd B.2.2.2.1 N x, upd B.2.2.2.2.1 N y, upd B.2.2.2.2.2 N t))
def swF (f : Nat → Int32) (x y : Nat) : Nat → Int32 := upd (upd f x (f y)) y (f x)
def exG (N : Nat) (B : XB) (v w : Int32) : Int32 × XB := if noSt (nI N) v || noSt (nI N) w then (-3, B) else (0, (B.1, 0, swF B.2.2.1 v.toNatClampNeg w.toNatClampNeg, swF B.2.2.2.1 v.toNatClampNeg w.toNatClampNeg, swF B.2.2.2.2.1 v.toNatClampNeg w.toNatClampNeg, swF B.2.2.2.2.2 v.toNatClampNeg w.toNatClampNeg))
theorem t_badO1 {x : Int32} (h : x < 0) : badO x = true := by simp [badO, h]
theorem t_badO2 {x : Int32} (h : ¬ x ≤ 6) : badO x = true := by have h2 := Int32.not_le.mp h; simp [badO, h2]
theorem t_badO3 {x : Int32} (h : ¬ x < 0) (h2 : x ≤ 6) : badO x = false := by have h3 := Int32.not_lt.mpr h2; simp [badO, h, h3]
abbrev rmX0_clear : Room := { frames := 0, cells := 0, slots := 0, locals := 0 }
set_option maxHeartbeats 4000000 in
set_option maxRecDepth 100000 in
theorem mX0_clear (l : Launch) {D : va_G} {a : Nat → Nat} {d : Nat → ClassId} {fc : Nat → Int32} {ct : Int32} {po ra sf oc : Nat → Int32} {rd : Int32} {be : Nat → Int32} {gs : Int32} {gr fi la : Nat → Int32}   : MV l yX0_clear (ws_ yX0_clear cX0_clear 1 none) rmX0_clear [.ref (a 0)] D (tyX d) (WX a d fc ct po ra sf oc rd be gs gr fi la) (T := Unit) (fun _ => True) (fun _ => WX a d fc 0 po ra sf oc 0 be gs gr fi la) := by
  refine impV (by decide) (Nat.le_of_ble_eq_true rfl) ?_
  intro p e s m ar below meth c Q A hx hb hml hown hts hK hP hD hS hA hret ls hl
  have hown : s.vm.findClass RX0 = some m.cls := hown
  have hl : lv_has ls 1 [(0, .ref (a 0))] := hl
  refine lv_aload_n hx hb dX0_clear_0 rfl (lv_at hl 0 rfl) ?_
  refine lv_iconst (v := 0) hx hb dX0_clear_1 (by decide) ?_
  refine pX_count hx hb hts hown hK hP hD hS dX0_clear_2 (fun H locs hP hD hS => ?_)
  refine lv_aload_n hx hb dX0_clear_5 rfl (lv_at hl 0 rfl) ?_
  refine lv_iconst (v := 0) hx hb dX0_clear_6 (by decide) ?_
  refine pX_ready hx hb hts hown hK hP hD hS rfl rfl dX0_clear_7 (fun H locs hP hD hS => ?_)
  exact hret () _ _ _ _ trivial hP hD hS dX0_clear_10
abbrev rmX0_store : Room := { frames := 1, cells := 0, slots := 0, locals := 22 }
set_option maxHeartbeats 4000000 in
set_option maxRecDepth 100000 in
theorem mX0_store (l : Launch) {D : va_G} {a : Nat → Nat} {d : Nat → ClassId} {fc : Nat → Int32} {ct : Int32} {po ra sf oc : Nat → Int32} {rd : Int32} {be : Nat → Int32} {gs : Int32} {gr fi la : Nat → Int32}  (x : Nat) (i : Nat) (v : Int32)  (hx4 : x < 4) (ok : okG (aX ra) (hX sf) x i) : MV l yX0_store (ws_ yX0_store cX0_store 4 none) rmX0_store [.ref (a 0), .int (nI x), .int (nI i), .int v] D (tyX d) (WX a d fc ct po ra sf oc rd be gs gr fi la) (T := Unit) (fun _ => True) (fun _ => WX a d (upd fc (ixN (aX ra) (hX sf) x 0 i) v) ct po ra sf oc rd be gs gr fi la) := by
  refine impV (by decide) (Nat.le_of_ble_eq_true rfl) ?_
  intro p e s m ar below meth c Q A hx hb hml hown hts hK hP hD hS hA hret ls hl
  have hown : s.vm.findClass RX0 = some m.cls := hown
  have hl : lv_has ls 4 [(0, .ref (a 0)), (1, .int (nI x)), (2, .int (nI i)), (3, .int v)] := hl
  refine lv_aload_n hx hb dX0_store_0 rfl (lv_at hl 0 rfl) ?_
  refine gX_cells hx hb hts hown hK hP dX0_store_1 ?_
  refine lv_aload_n hx hb dX0_store_4 rfl (lv_at hl 0 rfl) ?_
  refine lv_iload_n hx hb dX0_store_5 rfl (lv_at hl 1 rfl) ?_
  refine lv_iconst (v := 0) hx hb dX0_store_6 (by decide) ?_
  refine kX0_arrayOf ⟨hx, hb, hml, hown, hts⟩ hK hP x 0  (by omega) ⟨by decide, by decide⟩ hl.1 (Nat.le_of_ble_eq_true rfl) dX0_store_7 ⟨Nat.zero_le _, Nat.zero_le _⟩ ?_
  refine lv_bipush (v := 32) hx hb dX0_store_10 (by decide) ?_
  refine lv_imul hx hb dX0_store_12 ?_
  refine lv_iload_n hx hb dX0_store_13 rfl (lv_at hl 2 rfl) ?_
  refine lv_iadd hx hb dX0_store_14 ?_
  refine lv_aload_n hx hb dX0_store_15 rfl (lv_at hl 0 rfl) ?_
  refine lv_iload_n hx hb dX0_store_16 rfl (lv_at hl 1 rfl) ?_
  refine lv_iconst (v := 0) hx hb dX0_store_17 (by decide) ?_
  refine kX0_shiftOf ⟨hx, hb, hml, hown, hts⟩ hK hP x 0  (by omega) ⟨by decide, by decide⟩ hl.1 (Nat.le_of_ble_eq_true rfl) dX0_store_18 ⟨Nat.zero_le _, Nat.zero_le _⟩ ?_
  refine lv_iadd hx hb dX0_store_21 ?_
  refine lv_iload_n hx hb dX0_store_22 rfl (lv_at hl 3 rfl) ?_
  refine sX_cells hx hb hK hP hD hS (ixN (aX ra) (hX sf) x 0 i) (okG_eq ok (by decide)).1 (okG_eq ok (by decide)).2 dX0_store_23 (fun H locs hP hD hS => ?_)
  exact hret () _ _ _ _ trivial hP hD hS dX0_store_24
theorem kX0_store {p : Program} {l : Launch} {e : Env} {R : Room} {s : State} {m : MethodId} {args : Array Value} {below : List Frame} {meth : Method} {c : Code} {H : Heap} {locs : List Loc} {cells slots : Nat} {Q : State → Prop} {cc : ByteArray} {pc nL : Nat} {ls : Array Slot} {rest : List Value} {D : va_G} {A : Nat → Prop} {a : Nat → Nat} {d : Nat → ClassId} {fc : Nat → Int32} {ct : Int32} {po ra sf oc : Nat → Int32} {rd : Int32} {be : Nat → Int32} {gs : Int32} {gr fi la : Nat → Int32}  (S : CallFix p m c cc nL s args lw_all RX0) (hK : va_K D vwCl (tyX d) s) (hP : va_P D vwCl (WX a d fc ct po ra sf oc rd be gs gr fi la) H) (hD : va_D A (WX a d fc ct po ra sf oc rd be gs gr fi la)) (hS : va_S A s.heap H locs) (hA : ∀ q, s.heap.size ≤ q → A q) (x : Nat) (i : Nat) (v : Int32)  (hx4 : x < 4) (ok : okG (aX ra) (hX sf) x i) (hR : rmX0_store.frames + 1 ≤ R.frames ∧ 8 + (4 + 11) + rmX0_store.locals ≤ R.locals) (hsz : ls.size = nL) (hroom : (rest.map fun v => v.category).sum ≤ 8) (hdg : decode cc pc = .ok (.invokevirtual 116, 3)) (hf : cells ≤ R.cells ∧ slots ≤ R.slots) (kk : ∀ (u : Unit) (H1 : Heap) (locs1 : List Loc), (fun _ => True) u → va_P D vwCl ((fun _ => WX a d (upd fc (ixN (aX ra) (hX sf) x 0 i) v) ct po ra sf oc rd be gs gr fi la) u) H1 → va_D A ((fun _ => WX a d (upd fc (ixN (aX ra) (hX sf) x 0 i) v) ct po ra sf oc rd be gs gr fi la) u) → va_S A s.heap H1 locs1 → W p l e R s m args below meth c H1 locs1 cells slots Q (F0 m (pc + 3) ls rest)) : W p l e R s m args below meth c H locs cells slots Q (F0 m pc ls (.int v :: .int (nI i) :: .int (nI x) :: .ref (a 0) :: rest)) :=
  icallV (wr := []) (q := (RX0, TX0, 12)) (ci := 0) (As := [.int (nI x), .int (nI i), .int v]) S (mX0_store l x i v hx4 ok) (cwV 3 S.2.2.2.2 (lw_V q190 q192 qs20 q28 q193) rfl rfl rfl (by decide +kernel) hR) hK hP hD hS hA [0, 1, 2, 3, 4, 5, 6, 7, 8, 9] [] rfl rfl (by decide) (by decide) (by decide) rfl rfl rfl hsz rfl hroom hdg hf kk
abbrev rmX0_set : Room := { frames := 1, cells := 0, slots := 0, locals := 20 }
set_option maxHeartbeats 4000000 in
set_option maxRecDepth 100000 in
theorem mX0_set (l : Launch) {D : va_G} {a : Nat → Nat} {d : Nat → ClassId} {fc : Nat → Int32} {ct : Int32} {po ra sf oc : Nat → Int32} {rd : Int32} {be : Nat → Int32} {gs : Int32} {gr fi la : Nat → Int32}  (v : Int32) (w : Int32) (t : Int32)  : MI l yX0_set (ws_ yX0_set cX0_set 5 (some .int)) rmX0_set [.ref (a 0), .int v, .int w, .int t] D (tyX d) (WX a d fc ct po ra sf oc rd be gs gr fi la) (T := Nat → Int32) (fun r u => (r, u) = setG fc v w t) (fun u => WX a d u ct po ra sf oc rd be gs gr fi la) := by
  refine impI (by decide) (Nat.le_of_ble_eq_true rfl) ?_
  intro p e s m ar below meth c Q A hx hb hml hown hts hK hP hD hS hA hret ls hl
  have hown : s.vm.findClass RX0 = some m.cls := hown
  have hl : lv_has ls 5 [(0, .ref (a 0)), (1, .int v), (2, .int w), (3, .int t)] := hl
  refine lv_iload_n hx hb dX0_set_0 rfl (lv_at hl 1 rfl) ?_
  refine kX0_badArray ⟨hx, hb, hml, hown, hts⟩ v   ⟨by decide, by decide⟩ hl.1 (Nat.le_of_ble_eq_true rfl) dX0_set_1 ⟨Nat.zero_le _, Nat.zero_le _⟩ ?_
  refine lv_if_eq (tgt := 9) hx hb dX0_set_4 (by decide) (fun c_4 => ?_) (fun c_4 => ?_)
  · skip
    have c_4 := bI_0.mp c_4
    refine lv_iload_n hx hb dX0_set_9 rfl (lv_at hl 2 rfl) ?_
    refine lv_if_lt (tgt := 19) hx hb dX0_set_10 (by decide) (fun c_10 => ?_) (fun c_10 => ?_)
    · skip
      have c_10 := t_badC1 c_10
      refine lv_bipush (v := (-5)) hx hb dX0_set_19 (by decide) ?_
      exact hret _ fc _ _ _ _ (by simp [setG, c_4, c_10]) hP hD hS dX0_set_21
    · skip
      refine lv_iload_n hx hb dX0_set_13 rfl (lv_at hl 2 rfl) ?_
      refine lv_bipush (v := 32) hx hb dX0_set_14 (by decide) ?_
      refine lv_icmp_lt (tgt := 22) hx hb dX0_set_16 (by decide) (fun c_16 => ?_) (fun c_16 => ?_)
      · skip
        have e8 := t_badC3 c_10 c_16
        obtain ⟨j, hj, ej⟩ := ix_nat2 c_4 e8
        refine lv_aload_n hx hb dX0_set_22 rfl (lv_at hl 0 rfl) ?_
        refine gX_cells hx hb hts hown hK hP dX0_set_23 ?_
        refine lv_iload_n hx hb dX0_set_26 rfl (lv_at hl 1 rfl) ?_
        refine lv_bipush (v := 32) hx hb dX0_set_27 (by decide) ?_
        refine lv_imul hx hb dX0_set_29 ?_
        refine lv_iload_n hx hb dX0_set_30 rfl (lv_at hl 2 rfl) ?_
        refine lv_iadd hx hb dX0_set_31 ?_
        refine lX_cells hx hb hK hP j ej hj dX0_set_32 ?_
        refine lv_istore (lv' := [(4, .int (fc j)), (0, .ref (a 0)), (1, .int v), (2, .int w), (3, .int t)]) hx hb dX0_set_33 hl (by decide) rfl (fun ls hl => ?_)
        refine lv_aload_n hx hb dX0_set_35 rfl (lv_at hl 1 rfl) ?_
        refine gX_cells hx hb hts hown hK hP dX0_set_36 ?_
        refine lv_iload_n hx hb dX0_set_39 rfl (lv_at hl 2 rfl) ?_
        refine lv_bipush (v := 32) hx hb dX0_set_40 (by decide) ?_
        refine lv_imul hx hb dX0_set_42 ?_
        refine lv_iload_n hx hb dX0_set_43 rfl (lv_at hl 3 rfl) ?_
        refine lv_iadd hx hb dX0_set_44 ?_
        refine lv_iload_n hx hb dX0_set_45 rfl (lv_at hl 4 rfl) ?_
        refine sX_cells hx hb hK hP hD hS j ej hj dX0_set_46 (fun H locs hP hD hS => ?_)
        refine lv_iload hx hb dX0_set_47 (lv_at hl 0 rfl) ?_
        exact hret _ _ _ _ _ _ (by simp only [setG, c_4, e8, ej]; rw [nI_clamp (by omega)]; rfl) hP hD hS dX0_set_49
      · skip
        have c_16 := t_badC2 c_16
        refine lv_bipush (v := (-5)) hx hb dX0_set_19 (by decide) ?_
        exact hret _ fc _ _ _ _ (by simp [setG, c_4, c_16]) hP hD hS dX0_set_21
  · skip
    have c_4 := bI_n0.mp c_4
    refine lv_iconst (v := (-1)) hx hb dX0_set_7 (by decide) ?_
    exact hret _ fc _ _ _ _ (by simp [setG, c_4]) hP hD hS dX0_set_8
abbrev rmX0_ramp : Room := { frames := 1, cells := 0, slots := 0, locals := 20 }
set_option maxHeartbeats 4000000 in
set_option maxRecDepth 100000 in
theorem mX0_ramp (l : Launch) {D : va_G} {a : Nat → Nat} {d : Nat → ClassId} {fc : Nat → Int32} {ct : Int32} {po ra sf oc : Nat → Int32} {rd : Int32} {be : Nat → Int32} {gs : Int32} {gr fi la : Nat → Int32}  (v : Int32) (b : Int32) (t : Int32)  : MI l yX0_ramp (ws_ yX0_ramp cX0_ramp 5 (some .int)) rmX0_ramp [.ref (a 0), .int v, .int b, .int t] D (tyX d) (WX a d fc ct po ra sf oc rd be gs gr fi la) (T := Nat → Int32) (fun r u => (r, u) = rpG fc v b t) (fun u => WX a d u ct po ra sf oc rd be gs gr fi la) := by
  refine impI (by decide) (Nat.le_of_ble_eq_true rfl) ?_
  intro p e s m ar below meth c Q A hx hb hml hown hts hK hP hD hS hA hret ls hl
  have hown : s.vm.findClass RX0 = some m.cls := hown
  have hl : lv_has ls 5 [(0, .ref (a 0)), (1, .int v), (2, .int b), (3, .int t)] := hl
  refine lv_iload_n hx hb dX0_ramp_0 rfl (lv_at hl 1 rfl) ?_
  refine kX0_badArray ⟨hx, hb, hml, hown, hts⟩ v   ⟨by decide, by decide⟩ hl.1 (Nat.le_of_ble_eq_true rfl) dX0_ramp_1 ⟨Nat.zero_le _, Nat.zero_le _⟩ ?_
  refine lv_if_eq (tgt := 9) hx hb dX0_ramp_4 (by decide) (fun c_4 => ?_) (fun c_4 => ?_)
  · skip
    have c_4 := bI_0.mp c_4
    refine lv_iconst (v := 0) hx hb dX0_ramp_9 (by decide) ?_
    refine lv_istore (lv' := [(4, .int 0), (0, .ref (a 0)), (1, .int v), (2, .int b), (3, .int t)]) hx hb dX0_ramp_10 hl (by decide) rfl (fun ls hl => ?_)
    have L12 : ∀ (n i : Nat) , i + n = 32 → ∀ (fv : Nat → Int32) (H : Heap) (locs : List Loc), (fv = rpF fc v b t i) → va_P D vwCl (WX a d fv ct po ra sf oc rd be gs gr fi la) H → va_D A (WX a d fv ct po ra sf oc rd be gs gr fi la) → va_S A s.heap H locs → ∀ ls : Array Slot, lv_has ls 5 [(0, .ref (a 0)), (1, .int v), (2, .int b), (3, .int t), (4, .int (nI i))] → W p l e rmX0_ramp s m ar below meth c H locs 0 0 Q (F0 m 12 ls []) := by
      intro n
      induction n with
      | zero =>
        intro i  hin fv H locs hw hP hD hS ls hl
        refine lv_iload hx hb dX0_ramp_12 (lv_at hl 4 rfl) ?_
        refine lv_bipush (v := 32) hx hb dX0_ramp_14 (by decide) ?_
        refine lv_icmp_ge (tgt := 43) hx hb dX0_ramp_16 (by decide) (fun c_16 => ?_) (fun c_16 => absurd (nI_le (a := 32) (b := i) (by omega) (by omega)) c_16)
        refine lv_iconst (v := 0) hx hb dX0_ramp_43 (by decide) ?_
        exact hret _ fv _ _ _ _ (by rw [hw, show i = 32 by omega]; simp [rpG, c_4]) hP hD hS dX0_ramp_44
      | succ n ih =>
        intro i  hin fv H locs hw hP hD hS ls hl
        refine lv_iload hx hb dX0_ramp_12 (lv_at hl 4 rfl) ?_
        refine lv_bipush (v := 32) hx hb dX0_ramp_14 (by decide) ?_
        refine lv_icmp_ge (tgt := 43) hx hb dX0_ramp_16 (by decide) (fun c_16 => absurd c_16 (nI_ge (a := i) (b := 32) (by omega) (by omega))) (fun c_16 => ?_)
        obtain ⟨j, hj, ej⟩ := ix_nat (i := i) c_4 (by omega)
        refine lv_aload_n hx hb dX0_ramp_19 rfl (lv_at hl 0 rfl) ?_
        refine gX_cells hx hb hts hown hK hP dX0_ramp_20 ?_
        refine lv_iload_n hx hb dX0_ramp_23 rfl (lv_at hl 1 rfl) ?_
        refine lv_bipush (v := 32) hx hb dX0_ramp_24 (by decide) ?_
        refine lv_imul hx hb dX0_ramp_26 ?_
        refine lv_iload hx hb dX0_ramp_27 (lv_at hl 4 rfl) ?_
        refine lv_iadd hx hb dX0_ramp_29 ?_
        refine lv_iload_n hx hb dX0_ramp_30 rfl (lv_at hl 2 rfl) ?_
        refine lv_iload hx hb dX0_ramp_31 (lv_at hl 4 rfl) ?_
        refine lv_iload_n hx hb dX0_ramp_33 rfl (lv_at hl 3 rfl) ?_
        refine lv_imul hx hb dX0_ramp_34 ?_
        refine lv_iadd hx hb dX0_ramp_35 ?_
        refine sX_cells hx hb hK hP hD hS j ej hj dX0_ramp_36 (fun H locs hP hD hS => ?_)
        refine lv_iinc (v := (nI (i + 1))) (lv' := [(4, .int (nI (i + 1))), (0, .ref (a 0)), (1, .int v), (2, .int b), (3, .int t)]) hx hb dX0_ramp_37 hl (k := 4) rfl (nI_inc _) (by decide) rfl (fun ls hl => ?_)
        refine lv_goto (tgt := 12) hx hb dX0_ramp_40 (by decide) ?_
        exact ih (i + 1)  (by omega) _ _ _ (by rw [hw]; simp only [rpF]; rw [ej, nI_clamp (by omega)]) hP hD hS ls (lv_sub hl [1, 2, 3, 4, 0] rfl)
    exact L12 (32 - 0) 0  (by omega) fc _ _ rfl hP hD hS ls (lv_sub hl [1, 2, 3, 4, 0] rfl)
  · skip
    have c_4 := bI_n0.mp c_4
    refine lv_iconst (v := (-1)) hx hb dX0_ramp_7 (by decide) ?_
    exact hret _ fc _ _ _ _ (by simp [rpG, c_4]) hP hD hS dX0_ramp_8
abbrev rmX0_statement : Room := { frames := 1, cells := 0, slots := 0, locals := 20 }
set_option maxHeartbeats 4000000 in
set_option maxRecDepth 100000 in
theorem mX0_statement (l : Launch) {D : va_G} {a : Nat → Nat} {d : Nat → ClassId} {fc : Nat → Int32} {po ra sf oc : Nat → Int32} {rd : Int32} {be : Nat → Int32} {gs : Int32} {gr fi la : Nat → Int32} {N : Nat} (v : Int32) (w : Int32) (b : Int32) (t : Int32)  (hN4 : N ≤ 4) : MI l yX0_statement (ws_ yX0_statement cX0_statement 6 (some .int)) rmX0_statement [.ref (a 0), .int v, .int w, .int b, .int t] D (tyX d) (WX a d fc (nI N) po ra sf oc rd be gs gr fi la) (T := XB) (fun r u => (r, u) = smtG N (nI N, rd, po, ra, sf, oc) v w b t) (fun u => WX a d fc u.1 u.2.2.1 u.2.2.2.1 u.2.2.2.2.1 u.2.2.2.2.2 u.2.1 be gs gr fi la) := by
  refine impI (by decide) (Nat.le_of_ble_eq_true rfl) ?_
  intro p e s m ar below meth c Q A hx hb hml hown hts hK hP hD hS hA hret ls hl
  have hown : s.vm.findClass RX0 = some m.cls := hown
  have hl : lv_has ls 6 [(0, .ref (a 0)), (1, .int v), (2, .int w), (3, .int b), (4, .int t)] := hl
  refine lv_iconst (v := 0) hx hb dX0_statement_0 (by decide) ?_
  refine lv_istore (lv' := [(5, .int 0), (0, .ref (a 0)), (1, .int v), (2, .int w), (3, .int b), (4, .int t)]) hx hb dX0_statement_1 hl (by decide) rfl (fun ls hl => ?_)
  refine lv_iload hx hb dX0_statement_3 (lv_at hl 0 rfl) ?_
  refine lv_iconst (v := 3) hx hb dX0_statement_5 (by decide) ?_
  refine lv_icmp_ge (tgt := 31) hx hb dX0_statement_6 (by decide) (fun c_6 => absurd c_6 (by decide)) (fun c_6 => ?_)
  refine lv_iload_n hx hb dX0_statement_9 rfl (lv_at hl 3 rfl) ?_
  refine lv_iconst (v := 2) hx hb dX0_statement_10 (by decide) ?_
  refine lv_iload hx hb dX0_statement_11 (lv_at hl 0 rfl) ?_
  refine lv_imul hx hb dX0_statement_13 ?_
  refine lv_ishr hx hb dX0_statement_14 ?_
  refine lv_iconst (v := 3) hx hb dX0_statement_15 (by decide) ?_
  refine lv_iand hx hb dX0_statement_16 ?_
  refine tope (y := (arI w 0)) rfl ?_
  refine kX0_badArray ⟨hx, hb, hml, hown, hts⟩ (arI w 0)   ⟨by decide, by decide⟩ hl.1 (Nat.le_of_ble_eq_true rfl) dX0_statement_17 ⟨Nat.zero_le _, Nat.zero_le _⟩ ?_
  refine lv_if_eq (tgt := 25) hx hb dX0_statement_20 (by decide) (fun c_20 => ?_) (fun c_20 => ?_)
  · skip
    have c_20 := bI_0.mp c_20
    refine lv_iinc (v := 1) (lv' := [(5, .int 1), (0, .ref (a 0)), (1, .int v), (2, .int w), (3, .int b), (4, .int t)]) hx hb dX0_statement_25 hl (k := 0) rfl (by decide) (by decide) rfl (fun ls hl => ?_)
    refine lv_goto (tgt := 3) hx hb dX0_statement_28 (by decide) ?_
    refine lv_iload hx hb dX0_statement_3 (lv_at hl 0 rfl) ?_
    refine lv_iconst (v := 3) hx hb dX0_statement_5 (by decide) ?_
    refine lv_icmp_ge (tgt := 31) hx hb dX0_statement_6 (by decide) (fun c_6 => absurd c_6 (by decide)) (fun c_6 => ?_)
    refine lv_iload_n hx hb dX0_statement_9 rfl (lv_at hl 3 rfl) ?_
    refine lv_iconst (v := 2) hx hb dX0_statement_10 (by decide) ?_
    refine lv_iload hx hb dX0_statement_11 (lv_at hl 0 rfl) ?_
    refine lv_imul hx hb dX0_statement_13 ?_
    refine lv_ishr hx hb dX0_statement_14 ?_
    refine lv_iconst (v := 3) hx hb dX0_statement_15 (by decide) ?_
    refine lv_iand hx hb dX0_statement_16 ?_
    refine tope (y := (arI w 1)) rfl ?_
    refine kX0_badArray ⟨hx, hb, hml, hown, hts⟩ (arI w 1)   ⟨by decide, by decide⟩ hl.1 (Nat.le_of_ble_eq_true rfl) dX0_statement_17 ⟨Nat.zero_le _, Nat.zero_le _⟩ ?_
    refine lv_if_eq (tgt := 25) hx hb dX0_statement_20 (by decide) (fun c_20' => ?_) (fun c_20' => ?_)
    · skip
      have c_20' := bI_0.mp c_20'
      refine lv_iinc (v := 2) (lv' := [(5, .int 2), (0, .ref (a 0)), (1, .int v), (2, .int w), (3, .int b), (4, .int t)]) hx hb dX0_statement_25 hl (k := 0) rfl (by decide) (by decide) rfl (fun ls hl => ?_)
      refine lv_goto (tgt := 3) hx hb dX0_statement_28 (by decide) ?_
      refine lv_iload hx hb dX0_statement_3 (lv_at hl 0 rfl) ?_
      refine lv_iconst (v := 3) hx hb dX0_statement_5 (by decide) ?_
      refine lv_icmp_ge (tgt := 31) hx hb dX0_statement_6 (by decide) (fun c_6 => absurd c_6 (by decide)) (fun c_6 => ?_)
      refine lv_iload_n hx hb dX0_statement_9 rfl (lv_at hl 3 rfl) ?_
      refine lv_iconst (v := 2) hx hb dX0_statement_10 (by decide) ?_
      refine lv_iload hx hb dX0_statement_11 (lv_at hl 0 rfl) ?_
      refine lv_imul hx hb dX0_statement_13 ?_
      refine lv_ishr hx hb dX0_statement_14 ?_
      refine lv_iconst (v := 3) hx hb dX0_statement_15 (by decide) ?_
      refine lv_iand hx hb dX0_statement_16 ?_
      refine tope (y := (arI w 2)) rfl ?_
      refine kX0_badArray ⟨hx, hb, hml, hown, hts⟩ (arI w 2)   ⟨by decide, by decide⟩ hl.1 (Nat.le_of_ble_eq_true rfl) dX0_statement_17 ⟨Nat.zero_le _, Nat.zero_le _⟩ ?_
      refine lv_if_eq (tgt := 25) hx hb dX0_statement_20 (by decide) (fun c_20'' => ?_) (fun c_20'' => ?_)
      · skip
        have c_20'' := bI_0.mp c_20''
        refine lv_iinc (v := 3) (lv' := [(5, .int 3), (0, .ref (a 0)), (1, .int v), (2, .int w), (3, .int b), (4, .int t)]) hx hb dX0_statement_25 hl (k := 0) rfl (by decide) (by decide) rfl (fun ls hl => ?_)
        refine lv_goto (tgt := 3) hx hb dX0_statement_28 (by decide) ?_
        refine lv_iload hx hb dX0_statement_3 (lv_at hl 0 rfl) ?_
        refine lv_iconst (v := 3) hx hb dX0_statement_5 (by decide) ?_
        refine lv_icmp_ge (tgt := 31) hx hb dX0_statement_6 (by decide) (fun c_6 => ?_) (fun c_6 => absurd (by decide) c_6)
        refine lv_iconst (v := 0) hx hb dX0_statement_31 (by decide) ?_
        refine lv_istore (lv' := [(5, .int 0), (0, .ref (a 0)), (1, .int v), (2, .int w), (3, .int b), (4, .int t)]) hx hb dX0_statement_32 hl (by decide) rfl (fun ls hl => ?_)
        refine lv_iload hx hb dX0_statement_34 (lv_at hl 0 rfl) ?_
        refine lv_iconst (v := 3) hx hb dX0_statement_36 (by decide) ?_
        refine lv_icmp_ge (tgt := 66) hx hb dX0_statement_37 (by decide) (fun c_37 => absurd c_37 (by decide)) (fun c_37 => ?_)
        refine lv_iload_n hx hb dX0_statement_40 rfl (lv_at hl 4 rfl) ?_
        refine lv_iconst (v := 4) hx hb dX0_statement_41 (by decide) ?_
        refine lv_iload hx hb dX0_statement_42 (lv_at hl 0 rfl) ?_
        refine lv_imul hx hb dX0_statement_44 ?_
        refine lv_ishr hx hb dX0_statement_45 ?_
        refine lv_bipush (v := 15) hx hb dX0_statement_46 (by decide) ?_
        refine lv_iand hx hb dX0_statement_48 ?_
        refine lv_iconst (v := 4) hx hb dX0_statement_49 (by decide) ?_
        refine lv_isub hx hb dX0_statement_50 ?_
        refine tope (y := (shI b 0)) rfl ?_
        refine kX0_badShift ⟨hx, hb, hml, hown, hts⟩ (shI b 0)   ⟨by decide, by decide⟩ hl.1 (Nat.le_of_ble_eq_true rfl) dX0_statement_51 ⟨Nat.zero_le _, Nat.zero_le _⟩ ?_
        refine lv_if_eq (tgt := 60) hx hb dX0_statement_54 (by decide) (fun c_54 => ?_) (fun c_54 => ?_)
        · skip
          have c_54 := bI_0.mp c_54
          refine lv_iinc (v := 1) (lv' := [(5, .int 1), (0, .ref (a 0)), (1, .int v), (2, .int w), (3, .int b), (4, .int t)]) hx hb dX0_statement_60 hl (k := 0) rfl (by decide) (by decide) rfl (fun ls hl => ?_)
          refine lv_goto (tgt := 34) hx hb dX0_statement_63 (by decide) ?_
          refine lv_iload hx hb dX0_statement_34 (lv_at hl 0 rfl) ?_
          refine lv_iconst (v := 3) hx hb dX0_statement_36 (by decide) ?_
          refine lv_icmp_ge (tgt := 66) hx hb dX0_statement_37 (by decide) (fun c_37 => absurd c_37 (by decide)) (fun c_37 => ?_)
          refine lv_iload_n hx hb dX0_statement_40 rfl (lv_at hl 4 rfl) ?_
          refine lv_iconst (v := 4) hx hb dX0_statement_41 (by decide) ?_
          refine lv_iload hx hb dX0_statement_42 (lv_at hl 0 rfl) ?_
          refine lv_imul hx hb dX0_statement_44 ?_
          refine lv_ishr hx hb dX0_statement_45 ?_
          refine lv_bipush (v := 15) hx hb dX0_statement_46 (by decide) ?_
          refine lv_iand hx hb dX0_statement_48 ?_
          refine lv_iconst (v := 4) hx hb dX0_statement_49 (by decide) ?_
          refine lv_isub hx hb dX0_statement_50 ?_
          refine tope (y := (shI b 1)) rfl ?_
          refine kX0_badShift ⟨hx, hb, hml, hown, hts⟩ (shI b 1)   ⟨by decide, by decide⟩ hl.1 (Nat.le_of_ble_eq_true rfl) dX0_statement_51 ⟨Nat.zero_le _, Nat.zero_le _⟩ ?_
          refine lv_if_eq (tgt := 60) hx hb dX0_statement_54 (by decide) (fun c_54' => ?_) (fun c_54' => ?_)
          · skip
            have c_54' := bI_0.mp c_54'
            refine lv_iinc (v := 2) (lv' := [(5, .int 2), (0, .ref (a 0)), (1, .int v), (2, .int w), (3, .int b), (4, .int t)]) hx hb dX0_statement_60 hl (k := 0) rfl (by decide) (by decide) rfl (fun ls hl => ?_)
            refine lv_goto (tgt := 34) hx hb dX0_statement_63 (by decide) ?_
            refine lv_iload hx hb dX0_statement_34 (lv_at hl 0 rfl) ?_
            refine lv_iconst (v := 3) hx hb dX0_statement_36 (by decide) ?_
            refine lv_icmp_ge (tgt := 66) hx hb dX0_statement_37 (by decide) (fun c_37 => absurd c_37 (by decide)) (fun c_37 => ?_)
            refine lv_iload_n hx hb dX0_statement_40 rfl (lv_at hl 4 rfl) ?_
            refine lv_iconst (v := 4) hx hb dX0_statement_41 (by decide) ?_
            refine lv_iload hx hb dX0_statement_42 (lv_at hl 0 rfl) ?_
            refine lv_imul hx hb dX0_statement_44 ?_
            refine lv_ishr hx hb dX0_statement_45 ?_
            refine lv_bipush (v := 15) hx hb dX0_statement_46 (by decide) ?_
            refine lv_iand hx hb dX0_statement_48 ?_
            refine lv_iconst (v := 4) hx hb dX0_statement_49 (by decide) ?_
            refine lv_isub hx hb dX0_statement_50 ?_
            refine tope (y := (shI b 2)) rfl ?_
            refine kX0_badShift ⟨hx, hb, hml, hown, hts⟩ (shI b 2)   ⟨by decide, by decide⟩ hl.1 (Nat.le_of_ble_eq_true rfl) dX0_statement_51 ⟨Nat.zero_le _, Nat.zero_le _⟩ ?_
            refine lv_if_eq (tgt := 60) hx hb dX0_statement_54 (by decide) (fun c_54'' => ?_) (fun c_54'' => ?_)
            · skip
              have c_54'' := bI_0.mp c_54''
              refine lv_iinc (v := 3) (lv' := [(5, .int 3), (0, .ref (a 0)), (1, .int v), (2, .int w), (3, .int b), (4, .int t)]) hx hb dX0_statement_60 hl (k := 0) rfl (by decide) (by decide) rfl (fun ls hl => ?_)
              refine lv_goto (tgt := 34) hx hb dX0_statement_63 (by decide) ?_
              refine lv_iload hx hb dX0_statement_34 (lv_at hl 0 rfl) ?_
              refine lv_iconst (v := 3) hx hb dX0_statement_36 (by decide) ?_
              refine lv_icmp_ge (tgt := 66) hx hb dX0_statement_37 (by decide) (fun c_37 => ?_) (fun c_37 => absurd (by decide) c_37)
              refine lv_iload_n hx hb dX0_statement_66 rfl (lv_at hl 2 rfl) ?_
              refine lv_if_lt (tgt := 76) hx hb dX0_statement_67 (by decide) (fun c_67 => ?_) (fun c_67 => ?_)
              · skip
                have c_67 := t_badO1 c_67
                refine lv_bipush (v := (-3)) hx hb dX0_statement_76 (by decide) ?_
                exact hret _ (nI N, rd, po, ra, sf, oc) _ _ _ _ (by simp [smtG, bad3A, bad3S, c_20, c_20', c_20'', c_54, c_54', c_54'', c_67]) hP hD hS dX0_statement_78
              · skip
                refine lv_iload_n hx hb dX0_statement_70 rfl (lv_at hl 2 rfl) ?_
                refine lv_bipush (v := 6) hx hb dX0_statement_71 (by decide) ?_
                refine lv_icmp_le (tgt := 79) hx hb dX0_statement_73 (by decide) (fun c_73 => ?_) (fun c_73 => ?_)
                · skip
                  have c_73 := t_badO3 c_67 c_73
                  refine lv_aload_n hx hb dX0_statement_79 rfl (lv_at hl 1 rfl) ?_
                  refine gX_count hx hb hts hown hK hP dX0_statement_80 ?_
                  refine lv_iconst (v := 4) hx hb dX0_statement_83 (by decide) ?_
                  refine lv_icmp_lt (tgt := 90) hx hb dX0_statement_84 (by decide) (fun c_84 => ?_) (fun c_84 => ?_)
                  · skip
                    have c_84 : ¬ 4 ≤ N := by have h9 := (nI_ltI (a := N) (b := 4) (by omega) (by omega)).mp c_84; omega
                    refine lv_aload_n hx hb dX0_statement_90 rfl (lv_at hl 1 rfl) ?_
                    refine gX_op hx hb hts hown hK hP dX0_statement_91 ?_
                    refine lv_aload_n hx hb dX0_statement_94 rfl (lv_at hl 1 rfl) ?_
                    refine gX_count hx hb hts hown hK hP dX0_statement_95 ?_
                    refine lv_iload_n hx hb dX0_statement_98 rfl (lv_at hl 2 rfl) ?_
                    refine sX_op hx hb hK hP hD hS N rfl (by omega) dX0_statement_99 (fun H locs hP hD hS => ?_)
                    refine lv_aload_n hx hb dX0_statement_100 rfl (lv_at hl 1 rfl) ?_
                    refine gX_arrays hx hb hts hown hK hP dX0_statement_101 ?_
                    refine lv_aload_n hx hb dX0_statement_104 rfl (lv_at hl 1 rfl) ?_
                    refine gX_count hx hb hts hown hK hP dX0_statement_105 ?_
                    refine lv_iload_n hx hb dX0_statement_108 rfl (lv_at hl 3 rfl) ?_
                    refine sX_arrays hx hb hK hP hD hS N rfl (by omega) dX0_statement_109 (fun H locs hP hD hS => ?_)
                    refine lv_aload_n hx hb dX0_statement_110 rfl (lv_at hl 1 rfl) ?_
                    refine gX_shifts hx hb hts hown hK hP dX0_statement_111 ?_
                    refine lv_aload_n hx hb dX0_statement_114 rfl (lv_at hl 1 rfl) ?_
                    refine gX_count hx hb hts hown hK hP dX0_statement_115 ?_
                    refine lv_iload_n hx hb dX0_statement_118 rfl (lv_at hl 4 rfl) ?_
                    refine sX_shifts hx hb hK hP hD hS N rfl (by omega) dX0_statement_119 (fun H locs hP hD hS => ?_)
                    refine lv_aload_n hx hb dX0_statement_120 rfl (lv_at hl 1 rfl) ?_
                    refine gX_constant hx hb hts hown hK hP dX0_statement_121 ?_
                    refine lv_aload_n hx hb dX0_statement_124 rfl (lv_at hl 1 rfl) ?_
                    refine gX_count hx hb hts hown hK hP dX0_statement_125 ?_
                    refine lv_iload hx hb dX0_statement_128 (lv_at hl 5 rfl) ?_
                    refine sX_constant hx hb hK hP hD hS N rfl (by omega) dX0_statement_130 (fun H locs hP hD hS => ?_)
                    refine lv_aload_n hx hb dX0_statement_131 rfl (lv_at hl 1 rfl) ?_
                    refine lv_dup hx hb dX0_statement_132 rfl ?_
                    refine gX_count hx hb hts hown hK hP dX0_statement_133 ?_
                    refine lv_iconst (v := 1) hx hb dX0_statement_136 (by decide) ?_
                    refine lv_iadd hx hb dX0_statement_137 ?_
                    refine tope (y := (nI (N + 1))) (nI_add N 1) ?_
                    refine pX_count hx hb hts hown hK hP hD hS dX0_statement_138 (fun H locs hP hD hS => ?_)
                    refine lv_aload_n hx hb dX0_statement_141 rfl (lv_at hl 1 rfl) ?_
                    refine lv_iconst (v := 0) hx hb dX0_statement_142 (by decide) ?_
                    refine pX_ready hx hb hts hown hK hP hD hS rfl rfl dX0_statement_143 (fun H locs hP hD hS => ?_)
                    refine lv_aload_n hx hb dX0_statement_146 rfl (lv_at hl 1 rfl) ?_
                    refine gX_count hx hb hts hown hK hP dX0_statement_147 ?_
                    refine lv_iconst (v := 1) hx hb dX0_statement_150 (by decide) ?_
                    refine lv_isub hx hb dX0_statement_151 ?_
                    refine tope (y := (nI N)) (nI_pred N) ?_
                    exact hret _ (nI (N + 1), 0, upd po N v, upd ra N w, upd sf N b, upd oc N t) _ _ _ _ (by simp [smtG, bad3A, bad3S, c_20, c_20', c_20'', c_54, c_54', c_54'', c_67, c_73, c_84]) hP hD hS dX0_statement_152
                  · skip
                    have c_84 : 4 ≤ N := by have h9 : ¬ N < 4 := fun h => c_84 ((nI_ltI (a := N) (b := 4) (by omega) (by omega)).mpr h); omega
                    refine lv_bipush (v := (-4)) hx hb dX0_statement_87 (by decide) ?_
                    exact hret _ (nI N, rd, po, ra, sf, oc) _ _ _ _ (by simp [smtG, bad3A, bad3S, c_20, c_20', c_20'', c_54, c_54', c_54'', c_67, c_73, c_84]) hP hD hS dX0_statement_89
                · skip
                  have c_73 := t_badO2 c_73
                  refine lv_bipush (v := (-3)) hx hb dX0_statement_76 (by decide) ?_
                  exact hret _ (nI N, rd, po, ra, sf, oc) _ _ _ _ (by simp [smtG, bad3A, bad3S, c_20, c_20', c_20'', c_54, c_54', c_54'', c_67, c_73]) hP hD hS dX0_statement_78
            · skip
              have c_54'' := bI_n0.mp c_54''
              refine lv_bipush (v := (-2)) hx hb dX0_statement_57 (by decide) ?_
              exact hret _ (nI N, rd, po, ra, sf, oc) _ _ _ _ (by simp [smtG, bad3A, bad3S, c_20, c_20', c_20'', c_54, c_54', c_54'']) hP hD hS dX0_statement_59
          · skip
            have c_54' := bI_n0.mp c_54'
            refine lv_bipush (v := (-2)) hx hb dX0_statement_57 (by decide) ?_
            exact hret _ (nI N, rd, po, ra, sf, oc) _ _ _ _ (by simp [smtG, bad3A, bad3S, c_20, c_20', c_20'', c_54, c_54']) hP hD hS dX0_statement_59
        · skip
          have c_54 := bI_n0.mp c_54
          refine lv_bipush (v := (-2)) hx hb dX0_statement_57 (by decide) ?_
          exact hret _ (nI N, rd, po, ra, sf, oc) _ _ _ _ (by simp [smtG, bad3A, bad3S, c_20, c_20', c_20'', c_54]) hP hD hS dX0_statement_59
      · skip
        have c_20'' := bI_n0.mp c_20''
        refine lv_iconst (v := (-1)) hx hb dX0_statement_23 (by decide) ?_
        exact hret _ (nI N, rd, po, ra, sf, oc) _ _ _ _ (by simp [smtG, bad3A, bad3S, c_20, c_20', c_20'']) hP hD hS dX0_statement_24
    · skip
      have c_20' := bI_n0.mp c_20'
      refine lv_iconst (v := (-1)) hx hb dX0_statement_23 (by decide) ?_
      exact hret _ (nI N, rd, po, ra, sf, oc) _ _ _ _ (by simp [smtG, bad3A, bad3S, c_20, c_20']) hP hD hS dX0_statement_24
  · skip
    have c_20 := bI_n0.mp c_20
    refine lv_iconst (v := (-1)) hx hb dX0_statement_23 (by decide) ?_
    exact hret _ (nI N, rd, po, ra, sf, oc) _ _ _ _ (by simp [smtG, bad3A, bad3S, c_20]) hP hD hS dX0_statement_24
abbrev rmX0_exchange : Room := { frames := 1, cells := 0, slots := 0, locals := 21 }
set_option maxHeartbeats 4000000 in
set_option maxRecDepth 100000 in
theorem mX0_exchange (l : Launch) {D : va_G} {a : Nat → Nat} {d : Nat → ClassId} {fc : Nat → Int32} {po ra sf oc : Nat → Int32} {rd : Int32} {be : Nat → Int32} {gs : Int32} {gr fi la : Nat → Int32} {N : Nat} (v : Int32) (w : Int32)  (hN4 : N ≤ 4) : MI l yX0_exchange (ws_ yX0_exchange cX0_exchange 7 (some .int)) rmX0_exchange [.ref (a 0), .int v, .int w] D (tyX d) (WX a d fc (nI N) po ra sf oc rd be gs gr fi la) (T := XB) (fun r u => (r, u) = exG N (nI N, rd, po, ra, sf, oc) v w) (fun u => WX a d fc u.1 u.2.2.1 u.2.2.2.1 u.2.2.2.2.1 u.2.2.2.2.2 u.2.1 be gs gr fi la) := by
  refine impI (by decide) (Nat.le_of_ble_eq_true rfl) ?_
  intro p e s m ar below meth c Q A hx hb hml hown hts hK hP hD hS hA hret ls hl
  have hown : s.vm.findClass RX0 = some m.cls := hown
  have hl : lv_has ls 7 [(0, .ref (a 0)), (1, .int v), (2, .int w)] := hl
  refine lv_aload_n hx hb dX0_exchange_0 rfl (lv_at hl 0 rfl) ?_
  refine lv_iload_n hx hb dX0_exchange_1 rfl (lv_at hl 1 rfl) ?_
  refine kX0_noStatement ⟨hx, hb, hml, hown, hts⟩ hK hP v   ⟨by decide, by decide⟩ hl.1 (Nat.le_of_ble_eq_true rfl) dX0_exchange_2 ⟨Nat.zero_le _, Nat.zero_le _⟩ ?_
  refine lv_if_ne (tgt := 16) hx hb dX0_exchange_5 (by decide) (fun c_5 => ?_) (fun c_5 => ?_)
  · skip
    have c_5 := bI_n0.mp c_5
    refine lv_bipush (v := (-3)) hx hb dX0_exchange_16 (by decide) ?_
    exact hret _ (nI N, rd, po, ra, sf, oc) _ _ _ _ (by simp [exG, c_5]) hP hD hS dX0_exchange_18
  · skip
    have c_5 := bI_0.mp c_5
    refine lv_aload_n hx hb dX0_exchange_8 rfl (lv_at hl 0 rfl) ?_
    refine lv_iload_n hx hb dX0_exchange_9 rfl (lv_at hl 2 rfl) ?_
    refine kX0_noStatement ⟨hx, hb, hml, hown, hts⟩ hK hP w   ⟨by decide, by decide⟩ hl.1 (Nat.le_of_ble_eq_true rfl) dX0_exchange_10 ⟨Nat.zero_le _, Nat.zero_le _⟩ ?_
    refine lv_if_eq (tgt := 19) hx hb dX0_exchange_13 (by decide) (fun c_13 => ?_) (fun c_13 => ?_)
    · skip
      have c_13 := bI_0.mp c_13
      obtain ⟨x, hxN, rfl⟩ := noSt_nat hN4 c_5
      obtain ⟨y, hyN, rfl⟩ := noSt_nat hN4 c_13
      refine lv_aload_n hx hb dX0_exchange_19 rfl (lv_at hl 0 rfl) ?_
      refine gX_op hx hb hts hown hK hP dX0_exchange_20 ?_
      refine lv_iload_n hx hb dX0_exchange_23 rfl (lv_at hl 1 rfl) ?_
      refine lX_op hx hb hK hP x rfl (by omega) dX0_exchange_24 ?_
      refine lv_istore_n (lv' := [(3, .int (po x)), (0, .ref (a 0)), (1, .int (nI x)), (2, .int (nI y))]) hx hb dX0_exchange_25 rfl hl (by decide) rfl (fun ls hl => ?_)
      refine lv_aload_n hx hb dX0_exchange_26 rfl (lv_at hl 1 rfl) ?_
      refine gX_op hx hb hts hown hK hP dX0_exchange_27 ?_
      refine lv_iload_n hx hb dX0_exchange_30 rfl (lv_at hl 2 rfl) ?_
      refine lv_aload_n hx hb dX0_exchange_31 rfl (lv_at hl 1 rfl) ?_
      refine gX_op hx hb hts hown hK hP dX0_exchange_32 ?_
      refine lv_iload_n hx hb dX0_exchange_35 rfl (lv_at hl 3 rfl) ?_
      refine lX_op hx hb hK hP y rfl (by omega) dX0_exchange_36 ?_
      refine sX_op hx hb hK hP hD hS x rfl (by omega) dX0_exchange_37 (fun H locs hP hD hS => ?_)
      refine lv_aload_n hx hb dX0_exchange_38 rfl (lv_at hl 1 rfl) ?_
      refine gX_op hx hb hts hown hK hP dX0_exchange_39 ?_
      refine lv_iload_n hx hb dX0_exchange_42 rfl (lv_at hl 3 rfl) ?_
      refine lv_iload_n hx hb dX0_exchange_43 rfl (lv_at hl 0 rfl) ?_
      refine sX_op hx hb hK hP hD hS y rfl (by omega) dX0_exchange_44 (fun H locs hP hD hS => ?_)
      refine lv_aload_n hx hb dX0_exchange_45 rfl (lv_at hl 1 rfl) ?_
      refine gX_arrays hx hb hts hown hK hP dX0_exchange_46 ?_
      refine lv_iload_n hx hb dX0_exchange_49 rfl (lv_at hl 2 rfl) ?_
      refine lX_arrays hx hb hK hP x rfl (by omega) dX0_exchange_50 ?_
      refine lv_istore (lv' := [(4, .int (ra x)), (3, .int (po x)), (0, .ref (a 0)), (1, .int (nI x)), (2, .int (nI y))]) hx hb dX0_exchange_51 hl (by decide) rfl (fun ls hl => ?_)
      refine lv_aload_n hx hb dX0_exchange_53 rfl (lv_at hl 2 rfl) ?_
      refine gX_arrays hx hb hts hown hK hP dX0_exchange_54 ?_
      refine lv_iload_n hx hb dX0_exchange_57 rfl (lv_at hl 3 rfl) ?_
      refine lv_aload_n hx hb dX0_exchange_58 rfl (lv_at hl 2 rfl) ?_
      refine gX_arrays hx hb hts hown hK hP dX0_exchange_59 ?_
      refine lv_iload_n hx hb dX0_exchange_62 rfl (lv_at hl 4 rfl) ?_
      refine lX_arrays hx hb hK hP y rfl (by omega) dX0_exchange_63 ?_
      refine sX_arrays hx hb hK hP hD hS x rfl (by omega) dX0_exchange_64 (fun H locs hP hD hS => ?_)
      refine lv_aload_n hx hb dX0_exchange_65 rfl (lv_at hl 2 rfl) ?_
      refine gX_arrays hx hb hts hown hK hP dX0_exchange_66 ?_
      refine lv_iload_n hx hb dX0_exchange_69 rfl (lv_at hl 4 rfl) ?_
      refine lv_iload hx hb dX0_exchange_70 (lv_at hl 0 rfl) ?_
      refine sX_arrays hx hb hK hP hD hS y rfl (by omega) dX0_exchange_72 (fun H locs hP hD hS => ?_)
      refine lv_aload_n hx hb dX0_exchange_73 rfl (lv_at hl 2 rfl) ?_
      refine gX_shifts hx hb hts hown hK hP dX0_exchange_74 ?_
      refine lv_iload_n hx hb dX0_exchange_77 rfl (lv_at hl 3 rfl) ?_
      refine lX_shifts hx hb hK hP x rfl (by omega) dX0_exchange_78 ?_
      refine lv_istore (lv' := [(5, .int (sf x)), (4, .int (ra x)), (3, .int (po x)), (0, .ref (a 0)), (1, .int (nI x)), (2, .int (nI y))]) hx hb dX0_exchange_79 hl (by decide) rfl (fun ls hl => ?_)
      refine lv_aload_n hx hb dX0_exchange_81 rfl (lv_at hl 3 rfl) ?_
      refine gX_shifts hx hb hts hown hK hP dX0_exchange_82 ?_
      refine lv_iload_n hx hb dX0_exchange_85 rfl (lv_at hl 4 rfl) ?_
      refine lv_aload_n hx hb dX0_exchange_86 rfl (lv_at hl 3 rfl) ?_
      refine gX_shifts hx hb hts hown hK hP dX0_exchange_87 ?_
      refine lv_iload_n hx hb dX0_exchange_90 rfl (lv_at hl 5 rfl) ?_
      refine lX_shifts hx hb hK hP y rfl (by omega) dX0_exchange_91 ?_
      refine sX_shifts hx hb hK hP hD hS x rfl (by omega) dX0_exchange_92 (fun H locs hP hD hS => ?_)
      refine lv_aload_n hx hb dX0_exchange_93 rfl (lv_at hl 3 rfl) ?_
      refine gX_shifts hx hb hts hown hK hP dX0_exchange_94 ?_
      refine lv_iload_n hx hb dX0_exchange_97 rfl (lv_at hl 5 rfl) ?_
      refine lv_iload hx hb dX0_exchange_98 (lv_at hl 0 rfl) ?_
      refine sX_shifts hx hb hK hP hD hS y rfl (by omega) dX0_exchange_100 (fun H locs hP hD hS => ?_)
      refine lv_aload_n hx hb dX0_exchange_101 rfl (lv_at hl 3 rfl) ?_
      refine gX_constant hx hb hts hown hK hP dX0_exchange_102 ?_
      refine lv_iload_n hx hb dX0_exchange_105 rfl (lv_at hl 4 rfl) ?_
      refine lX_constant hx hb hK hP x rfl (by omega) dX0_exchange_106 ?_
      refine lv_istore (lv' := [(6, .int (oc x)), (5, .int (sf x)), (4, .int (ra x)), (3, .int (po x)), (0, .ref (a 0)), (1, .int (nI x)), (2, .int (nI y))]) hx hb dX0_exchange_107 hl (by decide) rfl (fun ls hl => ?_)
      refine lv_aload_n hx hb dX0_exchange_109 rfl (lv_at hl 4 rfl) ?_
      refine gX_constant hx hb hts hown hK hP dX0_exchange_110 ?_
      refine lv_iload_n hx hb dX0_exchange_113 rfl (lv_at hl 5 rfl) ?_
      refine lv_aload_n hx hb dX0_exchange_114 rfl (lv_at hl 4 rfl) ?_
      refine gX_constant hx hb hts hown hK hP dX0_exchange_115 ?_
      refine lv_iload_n hx hb dX0_exchange_118 rfl (lv_at hl 6 rfl) ?_
      refine lX_constant hx hb hK hP y rfl (by omega) dX0_exchange_119 ?_
      refine sX_constant hx hb hK hP hD hS x rfl (by omega) dX0_exchange_120 (fun H locs hP hD hS => ?_)
      refine lv_aload_n hx hb dX0_exchange_121 rfl (lv_at hl 4 rfl) ?_
      refine gX_constant hx hb hts hown hK hP dX0_exchange_122 ?_
      refine lv_iload_n hx hb dX0_exchange_125 rfl (lv_at hl 6 rfl) ?_
      refine lv_iload hx hb dX0_exchange_126 (lv_at hl 0 rfl) ?_
      refine sX_constant hx hb hK hP hD hS y rfl (by omega) dX0_exchange_128 (fun H locs hP hD hS => ?_)
      refine lv_aload_n hx hb dX0_exchange_129 rfl (lv_at hl 4 rfl) ?_
      refine lv_iconst (v := 0) hx hb dX0_exchange_130 (by decide) ?_
      refine pX_ready hx hb hts hown hK hP hD hS rfl rfl dX0_exchange_131 (fun H locs hP hD hS => ?_)
      refine lv_iconst (v := 0) hx hb dX0_exchange_134 (by decide) ?_
      exact hret _ (nI N, 0, (upd (upd po x (po y)) y (po x)), (upd (upd ra x (ra y)) y (ra x)), (upd (upd sf x (sf y)) y (sf x)), (upd (upd oc x (oc y)) y (oc x))) _ _ _ _ (by simp only [exG, swF, c_5, c_13, nI_clamp (show x < 2 ^ 31 by omega), nI_clamp (show y < 2 ^ 31 by omega)]; rfl) hP hD hS dX0_exchange_135
    · skip
      have c_13 := bI_n0.mp c_13
      refine lv_bipush (v := (-3)) hx hb dX0_exchange_16 (by decide) ?_
      exact hret _ (nI N, rd, po, ra, sf, oc) _ _ _ _ (by simp [exG, c_5, c_13]) hP hD hS dX0_exchange_18
end
section
/-! LaneLoops.findBehind (printed by gen/p16.py) -/
def B1 (pa : Nat → Nat → Bool) (N : Nat) (bv : Nat → Int32) (x : Nat) : Prop := ∀ t, t < x → bv t = mkS (fun u => (u == t) || (decide (u < N) && pa t u))
def B2 (pa : Nat → Nat → Bool) (bv : Nat → Int32) (x y : Nat) : Prop := bv x = mkS (fun u => (u == x) || (decide (u < y) && pa x u))
/-- behind as a relation: it holds pa, every statement is behind itself, and steps over j < k compose -/
def BR (pa : Nat → Nat → Bool) (N : Nat) (Rr : Nat → Nat → Bool) (k : Nat) : Prop := (∀ t, t < N → Rr t t = true) ∧ (∀ x y, x < N → y < N → pa x y = true → Rr x y = true) ∧ ∀ j x z, j < k → x < N → z < N → Rr x j = true → Rr j z = true → Rr x z = true
def B3 (pa : Nat → Nat → Bool) (N : Nat) (bv : Nat → Int32) (k : Nat) : Prop := ∃ Rr : Nat → Nat → Bool, (∀ t, t < N → bv t = mkS (Rr t)) ∧ BR pa N Rr k
def B4 (Rr : Nat → Nat → Bool) (N : Nat) (bv : Nat → Int32) (k x : Nat) : Prop := ∀ t, t < N → bv t = mkS (fun u => Rr t u || (decide (t < x) && (Rr t k && Rr k u)))
theorem B1_0 {pa : Nat → Nat → Bool} {N : Nat} {bv : Nat → Int32} : B1 pa N bv 0 := fun t h => absurd h (by omega)
theorem B1_upd {pa : Nat → Nat → Bool} {N x : Nat} {bv : Nat → Int32} {v : Int32} (h : B1 pa N bv x) : B1 pa N (upd bv x v) x := by
  intro t ht
  rw [pk_un (by omega)]
  exact h t ht
theorem B2_0 {pa : Nat → Nat → Bool} {x : Nat} {bv : Nat → Int32} : B2 pa (upd bv x (mkS (fun i => i == x))) x 0 := by
  unfold B2
  rw [pk_us]
  exact mkS_congr fun i _ => by simp
theorem B2_add {pa : Nat → Nat → Bool} {x y : Nat} {bv : Nat → Int32} (h : B2 pa bv x y) (hp : pa x y = true) : B2 pa (upd bv x (bv x ||| mkS (fun i => i == y))) x (y + 1) := by
  unfold B2 at h ⊢
  rw [pk_us, h, mkS_or]
  refine mkS_congr fun i _ => ?_
  by_cases e : i = y
  · subst e; simp [hp]
  · have e2 : (i < y + 1) ↔ i < y := by omega
    simp [e, e2]
theorem B2_skip {pa : Nat → Nat → Bool} {x y : Nat} {bv : Nat → Int32} (h : B2 pa bv x y) (hp : pa x y = false) : B2 pa bv x (y + 1) := by
  unfold B2 at h ⊢
  rw [h]
  refine mkS_congr fun i _ => ?_
  by_cases e : i = y
  · subst e; simp [hp]
  · have e2 : (i < y + 1) ↔ i < y := by omega
    simp [e2]
theorem B12 {pa : Nat → Nat → Bool} {N x : Nat} {bv : Nat → Int32} (h : B1 pa N bv x) (h2 : B2 pa bv x N) : B1 pa N bv (x + 1) := by
  intro t ht
  by_cases e : t = x
  · subst e; exact h2
  · exact h t (by omega)
theorem B1_end {pa : Nat → Nat → Bool} {N : Nat} {bv : Nat → Int32} (h : B1 pa N bv N) : B3 pa N bv 0 := by
  refine ⟨fun t u => (u == t) || (decide (u < N) && pa t u), h, fun t ht => by simp, fun x y hx hy hp => by simp [hy, hp], fun j x z hj => absurd hj (by omega)⟩
theorem B4_0 {Rr : Nat → Nat → Bool} {N k : Nat} {bv : Nat → Int32} (h : ∀ t, t < N → bv t = mkS (Rr t)) : B4 Rr N bv k 0 := by
  intro t ht
  rw [h t ht]
  exact mkS_congr fun i _ => by simp
theorem B4_bit {Rr : Nat → Nat → Bool} {N k x : Nat} {bv : Nat → Int32} (h : B4 Rr N bv k x) (hx : x < N) (hk : k < 4) : (bv x >>> (nI k &&& 31)) &&& 1 = bI (Rr x k) := by
  rw [h x hx, mkS_bit _ hk]
  simp
theorem B4_add {Rr : Nat → Nat → Bool} {N k x : Nat} {bv : Nat → Int32} (h : B4 Rr N bv k x) (hx : x < N) (hk : k < N) (hp : Rr x k = true) : B4 Rr N (upd bv x (bv x ||| bv k)) k (x + 1) := by
  intro t ht
  by_cases e : t = x
  · subst e
    rw [pk_us, h t ht, h k hk, mkS_or]
    refine mkS_congr fun i _ => ?_
    simp [hp]
    cases Rr t i <;> cases Rr k i <;> simp
  · rw [pk_un e, h t ht]
    have e2 : (t < x + 1) ↔ t < x := by omega
    simp [e2]
theorem B4_skip {Rr : Nat → Nat → Bool} {N k x : Nat} {bv : Nat → Int32} (h : B4 Rr N bv k x) (hp : Rr x k = false) : B4 Rr N bv k (x + 1) := by
  intro t ht
  rw [h t ht]
  by_cases e : t = x
  · subst e; simp [hp]
  · have e2 : (t < x + 1) ↔ t < x := by omega
    simp [e2]
theorem B4_end {pa Rr : Nat → Nat → Bool} {N k : Nat} {bv : Nat → Int32} (hk : k < N) (hR : BR pa N Rr k) (h : B4 Rr N bv k N) : B3 pa N bv (k + 1) := by
  obtain ⟨h1, h2, h3⟩ := hR
  refine ⟨fun t u => Rr t u || (Rr t k && Rr k u), fun t ht => ?_, fun t ht => by simp [h1 t ht], fun x y hx hy hp => by simp [h2 x y hx hy hp], fun j x z hj hx hz e1 e2 => ?_⟩
  · rw [h t ht]
    exact mkS_congr fun i _ => by simp [ht]
  · simp only [Bool.or_eq_true, Bool.and_eq_true] at e1 e2 ⊢
    by_cases ej : j = k
    · subst ej
      have f1 : Rr x j = true := by
        rcases e1 with e1 | e1
        · exact e1
        · exact e1.1
      have f2 : Rr j z = true := by
        rcases e2 with e2 | e2
        · exact e2
        · exact e2.2
      exact Or.inr ⟨f1, f2⟩
    · have hj2 : j < k := by omega
      rcases e1 with e1 | ⟨e1, e1'⟩ <;> rcases e2 with e2 | ⟨e2, e2'⟩
      · exact Or.inl (h3 j x z hj2 hx hz e1 e2)
      · exact Or.inr ⟨h3 j x k hj2 hx hk e1 e2, e2'⟩
      · exact Or.inr ⟨e1, h3 j k z hj2 hk hz e1' e2⟩
      · exact Or.inr ⟨e1, e2'⟩
abbrev rmX0_findBehind : Room := { frames := 5, cells := 0, slots := 0, locals := 119 }
set_option maxHeartbeats 4000000 in
set_option maxRecDepth 100000 in
theorem mX0_findBehind (l : Launch) {D : va_G} {a : Nat → Nat} {d : Nat → ClassId} {fc : Nat → Int32} {po ra sf oc : Nat → Int32} {rd : Int32} {be : Nat → Int32} {gs : Int32} {gr fi la : Nat → Int32} {N : Nat}  (hN4 : N ≤ 4) : MV l yX0_findBehind (ws_ yX0_findBehind cX0_findBehind 4 none) rmX0_findBehind [.ref (a 0)] D (tyX d) (WX a d fc (nI N) po ra sf oc rd be gs gr fi la) (T := Nat → Int32) (fun u => B3 (fun x y => paG (aX ra) (hX sf) po x y 0 9) N u N) (fun u => WX a d fc (nI N) po ra sf oc rd u gs gr fi la) := by
  refine impV (by decide) (Nat.le_of_ble_eq_true rfl) ?_
  intro p e s m ar below meth c Q A hx hb hml hown hts hK hP hD hS hA hret ls hl
  have hown : s.vm.findClass RX0 = some m.cls := hown
  have hl : lv_has ls 4 [(0, .ref (a 0))] := hl
  refine lv_iconst (v := 0) hx hb dX0_findBehind_0 (by decide) ?_
  refine lv_istore_n (lv' := [(1, .int 0), (0, .ref (a 0))]) hx hb dX0_findBehind_1 rfl hl (by decide) rfl (fun ls hl => ?_)
  have L2 : ∀ (n x : Nat) , x + n = N → ∀ (bv : Nat → Int32) (H : Heap) (locs : List Loc), (B1 (fun x y => paG (aX ra) (hX sf) po x y 0 9) N bv x) → va_P D vwCl (WX a d fc (nI N) po ra sf oc rd bv gs gr fi la) H → va_D A (WX a d fc (nI N) po ra sf oc rd bv gs gr fi la) → va_S A s.heap H locs → ∀ ls : Array Slot, lv_has ls 4 [(0, .ref (a 0)), (1, .int (nI x))] → W p l e rmX0_findBehind s m ar below meth c H locs 0 0 Q (F0 m 2 ls []) := by
    intro n
    induction n with
    | zero =>
      intro x  hin bv H locs h1 hP hD hS ls hl
      rw [show x = N by omega] at h1
      have h3 := B1_end h1
      refine lv_iload_n hx hb dX0_findBehind_2 rfl (lv_at hl 1 rfl) ?_
      refine lv_aload_n hx hb dX0_findBehind_3 rfl (lv_at hl 0 rfl) ?_
      refine gX_count hx hb hts hown hK hP dX0_findBehind_4 ?_
      refine lv_icmp_ge (tgt := 64) hx hb dX0_findBehind_7 (by decide) (fun c_7 => ?_) (fun c_7 => absurd (nI_le (a := N) (b := x) (by omega) (by omega)) c_7)
      refine lv_iconst (v := 0) hx hb dX0_findBehind_64 (by decide) ?_
      refine lv_istore_n (lv' := [(1, .int 0), (0, .ref (a 0))]) hx hb dX0_findBehind_65 rfl hl (by decide) rfl (fun ls hl => ?_)
      have L66 : ∀ (n3 k : Nat) , k + n3 = N → ∀ (bv : Nat → Int32) (H : Heap) (locs : List Loc), (B3 (fun x y => paG (aX ra) (hX sf) po x y 0 9) N bv k) → va_P D vwCl (WX a d fc (nI N) po ra sf oc rd bv gs gr fi la) H → va_D A (WX a d fc (nI N) po ra sf oc rd bv gs gr fi la) → va_S A s.heap H locs → ∀ ls : Array Slot, lv_has ls 4 [(0, .ref (a 0)), (1, .int (nI k))] → W p l e rmX0_findBehind s m ar below meth c H locs 0 0 Q (F0 m 66 ls []) := by
        intro n3
        induction n3 with
        | zero =>
          intro k  hin_n3 bv H locs h3 hP hD hS ls hl
          rw [show k = N by omega] at h3
          refine lv_iload_n hx hb dX0_findBehind_66 rfl (lv_at hl 1 rfl) ?_
          refine lv_aload_n hx hb dX0_findBehind_67 rfl (lv_at hl 0 rfl) ?_
          refine gX_count hx hb hts hown hK hP dX0_findBehind_68 ?_
          refine lv_icmp_ge (tgt := 125) hx hb dX0_findBehind_71 (by decide) (fun c_71 => ?_) (fun c_71 => absurd (nI_le (a := N) (b := k) (by omega) (by omega)) c_71)
          exact hret bv _ _ _ _ h3 hP hD hS dX0_findBehind_125
        | succ n3 ih3 =>
          intro k  hin_n3 bv H locs h3 hP hD hS ls hl
          obtain ⟨Rr, h4, h5⟩ := h3
          refine lv_iload_n hx hb dX0_findBehind_66 rfl (lv_at hl 1 rfl) ?_
          refine lv_aload_n hx hb dX0_findBehind_67 rfl (lv_at hl 0 rfl) ?_
          refine gX_count hx hb hts hown hK hP dX0_findBehind_68 ?_
          refine lv_icmp_ge (tgt := 125) hx hb dX0_findBehind_71 (by decide) (fun c_71 => absurd c_71 (nI_ge (a := k) (b := N) (by omega) (by omega))) (fun c_71 => ?_)
          refine lv_iconst (v := 0) hx hb dX0_findBehind_74 (by decide) ?_
          refine lv_istore_n (lv' := [(2, .int 0), (0, .ref (a 0)), (1, .int (nI k))]) hx hb dX0_findBehind_75 rfl hl (by decide) rfl (fun ls hl => ?_)
          have L76 : ∀ (n4 x : Nat) , x + n4 = N → ∀ (bw : Nat → Int32) (H : Heap) (locs : List Loc), (B4 Rr N bw k x) → va_P D vwCl (WX a d fc (nI N) po ra sf oc rd bw gs gr fi la) H → va_D A (WX a d fc (nI N) po ra sf oc rd bw gs gr fi la) → va_S A s.heap H locs → ∀ ls : Array Slot, lv_has ls 4 [(0, .ref (a 0)), (1, .int (nI k)), (2, .int (nI x))] → W p l e rmX0_findBehind s m ar below meth c H locs 0 0 Q (F0 m 76 ls []) := by
            intro n4
            induction n4 with
            | zero =>
              intro x  hin_n4 bw H locs h4 hP hD hS ls hl
              refine lv_iload_n hx hb dX0_findBehind_76 rfl (lv_at hl 2 rfl) ?_
              refine lv_aload_n hx hb dX0_findBehind_77 rfl (lv_at hl 0 rfl) ?_
              refine gX_count hx hb hts hown hK hP dX0_findBehind_78 ?_
              refine lv_icmp_ge (tgt := 119) hx hb dX0_findBehind_81 (by decide) (fun c_81 => ?_) (fun c_81 => absurd (nI_le (a := N) (b := x) (by omega) (by omega)) c_81)
              refine lv_iinc (v := (nI (k + 1))) (lv' := [(1, .int (nI (k + 1))), (0, .ref (a 0)), (2, .int (nI x))]) hx hb dX0_findBehind_119 hl (k := 1) rfl (nI_inc _) (by decide) rfl (fun ls hl => ?_)
              refine lv_goto (tgt := 66) hx hb dX0_findBehind_122 (by decide) ?_
              exact ih3 (k + 1)  (by omega) bw _ _ (B4_end (by omega) h5 (by rw [show x = N by omega] at h4; exact h4)) hP hD hS ls (lv_sub hl [1, 0] rfl)
            | succ n4 ih4 =>
              intro x  hin_n4 bw H locs h4 hP hD hS ls hl
              refine lv_iload_n hx hb dX0_findBehind_76 rfl (lv_at hl 2 rfl) ?_
              refine lv_aload_n hx hb dX0_findBehind_77 rfl (lv_at hl 0 rfl) ?_
              refine gX_count hx hb hts hown hK hP dX0_findBehind_78 ?_
              refine lv_icmp_ge (tgt := 119) hx hb dX0_findBehind_81 (by decide) (fun c_81 => absurd c_81 (nI_ge (a := x) (b := N) (by omega) (by omega))) (fun c_81 => ?_)
              refine lv_aload_n hx hb dX0_findBehind_84 rfl (lv_at hl 0 rfl) ?_
              refine gX_behind hx hb hts hown hK hP dX0_findBehind_85 ?_
              refine lv_iload_n hx hb dX0_findBehind_88 rfl (lv_at hl 2 rfl) ?_
              refine lX_behind hx hb hK hP x rfl (by omega) dX0_findBehind_89 ?_
              refine lv_iload_n hx hb dX0_findBehind_90 rfl (lv_at hl 1 rfl) ?_
              refine lv_ishr hx hb dX0_findBehind_91 ?_
              refine lv_iconst (v := 1) hx hb dX0_findBehind_92 (by decide) ?_
              refine lv_iand hx hb dX0_findBehind_93 ?_
              refine tope (y := (bI (Rr x k))) (B4_bit h4 (by omega) (by omega)) ?_
              refine lv_iconst (v := 1) hx hb dX0_findBehind_94 (by decide) ?_
              refine lv_icmp_ne (tgt := 113) hx hb dX0_findBehind_95 (by decide) (fun c_95 => ?_) (fun c_95 => ?_)
              · skip
                have c_95 := bI_n1.mp c_95
                refine lv_iinc (v := (nI (x + 1))) (lv' := [(2, .int (nI (x + 1))), (0, .ref (a 0)), (1, .int (nI k))]) hx hb dX0_findBehind_113 hl (k := 2) rfl (nI_inc _) (by decide) rfl (fun ls hl => ?_)
                refine lv_goto (tgt := 76) hx hb dX0_findBehind_116 (by decide) ?_
                exact ih4 (x + 1)  (by omega) _ _ _ (B4_skip h4 c_95) hP hD hS ls (lv_sub hl [1, 2, 0] rfl)
              · skip
                have c_95 := bI_1.mp c_95
                refine lv_aload_n hx hb dX0_findBehind_98 rfl (lv_at hl 0 rfl) ?_
                refine gX_behind hx hb hts hown hK hP dX0_findBehind_99 ?_
                refine lv_iload_n hx hb dX0_findBehind_102 rfl (lv_at hl 2 rfl) ?_
                refine lv_dup2_11 hx hb dX0_findBehind_103 rfl rfl ?_
                refine lX_behind hx hb hK hP x rfl (by omega) dX0_findBehind_104 ?_
                refine lv_aload_n hx hb dX0_findBehind_105 rfl (lv_at hl 0 rfl) ?_
                refine gX_behind hx hb hts hown hK hP dX0_findBehind_106 ?_
                refine lv_iload_n hx hb dX0_findBehind_109 rfl (lv_at hl 1 rfl) ?_
                refine lX_behind hx hb hK hP k rfl (by omega) dX0_findBehind_110 ?_
                refine lv_ior hx hb dX0_findBehind_111 ?_
                refine sX_behind hx hb hK hP hD hS x rfl (by omega) dX0_findBehind_112 (fun H locs hP hD hS => ?_)
                refine lv_iinc (v := (nI (x + 1))) (lv' := [(2, .int (nI (x + 1))), (0, .ref (a 0)), (1, .int (nI k))]) hx hb dX0_findBehind_113 hl (k := 2) rfl (nI_inc _) (by decide) rfl (fun ls hl => ?_)
                refine lv_goto (tgt := 76) hx hb dX0_findBehind_116 (by decide) ?_
                exact ih4 (x + 1)  (by omega) _ _ _ (B4_add h4 (by omega) (by omega) c_95) hP hD hS ls (lv_sub hl [1, 2, 0] rfl)
          exact L76 (N - 0) 0  (by omega) bv _ _ (B4_0 h4) hP hD hS ls (lv_sub hl [1, 2, 0] rfl)
      exact L66 (N - 0) 0  (by omega) bv _ _ h3 hP hD hS ls (lv_sub hl [1, 0] rfl)
    | succ n ih =>
      intro x  hin bv H locs h1 hP hD hS ls hl
      refine lv_iload_n hx hb dX0_findBehind_2 rfl (lv_at hl 1 rfl) ?_
      refine lv_aload_n hx hb dX0_findBehind_3 rfl (lv_at hl 0 rfl) ?_
      refine gX_count hx hb hts hown hK hP dX0_findBehind_4 ?_
      refine lv_icmp_ge (tgt := 64) hx hb dX0_findBehind_7 (by decide) (fun c_7 => absurd c_7 (nI_ge (a := x) (b := N) (by omega) (by omega))) (fun c_7 => ?_)
      refine lv_aload_n hx hb dX0_findBehind_10 rfl (lv_at hl 0 rfl) ?_
      refine gX_behind hx hb hts hown hK hP dX0_findBehind_11 ?_
      refine lv_iload_n hx hb dX0_findBehind_14 rfl (lv_at hl 1 rfl) ?_
      refine lv_iconst (v := 1) hx hb dX0_findBehind_15 (by decide) ?_
      refine lv_iload_n hx hb dX0_findBehind_16 rfl (lv_at hl 1 rfl) ?_
      refine lv_ishl hx hb dX0_findBehind_17 ?_
      refine tope (y := (mkS (fun i => i == x))) (mkS_one (by omega)) ?_
      refine sX_behind hx hb hK hP hD hS x rfl (by omega) dX0_findBehind_18 (fun H locs hP hD hS => ?_)
      refine lv_iconst (v := 0) hx hb dX0_findBehind_19 (by decide) ?_
      refine lv_istore_n (lv' := [(2, .int 0), (0, .ref (a 0)), (1, .int (nI x))]) hx hb dX0_findBehind_20 rfl hl (by decide) rfl (fun ls hl => ?_)
      have L21 : ∀ (n2 y : Nat) , y + n2 = N → ∀ (bw : Nat → Int32) (H : Heap) (locs : List Loc), (B1 (fun x y => paG (aX ra) (hX sf) po x y 0 9) N bw x) → (B2 (fun x y => paG (aX ra) (hX sf) po x y 0 9) bw x y) → va_P D vwCl (WX a d fc (nI N) po ra sf oc rd bw gs gr fi la) H → va_D A (WX a d fc (nI N) po ra sf oc rd bw gs gr fi la) → va_S A s.heap H locs → ∀ ls : Array Slot, lv_has ls 4 [(0, .ref (a 0)), (1, .int (nI x)), (2, .int (nI y))] → W p l e rmX0_findBehind s m ar below meth c H locs 0 0 Q (F0 m 21 ls []) := by
        intro n2
        induction n2 with
        | zero =>
          intro y  hin_n2 bw H locs h1 h2 hP hD hS ls hl
          refine lv_iload_n hx hb dX0_findBehind_21 rfl (lv_at hl 2 rfl) ?_
          refine lv_aload_n hx hb dX0_findBehind_22 rfl (lv_at hl 0 rfl) ?_
          refine gX_count hx hb hts hown hK hP dX0_findBehind_23 ?_
          refine lv_icmp_ge (tgt := 58) hx hb dX0_findBehind_26 (by decide) (fun c_26 => ?_) (fun c_26 => absurd (nI_le (a := N) (b := y) (by omega) (by omega)) c_26)
          refine lv_iinc (v := (nI (x + 1))) (lv' := [(1, .int (nI (x + 1))), (0, .ref (a 0)), (2, .int (nI y))]) hx hb dX0_findBehind_58 hl (k := 1) rfl (nI_inc _) (by decide) rfl (fun ls hl => ?_)
          refine lv_goto (tgt := 2) hx hb dX0_findBehind_61 (by decide) ?_
          exact ih (x + 1)  (by omega) bw _ _ (B12 h1 (by rw [show y = N by omega] at h2; exact h2)) hP hD hS ls (lv_sub hl [1, 0] rfl)
        | succ n2 ih2 =>
          intro y  hin_n2 bw H locs h1 h2 hP hD hS ls hl
          refine lv_iload_n hx hb dX0_findBehind_21 rfl (lv_at hl 2 rfl) ?_
          refine lv_aload_n hx hb dX0_findBehind_22 rfl (lv_at hl 0 rfl) ?_
          refine gX_count hx hb hts hown hK hP dX0_findBehind_23 ?_
          refine lv_icmp_ge (tgt := 58) hx hb dX0_findBehind_26 (by decide) (fun c_26 => absurd c_26 (nI_ge (a := y) (b := N) (by omega) (by omega))) (fun c_26 => ?_)
          refine lv_aload_n hx hb dX0_findBehind_29 rfl (lv_at hl 0 rfl) ?_
          refine lv_iload_n hx hb dX0_findBehind_30 rfl (lv_at hl 1 rfl) ?_
          refine lv_iload_n hx hb dX0_findBehind_31 rfl (lv_at hl 2 rfl) ?_
          refine kX0_precedesAtAll ⟨hx, hb, hml, hown, hts⟩ hK hP x y  (by omega) (by omega) ⟨by decide, by decide⟩ hl.1 (Nat.le_of_ble_eq_true rfl) dX0_findBehind_32 ⟨Nat.zero_le _, Nat.zero_le _⟩ ?_
          refine lv_istore_n (lv' := [(3, .int (bI (paG (aX ra) (hX sf) po x y 0 9))), (0, .ref (a 0)), (1, .int (nI x)), (2, .int (nI y))]) hx hb dX0_findBehind_35 rfl hl (by decide) rfl (fun ls hl => ?_)
          refine lv_iload_n hx hb dX0_findBehind_36 rfl (lv_at hl 0 rfl) ?_
          refine lv_if_eq (tgt := 52) hx hb dX0_findBehind_37 (by decide) (fun c_37 => ?_) (fun c_37 => ?_)
          · skip
            have c_37 := bI_0.mp c_37
            refine lv_iinc (v := (nI (y + 1))) (lv' := [(2, .int (nI (y + 1))), (3, .int (bI (paG (aX ra) (hX sf) po x y 0 9))), (0, .ref (a 0)), (1, .int (nI x))]) hx hb dX0_findBehind_52 hl (k := 3) rfl (nI_inc _) (by decide) rfl (fun ls hl => ?_)
            refine lv_goto (tgt := 21) hx hb dX0_findBehind_55 (by decide) ?_
            exact ih2 (y + 1)  (by omega) _ _ _ h1 (B2_skip h2 c_37) hP hD hS ls (lv_sub hl [2, 3, 0] rfl)
          · skip
            have c_37 := bI_n0.mp c_37
            refine lv_aload_n hx hb dX0_findBehind_40 rfl (lv_at hl 1 rfl) ?_
            refine gX_behind hx hb hts hown hK hP dX0_findBehind_41 ?_
            refine lv_iload_n hx hb dX0_findBehind_44 rfl (lv_at hl 2 rfl) ?_
            refine lv_dup2_11 hx hb dX0_findBehind_45 rfl rfl ?_
            refine lX_behind hx hb hK hP x rfl (by omega) dX0_findBehind_46 ?_
            refine lv_iconst (v := 1) hx hb dX0_findBehind_47 (by decide) ?_
            refine lv_iload_n hx hb dX0_findBehind_48 rfl (lv_at hl 3 rfl) ?_
            refine lv_ishl hx hb dX0_findBehind_49 ?_
            refine tope (y := (mkS (fun i => i == y))) (mkS_one (by omega)) ?_
            refine lv_ior hx hb dX0_findBehind_50 ?_
            refine sX_behind hx hb hK hP hD hS x rfl (by omega) dX0_findBehind_51 (fun H locs hP hD hS => ?_)
            refine lv_iinc (v := (nI (y + 1))) (lv' := [(2, .int (nI (y + 1))), (3, .int (bI (paG (aX ra) (hX sf) po x y 0 9))), (0, .ref (a 0)), (1, .int (nI x))]) hx hb dX0_findBehind_52 hl (k := 3) rfl (nI_inc _) (by decide) rfl (fun ls hl => ?_)
            refine lv_goto (tgt := 21) hx hb dX0_findBehind_55 (by decide) ?_
            exact ih2 (y + 1)  (by omega) _ _ _ (B1_upd h1) (B2_add h2 c_37) hP hD hS ls (lv_sub hl [2, 3, 0] rfl)
      exact L21 (N - 0) 0  (by omega) _ _ _ (B1_upd h1) B2_0 hP hD hS ls (lv_sub hl [1, 2, 0] rfl)
  exact L2 (N - 0) 0  (by omega) be _ _ B1_0 hP hD hS ls (lv_sub hl [1, 0] rfl)
theorem kX0_findBehind {p : Program} {l : Launch} {e : Env} {R : Room} {s : State} {m : MethodId} {args : Array Value} {below : List Frame} {meth : Method} {c : Code} {H : Heap} {locs : List Loc} {cells slots : Nat} {Q : State → Prop} {cc : ByteArray} {pc nL : Nat} {ls : Array Slot} {rest : List Value} {D : va_G} {A : Nat → Prop} {a : Nat → Nat} {d : Nat → ClassId} {fc : Nat → Int32} {po ra sf oc : Nat → Int32} {rd : Int32} {be : Nat → Int32} {gs : Int32} {gr fi la : Nat → Int32} {N : Nat} (S : CallFix p m c cc nL s args lw_all RX0) (hK : va_K D vwCl (tyX d) s) (hP : va_P D vwCl (WX a d fc (nI N) po ra sf oc rd be gs gr fi la) H) (hD : va_D A (WX a d fc (nI N) po ra sf oc rd be gs gr fi la)) (hS : va_S A s.heap H locs) (hA : ∀ q, s.heap.size ≤ q → A q)  (hN4 : N ≤ 4) (hR : rmX0_findBehind.frames + 1 ≤ R.frames ∧ 8 + (4 + 11) + rmX0_findBehind.locals ≤ R.locals) (hsz : ls.size = nL) (hroom : (rest.map fun v => v.category).sum ≤ 8) (hdg : decode cc pc = .ok (.invokevirtual 84, 3)) (hf : cells ≤ R.cells ∧ slots ≤ R.slots) (kk : ∀ (u : Nat → Int32) (H1 : Heap) (locs1 : List Loc), (fun u => B3 (fun x y => paG (aX ra) (hX sf) po x y 0 9) N u N) u → va_P D vwCl ((fun u => WX a d fc (nI N) po ra sf oc rd u gs gr fi la) u) H1 → va_D A ((fun u => WX a d fc (nI N) po ra sf oc rd u gs gr fi la) u) → va_S A s.heap H1 locs1 → W p l e R s m args below meth c H1 locs1 cells slots Q (F0 m (pc + 3) ls rest)) : W p l e R s m args below meth c H locs cells slots Q (F0 m pc ls (.ref (a 0) :: rest)) :=
  icallV (wr := []) (q := (RX0, TX0, 12)) (ci := 0) (As := []) S (mX0_findBehind l hN4) (cwV 0 S.2.2.2.2 (lw_V q123 q125 qs4 q28 q126) rfl rfl rfl (by decide +kernel) hR) hK hP hD hS hA [0, 1, 2, 3, 4, 5, 6, 7, 8, 9] [] rfl rfl (by decide) (by decide) (by decide) rfl rfl rfl hsz rfl hroom hdg hf kk
end
section
/-! LaneLoops.plan (printed by gen/p17.py): first the plain law of the plan -/
def cntS (Q : Nat → Bool) : Nat → Nat
  | 0 => 0
  | n + 1 => cntS Q n + (if Q n = true then 1 else 0)
theorem cntS_le {Q Q2 : Nat → Bool} (h : ∀ i, Q i = true → Q2 i = true) : ∀ n, cntS Q n ≤ cntS Q2 n
  | 0 => Nat.le_refl _
  | n + 1 => by
    have h1 := cntS_le h n
    have h2 := h n
    simp only [cntS]
    cases e : Q n <;> cases e2 : Q2 n <;> simp_all <;> omega
theorem cntS_lt {Q Q2 : Nat → Bool} (h : ∀ i, Q i = true → Q2 i = true) {s : Nat} (h1 : Q s = false) (h2 : Q2 s = true) : ∀ n, s < n → cntS Q n + 1 ≤ cntS Q2 n
  | 0, hs => absurd hs (by omega)
  | n + 1, hs => by
    by_cases e : s = n
    · subst e
      have h3 := cntS_le h s
      simp only [cntS, h1, h2]
      simp
      omega
    · have h3 := cntS_lt h h1 h2 n (by omega)
      have h4 := h n
      simp only [cntS]
      cases e : Q n <;> cases e2 : Q2 n <;> simp_all <;> omega
theorem cntS_all {Q : Nat → Bool} : ∀ n, cntS Q n ≤ n ∧ (n ≤ cntS Q n → ∀ s, s < n → Q s = true)
  | 0 => ⟨Nat.le_refl _, fun _ s hs => absurd hs (by omega)⟩
  | n + 1 => by
    obtain ⟨h1, h2⟩ := cntS_all (Q := Q) n
    simp only [cntS]
    cases e : Q n
    · simp; omega
    · simp
      refine ⟨h1, fun h3 s hs => ?_⟩
      by_cases e2 : s = n
      · subst e2; exact e
      · exact h2 h3 s (by omega)
theorem fr_spec {R : Nat → Nat → Bool} {P Q : Nat → Bool} : ∀ (n t : Nat), frS R P Q t n = true ↔ ∀ u, t ≤ u → u < t + n → P u = true ∨ Q u = true ∨ interS (R u) P = false
  | 0, t => ⟨fun _ u h1 h2 => absurd h2 (by omega), fun _ => rfl⟩
  | n + 1, t => by
    simp only [frS, Bool.and_eq_true, Bool.or_eq_true, Bool.not_eq_true', fr_spec n (t + 1)]
    constructor
    · intro h u h1 h2
      by_cases e : u = t
      · subst e
        rcases h.1 with (h3 | h3) | h3
        · exact Or.inl h3
        · exact Or.inr (Or.inl h3)
        · exact Or.inr (Or.inr h3)
      · exact h.2 u (by omega) (by omega)
    · intro h
      refine ⟨?_, fun u h1 h2 => h u (by omega) (by omega)⟩
      rcases h t (by omega) (by omega) with h3 | h3 | h3
      · exact Or.inl (Or.inl h3)
      · exact Or.inl (Or.inr h3)
      · exact Or.inr h3
theorem nx_spec {N : Nat} {R : Nat → Nat → Bool} {Q : Nat → Bool} : ∀ (n s : Nat), (∃ x, s ≤ x ∧ x < s + n ∧ Q x = false ∧ frS R (ccS N R x) Q 0 N = true ∧ nxS N R Q s n = ccS N R x) ∨ ((∀ x, s ≤ x → x < s + n → Q x = true ∨ frS R (ccS N R x) Q 0 N = false) ∧ nxS N R Q s n = fun _ => false)
  | 0, s => Or.inr ⟨fun x h1 h2 => absurd h2 (by omega), rfl⟩
  | n + 1, s => by
    by_cases h : (!(Q s) && frS R (ccS N R s) Q 0 N) = true
    · refine Or.inl ⟨s, by omega, by omega, ?_, ?_, ?_⟩
      · simp at h; exact h.1
      · simp at h; exact h.2
      · simp only [nxS]; rw [if_pos h]
    · have e : nxS N R Q s (n + 1) = nxS N R Q (s + 1) n := by simp only [nxS]; rw [if_neg h]
      rw [e]
      rcases nx_spec (N := N) (R := R) (Q := Q) n (s + 1) with ⟨x, h1, h2, h3⟩ | ⟨h1, h2⟩
      · exact Or.inl ⟨x, by omega, by omega, h3⟩
      · refine Or.inr ⟨fun x h3 h4 => ?_, h2⟩
        by_cases e2 : x = s
        · subst e2
          cases e3 : Q x
          · cases e4 : frS R (ccS N R x) Q 0 N
            · exact Or.inr rfl
            · exact absurd (by simp [e3, e4]) h
          · exact Or.inl rfl
        · exact h1 x (by omega) (by omega)
/-- among the statements that are left one has nothing before it that isn't in its circle -/
theorem src_ex {R : Nat → Nat → Bool} {N : Nat} (hr : ∀ t, t < N → R t t = true) (ht : ∀ j x z, j < N → x < N → z < N → R x j = true → R j z = true → R x z = true) : ∀ (xs : List Nat), xs ≠ [] → (∀ x ∈ xs, x < N) → ∃ s ∈ xs, ∀ t ∈ xs, R t s = true → R s t = true
  | [], h, _ => absurd rfl h
  | x :: ys, _, hN => by
    by_cases hy : ys = []
    · subst hy
      refine ⟨x, List.mem_cons_self, fun t h1 h2 => ?_⟩
      rw [List.mem_singleton.mp h1] at h2 ⊢
      exact h2
    · obtain ⟨s, hs, h1⟩ := src_ex hr ht ys hy (fun z hz => hN z (List.mem_cons_of_mem _ hz))
      have hxN := hN x List.mem_cons_self
      have hsN := hN s (List.mem_cons_of_mem _ hs)
      by_cases h2 : R x s = true ∧ ¬ R s x = true
      · refine ⟨x, List.mem_cons_self, fun t h3 h4 => ?_⟩
        rcases List.mem_cons.mp h3 with e | e
        · subst e; exact h4
        · have htN := hN t (List.mem_cons_of_mem _ e)
          exact ht s x t hsN hxN htN h2.1 (h1 t e (ht x t s hxN htN hsN h4 h2.1))
      · refine ⟨s, List.mem_cons_of_mem _ hs, fun t h3 h4 => ?_⟩
        rcases List.mem_cons.mp h3 with e | e
        · subst e
          cases e5 : R s t
          · exact absurd ⟨h4, by simp [e5]⟩ h2
          · rfl
        · exact h1 t e h4
theorem nx_all {N : Nat} {R : Nat → Nat → Bool} {Q : Nat → Bool} (hN : N ≤ 4) (hr : ∀ t, t < N → R t t = true) (ht : ∀ j x z, j < N → x < N → z < N → R x j = true → R j z = true → R x z = true) (h : mkS (nxS N R Q 0 N) = 0) : ∀ s, s < N → Q s = true := by
  have hz := (mkS_z _).mp h
  rcases nx_spec (N := N) (R := R) (Q := Q) N 0 with ⟨x, -, h2, h3, h4, h5⟩ | ⟨h1, -⟩
  · have h6 := hz x (by omega)
    rw [h5] at h6
    simp [ccS, hr x (by omega), show x < N by omega] at h6
  · intro s hs
    cases e : Q s
    · exfalso
      obtain ⟨x, hx, hm⟩ := src_ex hr ht ((List.range N).filter (fun i => !(Q i))) (List.ne_nil_of_mem (List.mem_filter.mpr ⟨List.mem_range.mpr hs, by simp [e]⟩)) (fun x hx => List.mem_range.mp (List.mem_filter.mp hx).1)
      obtain ⟨hx1, hx2⟩ := List.mem_filter.mp hx
      have hxN := List.mem_range.mp hx1
      simp at hx2
      rcases h1 x (by omega) (by omega) with h6 | h6
      · rw [hx2] at h6; cases h6
      · have h7 : frS R (ccS N R x) Q 0 N = true := by
          refine (fr_spec N 0).mpr fun u _ hu => ?_
          have huN : u < N := by omega
          cases eq : Q u
          · cases ec : ccS N R x u
            · refine Or.inr (Or.inr (interS_f.mpr fun i hi h8 h9 => ?_))
              simp [ccS] at h9
              have h10 : R u x = true := ht i u x (by omega) huN hxN h8 h9.2.2
              have h11 : R x u = true := hm u (List.mem_filter.mpr ⟨List.mem_range.mpr huN, by simp [eq]⟩) h10
              simp [ccS, huN, h10, h11] at ec
            · exact Or.inl rfl
          · exact Or.inr (Or.inl rfl)
        rw [h7] at h6; cases h6
    · rfl
theorem one_low {P : Nat → Bool} {s : Nat} (hs : s < 4) (h1 : oneS P = true) (h2 : P s = true) : lowS P = s ∧ ∀ t, t < 4 → P t = true → t = s := by
  unfold oneS at h1
  unfold lowS
  rcases (show s = 0 ∨ s = 1 ∨ s = 2 ∨ s = 3 by omega) with rfl | rfl | rfl | rfl
  all_goals
    refine ⟨?_, ?_⟩
    · cases e0 : P 0 <;> cases e1 : P 1 <;> cases e2 : P 2 <;> cases e3 : P 3 <;> simp_all
    · intro t ht h3
      rcases (show t = 0 ∨ t = 1 ∨ t = 2 ∨ t = 3 by omega) with rfl | rfl | rfl | rfl <;> simp_all
/-- the plan behind rr rounds: Q the statements that are placed, k groups -/
def PInv (a h : Nat → Nat → Int32) (po : Nat → Int32) (N : Nat) (R : Nat → Nat → Bool) (rr : Nat) (Q : Nat → Bool) (k : Nat) (gr fi : Nat → Int32) : Prop :=
  ∃ g : Nat → Nat, k ≤ rr ∧ (∀ s, s < N → Q s = true → g s < k) ∧ (∀ j, j < k → gr j = mkS (fun s => decide (s < N) && (Q s && decide (g s = j)))) ∧ (∀ x y, x < N → y < N → Q y = true → R x y = true → Q x = true ∧ g x ≤ g y) ∧
    (∀ j, j < k → fi j = 0 ∨ (fi j = 1 ∧ ∃ s, s < N ∧ Q s = true ∧ (∀ t, t < N → Q t = true → (g t = j ↔ t = s)) ∧ flG a h po s = true)) ∧ ((∀ s, s < N → Q s = true) ∨ rr ≤ cntS Q N)
theorem PInv_0 {a h : Nat → Nat → Int32} {po : Nat → Int32} {N : Nat} {R : Nat → Nat → Bool} {gr fi : Nat → Int32} : PInv a h po N R 0 (fun _ => false) 0 gr fi :=
  ⟨fun _ => 0, Nat.le_refl _, fun s _ h => (by cases h), fun j hj => absurd hj (by omega), fun x y _ _ h => (by cases h), fun j hj => absurd hj (by omega), Or.inr (Nat.zero_le _)⟩
theorem PInv_skip {a h : Nat → Nat → Int32} {po : Nat → Int32} {N : Nat} {R : Nat → Nat → Bool} {rr : Nat} {Q : Nat → Bool} {k : Nat} {gr fi : Nat → Int32} (hI : PInv a h po N R rr Q k gr fi) (hall : ∀ s, s < N → Q s = true) : PInv a h po N R (rr + 1) Q k gr fi := by
  obtain ⟨g, h1, h2, h3, h4, h5, h6⟩ := hI
  exact ⟨g, by omega, h2, h3, h4, h5, Or.inl hall⟩
theorem PInv_step {a h : Nat → Nat → Int32} {po : Nat → Int32} {N : Nat} {R : Nat → Nat → Bool} {rr : Nat} {Q : Nat → Bool} {k : Nat} {gr fi : Nat → Int32} {v : Int32} (hN : N ≤ 4) (hr : ∀ t, t < N → R t t = true) (hI : PInv a h po N R rr Q k gr fi) (hz : ¬ mkS (nxS N R Q 0 N) = 0) (hv : v = 0 ∨ (v = 1 ∧ oneS (nxS N R Q 0 N) = true ∧ flG a h po (lowS (nxS N R Q 0 N)) = true)) :
    PInv a h po N R (rr + 1) (fun i => Q i || nxS N R Q 0 N i) (k + 1) (upd gr k (mkS (nxS N R Q 0 N))) (upd fi k v) := by
  obtain ⟨g, h1, h2, h3, h4, h5, h6⟩ := hI
  rcases nx_spec (N := N) (R := R) (Q := Q) N 0 with ⟨x, -, e2, e3, e4, e5⟩ | ⟨-, e1⟩
  · rw [e5] at hv ⊢
    have hxN : x < N := by omega
    have hfr := (fr_spec N 0).mp e4
    have hcx : ccS N R x x = true := by simp [ccS, hxN, hr x hxN]
    have hap : ∀ t, t < N → Q t = true → ccS N R x t = false := by
      intro t ht hq
      cases ec : ccS N R x t
      · rfl
      · simp [ccS] at ec
        have h7 := (h4 x t hxN ht hq ec.2.1).1
        rw [e3] at h7; cases h7
    refine ⟨fun t => if Q t = true then g t else k, by omega, ?_, ?_, ?_, ?_, ?_⟩
    · intro s hs hq
      dsimp only
      split
      · have := h2 s hs (by assumption); omega
      · omega
    · intro j hj
      by_cases ej : j = k
      · subst ej
        rw [pk_us]
        refine mkS_congr fun i hi => ?_
        by_cases hiN : i < N
        · cases eq : Q i
          · simp [hiN, eq]
          · have h7 := h2 i hiN eq
            have h8 : ¬ g i = j := by omega
            simp [hiN, eq, hap i hiN eq, h8]
        · simp [ccS, hiN]
      · rw [pk_un ej, h3 j (by omega)]
        refine mkS_congr fun i hi => ?_
        cases eq : Q i
        · have h8 : ¬ k = j := fun h => ej h.symm
          simp [eq, h8]
        · simp [eq]
    · intro u y hu hy hq hR
      dsimp only at hq ⊢
      cases eq : Q y
      · rw [eq] at hq
        simp at hq
        rcases hfr u (by omega) (by omega) with h7 | h7 | h7
        · have h8 : Q u = false := by
            cases e9 : Q u
            · rfl
            · rw [hap u hu e9] at h7; cases h7
          simp [h7, h8]
        · have h8 := h2 u hu h7
          simp [h7]; omega
        · exact absurd (interS_f.mp h7 y (by omega) hR hq) id
      · have h7 := h4 u y hu hy eq hR
        simp [h7.1, h7.2]
    · intro j hj
      by_cases ej : j = k
      · subst ej
        rw [pk_us]
        rcases hv with hv | ⟨hv1, hv2, hv3⟩
        · exact Or.inl hv
        · obtain ⟨h7, h8⟩ := one_low (s := x) (by omega) hv2 hcx
          rw [h7] at hv3
          refine Or.inr ⟨hv1, x, hxN, by simp [hcx], fun t ht hq => ?_, hv3⟩
          dsimp only at hq ⊢
          cases eq : Q t
          · rw [eq] at hq
            simp at hq
            simp [h8 t (by omega) hq]
          · have h9 := h2 t ht eq
            simp
            refine ⟨fun h => absurd h (by omega), fun h => ?_⟩
            rw [h] at eq; rw [eq] at e3; cases e3
      · rw [pk_un ej]
        rcases h5 j (by omega) with h7 | ⟨h7, s, hs, h8, h9, h10⟩
        · exact Or.inl h7
        · refine Or.inr ⟨h7, s, hs, by simp [h8], fun t ht hq => ?_, h10⟩
          dsimp only at hq ⊢
          cases eq : Q t
          · have h11 : ¬ k = j := fun h => ej h.symm
            simp [h11]
            intro h12
            rw [h12] at eq; rw [eq] at h8; cases h8
          · simp
            exact h9 t ht eq
    · rcases h6 with h7 | h7
      · have h8 := h7 x hxN
        rw [e3] at h8; cases h8
      · have h8 : cntS Q N + 1 ≤ cntS (fun i => Q i || ccS N R x i) N := cntS_lt (fun i hi => by simp [hi]) e3 (by simp [hcx]) N hxN
        exact Or.inr (by omega)
  · rw [e1] at hz
    exact absurd mkS_0 hz
theorem PInv_end {a h : Nat → Nat → Int32} {po : Nat → Int32} {N : Nat} {R : Nat → Nat → Bool} {Q : Nat → Bool} {k : Nat} {gr fi : Nat → Int32} (hN : N ≤ 4) (hp : ∀ x y, x < N → y < N → paG a h po x y 0 9 = true → R x y = true) (hI : PInv a h po N R N Q k gr fi) : PlanOK a h po N (nI k) gr fi := by
  obtain ⟨g, h1, h2, h3, h4, h5, h6⟩ := hI
  have hall : ∀ s, s < N → Q s = true := by
    rcases h6 with h7 | h7
    · exact h7
    · exact (cntS_all N).2 h7
  refine ⟨k, g, by omega, rfl, fun s hs => h2 s hs (hall s hs), fun j hj => ?_, fun x y hx hy h7 => (h4 x y hx hy (hall y hy) (hp x y hx hy h7)).2, fun j hj => ?_⟩
  · rw [h3 j hj]
    refine mkS_congr fun i hi => ?_
    by_cases hiN : i < N
    · simp [hall i hiN]
    · simp [hiN]
  · rcases h5 j hj with h7 | ⟨h7, s, hs, h8, h9, h10⟩
    · exact Or.inl h7
    · exact Or.inr ⟨h7, s, hs, fun t ht => h9 t ht (hall t ht), h10⟩
abbrev rmX0_plan : Room := { frames := 6, cells := 0, slots := 0, locals := 142 }
set_option maxHeartbeats 4000000 in
set_option maxRecDepth 100000 in
theorem mX0_plan (l : Launch) {D : va_G} {a : Nat → Nat} {d : Nat → ClassId} {fc : Nat → Int32} {po ra sf oc : Nat → Int32} {rd : Int32} {be : Nat → Int32} {gs : Int32} {gr fi la : Nat → Int32} {N : Nat}  (hN4 : N ≤ 4) (hpl : rd = 0 ∨ (rd = 1 ∧ PlanOK (aX ra) (hX sf) po N gs gr fi)) : MV l yX0_plan (ws_ yX0_plan cX0_plan 6 none) rmX0_plan [.ref (a 0)] D (tyX d) (WX a d fc (nI N) po ra sf oc rd be gs gr fi la) (T := Int32 × (Nat → Int32) × Int32 × (Nat → Int32) × (Nat → Int32)) (fun u => u.1 = 1 ∧ PlanOK (aX ra) (hX sf) po N u.2.2.1 u.2.2.2.1 u.2.2.2.2) (fun u => WX a d fc (nI N) po ra sf oc u.1 u.2.1 u.2.2.1 u.2.2.2.1 u.2.2.2.2 la) := by
  refine impV (by decide) (Nat.le_of_ble_eq_true rfl) ?_
  intro p e s m ar below meth c Q A hx hb hml hown hts hK hP hD hS hA hret ls hl
  have hown : s.vm.findClass RX0 = some m.cls := hown
  have hl : lv_has ls 6 [(0, .ref (a 0))] := hl
  refine lv_aload_n hx hb dX0_plan_0 rfl (lv_at hl 0 rfl) ?_
  refine gX_ready hx hb hts hown hK hP dX0_plan_1 ?_
  refine lv_if_eq (tgt := 8) hx hb dX0_plan_4 (by decide) (fun c_4 => ?_) (fun c_4 => ?_)
  · skip
    refine lv_aload_n hx hb dX0_plan_8 rfl (lv_at hl 0 rfl) ?_
    refine lv_iconst (v := 1) hx hb dX0_plan_9 (by decide) ?_
    refine pX_ready hx hb hts hown hK hP hD hS rfl rfl dX0_plan_10 (fun H locs hP hD hS => ?_)
    refine lv_aload_n hx hb dX0_plan_13 rfl (lv_at hl 0 rfl) ?_
    refine kX0_findBehind ⟨hx, hb, hml, hown, hts⟩ hK hP hD hS hA   hN4 ⟨by decide, by decide⟩ hl.1 (Nat.le_of_ble_eq_true rfl) dX0_plan_14 ⟨Nat.zero_le _, Nat.zero_le _⟩ (fun bv H locs hu hP hD hS => ?_)
    obtain ⟨Rr, hB, hR⟩ := hu
    refine lv_aload_n hx hb dX0_plan_17 rfl (lv_at hl 0 rfl) ?_
    refine lv_iconst (v := 0) hx hb dX0_plan_18 (by decide) ?_
    refine pX_groups hx hb hts hown hK hP hD hS dX0_plan_19 (fun H locs hP hD hS => ?_)
    refine lv_iconst (v := 0) hx hb dX0_plan_22 (by decide) ?_
    refine lv_istore_n (lv' := [(1, .int 0), (0, .ref (a 0))]) hx hb dX0_plan_23 rfl hl (by decide) rfl (fun ls hl => ?_)
    refine lv_iconst (v := 0) hx hb dX0_plan_24 (by decide) ?_
    refine lv_istore_n (lv' := [(2, .int 0), (1, .int 0), (0, .ref (a 0))]) hx hb dX0_plan_25 rfl hl (by decide) rfl (fun ls hl => ?_)
    have L26 : ∀ (n rr : Nat) (wp : Int32), rr + n = N → ∀ (gv : Int32) (gw fv : Nat → Int32) (H : Heap) (locs : List Loc), (∃ (Qs : Nat → Bool) (k : Nat), wp = mkS Qs ∧ gv = nI k ∧ PInv (aX ra) (hX sf) po N Rr rr Qs k gw fv) → va_P D vwCl (WX a d fc (nI N) po ra sf oc 1 bv gv gw fv la) H → va_D A (WX a d fc (nI N) po ra sf oc 1 bv gv gw fv la) → va_S A s.heap H locs → ∀ ls : Array Slot, lv_has ls 6 [(0, .ref (a 0)), (1, .int wp), (2, .int (nI rr))] → W p l e rmX0_plan s m ar below meth c H locs 0 0 Q (F0 m 26 ls []) := by
      intro n
      induction n with
      | zero =>
        intro rr wp hin gv gw fv H locs hI hP hD hS ls hl
        obtain ⟨Qs, k, rfl, rfl, hI⟩ := hI
        rw [show rr = N by omega] at hI
        refine lv_iload_n hx hb dX0_plan_26 rfl (lv_at hl 2 rfl) ?_
        refine lv_aload_n hx hb dX0_plan_27 rfl (lv_at hl 0 rfl) ?_
        refine gX_count hx hb hts hown hK hP dX0_plan_28 ?_
        refine lv_icmp_ge (tgt := 115) hx hb dX0_plan_31 (by decide) (fun c_31 => ?_) (fun c_31 => absurd (nI_le (a := N) (b := rr) (by omega) (by omega)) c_31)
        exact hret (1, bv, nI k, gw, fv) _ _ _ _ ⟨rfl, PInv_end hN4 hR.2.1 hI⟩ hP hD hS dX0_plan_115
      | succ n ih =>
        intro rr wp hin gv gw fv H locs hI hP hD hS ls hl
        obtain ⟨Qs, k, rfl, rfl, hI⟩ := hI
        have hk4 : k < 4 := by obtain ⟨g9, h9, -⟩ := hI; omega
        refine lv_iload_n hx hb dX0_plan_26 rfl (lv_at hl 2 rfl) ?_
        refine lv_aload_n hx hb dX0_plan_27 rfl (lv_at hl 0 rfl) ?_
        refine gX_count hx hb hts hown hK hP dX0_plan_28 ?_
        refine lv_icmp_ge (tgt := 115) hx hb dX0_plan_31 (by decide) (fun c_31 => absurd c_31 (nI_ge (a := rr) (b := N) (by omega) (by omega))) (fun c_31 => ?_)
        refine lv_aload_n hx hb dX0_plan_34 rfl (lv_at hl 0 rfl) ?_
        refine lv_iload_n hx hb dX0_plan_35 rfl (lv_at hl 1 rfl) ?_
        refine kX0_nextGroup ⟨hx, hb, hml, hown, hts⟩ hK hP Qs  hN4 hB ⟨by decide, by decide⟩ hl.1 (Nat.le_of_ble_eq_true rfl) dX0_plan_36 ⟨Nat.zero_le _, Nat.zero_le _⟩ ?_
        refine lv_istore_n (lv' := [(3, .int (mkS (nxS N Rr Qs 0 N))), (0, .ref (a 0)), (1, .int (mkS Qs)), (2, .int (nI rr))]) hx hb dX0_plan_39 rfl hl (by decide) rfl (fun ls hl => ?_)
        refine lv_iload_n hx hb dX0_plan_40 rfl (lv_at hl 0 rfl) ?_
        refine lv_if_eq (tgt := 109) hx hb dX0_plan_41 (by decide) (fun c_41 => ?_) (fun c_41 => ?_)
        · skip
          refine lv_iinc (v := (nI (rr + 1))) (lv' := [(2, .int (nI (rr + 1))), (3, .int (mkS (nxS N Rr Qs 0 N))), (0, .ref (a 0)), (1, .int (mkS Qs))]) hx hb dX0_plan_109 hl (k := 3) rfl (nI_inc _) (by decide) rfl (fun ls hl => ?_)
          refine lv_goto (tgt := 26) hx hb dX0_plan_112 (by decide) ?_
          exact ih (rr + 1) (mkS Qs) (by omega) _ _ _ _ _ ⟨Qs, k, rfl, rfl, PInv_skip hI (nx_all hN4 hR.1 hR.2.2 c_41)⟩ hP hD hS ls (lv_sub hl [2, 3, 0] rfl)
        · skip
          refine lv_aload_n hx hb dX0_plan_44 rfl (lv_at hl 1 rfl) ?_
          refine gX_group hx hb hts hown hK hP dX0_plan_45 ?_
          refine lv_aload_n hx hb dX0_plan_48 rfl (lv_at hl 1 rfl) ?_
          refine gX_groups hx hb hts hown hK hP dX0_plan_49 ?_
          refine lv_iload_n hx hb dX0_plan_52 rfl (lv_at hl 0 rfl) ?_
          refine sX_group hx hb hK hP hD hS k rfl (by omega) dX0_plan_53 (fun H locs hP hD hS => ?_)
          refine lv_aload_n hx hb dX0_plan_54 rfl (lv_at hl 1 rfl) ?_
          refine lv_iload_n hx hb dX0_plan_55 rfl (lv_at hl 0 rfl) ?_
          refine kX0_oneStatement ⟨hx, hb, hml, hown, hts⟩ hK hP (nxS N Rr Qs 0 N)   ⟨by decide, by decide⟩ hl.1 (Nat.le_of_ble_eq_true rfl) dX0_plan_56 ⟨Nat.zero_le _, Nat.zero_le _⟩ ?_
          refine lv_istore (lv' := [(4, .int (bI (oneS (nxS N Rr Qs 0 N)))), (3, .int (mkS (nxS N Rr Qs 0 N))), (0, .ref (a 0)), (1, .int (mkS Qs)), (2, .int (nI rr))]) hx hb dX0_plan_59 hl (by decide) rfl (fun ls hl => ?_)
          refine lv_iload_n hx hb dX0_plan_61 rfl (lv_at hl 1 rfl) ?_
          refine kX0_lowest ⟨hx, hb, hml, hown, hts⟩ (nxS N Rr Qs 0 N)   ⟨by decide, by decide⟩ hl.1 (Nat.le_of_ble_eq_true rfl) dX0_plan_62 ⟨Nat.zero_le _, Nat.zero_le _⟩ ?_
          refine lv_istore (lv' := [(5, .int (nI (lowS (nxS N Rr Qs 0 N)))), (4, .int (bI (oneS (nxS N Rr Qs 0 N)))), (3, .int (mkS (nxS N Rr Qs 0 N))), (0, .ref (a 0)), (1, .int (mkS Qs)), (2, .int (nI rr))]) hx hb dX0_plan_65 hl (by decide) rfl (fun ls hl => ?_)
          refine lv_aload_n hx hb dX0_plan_67 rfl (lv_at hl 3 rfl) ?_
          refine gX_fits hx hb hts hown hK hP dX0_plan_68 ?_
          refine lv_aload_n hx hb dX0_plan_71 rfl (lv_at hl 3 rfl) ?_
          refine gX_groups hx hb hts hown hK hP dX0_plan_72 ?_
          refine lv_iload hx hb dX0_plan_75 (lv_at hl 1 rfl) ?_
          refine lv_if_eq (tgt := 93) hx hb dX0_plan_77 (by decide) (fun c_77 => ?_) (fun c_77 => ?_)
          · skip
            have c_77 := bI_0.mp c_77
            refine lv_iconst (v := 0) hx hb dX0_plan_93 (by decide) ?_
            refine sX_fits hx hb hK hP hD hS k rfl (by omega) rfl dX0_plan_94 (fun H locs hP hD hS => ?_)
            refine lv_aload_n hx hb dX0_plan_95 rfl (lv_at hl 3 rfl) ?_
            refine lv_dup hx hb dX0_plan_96 rfl ?_
            refine gX_groups hx hb hts hown hK hP dX0_plan_97 ?_
            refine lv_iconst (v := 1) hx hb dX0_plan_100 (by decide) ?_
            refine lv_iadd hx hb dX0_plan_101 ?_
            refine tope (y := (nI (k + 1))) (nI_add k 1) ?_
            refine pX_groups hx hb hts hown hK hP hD hS dX0_plan_102 (fun H locs hP hD hS => ?_)
            refine lv_iload_n hx hb dX0_plan_105 rfl (lv_at hl 4 rfl) ?_
            refine lv_iload_n hx hb dX0_plan_106 rfl (lv_at hl 2 rfl) ?_
            refine lv_ior hx hb dX0_plan_107 ?_
            refine tope (y := (mkS (fun i => Qs i || nxS N Rr Qs 0 N i))) (mkS_or _ _) ?_
            refine lv_istore_n (lv' := [(1, .int (mkS (fun i => Qs i || nxS N Rr Qs 0 N i))), (5, .int (nI (lowS (nxS N Rr Qs 0 N)))), (4, .int (bI (oneS (nxS N Rr Qs 0 N)))), (3, .int (mkS (nxS N Rr Qs 0 N))), (0, .ref (a 0)), (2, .int (nI rr))]) hx hb dX0_plan_108 rfl hl (by decide) rfl (fun ls hl => ?_)
            refine lv_iinc (v := (nI (rr + 1))) (lv' := [(2, .int (nI (rr + 1))), (1, .int (mkS (fun i => Qs i || nxS N Rr Qs 0 N i))), (5, .int (nI (lowS (nxS N Rr Qs 0 N)))), (4, .int (bI (oneS (nxS N Rr Qs 0 N)))), (3, .int (mkS (nxS N Rr Qs 0 N))), (0, .ref (a 0))]) hx hb dX0_plan_109 hl (k := 5) rfl (nI_inc _) (by decide) rfl (fun ls hl => ?_)
            refine lv_goto (tgt := 26) hx hb dX0_plan_112 (by decide) ?_
            exact ih (rr + 1) (mkS (fun i => Qs i || nxS N Rr Qs 0 N i)) (by omega) _ _ _ _ _ ⟨_, _, rfl, rfl, PInv_step hN4 hR.1 hI c_41 (Or.inl rfl)⟩ hP hD hS ls (lv_sub hl [5, 1, 0] rfl)
          · skip
            have c_77 := bI_n0.mp c_77
            refine lv_aload_n hx hb dX0_plan_80 rfl (lv_at hl 3 rfl) ?_
            refine lv_iload hx hb dX0_plan_81 (lv_at hl 0 rfl) ?_
            refine kX0_fitsLanes ⟨hx, hb, hml, hown, hts⟩ hK hP (lowS (nxS N Rr Qs 0 N))  (lowS_lt _) ⟨by decide, by decide⟩ hl.1 (Nat.le_of_ble_eq_true rfl) dX0_plan_83 ⟨Nat.zero_le _, Nat.zero_le _⟩ ?_
            refine lv_if_eq (tgt := 93) hx hb dX0_plan_86 (by decide) (fun c_86 => ?_) (fun c_86 => ?_)
            · skip
              have c_86 := bI_0.mp c_86
              refine lv_iconst (v := 0) hx hb dX0_plan_93 (by decide) ?_
              refine sX_fits hx hb hK hP hD hS k rfl (by omega) rfl dX0_plan_94 (fun H locs hP hD hS => ?_)
              refine lv_aload_n hx hb dX0_plan_95 rfl (lv_at hl 3 rfl) ?_
              refine lv_dup hx hb dX0_plan_96 rfl ?_
              refine gX_groups hx hb hts hown hK hP dX0_plan_97 ?_
              refine lv_iconst (v := 1) hx hb dX0_plan_100 (by decide) ?_
              refine lv_iadd hx hb dX0_plan_101 ?_
              refine tope (y := (nI (k + 1))) (nI_add k 1) ?_
              refine pX_groups hx hb hts hown hK hP hD hS dX0_plan_102 (fun H locs hP hD hS => ?_)
              refine lv_iload_n hx hb dX0_plan_105 rfl (lv_at hl 4 rfl) ?_
              refine lv_iload_n hx hb dX0_plan_106 rfl (lv_at hl 2 rfl) ?_
              refine lv_ior hx hb dX0_plan_107 ?_
              refine tope (y := (mkS (fun i => Qs i || nxS N Rr Qs 0 N i))) (mkS_or _ _) ?_
              refine lv_istore_n (lv' := [(1, .int (mkS (fun i => Qs i || nxS N Rr Qs 0 N i))), (5, .int (nI (lowS (nxS N Rr Qs 0 N)))), (4, .int (bI (oneS (nxS N Rr Qs 0 N)))), (3, .int (mkS (nxS N Rr Qs 0 N))), (0, .ref (a 0)), (2, .int (nI rr))]) hx hb dX0_plan_108 rfl hl (by decide) rfl (fun ls hl => ?_)
              refine lv_iinc (v := (nI (rr + 1))) (lv' := [(2, .int (nI (rr + 1))), (1, .int (mkS (fun i => Qs i || nxS N Rr Qs 0 N i))), (5, .int (nI (lowS (nxS N Rr Qs 0 N)))), (4, .int (bI (oneS (nxS N Rr Qs 0 N)))), (3, .int (mkS (nxS N Rr Qs 0 N))), (0, .ref (a 0))]) hx hb dX0_plan_109 hl (k := 5) rfl (nI_inc _) (by decide) rfl (fun ls hl => ?_)
              refine lv_goto (tgt := 26) hx hb dX0_plan_112 (by decide) ?_
              exact ih (rr + 1) (mkS (fun i => Qs i || nxS N Rr Qs 0 N i)) (by omega) _ _ _ _ _ ⟨_, _, rfl, rfl, PInv_step hN4 hR.1 hI c_41 (Or.inl rfl)⟩ hP hD hS ls (lv_sub hl [5, 1, 0] rfl)
            · skip
              have c_86 := bI_n0.mp c_86
              refine lv_iconst (v := 1) hx hb dX0_plan_89 (by decide) ?_
              refine lv_goto (tgt := 94) hx hb dX0_plan_90 (by decide) ?_
              refine sX_fits hx hb hK hP hD hS k rfl (by omega) rfl dX0_plan_94 (fun H locs hP hD hS => ?_)
              refine lv_aload_n hx hb dX0_plan_95 rfl (lv_at hl 3 rfl) ?_
              refine lv_dup hx hb dX0_plan_96 rfl ?_
              refine gX_groups hx hb hts hown hK hP dX0_plan_97 ?_
              refine lv_iconst (v := 1) hx hb dX0_plan_100 (by decide) ?_
              refine lv_iadd hx hb dX0_plan_101 ?_
              refine tope (y := (nI (k + 1))) (nI_add k 1) ?_
              refine pX_groups hx hb hts hown hK hP hD hS dX0_plan_102 (fun H locs hP hD hS => ?_)
              refine lv_iload_n hx hb dX0_plan_105 rfl (lv_at hl 4 rfl) ?_
              refine lv_iload_n hx hb dX0_plan_106 rfl (lv_at hl 2 rfl) ?_
              refine lv_ior hx hb dX0_plan_107 ?_
              refine tope (y := (mkS (fun i => Qs i || nxS N Rr Qs 0 N i))) (mkS_or _ _) ?_
              refine lv_istore_n (lv' := [(1, .int (mkS (fun i => Qs i || nxS N Rr Qs 0 N i))), (5, .int (nI (lowS (nxS N Rr Qs 0 N)))), (4, .int (bI (oneS (nxS N Rr Qs 0 N)))), (3, .int (mkS (nxS N Rr Qs 0 N))), (0, .ref (a 0)), (2, .int (nI rr))]) hx hb dX0_plan_108 rfl hl (by decide) rfl (fun ls hl => ?_)
              refine lv_iinc (v := (nI (rr + 1))) (lv' := [(2, .int (nI (rr + 1))), (1, .int (mkS (fun i => Qs i || nxS N Rr Qs 0 N i))), (5, .int (nI (lowS (nxS N Rr Qs 0 N)))), (4, .int (bI (oneS (nxS N Rr Qs 0 N)))), (3, .int (mkS (nxS N Rr Qs 0 N))), (0, .ref (a 0))]) hx hb dX0_plan_109 hl (k := 5) rfl (nI_inc _) (by decide) rfl (fun ls hl => ?_)
              refine lv_goto (tgt := 26) hx hb dX0_plan_112 (by decide) ?_
              exact ih (rr + 1) (mkS (fun i => Qs i || nxS N Rr Qs 0 N i)) (by omega) _ _ _ _ _ ⟨_, _, rfl, rfl, PInv_step hN4 hR.1 hI c_41 (Or.inr ⟨rfl, c_77, c_86⟩)⟩ hP hD hS ls (lv_sub hl [5, 1, 0] rfl)
    exact L26 (N - 0) 0 0 (by omega) 0 gr fi _ _ ⟨fun _ => false, 0, mkS_0.symm, rfl, PInv_0⟩ hP hD hS ls (lv_sub hl [2, 1, 0] rfl)
  · skip
    have hp9 : rd = 1 ∧ PlanOK (aX ra) (hX sf) po N gs gr fi := hpl.resolve_left c_4
    exact hret (rd, be, gs, gr, fi) _ _ _ _ hp9 hP hD hS dX0_plan_7
theorem kX0_plan {p : Program} {l : Launch} {e : Env} {R : Room} {s : State} {m : MethodId} {args : Array Value} {below : List Frame} {meth : Method} {c : Code} {H : Heap} {locs : List Loc} {cells slots : Nat} {Q : State → Prop} {cc : ByteArray} {pc nL : Nat} {ls : Array Slot} {rest : List Value} {D : va_G} {A : Nat → Prop} {a : Nat → Nat} {d : Nat → ClassId} {fc : Nat → Int32} {po ra sf oc : Nat → Int32} {rd : Int32} {be : Nat → Int32} {gs : Int32} {gr fi la : Nat → Int32} {N : Nat} (S : CallFix p m c cc nL s args lw_all RX0) (hK : va_K D vwCl (tyX d) s) (hP : va_P D vwCl (WX a d fc (nI N) po ra sf oc rd be gs gr fi la) H) (hD : va_D A (WX a d fc (nI N) po ra sf oc rd be gs gr fi la)) (hS : va_S A s.heap H locs) (hA : ∀ q, s.heap.size ≤ q → A q)  (hN4 : N ≤ 4) (hpl : rd = 0 ∨ (rd = 1 ∧ PlanOK (aX ra) (hX sf) po N gs gr fi)) (hR : rmX0_plan.frames + 1 ≤ R.frames ∧ 8 + (6 + 11) + rmX0_plan.locals ≤ R.locals) (hsz : ls.size = nL) (hroom : (rest.map fun v => v.category).sum ≤ 8) (hdg : decode cc pc = .ok (.invokevirtual 123, 3)) (hf : cells ≤ R.cells ∧ slots ≤ R.slots) (kk : ∀ (u : Int32 × (Nat → Int32) × Int32 × (Nat → Int32) × (Nat → Int32)) (H1 : Heap) (locs1 : List Loc), (fun u => u.1 = 1 ∧ PlanOK (aX ra) (hX sf) po N u.2.2.1 u.2.2.2.1 u.2.2.2.2) u → va_P D vwCl ((fun u => WX a d fc (nI N) po ra sf oc u.1 u.2.1 u.2.2.1 u.2.2.2.1 u.2.2.2.2 la) u) H1 → va_D A ((fun u => WX a d fc (nI N) po ra sf oc u.1 u.2.1 u.2.2.1 u.2.2.2.1 u.2.2.2.2 la) u) → va_S A s.heap H1 locs1 → W p l e R s m args below meth c H1 locs1 cells slots Q (F0 m (pc + 3) ls rest)) : W p l e R s m args below meth c H locs cells slots Q (F0 m pc ls (.ref (a 0) :: rest)) :=
  icallV (wr := []) (q := (RX0, TX0, 12)) (ci := 0) (As := []) S (mX0_plan l hN4 hpl) (cwV 0 S.2.2.2.2 (lw_V q119 q121 qs3 q28 q122) rfl rfl rfl (by decide +kernel) hR) hK hP hD hS hA [0, 1, 2, 3, 4, 5, 6, 7, 8, 9] [] rfl rfl (by decide) (by decide) (by decide) rfl rfl rfl hsz rfl hroom hdg hf kk
end
section
/-! the plain law: rounds of statements in another order -/
def rwF (st : Nat → Nat → (Nat → Int32) → (Nat → Int32)) (P : Nat → Bool) (i : Nat) : Nat → Nat → (Nat → Int32) → (Nat → Int32)
  | _, 0, f => f
  | x, n + 1, f => rwF st P i (x + 1) n (if P x = true then st x i f else f)
def rnF (st : Nat → Nat → (Nat → Int32) → (Nat → Int32)) (P : Nat → Bool) (N : Nat) : Nat → Nat → (Nat → Int32) → (Nat → Int32)
  | _, 0, f => f
  | i, n + 1, f => rnF st P N (i + 1) n (rwF st P i 0 N f)
def lnF (st : Nat → Nat → (Nat → Int32) → (Nat → Int32)) (x : Nat) : Nat → Nat → (Nat → Int32) → (Nat → Int32)
  | _, 0, f => f
  | i, n + 1, f => lnF st x (i + 1) n (st x i f)
theorem rwF_t {st : Nat → Nat → (Nat → Int32) → (Nat → Int32)} {P : Nat → Bool} {i x n : Nat} {f : Nat → Int32} (h : P x = true) : rwF st P i x (n + 1) f = rwF st P i (x + 1) n (st x i f) := by
  simp only [rwF]; rw [if_pos h]
theorem rwF_f {st : Nat → Nat → (Nat → Int32) → (Nat → Int32)} {P : Nat → Bool} {i x n : Nat} {f : Nat → Int32} (h : P x = false) : rwF st P i x (n + 1) f = rwF st P i (x + 1) n f := by
  simp only [rwF]; rw [if_neg (by rw [h]; decide)]
theorem lnF_4 {st : Nat → Nat → (Nat → Int32) → (Nat → Int32)} {x i n : Nat} {f : Nat → Int32} : lnF st x i (n + 4) f = lnF st x (i + 4) n (st x (i + 3) (st x (i + 2) (st x (i + 1) (st x i f)))) := rfl
theorem rwF_congr {st st2 : Nat → Nat → (Nat → Int32) → (Nat → Int32)} {P Q : Nat → Bool} {i : Nat} : ∀ (n x : Nat) (f : Nat → Int32), (∀ t, x ≤ t → t < x + n → P t = Q t ∧ ∀ g, st t i g = st2 t i g) → rwF st P i x n f = rwF st2 Q i x n f
  | 0, _, _, _ => rfl
  | n + 1, x, f, h => by
    simp only [rwF]
    rw [(h x (by omega) (by omega)).1, (h x (by omega) (by omega)).2 f]
    exact rwF_congr n (x + 1) _ (fun t h1 h2 => h t (by omega) (by omega))
theorem rnF_congr {st st2 : Nat → Nat → (Nat → Int32) → (Nat → Int32)} {P Q : Nat → Bool} {N : Nat} : ∀ (n i : Nat) (f : Nat → Int32), (∀ t j, t < N → i ≤ j → j < i + n → P t = Q t ∧ ∀ g, st t j g = st2 t j g) → rnF st P N i n f = rnF st2 Q N i n f
  | 0, _, _, _ => rfl
  | n + 1, i, f, h => by
    simp only [rnF]
    rw [rwF_congr N 0 f (fun t h1 h2 => h t i (by omega) (by omega) (by omega))]
    exact rnF_congr n (i + 1) _ (fun t j h1 h2 h3 => h t j h1 (by omega) (by omega))
theorem rw_none {st : Nat → Nat → (Nat → Int32) → (Nat → Int32)} {P : Nat → Bool} {i : Nat} : ∀ (n x : Nat) (f : Nat → Int32), (∀ t, x ≤ t → t < x + n → P t = false) → rwF st P i x n f = f
  | 0, _, _, _ => rfl
  | n + 1, x, f, h => by
    rw [rwF_f (h x (by omega) (by omega))]
    exact rw_none n (x + 1) f (fun t h1 h2 => h t (by omega) (by omega))
theorem rw_single {st : Nat → Nat → (Nat → Int32) → (Nat → Int32)} {P : Nat → Bool} {i y : Nat} : ∀ (n x : Nat) (f : Nat → Int32), x ≤ y → y < x + n → (∀ t, x ≤ t → t < x + n → P t = decide (t = y)) → rwF st P i x n f = st y i f
  | 0, _, _, h1, h2, _ => absurd h2 (by omega)
  | n + 1, x, f, h1, h2, h => by
    by_cases e : x = y
    · subst e
      rw [rwF_t (by rw [h x (by omega) (by omega)]; simp)]
      refine rw_none n (x + 1) _ (fun t h3 h4 => ?_)
      rw [h t (by omega) (by omega)]
      simp; omega
    · rw [rwF_f (by rw [h x (by omega) (by omega)]; simp [e])]
      exact rw_single n (x + 1) f (by omega) (by omega) (fun t h3 h4 => h t (by omega) (by omega))
theorem rn_single {st : Nat → Nat → (Nat → Int32) → (Nat → Int32)} {P : Nat → Bool} {N y : Nat} (hy : y < N) (h : ∀ t, t < N → P t = decide (t = y)) : ∀ (n i : Nat) (f : Nat → Int32), rnF st P N i n f = lnF st y i n f
  | 0, _, _ => rfl
  | n + 1, i, f => by
    simp only [rnF, lnF]
    rw [rw_single N 0 f (by omega) (by omega) (fun t _ h2 => h t (by omega))]
    exact rn_single hy h n (i + 1) _
/-! lists of instances -/
def insL (N : Nat) : Nat → Nat → List (Nat × Nat)
  | _, 0 => []
  | i, n + 1 => (List.range' 0 N).map (fun x => (x, i)) ++ insL N (i + 1) n
def goL (st : Nat → Nat → (Nat → Int32) → (Nat → Int32)) (f : Nat → Int32) (q : Nat × Nat) : Nat → Int32 := st q.1 q.2 f
theorem rw_list {st : Nat → Nat → (Nat → Int32) → (Nat → Int32)} {P : Nat → Bool} {i : Nat} : ∀ (n x : Nat) (f : Nat → Int32), rwF st P i x n f = (((List.range' x n).map (fun t => (t, i))).filter (fun q => P q.1)).foldl (goL st) f
  | 0, _, _ => rfl
  | n + 1, x, f => by
    rw [List.range'_succ, List.map_cons]
    cases e : P x
    · rw [rwF_f e, List.filter_cons_of_neg (by simp [e])]
      exact rw_list n (x + 1) f
    · rw [rwF_t e, List.filter_cons_of_pos (by simp [e]), List.foldl_cons]
      exact rw_list n (x + 1) _
theorem rn_list {st : Nat → Nat → (Nat → Int32) → (Nat → Int32)} {P : Nat → Bool} {N : Nat} : ∀ (n i : Nat) (f : Nat → Int32), rnF st P N i n f = ((insL N i n).filter (fun q => P q.1)).foldl (goL st) f
  | 0, _, _ => rfl
  | n + 1, i, f => by
    simp only [rnF, insL]
    rw [List.filter_append, List.foldl_append, ← rw_list N 0 f]
    exact rn_list n (i + 1) _
theorem fold_past {α β : Type} {step : β → α → β} {x : α} : ∀ (ys : List α) (f : β), (∀ y ∈ ys, ∀ g, step (step g x) y = step (step g y) x) → ys.foldl step (step f x) = step (ys.foldl step f) x
  | [], _, _ => rfl
  | y :: ys, f, h => by
    rw [List.foldl_cons, List.foldl_cons, h y List.mem_cons_self f]
    exact fold_past ys _ (fun z hz => h z (List.mem_cons_of_mem _ hz))
theorem two_way {α β : Type} {step : β → α → β} {p q : α → Bool} : ∀ (xs : List α) (f : β), (∀ x ∈ xs, p x = true → q x = false) → xs.Pairwise (fun x y => q x = true → p y = true → ∀ g, step (step g x) y = step (step g y) x) → (xs.filter q).foldl step ((xs.filter p).foldl step f) = (xs.filter (fun x => p x || q x)).foldl step f
  | [], _, _, _ => rfl
  | x :: xs, f, h1, h2 => by
    obtain ⟨h3, h4⟩ := List.pairwise_cons.mp h2
    have h5 : ∀ x ∈ xs, p x = true → q x = false := fun z hz => h1 z (List.mem_cons_of_mem _ hz)
    cases ep : p x
    · have fp : (x :: xs).filter p = xs.filter p := List.filter_cons_of_neg (by rw [ep]; decide)
      cases eq : q x
      · have fq : (x :: xs).filter q = xs.filter q := List.filter_cons_of_neg (by rw [eq]; decide)
        have fr : (x :: xs).filter (fun x => p x || q x) = xs.filter (fun x => p x || q x) := List.filter_cons_of_neg (by simp [ep, eq])
        rw [fp, fq, fr]
        exact two_way xs f h5 h4
      · have fq : (x :: xs).filter q = x :: xs.filter q := List.filter_cons_of_pos eq
        have fr : (x :: xs).filter (fun x => p x || q x) = x :: xs.filter (fun x => p x || q x) := List.filter_cons_of_pos (by simp [eq])
        rw [fp, fq, fr, List.foldl_cons, List.foldl_cons, ← two_way xs (step f x) h5 h4]
        rw [fold_past (x := x) (xs.filter p) f (fun y hy g => h3 y (List.mem_filter.mp hy).1 eq (List.mem_filter.mp hy).2 g)]
    · have eq := h1 x List.mem_cons_self ep
      have fp : (x :: xs).filter p = x :: xs.filter p := List.filter_cons_of_pos ep
      have fq : (x :: xs).filter q = xs.filter q := List.filter_cons_of_neg (by rw [eq]; decide)
      have fr : (x :: xs).filter (fun x => p x || q x) = x :: xs.filter (fun x => p x || q x) := List.filter_cons_of_pos (by simp [ep])
      rw [fp, fq, fr, List.foldl_cons, List.foldl_cons]
      exact two_way xs (step f x) h5 h4
/-- an instance stands before another: an earlier round, or the same round and an earlier statement -/
def befL (q r : Nat × Nat) : Prop := q.2 < r.2 ∨ (q.2 = r.2 ∧ q.1 < r.1)
theorem row_pw {i : Nat} : ∀ (n x : Nat), ((List.range' x n).map (fun t => (t, i))).Pairwise befL
  | 0, _ => List.Pairwise.nil
  | n + 1, x => by
    rw [List.range'_succ, List.map_cons]
    refine List.pairwise_cons.mpr ⟨fun y hy => ?_, row_pw n (x + 1)⟩
    obtain ⟨t, ht, rfl⟩ := List.mem_map.mp hy
    have h1 := (List.mem_range'_1.mp ht).1
    exact Or.inr ⟨rfl, by show x < t; omega⟩
theorem ins_mem {N : Nat} : ∀ (n i : Nat) (q : Nat × Nat), q ∈ insL N i n → q.1 < N ∧ i ≤ q.2 ∧ q.2 < i + n
  | 0, _, _, h => by cases h
  | n + 1, i, q, h => by
    simp only [insL] at h
    rcases List.mem_append.mp h with h | h
    · obtain ⟨t, ht, rfl⟩ := List.mem_map.mp h
      have h1 := List.mem_range'_1.mp ht
      refine ⟨?_, ?_, ?_⟩ <;> dsimp only <;> omega
    · have h1 := ins_mem n (i + 1) q h
      omega
theorem ins_pw {N : Nat} : ∀ (n i : Nat), (insL N i n).Pairwise befL
  | 0, _ => List.Pairwise.nil
  | n + 1, i => by
    simp only [insL]
    refine List.pairwise_append.mpr ⟨row_pw N 0, ins_pw n (i + 1), fun a ha b hb => ?_⟩
    obtain ⟨t, ht, rfl⟩ := List.mem_map.mp ha
    have h1 := ins_mem n (i + 1) b hb
    exact Or.inl (by show i < b.2; omega)
/-- a set of statements run whole before another set, where nothing of the second must come before the first -/
theorem rn_two {st : Nat → Nat → (Nat → Int32) → (Nat → Int32)} {P Q : Nat → Bool} {N i n : Nat} (hd : ∀ x, x < N → P x = true → Q x = false)
    (hc : ∀ x y j k, x < N → y < N → i ≤ j → k < i + n → (j < k ∨ (j = k ∧ x < y)) → Q x = true → P y = true → ∀ g, st y k (st x j g) = st x j (st y k g)) (f : Nat → Int32) :
    rnF st Q N i n (rnF st P N i n f) = rnF st (fun x => P x || Q x) N i n f := by
  rw [rn_list, rn_list, rn_list]
  refine two_way (step := goL st) (p := fun q => P q.1) (q := fun q => Q q.1) (insL N i n) f (fun x hx h => hd x.1 (ins_mem n i x hx).1 h) ?_
  have hpw := ins_pw (N := N) n i
  refine (List.Pairwise.and_mem.mp hpw).imp ?_
  intro x y h h1 h2 g
  obtain ⟨hx, hy, hb⟩ := h
  have mx := ins_mem n i x hx
  have my := ins_mem n i y hy
  exact hc x.1 y.1 x.2 y.2 mx.1 my.1 mx.2.1 my.2.2 hb h1 h2 g
end
section
/-! the plain law: instances that don't touch the same cells commute; lanes -/
def VA (a : Nat → Nat → Int32) (N : Nat) : Prop := ∀ x p, x < N → p < 3 → ∃ j, j < 3 ∧ a x p = nI j
def VH (h : Nat → Nat → Int32) (N : Nat) : Prop := ∀ x p, x < N → p < 3 → ∃ j, j ≤ 8 ∧ h x p = nI j - 4
def IR (h : Nat → Nat → Int32) (N lo up : Nat) : Prop := ∀ x p, x < N → p < 3 → badC (nI lo + h x p) = false ∧ badC (nI up + h x p) = false
def ouA (h : Nat → Nat → Int32) (v w : Int32) : Nat → Nat → Bool
  | _, 0 => false
  | x, n + 1 => (ouG h x v || ouG h x w) || ouA h v w (x + 1) n
theorem ouG_f {h : Nat → Nat → Int32} {x : Nat} {v : Int32} (e : ouG h x v = false) : ∀ p, p < 3 → badC (v + h x p) = false := by
  unfold ouG at e
  simp only [Bool.or_eq_false_iff] at e
  intro p hp
  rcases (show p = 0 ∨ p = 1 ∨ p = 2 by omega) with rfl | rfl | rfl
  · exact e.1
  · exact e.2.1
  · exact e.2.2
theorem ouA_f {h : Nat → Nat → Int32} {v w : Int32} : ∀ (n x : Nat), ouA h v w x n = false → ∀ t, x ≤ t → t < x + n → ouG h t v = false ∧ ouG h t w = false
  | 0, _, _, t, h1, h2 => absurd h2 (by omega)
  | n + 1, x, e, t, h1, h2 => by
    simp only [ouA, Bool.or_eq_false_iff] at e
    by_cases et : t = x
    · subst et; exact e.1
    · exact ouA_f n (x + 1) e.2 t (by omega) (by omega)
theorem ouA_IR {h : Nat → Nat → Int32} {N lo up : Nat} (e : ouA h (nI lo) (nI up) 0 N = false) : IR h N lo up := by
  intro x p hx hp
  have h1 := ouA_f N 0 e x (by omega) (by omega)
  exact ⟨ouG_f h1.1 p hp, ouG_f h1.2 p hp⟩
theorem sh_in {lo H : Nat} (hl : lo < 32) (hH : H ≤ 8) (h : badC (nI lo + (nI H - 4)) = false) : 4 ≤ lo + H ∧ lo + H < 36 := by
  obtain ⟨q, hq, e⟩ := badC_nat h
  have e2 : nI lo + nI H = nI q + nI 4 := by
    have e3 : nI 4 = (4 : Int32) := rfl
    rw [e3]
    grind
  rw [nI_add, nI_add] at e2
  have e4 := (nI_eq (by omega) (by omega)).mp e2
  omega
/-- where an instance's part lies -/
theorem ix_val {a h : Nat → Nat → Int32} {N lo up x p i : Nat} (hA : VA a N) (hH : VH h N) (hI : IR h N lo up) (hup : up < 32) (hx : x < N) (hp : p < 3) (h1 : lo ≤ i) (h2 : i ≤ up) :
    ∃ j H, j < 3 ∧ H ≤ 8 ∧ a x p = nI j ∧ h x p = nI H - 4 ∧ 4 ≤ i + H ∧ i + H < 36 ∧ ixG a h x p i = nI (j * 32 + (i + H - 4)) ∧ ixN a h x p i = j * 32 + (i + H - 4) := by
  obtain ⟨j, hj, ej⟩ := hA x p hx hp
  obtain ⟨H, hH, eH⟩ := hH x p hx hp
  obtain ⟨i1, i2⟩ := hI x p hx hp
  rw [eH] at i1 i2
  have b1 := sh_in (by omega) hH i1
  have b2 := sh_in (by omega) hH i2
  have e : ixG a h x p i = nI (j * 32 + (i + H - 4)) := by
    unfold ixG
    rw [ej, eH]
    have e1 : nI (j * 32 + (i + H - 4)) + nI 4 = nI j * nI 32 + nI i + nI H := by
      rw [pk_mul, nI_add, nI_add, nI_add]
      congr 1
      omega
    have e2 : nI 4 = (4 : Int32) := rfl
    have e3 : nI 32 = (32 : Int32) := rfl
    rw [e2, e3] at e1
    grind
  refine ⟨j, H, hj, hH, ej, eH, by omega, by omega, e, ?_⟩
  unfold ixN
  rw [e]
  exact nI_clamp (by omega)
theorem ix_ok {a h : Nat → Nat → Int32} {N lo up x i : Nat} (hA : VA a N) (hH : VH h N) (hI : IR h N lo up) (hup : up < 32) (hx : x < N) (h1 : lo ≤ i) (h2 : i ≤ up) : okG a h x i := by
  intro p hp
  obtain ⟨j, H, b1, b2, -, -, b3, b4, e, -⟩ := ix_val hA hH hI hup hx hp h1 h2
  exact ⟨_, by omega, e⟩
/-- two parts that touch one cell: the machine's 'meets' sees it -/
theorem ix_meet {a h : Nat → Nat → Int32} {N lo up x p i y q k : Nat} (hA : VA a N) (hH : VH h N) (hI : IR h N lo up) (hup : up < 32) (hx : x < N) (hp : p < 3) (hy : y < N) (hq : q < 3) (h1 : lo ≤ i) (h2 : i ≤ k) (h3 : k ≤ up) (e : ixN a h x p i = ixN a h y q k) : mtG a h x p y q (nI (k - i)) = true ∧ k - i ≤ 8 := by
  obtain ⟨j, H, b1, b2, b3, b4, b5, b6, -, b7⟩ := ix_val (i := i) hA hH hI hup hx hp (by omega) (by omega)
  obtain ⟨j2, H2, c1, c2, c3, c4, c5, c6, -, c7⟩ := ix_val (i := k) hA hH hI hup hy hq (by omega) (by omega)
  rw [b7, c7] at e
  have ej : j = j2 := by omega
  have eH : H = H2 + (k - i) := by omega
  refine ⟨?_, by omega⟩
  unfold mtG
  rw [b3, c3, b4, c4, ej, eH, ← nI_add]
  simp
  grind
theorem pa_pr {a h : Nat → Nat → Int32} {po : Nat → Int32} {x y : Nat} : ∀ (n i : Nat), paG a h po x y i n = false → ∀ d, i ≤ d → d < i + n → prG a h po x y (nI d) = false
  | 0, _, _, d, h1, h2 => absurd h2 (by omega)
  | n + 1, i, e, d, h1, h2 => by
    simp only [paG, Bool.or_eq_false_iff] at e
    by_cases ed : d = i
    · subst ed; exact e.1
    · exact pa_pr n (i + 1) e.2 d (by omega) (by omega)
theorem re_congr {a h : Nat → Nat → Int32} {po oc : Nat → Int32} {s i : Nat} {f g : Nat → Int32} (h1 : rdG po s 1 = true → f (ixN a h s 1 i) = g (ixN a h s 1 i)) (h2 : rdG po s 2 = true → f (ixN a h s 2 i) = g (ixN a h s 2 i)) : reG a h po oc s i f = reG a h po oc s i g := by
  unfold reG rsG
  by_cases h5 : po s = 5
  · simp [h5]
  · have e1 := h1 (by simp [rdG, h5])
    rw [e1]
    by_cases h3 : po s ≤ 3
    · rw [h2 (by simp [rdG, h3])]
    · have n0 : ¬ po s = 0 := fun q => h3 (by rw [q]; decide)
      have n1 : ¬ po s = 1 := fun q => h3 (by rw [q]; decide)
      have n2 : ¬ po s = 2 := fun q => h3 (by rw [q]; decide)
      have n3 : ¬ po s = 3 := fun q => h3 (by rw [q]; decide)
      simp [n0, n1, n2, n3]
theorem re_upd {a h : Nat → Nat → Int32} {po oc : Nat → Int32} {s i k : Nat} {f : Nat → Int32} {v : Int32} (h1 : ∀ q, q < 3 → 0 < q → rdG po s q = true → k ≠ ixN a h s q i) : reG a h po oc s i (upd f k v) = reG a h po oc s i f :=
  re_congr (fun e => pk_un (fun q => h1 1 (by omega) (by omega) e q.symm)) (fun e => pk_un (fun q => h1 2 (by omega) (by omega) e q.symm))
theorem upd_comm {f : Nat → Int32} {k j : Nat} {v w : Int32} (h : k ≠ j) : upd (upd f k v) j w = upd (upd f j w) k v := by
  funext t
  unfold upd
  by_cases e1 : t = j
  · by_cases e2 : t = k
    · exact absurd (e2.symm.trans e1) h
    · simp [e1, fun q => h (q : k = j), show ¬ j = k from fun q => h q.symm]
  · by_cases e2 : t = k <;> simp [e1, e2]
    intro q; exact absurd q h
theorem mt_fd {a h : Nat → Nat → Int32} {po : Nat → Int32} {x y q : Nat} {d : Int32} (hq : q < 3) (h0 : 0 < q) (hr : rdG po y q = true) (hm : mtG a h x 0 y q d = true) : fdG a h po x y d = true := by
  unfold fdG
  rcases (show q = 1 ∨ q = 2 by omega) with rfl | rfl <;> simp [hr, hm]
theorem mt_sp {a h : Nat → Nat → Int32} {po : Nat → Int32} {x y q : Nat} {d : Int32} (hq : q < 3) (h0 : 0 < q) (hr : rdG po x q = true) (hm : mtG a h x q y 0 d = true) : spG a h po x y d = true := by
  unfold spG
  rcases (show q = 1 ∨ q = 2 by omega) with rfl | rfl <;> simp [hr, hm]
/-- instances commute if the earlier one needn't come first -/
theorem st_comm {a h : Nat → Nat → Int32} {po oc : Nat → Int32} {N lo up x y i k : Nat} (hA : VA a N) (hH : VH h N) (hI : IR h N lo up) (hup : up < 32) (hx : x < N) (hy : y < N) (h1 : lo ≤ i) (h3 : k ≤ up) (hb : i < k ∨ (i = k ∧ x < y)) (hp : paG a h po x y 0 9 = false) (f : Nat → Int32) :
    stG a h po oc y k (stG a h po oc x i f) = stG a h po oc x i (stG a h po oc y k f) := by
  have no : ∀ d, d = k - i → d ≤ 8 → mtG a h x 0 y 0 (nI d) = false ∧ fdG a h po x y (nI d) = false ∧ spG a h po x y (nI d) = false := by
    intro d hd h8
    have e := pa_pr 9 0 hp d (by omega) (by omega)
    unfold prG at e
    have e2 : (decide (nI d = 0) && decide (y ≤ x)) = false := by
      rcases hb with hb | hb
      · have : ¬ nI d = 0 := nI_ne0 (by omega) (by omega)
        simp [this]
      · have : ¬ y ≤ x := by omega
        simp [this]
    rw [e2] at e
    simpa using e
  have n0 : ixN a h x 0 i ≠ ixN a h y 0 k := by
    intro e
    obtain ⟨m1, m2⟩ := ix_meet hA hH hI hup hx (by omega) hy (by omega) h1 (by omega) h3 e
    rw [(no _ rfl m2).1] at m1; cases m1
  have nf : ∀ q, q < 3 → 0 < q → rdG po y q = true → ixN a h x 0 i ≠ ixN a h y q k := by
    intro q hq h0 hr e
    obtain ⟨m1, m2⟩ := ix_meet hA hH hI hup hx (by omega) hy hq h1 (by omega) h3 e
    have m3 := mt_fd hq h0 hr m1
    rw [(no _ rfl m2).2.1] at m3; cases m3
  have ns : ∀ q, q < 3 → 0 < q → rdG po x q = true → ixN a h y 0 k ≠ ixN a h x q i := by
    intro q hq h0 hr e
    obtain ⟨m1, m2⟩ := ix_meet hA hH hI hup hx hq hy (by omega) h1 (by omega) h3 e.symm
    have m3 := mt_sp hq h0 hr m1
    rw [(no _ rfl m2).2.2] at m3; cases m3
  unfold stG
  rw [re_upd nf, re_upd ns]
  exact upd_comm n0
/-- four rounds at a time -/
theorem lanes4 {a h : Nat → Nat → Int32} {po oc : Nat → Int32} {N lo up x : Nat} (hA : VA a N) (hH : VH h N) (hI : IR h N lo up) (hup : up < 32) (hx : x < N) (hfl : flG a h po x = true) (i : Nat) (f : Nat → Int32) (h1 : lo ≤ i) (h2 : i + 3 ≤ up) :
    upd (upd (upd (upd f (ixN a h x 0 i) (reG a h po oc x i f)) (ixN a h x 0 (i + 1)) (reG a h po oc x (i + 1) f)) (ixN a h x 0 (i + 2)) (reG a h po oc x (i + 2) f)) (ixN a h x 0 (i + 3)) (reG a h po oc x (i + 3) f) =
      stG a h po oc x (i + 3) (stG a h po oc x (i + 2) (stG a h po oc x (i + 1) (stG a h po oc x i f))) := by
  have fl : ∀ d, 0 < d → d < 4 → fdG a h po x x (nI d) = false := by
    unfold flG at hfl
    simp only [Bool.not_eq_true', Bool.or_eq_false_iff] at hfl
    intro d h0 h4
    rcases (show d = 1 ∨ d = 2 ∨ d = 3 by omega) with rfl | rfl | rfl
    · exact hfl.1
    · exact hfl.2.1
    · exact hfl.2.2
  have nf : ∀ j k, lo ≤ j → j < k → k < j + 4 → k ≤ up → ∀ q, q < 3 → 0 < q → rdG po x q = true → ixN a h x 0 j ≠ ixN a h x q k := by
    intro j k g1 g2 g3 g4 q hq h0 hr e
    obtain ⟨m1, m2⟩ := ix_meet hA hH hI hup hx (by omega) hx hq g1 (by omega) g4 e
    have m3 := mt_fd hq h0 hr m1
    rw [fl (k - j) (by omega) (by omega)] at m3; cases m3
  unfold stG
  rw [re_upd (nf i (i + 1) (by omega) (by omega) (by omega) (by omega))]
  rw [re_upd (nf (i + 1) (i + 2) (by omega) (by omega) (by omega) (by omega)), re_upd (nf i (i + 2) (by omega) (by omega) (by omega) (by omega))]
  rw [re_upd (nf (i + 2) (i + 3) (by omega) (by omega) (by omega) (by omega)), re_upd (nf (i + 1) (i + 3) (by omega) (by omega) (by omega) (by omega)), re_upd (nf i (i + 3) (by omega) (by omega) (by omega) (by omega))]
def grS (N : Nat) (g : Nat → Nat) (j : Nat) : Nat → Bool := fun s => decide (s < N) && decide (g s = j)
theorem low_sing {N j x : Nat} {g : Nat → Nat} (hN : N ≤ 4) (hx : x < N) (h : ∀ t, t < N → (g t = j ↔ t = x)) : lowS (grS N g j) = x ∧ ∀ t, t < N → grS N g j t = decide (t = x) := by
  have h1 : ∀ t, t < N → grS N g j t = decide (t = x) := fun t ht => by simp [grS, ht, h t ht]
  have h2 : ∀ t, t < 4 → grS N g j t = decide (t = x) := by
    intro t ht
    by_cases e : t < N
    · exact h1 t e
    · simp [grS, e]; omega
  refine ⟨?_, h1⟩
  unfold lowS
  rw [h2 0 (by omega), h2 1 (by omega), h2 2 (by omega)]
  rcases (show x = 0 ∨ x = 1 ∨ x = 2 ∨ x = 3 by omega) with rfl | rfl | rfl | rfl <;> decide
/-- one more group -/
theorem part_step {a h : Nat → Nat → Int32} {po oc : Nat → Int32} {N lo up j : Nat} {g : Nat → Nat} (hA : VA a N) (hH : VH h N) (hI : IR h N lo up) (hup : up < 32) (hlo : lo ≤ up) (hm : ∀ x y, x < N → y < N → paG a h po x y 0 9 = true → g x ≤ g y) (f : Nat → Int32) :
    rnF (stG a h po oc) (grS N g j) N lo (up + 1 - lo) (rnF (stG a h po oc) (fun x => decide (g x < j)) N lo (up + 1 - lo) f) = rnF (stG a h po oc) (fun x => decide (g x < j + 1)) N lo (up + 1 - lo) f := by
  rw [rn_two (P := fun x => decide (g x < j)) (Q := grS N g j)]
  · refine rnF_congr _ _ _ (fun t i ht _ _ => ⟨?_, fun _ => rfl⟩)
    by_cases e : g t = j
    · simp [grS, ht, e]
    · have e2 : g t < j + 1 ↔ g t < j := by omega
      simp [grS, ht, e, e2]
  · intro x hx e
    simp at e
    have : ¬ g x = j := by omega
    simp [grS, this]
  · intro x y i k hx hy h1 h2 hb hq hp f
    simp [grS] at hq hp
    refine st_comm hA hH hI hup hx hy h1 (by omega) hb ?_ f
    cases e : paG a h po x y 0 9
    · rfl
    · have := hm x y hx hy e; omega
end
section
/-! LaneLoops: runPlain, runInLanes, run (printed by gen/p20.py) -/
def runG (a h : Nat → Nat → Int32) (po oc : Nat → Int32) (N : Nat) (v w : Int32) (fc : Nat → Int32) : Int32 × (Nat → Int32) :=
  if badC v || badC w then (-5, fc) else if ouA h v w 0 N then (-2, fc) else if w < v then (0, fc) else (nI N * (w - v + 1), rnF (stG a h po oc) (fun _ => true) N v.toNatClampNeg (w.toNatClampNeg + 1 - v.toNatClampNeg) fc)
theorem run_end {st : Nat → Nat → (Nat → Int32) → (Nat → Int32)} {N lo n k : Nat} {g : Nat → Nat} (h : ∀ s, s < N → g s < k) (f : Nat → Int32) : rnF st (fun x => decide (g x < k)) N lo n f = rnF st (fun _ => true) N lo n f :=
  rnF_congr _ _ _ (fun t j ht _ _ => ⟨by simp [h t ht], fun _ => rfl⟩)
theorem run_0 {st : Nat → Nat → (Nat → Int32) → (Nat → Int32)} {N : Nat} {g : Nat → Nat} : ∀ (n lo : Nat) (f : Nat → Int32), rnF st (fun x => decide (g x < 0)) N lo n f = f
  | 0, _, _ => rfl
  | n + 1, lo, f => by
    simp only [rnF]
    rw [rw_none N 0 f (fun t _ _ => by simp)]
    exact run_0 n (lo + 1) f
abbrev rmX0_runPlain : Room := { frames := 3, cells := 0, slots := 0, locals := 69 }
set_option maxHeartbeats 4000000 in
set_option maxRecDepth 100000 in
theorem mX0_runPlain (l : Launch) {D : va_G} {a : Nat → Nat} {d : Nat → ClassId} {fc : Nat → Int32} {po ra sf oc : Nat → Int32} {rd : Int32} {be : Nat → Int32} {gs : Int32} {gr fi la : Nat → Int32} {N : Nat} (P : Nat → Bool) (lo : Nat) (up : Nat)  (hN4 : N ≤ 4) (hup : up < 32) (hlo : lo ≤ up) (ok : ∀ x i, x < N → lo ≤ i → i ≤ up → okG (aX ra) (hX sf) x i) : MV l yX0_runPlain (ws_ yX0_runPlain cX0_runPlain 7 none) rmX0_runPlain [.ref (a 0), .int (mkS P), .int (nI lo), .int (nI up)] D (tyX d) (WX a d fc (nI N) po ra sf oc rd be gs gr fi la) (T := Nat → Int32) (fun u => u = rnF (stG (aX ra) (hX sf) po oc) P N lo (up + 1 - lo) fc) (fun u => WX a d u (nI N) po ra sf oc rd be gs gr fi la) := by
  refine impV (by decide) (Nat.le_of_ble_eq_true rfl) ?_
  intro p e s m ar below meth c Q A hx hb hml hown hts hK hP hD hS hA hret ls hl
  have hown : s.vm.findClass RX0 = some m.cls := hown
  have hl : lv_has ls 7 [(0, .ref (a 0)), (1, .int (mkS P)), (2, .int (nI lo)), (3, .int (nI up))] := hl
  refine lv_iload_n hx hb dX0_runPlain_0 rfl (lv_at hl 2 rfl) ?_
  refine lv_istore (lv' := [(4, .int (nI lo)), (0, .ref (a 0)), (1, .int (mkS P)), (2, .int (nI lo)), (3, .int (nI up))]) hx hb dX0_runPlain_1 hl (by decide) rfl (fun ls hl => ?_)
  have L3 : ∀ (n i : Nat) , i + n = up + 1 → ∀ (fv : Nat → Int32) (H : Heap) (locs : List Loc), (lo ≤ i) → (rnF (stG (aX ra) (hX sf) po oc) P N lo (up + 1 - lo) fc = rnF (stG (aX ra) (hX sf) po oc) P N i n fv) → va_P D vwCl (WX a d fv (nI N) po ra sf oc rd be gs gr fi la) H → va_D A (WX a d fv (nI N) po ra sf oc rd be gs gr fi la) → va_S A s.heap H locs → ∀ ls : Array Slot, lv_has ls 7 [(0, .ref (a 0)), (1, .int (mkS P)), (2, .int (nI lo)), (3, .int (nI up)), (4, .int (nI i))] → W p l e rmX0_runPlain s m ar below meth c H locs 0 0 Q (F0 m 3 ls []) := by
    intro n
    induction n with
    | zero =>
      intro i  hin fv H locs hli hv hP hD hS ls hl
      refine lv_iload hx hb dX0_runPlain_3 (lv_at hl 4 rfl) ?_
      refine lv_iload_n hx hb dX0_runPlain_5 rfl (lv_at hl 3 rfl) ?_
      refine lv_icmp_gt (tgt := 63) hx hb dX0_runPlain_6 (by decide) (fun c_6 => ?_) (fun c_6 => absurd (nI_lt (a := up) (b := i) (by omega) (by omega)) c_6)
      exact hret _ _ _ _ _ hv.symm hP hD hS dX0_runPlain_63
    | succ n ih =>
      intro i  hin fv H locs hli hv hP hD hS ls hl
      refine lv_iload hx hb dX0_runPlain_3 (lv_at hl 4 rfl) ?_
      refine lv_iload_n hx hb dX0_runPlain_5 rfl (lv_at hl 3 rfl) ?_
      refine lv_icmp_gt (tgt := 63) hx hb dX0_runPlain_6 (by decide) (fun c_6 => absurd c_6 (nI_nlt (a := up) (b := i) (by omega) (by omega))) (fun c_6 => ?_)
      refine lv_iconst (v := 0) hx hb dX0_runPlain_9 (by decide) ?_
      refine lv_istore (lv' := [(5, .int 0), (0, .ref (a 0)), (1, .int (mkS P)), (2, .int (nI lo)), (3, .int (nI up)), (4, .int (nI i))]) hx hb dX0_runPlain_10 hl (by decide) rfl (fun ls hl => ?_)
      have L12 : ∀ (n2 x : Nat) , x + n2 = N → ∀ (fw : Nat → Int32) (H : Heap) (locs : List Loc), (rnF (stG (aX ra) (hX sf) po oc) P N lo (up + 1 - lo) fc = rnF (stG (aX ra) (hX sf) po oc) P N (i + 1) n (rwF (stG (aX ra) (hX sf) po oc) P i x n2 fw)) → va_P D vwCl (WX a d fw (nI N) po ra sf oc rd be gs gr fi la) H → va_D A (WX a d fw (nI N) po ra sf oc rd be gs gr fi la) → va_S A s.heap H locs → ∀ ls : Array Slot, lv_has ls 7 [(0, .ref (a 0)), (1, .int (mkS P)), (2, .int (nI lo)), (3, .int (nI up)), (4, .int (nI i)), (5, .int (nI x))] → W p l e rmX0_runPlain s m ar below meth c H locs 0 0 Q (F0 m 12 ls []) := by
        intro n2
        induction n2 with
        | zero =>
          intro x  hin_n2 fw H locs hv2 hP hD hS ls hl
          refine lv_iload hx hb dX0_runPlain_12 (lv_at hl 5 rfl) ?_
          refine lv_aload_n hx hb dX0_runPlain_14 rfl (lv_at hl 0 rfl) ?_
          refine gX_count hx hb hts hown hK hP dX0_runPlain_15 ?_
          refine lv_icmp_ge (tgt := 57) hx hb dX0_runPlain_18 (by decide) (fun c_18 => ?_) (fun c_18 => absurd (nI_le (a := N) (b := x) (by omega) (by omega)) c_18)
          refine lv_iinc (v := (nI (i + 1))) (lv' := [(4, .int (nI (i + 1))), (0, .ref (a 0)), (1, .int (mkS P)), (2, .int (nI lo)), (3, .int (nI up)), (5, .int (nI x))]) hx hb dX0_runPlain_57 hl (k := 4) rfl (nI_inc _) (by decide) rfl (fun ls hl => ?_)
          refine lv_goto (tgt := 3) hx hb dX0_runPlain_60 (by decide) ?_
          exact ih (i + 1)  (by omega) _ _ _ (by omega) hv2 hP hD hS ls (lv_sub hl [1, 2, 3, 4, 0] rfl)
        | succ n2 ih2 =>
          intro x  hin_n2 fw H locs hv2 hP hD hS ls hl
          refine lv_iload hx hb dX0_runPlain_12 (lv_at hl 5 rfl) ?_
          refine lv_aload_n hx hb dX0_runPlain_14 rfl (lv_at hl 0 rfl) ?_
          refine gX_count hx hb hts hown hK hP dX0_runPlain_15 ?_
          refine lv_icmp_ge (tgt := 57) hx hb dX0_runPlain_18 (by decide) (fun c_18 => absurd c_18 (nI_ge (a := x) (b := N) (by omega) (by omega))) (fun c_18 => ?_)
          refine lv_iload_n hx hb dX0_runPlain_21 rfl (lv_at hl 1 rfl) ?_
          refine lv_iload hx hb dX0_runPlain_22 (lv_at hl 5 rfl) ?_
          refine lv_ishr hx hb dX0_runPlain_24 ?_
          refine lv_iconst (v := 1) hx hb dX0_runPlain_25 (by decide) ?_
          refine lv_iand hx hb dX0_runPlain_26 ?_
          refine tope (y := (bI (P x))) (mkS_bit _ (by omega)) ?_
          refine lv_iconst (v := 1) hx hb dX0_runPlain_27 (by decide) ?_
          refine lv_icmp_ne (tgt := 51) hx hb dX0_runPlain_28 (by decide) (fun c_28 => ?_) (fun c_28 => ?_)
          · skip
            have c_28 := bI_n1.mp c_28
            refine lv_iinc (v := (nI (x + 1))) (lv' := [(5, .int (nI (x + 1))), (0, .ref (a 0)), (1, .int (mkS P)), (2, .int (nI lo)), (3, .int (nI up)), (4, .int (nI i))]) hx hb dX0_runPlain_51 hl (k := 5) rfl (nI_inc _) (by decide) rfl (fun ls hl => ?_)
            refine lv_goto (tgt := 12) hx hb dX0_runPlain_54 (by decide) ?_
            exact ih2 (x + 1)  (by omega) _ _ _ (by rw [hv2, rwF_f c_28]) hP hD hS ls (lv_sub hl [1, 2, 3, 4, 5, 0] rfl)
          · skip
            have c_28 := bI_1.mp c_28
            refine lv_aload_n hx hb dX0_runPlain_31 rfl (lv_at hl 0 rfl) ?_
            refine lv_iload hx hb dX0_runPlain_32 (lv_at hl 5 rfl) ?_
            refine lv_iload hx hb dX0_runPlain_34 (lv_at hl 4 rfl) ?_
            refine kX0_result ⟨hx, hb, hml, hown, hts⟩ hK hP x i  (by omega) (ok x i (by omega) hli (by omega)) ⟨by decide, by decide⟩ hl.1 (Nat.le_of_ble_eq_true rfl) dX0_runPlain_36 ⟨Nat.zero_le _, Nat.zero_le _⟩ ?_
            refine lv_istore (lv' := [(6, .int (reG (aX ra) (hX sf) po oc x i fw)), (0, .ref (a 0)), (1, .int (mkS P)), (2, .int (nI lo)), (3, .int (nI up)), (4, .int (nI i)), (5, .int (nI x))]) hx hb dX0_runPlain_39 hl (by decide) rfl (fun ls hl => ?_)
            refine lv_aload_n hx hb dX0_runPlain_41 rfl (lv_at hl 1 rfl) ?_
            refine lv_iload hx hb dX0_runPlain_42 (lv_at hl 6 rfl) ?_
            refine lv_iload hx hb dX0_runPlain_44 (lv_at hl 5 rfl) ?_
            refine lv_iload hx hb dX0_runPlain_46 (lv_at hl 0 rfl) ?_
            refine kX0_store ⟨hx, hb, hml, hown, hts⟩ hK hP hD hS hA x i (reG (aX ra) (hX sf) po oc x i fw)  (by omega) (ok x i (by omega) hli (by omega)) ⟨by decide, by decide⟩ hl.1 (Nat.le_of_ble_eq_true rfl) dX0_runPlain_48 ⟨Nat.zero_le _, Nat.zero_le _⟩ (fun _ H locs _ hP hD hS => ?_)
            refine lv_iinc (v := (nI (x + 1))) (lv' := [(5, .int (nI (x + 1))), (6, .int (reG (aX ra) (hX sf) po oc x i fw)), (0, .ref (a 0)), (1, .int (mkS P)), (2, .int (nI lo)), (3, .int (nI up)), (4, .int (nI i))]) hx hb dX0_runPlain_51 hl (k := 6) rfl (nI_inc _) (by decide) rfl (fun ls hl => ?_)
            refine lv_goto (tgt := 12) hx hb dX0_runPlain_54 (by decide) ?_
            exact ih2 (x + 1)  (by omega) _ _ _ (by rw [hv2, rwF_t c_28]; rfl) hP hD hS ls (lv_sub hl [2, 3, 4, 5, 6, 0] rfl)
      exact L12 (N - 0) 0  (by omega) fv _ _ (hv.trans rfl) hP hD hS ls (lv_sub hl [1, 2, 3, 4, 5, 0] rfl)
  exact L3 (up + 1 - lo) lo  (by omega) fc _ _ (Nat.le_refl _) rfl hP hD hS ls (lv_sub hl [1, 2, 3, 4, 0] rfl)
theorem kX0_runPlain {p : Program} {l : Launch} {e : Env} {R : Room} {s : State} {m : MethodId} {args : Array Value} {below : List Frame} {meth : Method} {c : Code} {H : Heap} {locs : List Loc} {cells slots : Nat} {Q : State → Prop} {cc : ByteArray} {pc nL : Nat} {ls : Array Slot} {rest : List Value} {D : va_G} {A : Nat → Prop} {a : Nat → Nat} {d : Nat → ClassId} {fc : Nat → Int32} {po ra sf oc : Nat → Int32} {rd : Int32} {be : Nat → Int32} {gs : Int32} {gr fi la : Nat → Int32} {N : Nat} (S : CallFix p m c cc nL s args lw_all RX0) (hK : va_K D vwCl (tyX d) s) (hP : va_P D vwCl (WX a d fc (nI N) po ra sf oc rd be gs gr fi la) H) (hD : va_D A (WX a d fc (nI N) po ra sf oc rd be gs gr fi la)) (hS : va_S A s.heap H locs) (hA : ∀ q, s.heap.size ≤ q → A q) (P : Nat → Bool) (lo : Nat) (up : Nat)  (hN4 : N ≤ 4) (hup : up < 32) (hlo : lo ≤ up) (ok : ∀ x i, x < N → lo ≤ i → i ≤ up → okG (aX ra) (hX sf) x i) (hR : rmX0_runPlain.frames + 1 ≤ R.frames ∧ 8 + (7 + 11) + rmX0_runPlain.locals ≤ R.locals) (hsz : ls.size = nL) (hroom : (rest.map fun v => v.category).sum ≤ 8) (hdg : decode cc pc = .ok (.invokevirtual 129, 3)) (hf : cells ≤ R.cells ∧ slots ≤ R.slots) (kk : ∀ (u : Nat → Int32) (H1 : Heap) (locs1 : List Loc), (fun u => u = rnF (stG (aX ra) (hX sf) po oc) P N lo (up + 1 - lo) fc) u → va_P D vwCl ((fun u => WX a d u (nI N) po ra sf oc rd be gs gr fi la) u) H1 → va_D A ((fun u => WX a d u (nI N) po ra sf oc rd be gs gr fi la) u) → va_S A s.heap H1 locs1 → W p l e R s m args below meth c H1 locs1 cells slots Q (F0 m (pc + 3) ls rest)) : W p l e R s m args below meth c H locs cells slots Q (F0 m pc ls (.int (nI up) :: .int (nI lo) :: .int (mkS P) :: .ref (a 0) :: rest)) :=
  icallV (wr := []) (q := (RX0, TX0, 12)) (ci := 0) (As := [.int (mkS P), .int (nI lo), .int (nI up)]) S (mX0_runPlain l P lo up hN4 hup hlo ok) (cwV 3 S.2.2.2.2 (lw_V q194 q196 qs21 q28 q197) rfl rfl rfl (by decide +kernel) hR) hK hP hD hS hA [0, 1, 2, 3, 4, 5, 6, 7, 8, 9] [] rfl rfl (by decide) (by decide) (by decide) rfl rfl rfl hsz rfl hroom hdg hf kk
abbrev rmX0_runInLanes : Room := { frames := 3, cells := 0, slots := 0, locals := 69 }
set_option maxHeartbeats 4000000 in
set_option maxRecDepth 100000 in
theorem mX0_runInLanes (l : Launch) {D : va_G} {a : Nat → Nat} {d : Nat → ClassId} {fc : Nat → Int32} {ct : Int32} {po ra sf oc : Nat → Int32} {rd : Int32} {be : Nat → Int32} {gs : Int32} {gr fi la : Nat → Int32}  (x : Nat) (lo : Nat) (up : Nat)  (hx4 : x < 4) (hup : up < 32) (hlo : lo ≤ up) (ok : ∀ i, lo ≤ i → i ≤ up → okG (aX ra) (hX sf) x i) (hln : ∀ (i : Nat) (f : Nat → Int32), lo ≤ i → i + 3 ≤ up → upd (upd (upd (upd f (ixN (aX ra) (hX sf) x 0 i) (reG (aX ra) (hX sf) po oc x i f)) (ixN (aX ra) (hX sf) x 0 (i + 1)) (reG (aX ra) (hX sf) po oc x (i + 1) f)) (ixN (aX ra) (hX sf) x 0 (i + 2)) (reG (aX ra) (hX sf) po oc x (i + 2) f)) (ixN (aX ra) (hX sf) x 0 (i + 3)) (reG (aX ra) (hX sf) po oc x (i + 3) f) = stG (aX ra) (hX sf) po oc x (i + 3) (stG (aX ra) (hX sf) po oc x (i + 2) (stG (aX ra) (hX sf) po oc x (i + 1) (stG (aX ra) (hX sf) po oc x i f)))) : MV l yX0_runInLanes (ws_ yX0_runInLanes cX0_runInLanes 6 none) rmX0_runInLanes [.ref (a 0), .int (nI x), .int (nI lo), .int (nI up)] D (tyX d) (WX a d fc ct po ra sf oc rd be gs gr fi la) (T := (Nat → Int32) × (Nat → Int32)) (fun u => u.1 = lnF (stG (aX ra) (hX sf) po oc) x lo (up + 1 - lo) fc) (fun u => WX a d u.1 ct po ra sf oc rd be gs gr fi u.2) := by
  refine impV (by decide) (Nat.le_of_ble_eq_true rfl) ?_
  intro p e s m ar below meth c Q A hx hb hml hown hts hK hP hD hS hA hret ls hl
  have hown : s.vm.findClass RX0 = some m.cls := hown
  have hl : lv_has ls 6 [(0, .ref (a 0)), (1, .int (nI x)), (2, .int (nI lo)), (3, .int (nI up))] := hl
  refine lv_iload_n hx hb dX0_runInLanes_0 rfl (lv_at hl 2 rfl) ?_
  refine lv_istore (lv' := [(4, .int (nI lo)), (0, .ref (a 0)), (1, .int (nI x)), (2, .int (nI lo)), (3, .int (nI up))]) hx hb dX0_runInLanes_1 hl (by decide) rfl (fun ls hl => ?_)
  have L83 : ∀ (n i : Nat) , i + n = up + 1 → ∀ (fv lw : Nat → Int32) (H : Heap) (locs : List Loc), (lo ≤ i) → (lnF (stG (aX ra) (hX sf) po oc) x lo (up + 1 - lo) fc = lnF (stG (aX ra) (hX sf) po oc) x i n fv) → va_P D vwCl (WX a d fv ct po ra sf oc rd be gs gr fi lw) H → va_D A (WX a d fv ct po ra sf oc rd be gs gr fi lw) → va_S A s.heap H locs → ∀ ls : Array Slot, lv_has ls 6 [(0, .ref (a 0)), (1, .int (nI x)), (3, .int (nI up)), (4, .int (nI i))] → W p l e rmX0_runInLanes s m ar below meth c H locs 0 0 Q (F0 m 83 ls []) := by
    intro n
    induction n with
    | zero =>
      intro i  hin fv lw H locs hli hv hP hD hS ls hl
      refine lv_iload hx hb dX0_runInLanes_83 (lv_at hl 3 rfl) ?_
      refine lv_iload_n hx hb dX0_runInLanes_85 rfl (lv_at hl 2 rfl) ?_
      refine lv_icmp_gt (tgt := 113) hx hb dX0_runInLanes_86 (by decide) (fun c_86 => ?_) (fun c_86 => absurd (nI_lt (a := up) (b := i) (by omega) (by omega)) c_86)
      exact hret (fv, lw) _ _ _ _ hv.symm hP hD hS dX0_runInLanes_113
    | succ n ih =>
      intro i  hin fv lw H locs hli hv hP hD hS ls hl
      refine lv_iload hx hb dX0_runInLanes_83 (lv_at hl 3 rfl) ?_
      refine lv_iload_n hx hb dX0_runInLanes_85 rfl (lv_at hl 2 rfl) ?_
      refine lv_icmp_gt (tgt := 113) hx hb dX0_runInLanes_86 (by decide) (fun c_86 => absurd c_86 (nI_nlt (a := up) (b := i) (by omega) (by omega))) (fun c_86 => ?_)
      refine lv_aload_n hx hb dX0_runInLanes_89 rfl (lv_at hl 0 rfl) ?_
      refine lv_iload_n hx hb dX0_runInLanes_90 rfl (lv_at hl 1 rfl) ?_
      refine lv_iload hx hb dX0_runInLanes_91 (lv_at hl 3 rfl) ?_
      refine kX0_result ⟨hx, hb, hml, hown, hts⟩ hK hP x i  hx4 (ok i (by omega) (by omega)) ⟨by decide, by decide⟩ hl.1 (Nat.le_of_ble_eq_true rfl) dX0_runInLanes_93 ⟨Nat.zero_le _, Nat.zero_le _⟩ ?_
      refine lv_istore (lv' := [(5, .int (reG (aX ra) (hX sf) po oc x i fv)), (0, .ref (a 0)), (1, .int (nI x)), (3, .int (nI up)), (4, .int (nI i))]) hx hb dX0_runInLanes_96 hl (by decide) rfl (fun ls hl => ?_)
      refine lv_aload_n hx hb dX0_runInLanes_98 rfl (lv_at hl 1 rfl) ?_
      refine lv_iload_n hx hb dX0_runInLanes_99 rfl (lv_at hl 2 rfl) ?_
      refine lv_iload hx hb dX0_runInLanes_100 (lv_at hl 4 rfl) ?_
      refine lv_iload hx hb dX0_runInLanes_102 (lv_at hl 0 rfl) ?_
      refine kX0_store ⟨hx, hb, hml, hown, hts⟩ hK hP hD hS hA x i (reG (aX ra) (hX sf) po oc x i fv)  hx4 (ok i (by omega) (by omega)) ⟨by decide, by decide⟩ hl.1 (Nat.le_of_ble_eq_true rfl) dX0_runInLanes_104 ⟨Nat.zero_le _, Nat.zero_le _⟩ (fun _ H locs _ hP hD hS => ?_)
      refine lv_iinc (v := (nI (i + 1))) (lv' := [(4, .int (nI (i + 1))), (5, .int (reG (aX ra) (hX sf) po oc x i fv)), (0, .ref (a 0)), (1, .int (nI x)), (3, .int (nI up))]) hx hb dX0_runInLanes_107 hl (k := 4) rfl (nI_inc _) (by decide) rfl (fun ls hl => ?_)
      refine lv_goto (tgt := 83) hx hb dX0_runInLanes_110 (by decide) ?_
      exact ih (i + 1)  (by omega) _ _ _ _ (by omega) (hv.trans rfl) hP hD hS ls (lv_sub hl [2, 3, 4, 0] rfl)
  have L3 : ∀ (n i : Nat) , (i ≤ up + 1 ∧ up + 1 ≤ i + n) → ∀ (fv lw : Nat → Int32) (H : Heap) (locs : List Loc), (lo ≤ i) → (lnF (stG (aX ra) (hX sf) po oc) x lo (up + 1 - lo) fc = lnF (stG (aX ra) (hX sf) po oc) x i (up + 1 - i) fv) → va_P D vwCl (WX a d fv ct po ra sf oc rd be gs gr fi lw) H → va_D A (WX a d fv ct po ra sf oc rd be gs gr fi lw) → va_S A s.heap H locs → ∀ ls : Array Slot, lv_has ls 6 [(0, .ref (a 0)), (1, .int (nI x)), (3, .int (nI up)), (4, .int (nI i))] → W p l e rmX0_runInLanes s m ar below meth c H locs 0 0 Q (F0 m 3 ls []) := by
    intro n
    induction n with
    | zero =>
      intro i  hin fv lw H locs hli hv hP hD hS ls hl
      refine lv_iload hx hb dX0_runInLanes_3 (lv_at hl 3 rfl) ?_
      refine lv_iconst (v := 4) hx hb dX0_runInLanes_5 (by decide) ?_
      refine lv_iadd hx hb dX0_runInLanes_6 ?_
      refine tope (y := (nI (i + 4))) (nI_add i 4) ?_
      refine lv_iconst (v := 1) hx hb dX0_runInLanes_7 (by decide) ?_
      refine lv_isub hx hb dX0_runInLanes_8 ?_
      refine tope (y := (nI (i + 3))) (nI_pred (i + 3)) ?_
      refine lv_iload_n hx hb dX0_runInLanes_9 rfl (lv_at hl 2 rfl) ?_
      refine lv_icmp_gt (tgt := 83) hx hb dX0_runInLanes_10 (by decide) (fun c_10 => ?_) (fun c_10 => absurd (nI_lt (a := up) (b := (i + 3)) (by omega) (by omega)) c_10)
      exact L83 (up + 1 - i) i  (by omega) _ _ _ _ hli hv hP hD hS ls (lv_sub hl [0, 1, 2, 3] rfl)
    | succ n ih =>
      intro i  hin fv lw H locs hli hv hP hD hS ls hl
      refine lv_iload hx hb dX0_runInLanes_3 (lv_at hl 3 rfl) ?_
      refine lv_iconst (v := 4) hx hb dX0_runInLanes_5 (by decide) ?_
      refine lv_iadd hx hb dX0_runInLanes_6 ?_
      refine tope (y := (nI (i + 4))) (nI_add i 4) ?_
      refine lv_iconst (v := 1) hx hb dX0_runInLanes_7 (by decide) ?_
      refine lv_isub hx hb dX0_runInLanes_8 ?_
      refine tope (y := (nI (i + 3))) (nI_pred (i + 3)) ?_
      refine lv_iload_n hx hb dX0_runInLanes_9 rfl (lv_at hl 2 rfl) ?_
      refine lv_icmp_gt (tgt := 83) hx hb dX0_runInLanes_10 (by decide) (fun c_10 => ?_) (fun c_10 => ?_)
      · skip
        exact L83 (up + 1 - i) i  (by omega) _ _ _ _ hli hv hP hD hS ls (lv_sub hl [0, 1, 2, 3] rfl)
      · skip
        have c_10 : ¬ up < i + 3 := fun h => c_10 ((nI_ltI (a := up) (b := i + 3) (by omega) (by omega)).mpr h)
        refine lv_iconst (v := 0) hx hb dX0_runInLanes_13 (by decide) ?_
        refine lv_istore (lv' := [(5, .int 0), (0, .ref (a 0)), (1, .int (nI x)), (3, .int (nI up)), (4, .int (nI i))]) hx hb dX0_runInLanes_14 hl (by decide) rfl (fun ls hl => ?_)
        refine lv_iload hx hb dX0_runInLanes_16 (lv_at hl 0 rfl) ?_
        refine lv_iconst (v := 4) hx hb dX0_runInLanes_18 (by decide) ?_
        refine lv_icmp_ge (tgt := 45) hx hb dX0_runInLanes_19 (by decide) (fun c_19 => absurd c_19 (by decide)) (fun c_19 => ?_)
        refine lv_aload_n hx hb dX0_runInLanes_22 rfl (lv_at hl 1 rfl) ?_
        refine gX_lane hx hb hts hown hK hP dX0_runInLanes_23 ?_
        refine lv_iload hx hb dX0_runInLanes_26 (lv_at hl 0 rfl) ?_
        refine lv_aload_n hx hb dX0_runInLanes_28 rfl (lv_at hl 1 rfl) ?_
        refine lv_iload_n hx hb dX0_runInLanes_29 rfl (lv_at hl 2 rfl) ?_
        refine lv_iload hx hb dX0_runInLanes_30 (lv_at hl 4 rfl) ?_
        refine lv_iload hx hb dX0_runInLanes_32 (lv_at hl 0 rfl) ?_
        refine lv_iadd hx hb dX0_runInLanes_34 ?_
        refine tope (y := (nI (i + 0))) (nI_add i 0) ?_
        refine kX0_result ⟨hx, hb, hml, hown, hts⟩ hK hP x (i + 0)  hx4 (ok (i + 0) (by omega) (by omega)) ⟨by decide, by decide⟩ hl.1 (Nat.le_of_ble_eq_true rfl) dX0_runInLanes_35 ⟨Nat.zero_le _, Nat.zero_le _⟩ ?_
        refine sX_lane hx hb hK hP hD hS 0 rfl (by decide) dX0_runInLanes_38 (fun H locs hP hD hS => ?_)
        refine lv_iinc (v := 1) (lv' := [(5, .int 1), (0, .ref (a 0)), (1, .int (nI x)), (3, .int (nI up)), (4, .int (nI i))]) hx hb dX0_runInLanes_39 hl (k := 0) rfl (by decide) (by decide) rfl (fun ls hl => ?_)
        refine lv_goto (tgt := 16) hx hb dX0_runInLanes_42 (by decide) ?_
        refine lv_iload hx hb dX0_runInLanes_16 (lv_at hl 0 rfl) ?_
        refine lv_iconst (v := 4) hx hb dX0_runInLanes_18 (by decide) ?_
        refine lv_icmp_ge (tgt := 45) hx hb dX0_runInLanes_19 (by decide) (fun c_19 => absurd c_19 (by decide)) (fun c_19 => ?_)
        refine lv_aload_n hx hb dX0_runInLanes_22 rfl (lv_at hl 1 rfl) ?_
        refine gX_lane hx hb hts hown hK hP dX0_runInLanes_23 ?_
        refine lv_iload hx hb dX0_runInLanes_26 (lv_at hl 0 rfl) ?_
        refine lv_aload_n hx hb dX0_runInLanes_28 rfl (lv_at hl 1 rfl) ?_
        refine lv_iload_n hx hb dX0_runInLanes_29 rfl (lv_at hl 2 rfl) ?_
        refine lv_iload hx hb dX0_runInLanes_30 (lv_at hl 4 rfl) ?_
        refine lv_iload hx hb dX0_runInLanes_32 (lv_at hl 0 rfl) ?_
        refine lv_iadd hx hb dX0_runInLanes_34 ?_
        refine tope (y := (nI (i + 1))) (nI_add i 1) ?_
        refine kX0_result ⟨hx, hb, hml, hown, hts⟩ hK hP x (i + 1)  hx4 (ok (i + 1) (by omega) (by omega)) ⟨by decide, by decide⟩ hl.1 (Nat.le_of_ble_eq_true rfl) dX0_runInLanes_35 ⟨Nat.zero_le _, Nat.zero_le _⟩ ?_
        refine sX_lane hx hb hK hP hD hS 1 rfl (by decide) dX0_runInLanes_38 (fun H locs hP hD hS => ?_)
        refine lv_iinc (v := 2) (lv' := [(5, .int 2), (0, .ref (a 0)), (1, .int (nI x)), (3, .int (nI up)), (4, .int (nI i))]) hx hb dX0_runInLanes_39 hl (k := 0) rfl (by decide) (by decide) rfl (fun ls hl => ?_)
        refine lv_goto (tgt := 16) hx hb dX0_runInLanes_42 (by decide) ?_
        refine lv_iload hx hb dX0_runInLanes_16 (lv_at hl 0 rfl) ?_
        refine lv_iconst (v := 4) hx hb dX0_runInLanes_18 (by decide) ?_
        refine lv_icmp_ge (tgt := 45) hx hb dX0_runInLanes_19 (by decide) (fun c_19 => absurd c_19 (by decide)) (fun c_19 => ?_)
        refine lv_aload_n hx hb dX0_runInLanes_22 rfl (lv_at hl 1 rfl) ?_
        refine gX_lane hx hb hts hown hK hP dX0_runInLanes_23 ?_
        refine lv_iload hx hb dX0_runInLanes_26 (lv_at hl 0 rfl) ?_
        refine lv_aload_n hx hb dX0_runInLanes_28 rfl (lv_at hl 1 rfl) ?_
        refine lv_iload_n hx hb dX0_runInLanes_29 rfl (lv_at hl 2 rfl) ?_
        refine lv_iload hx hb dX0_runInLanes_30 (lv_at hl 4 rfl) ?_
        refine lv_iload hx hb dX0_runInLanes_32 (lv_at hl 0 rfl) ?_
        refine lv_iadd hx hb dX0_runInLanes_34 ?_
        refine tope (y := (nI (i + 2))) (nI_add i 2) ?_
        refine kX0_result ⟨hx, hb, hml, hown, hts⟩ hK hP x (i + 2)  hx4 (ok (i + 2) (by omega) (by omega)) ⟨by decide, by decide⟩ hl.1 (Nat.le_of_ble_eq_true rfl) dX0_runInLanes_35 ⟨Nat.zero_le _, Nat.zero_le _⟩ ?_
        refine sX_lane hx hb hK hP hD hS 2 rfl (by decide) dX0_runInLanes_38 (fun H locs hP hD hS => ?_)
        refine lv_iinc (v := 3) (lv' := [(5, .int 3), (0, .ref (a 0)), (1, .int (nI x)), (3, .int (nI up)), (4, .int (nI i))]) hx hb dX0_runInLanes_39 hl (k := 0) rfl (by decide) (by decide) rfl (fun ls hl => ?_)
        refine lv_goto (tgt := 16) hx hb dX0_runInLanes_42 (by decide) ?_
        refine lv_iload hx hb dX0_runInLanes_16 (lv_at hl 0 rfl) ?_
        refine lv_iconst (v := 4) hx hb dX0_runInLanes_18 (by decide) ?_
        refine lv_icmp_ge (tgt := 45) hx hb dX0_runInLanes_19 (by decide) (fun c_19 => absurd c_19 (by decide)) (fun c_19 => ?_)
        refine lv_aload_n hx hb dX0_runInLanes_22 rfl (lv_at hl 1 rfl) ?_
        refine gX_lane hx hb hts hown hK hP dX0_runInLanes_23 ?_
        refine lv_iload hx hb dX0_runInLanes_26 (lv_at hl 0 rfl) ?_
        refine lv_aload_n hx hb dX0_runInLanes_28 rfl (lv_at hl 1 rfl) ?_
        refine lv_iload_n hx hb dX0_runInLanes_29 rfl (lv_at hl 2 rfl) ?_
        refine lv_iload hx hb dX0_runInLanes_30 (lv_at hl 4 rfl) ?_
        refine lv_iload hx hb dX0_runInLanes_32 (lv_at hl 0 rfl) ?_
        refine lv_iadd hx hb dX0_runInLanes_34 ?_
        refine tope (y := (nI (i + 3))) (nI_add i 3) ?_
        refine kX0_result ⟨hx, hb, hml, hown, hts⟩ hK hP x (i + 3)  hx4 (ok (i + 3) (by omega) (by omega)) ⟨by decide, by decide⟩ hl.1 (Nat.le_of_ble_eq_true rfl) dX0_runInLanes_35 ⟨Nat.zero_le _, Nat.zero_le _⟩ ?_
        refine sX_lane hx hb hK hP hD hS 3 rfl (by decide) dX0_runInLanes_38 (fun H locs hP hD hS => ?_)
        refine lv_iinc (v := 4) (lv' := [(5, .int 4), (0, .ref (a 0)), (1, .int (nI x)), (3, .int (nI up)), (4, .int (nI i))]) hx hb dX0_runInLanes_39 hl (k := 0) rfl (by decide) (by decide) rfl (fun ls hl => ?_)
        refine lv_goto (tgt := 16) hx hb dX0_runInLanes_42 (by decide) ?_
        refine lv_iload hx hb dX0_runInLanes_16 (lv_at hl 0 rfl) ?_
        refine lv_iconst (v := 4) hx hb dX0_runInLanes_18 (by decide) ?_
        refine lv_icmp_ge (tgt := 45) hx hb dX0_runInLanes_19 (by decide) (fun c_19 => ?_) (fun c_19 => absurd (by decide) c_19)
        refine lv_iconst (v := 0) hx hb dX0_runInLanes_45 (by decide) ?_
        refine lv_istore (lv' := [(5, .int 0), (0, .ref (a 0)), (1, .int (nI x)), (3, .int (nI up)), (4, .int (nI i))]) hx hb dX0_runInLanes_46 hl (by decide) rfl (fun ls hl => ?_)
        refine lv_iload hx hb dX0_runInLanes_48 (lv_at hl 0 rfl) ?_
        refine lv_iconst (v := 4) hx hb dX0_runInLanes_50 (by decide) ?_
        refine lv_icmp_ge (tgt := 77) hx hb dX0_runInLanes_51 (by decide) (fun c_51 => absurd c_51 (by decide)) (fun c_51 => ?_)
        refine lv_aload_n hx hb dX0_runInLanes_54 rfl (lv_at hl 1 rfl) ?_
        refine lv_iload_n hx hb dX0_runInLanes_55 rfl (lv_at hl 2 rfl) ?_
        refine lv_iload hx hb dX0_runInLanes_56 (lv_at hl 4 rfl) ?_
        refine lv_iload hx hb dX0_runInLanes_58 (lv_at hl 0 rfl) ?_
        refine lv_iadd hx hb dX0_runInLanes_60 ?_
        refine tope (y := (nI (i + 0))) (nI_add i 0) ?_
        refine lv_aload_n hx hb dX0_runInLanes_61 rfl (lv_at hl 1 rfl) ?_
        refine gX_lane hx hb hts hown hK hP dX0_runInLanes_62 ?_
        refine lv_iload hx hb dX0_runInLanes_65 (lv_at hl 0 rfl) ?_
        refine lX_lane hx hb hK hP 0 rfl (by decide) dX0_runInLanes_67 ?_
        refine tope (y := (reG (aX ra) (hX sf) po oc x (i + 0) fv)) rfl ?_
        refine kX0_store ⟨hx, hb, hml, hown, hts⟩ hK hP hD hS hA x (i + 0) (reG (aX ra) (hX sf) po oc x (i + 0) fv)  hx4 (ok (i + 0) (by omega) (by omega)) ⟨by decide, by decide⟩ hl.1 (Nat.le_of_ble_eq_true rfl) dX0_runInLanes_68 ⟨Nat.zero_le _, Nat.zero_le _⟩ (fun _ H locs _ hP hD hS => ?_)
        refine lv_iinc (v := 1) (lv' := [(5, .int 1), (0, .ref (a 0)), (1, .int (nI x)), (3, .int (nI up)), (4, .int (nI i))]) hx hb dX0_runInLanes_71 hl (k := 0) rfl (by decide) (by decide) rfl (fun ls hl => ?_)
        refine lv_goto (tgt := 48) hx hb dX0_runInLanes_74 (by decide) ?_
        refine lv_iload hx hb dX0_runInLanes_48 (lv_at hl 0 rfl) ?_
        refine lv_iconst (v := 4) hx hb dX0_runInLanes_50 (by decide) ?_
        refine lv_icmp_ge (tgt := 77) hx hb dX0_runInLanes_51 (by decide) (fun c_51 => absurd c_51 (by decide)) (fun c_51 => ?_)
        refine lv_aload_n hx hb dX0_runInLanes_54 rfl (lv_at hl 1 rfl) ?_
        refine lv_iload_n hx hb dX0_runInLanes_55 rfl (lv_at hl 2 rfl) ?_
        refine lv_iload hx hb dX0_runInLanes_56 (lv_at hl 4 rfl) ?_
        refine lv_iload hx hb dX0_runInLanes_58 (lv_at hl 0 rfl) ?_
        refine lv_iadd hx hb dX0_runInLanes_60 ?_
        refine tope (y := (nI (i + 1))) (nI_add i 1) ?_
        refine lv_aload_n hx hb dX0_runInLanes_61 rfl (lv_at hl 1 rfl) ?_
        refine gX_lane hx hb hts hown hK hP dX0_runInLanes_62 ?_
        refine lv_iload hx hb dX0_runInLanes_65 (lv_at hl 0 rfl) ?_
        refine lX_lane hx hb hK hP 1 rfl (by decide) dX0_runInLanes_67 ?_
        refine tope (y := (reG (aX ra) (hX sf) po oc x (i + 1) fv)) rfl ?_
        refine kX0_store ⟨hx, hb, hml, hown, hts⟩ hK hP hD hS hA x (i + 1) (reG (aX ra) (hX sf) po oc x (i + 1) fv)  hx4 (ok (i + 1) (by omega) (by omega)) ⟨by decide, by decide⟩ hl.1 (Nat.le_of_ble_eq_true rfl) dX0_runInLanes_68 ⟨Nat.zero_le _, Nat.zero_le _⟩ (fun _ H locs _ hP hD hS => ?_)
        refine lv_iinc (v := 2) (lv' := [(5, .int 2), (0, .ref (a 0)), (1, .int (nI x)), (3, .int (nI up)), (4, .int (nI i))]) hx hb dX0_runInLanes_71 hl (k := 0) rfl (by decide) (by decide) rfl (fun ls hl => ?_)
        refine lv_goto (tgt := 48) hx hb dX0_runInLanes_74 (by decide) ?_
        refine lv_iload hx hb dX0_runInLanes_48 (lv_at hl 0 rfl) ?_
        refine lv_iconst (v := 4) hx hb dX0_runInLanes_50 (by decide) ?_
        refine lv_icmp_ge (tgt := 77) hx hb dX0_runInLanes_51 (by decide) (fun c_51 => absurd c_51 (by decide)) (fun c_51 => ?_)
        refine lv_aload_n hx hb dX0_runInLanes_54 rfl (lv_at hl 1 rfl) ?_
        refine lv_iload_n hx hb dX0_runInLanes_55 rfl (lv_at hl 2 rfl) ?_
        refine lv_iload hx hb dX0_runInLanes_56 (lv_at hl 4 rfl) ?_
        refine lv_iload hx hb dX0_runInLanes_58 (lv_at hl 0 rfl) ?_
        refine lv_iadd hx hb dX0_runInLanes_60 ?_
        refine tope (y := (nI (i + 2))) (nI_add i 2) ?_
        refine lv_aload_n hx hb dX0_runInLanes_61 rfl (lv_at hl 1 rfl) ?_
        refine gX_lane hx hb hts hown hK hP dX0_runInLanes_62 ?_
        refine lv_iload hx hb dX0_runInLanes_65 (lv_at hl 0 rfl) ?_
        refine lX_lane hx hb hK hP 2 rfl (by decide) dX0_runInLanes_67 ?_
        refine tope (y := (reG (aX ra) (hX sf) po oc x (i + 2) fv)) rfl ?_
        refine kX0_store ⟨hx, hb, hml, hown, hts⟩ hK hP hD hS hA x (i + 2) (reG (aX ra) (hX sf) po oc x (i + 2) fv)  hx4 (ok (i + 2) (by omega) (by omega)) ⟨by decide, by decide⟩ hl.1 (Nat.le_of_ble_eq_true rfl) dX0_runInLanes_68 ⟨Nat.zero_le _, Nat.zero_le _⟩ (fun _ H locs _ hP hD hS => ?_)
        refine lv_iinc (v := 3) (lv' := [(5, .int 3), (0, .ref (a 0)), (1, .int (nI x)), (3, .int (nI up)), (4, .int (nI i))]) hx hb dX0_runInLanes_71 hl (k := 0) rfl (by decide) (by decide) rfl (fun ls hl => ?_)
        refine lv_goto (tgt := 48) hx hb dX0_runInLanes_74 (by decide) ?_
        refine lv_iload hx hb dX0_runInLanes_48 (lv_at hl 0 rfl) ?_
        refine lv_iconst (v := 4) hx hb dX0_runInLanes_50 (by decide) ?_
        refine lv_icmp_ge (tgt := 77) hx hb dX0_runInLanes_51 (by decide) (fun c_51 => absurd c_51 (by decide)) (fun c_51 => ?_)
        refine lv_aload_n hx hb dX0_runInLanes_54 rfl (lv_at hl 1 rfl) ?_
        refine lv_iload_n hx hb dX0_runInLanes_55 rfl (lv_at hl 2 rfl) ?_
        refine lv_iload hx hb dX0_runInLanes_56 (lv_at hl 4 rfl) ?_
        refine lv_iload hx hb dX0_runInLanes_58 (lv_at hl 0 rfl) ?_
        refine lv_iadd hx hb dX0_runInLanes_60 ?_
        refine tope (y := (nI (i + 3))) (nI_add i 3) ?_
        refine lv_aload_n hx hb dX0_runInLanes_61 rfl (lv_at hl 1 rfl) ?_
        refine gX_lane hx hb hts hown hK hP dX0_runInLanes_62 ?_
        refine lv_iload hx hb dX0_runInLanes_65 (lv_at hl 0 rfl) ?_
        refine lX_lane hx hb hK hP 3 rfl (by decide) dX0_runInLanes_67 ?_
        refine tope (y := (reG (aX ra) (hX sf) po oc x (i + 3) fv)) rfl ?_
        refine kX0_store ⟨hx, hb, hml, hown, hts⟩ hK hP hD hS hA x (i + 3) (reG (aX ra) (hX sf) po oc x (i + 3) fv)  hx4 (ok (i + 3) (by omega) (by omega)) ⟨by decide, by decide⟩ hl.1 (Nat.le_of_ble_eq_true rfl) dX0_runInLanes_68 ⟨Nat.zero_le _, Nat.zero_le _⟩ (fun _ H locs _ hP hD hS => ?_)
        refine lv_iinc (v := 4) (lv' := [(5, .int 4), (0, .ref (a 0)), (1, .int (nI x)), (3, .int (nI up)), (4, .int (nI i))]) hx hb dX0_runInLanes_71 hl (k := 0) rfl (by decide) (by decide) rfl (fun ls hl => ?_)
        refine lv_goto (tgt := 48) hx hb dX0_runInLanes_74 (by decide) ?_
        refine lv_iload hx hb dX0_runInLanes_48 (lv_at hl 0 rfl) ?_
        refine lv_iconst (v := 4) hx hb dX0_runInLanes_50 (by decide) ?_
        refine lv_icmp_ge (tgt := 77) hx hb dX0_runInLanes_51 (by decide) (fun c_51 => ?_) (fun c_51 => absurd (by decide) c_51)
        refine lv_iinc (v := (nI (i + 4))) (lv' := [(4, .int (nI (i + 4))), (5, .int 4), (0, .ref (a 0)), (1, .int (nI x)), (3, .int (nI up))]) hx hb dX0_runInLanes_77 hl (k := 4) rfl (nI_add i 4) (by decide) rfl (fun ls hl => ?_)
        refine lv_goto (tgt := 3) hx hb dX0_runInLanes_80 (by decide) ?_
        exact ih (i + 4)  (by omega) _ _ _ _ (by omega) (by rw [hv, show up + 1 - i = (up + 1 - (i + 4)) + 4 by omega, lnF_4, ← hln i fv (by omega) (by omega)]; rfl) hP hD hS ls (lv_sub hl [2, 3, 4, 0] rfl)
  exact L3 (up + 1) lo  (by omega) fc la _ _ (Nat.le_refl _) rfl hP hD hS ls (lv_sub hl [1, 2, 4, 0] rfl)
theorem kX0_runInLanes {p : Program} {l : Launch} {e : Env} {R : Room} {s : State} {m : MethodId} {args : Array Value} {below : List Frame} {meth : Method} {c : Code} {H : Heap} {locs : List Loc} {cells slots : Nat} {Q : State → Prop} {cc : ByteArray} {pc nL : Nat} {ls : Array Slot} {rest : List Value} {D : va_G} {A : Nat → Prop} {a : Nat → Nat} {d : Nat → ClassId} {fc : Nat → Int32} {ct : Int32} {po ra sf oc : Nat → Int32} {rd : Int32} {be : Nat → Int32} {gs : Int32} {gr fi la : Nat → Int32}  (S : CallFix p m c cc nL s args lw_all RX0) (hK : va_K D vwCl (tyX d) s) (hP : va_P D vwCl (WX a d fc ct po ra sf oc rd be gs gr fi la) H) (hD : va_D A (WX a d fc ct po ra sf oc rd be gs gr fi la)) (hS : va_S A s.heap H locs) (hA : ∀ q, s.heap.size ≤ q → A q) (x : Nat) (lo : Nat) (up : Nat)  (hx4 : x < 4) (hup : up < 32) (hlo : lo ≤ up) (ok : ∀ i, lo ≤ i → i ≤ up → okG (aX ra) (hX sf) x i) (hln : ∀ (i : Nat) (f : Nat → Int32), lo ≤ i → i + 3 ≤ up → upd (upd (upd (upd f (ixN (aX ra) (hX sf) x 0 i) (reG (aX ra) (hX sf) po oc x i f)) (ixN (aX ra) (hX sf) x 0 (i + 1)) (reG (aX ra) (hX sf) po oc x (i + 1) f)) (ixN (aX ra) (hX sf) x 0 (i + 2)) (reG (aX ra) (hX sf) po oc x (i + 2) f)) (ixN (aX ra) (hX sf) x 0 (i + 3)) (reG (aX ra) (hX sf) po oc x (i + 3) f) = stG (aX ra) (hX sf) po oc x (i + 3) (stG (aX ra) (hX sf) po oc x (i + 2) (stG (aX ra) (hX sf) po oc x (i + 1) (stG (aX ra) (hX sf) po oc x i f)))) (hR : rmX0_runInLanes.frames + 1 ≤ R.frames ∧ 8 + (6 + 11) + rmX0_runInLanes.locals ≤ R.locals) (hsz : ls.size = nL) (hroom : (rest.map fun v => v.category).sum ≤ 8) (hdg : decode cc pc = .ok (.invokevirtual 126, 3)) (hf : cells ≤ R.cells ∧ slots ≤ R.slots) (kk : ∀ (u : (Nat → Int32) × (Nat → Int32)) (H1 : Heap) (locs1 : List Loc), (fun u => u.1 = lnF (stG (aX ra) (hX sf) po oc) x lo (up + 1 - lo) fc) u → va_P D vwCl ((fun u => WX a d u.1 ct po ra sf oc rd be gs gr fi u.2) u) H1 → va_D A ((fun u => WX a d u.1 ct po ra sf oc rd be gs gr fi u.2) u) → va_S A s.heap H1 locs1 → W p l e R s m args below meth c H1 locs1 cells slots Q (F0 m (pc + 3) ls rest)) : W p l e R s m args below meth c H locs cells slots Q (F0 m pc ls (.int (nI up) :: .int (nI lo) :: .int (nI x) :: .ref (a 0) :: rest)) :=
  icallV (wr := []) (q := (RX0, TX0, 12)) (ci := 0) (As := [.int (nI x), .int (nI lo), .int (nI up)]) S (mX0_runInLanes l x lo up hx4 hup hlo ok hln) (cwV 3 S.2.2.2.2 (lw_V q178 q180 qs17 q28 q181) rfl rfl rfl (by decide +kernel) hR) hK hP hD hS hA [0, 1, 2, 3, 4, 5, 6, 7, 8, 9] [] rfl rfl (by decide) (by decide) (by decide) rfl rfl rfl hsz rfl hroom hdg hf kk
abbrev rmX0_run : Room := { frames := 7, cells := 0, slots := 0, locals := 167 }
set_option maxHeartbeats 4000000 in
set_option maxRecDepth 100000 in
theorem mX0_run (l : Launch) {D : va_G} {a : Nat → Nat} {d : Nat → ClassId} {fc : Nat → Int32} {po ra sf oc : Nat → Int32} {rd : Int32} {be : Nat → Int32} {gs : Int32} {gr fi la : Nat → Int32} {N : Nat} (v : Int32) (w : Int32)  (hN4 : N ≤ 4) (hVA : VA (aX ra) N) (hVH : VH (hX sf) N) (hpl : rd = 0 ∨ (rd = 1 ∧ PlanOK (aX ra) (hX sf) po N gs gr fi)) : MI l yX0_run (ws_ yX0_run cX0_run 5 (some .int)) rmX0_run [.ref (a 0), .int v, .int w] D (tyX d) (WX a d fc (nI N) po ra sf oc rd be gs gr fi la) (T := (Nat → Int32) × Int32 × (Nat → Int32) × Int32 × (Nat → Int32) × (Nat → Int32) × (Nat → Int32)) (fun r u => (r, u.1) = runG (aX ra) (hX sf) po oc N v w fc ∧ (u.2.1 = 0 ∨ (u.2.1 = 1 ∧ PlanOK (aX ra) (hX sf) po N u.2.2.2.1 u.2.2.2.2.1 u.2.2.2.2.2.1))) (fun u => WX a d u.1 (nI N) po ra sf oc u.2.1 u.2.2.1 u.2.2.2.1 u.2.2.2.2.1 u.2.2.2.2.2.1 u.2.2.2.2.2.2) := by
  refine impI (by decide) (Nat.le_of_ble_eq_true rfl) ?_
  intro p e s m ar below meth c Q A hx hb hml hown hts hK hP hD hS hA hret ls hl
  have hown : s.vm.findClass RX0 = some m.cls := hown
  have hl : lv_has ls 5 [(0, .ref (a 0)), (1, .int v), (2, .int w)] := hl
  refine lv_iload_n hx hb dX0_run_0 rfl (lv_at hl 1 rfl) ?_
  refine lv_if_lt (tgt := 20) hx hb dX0_run_1 (by decide) (fun c_1 => ?_) (fun c_1 => ?_)
  · skip
    have c_1 := t_badC1 c_1
    refine lv_bipush (v := (-5)) hx hb dX0_run_20 (by decide) ?_
    exact hret _ (fc, rd, be, gs, gr, fi, la) _ _ _ _ ⟨by simp [runG, c_1], hpl⟩ hP hD hS dX0_run_22
  · skip
    refine lv_iload_n hx hb dX0_run_4 rfl (lv_at hl 1 rfl) ?_
    refine lv_bipush (v := 32) hx hb dX0_run_5 (by decide) ?_
    refine lv_icmp_ge (tgt := 20) hx hb dX0_run_7 (by decide) (fun c_7 => ?_) (fun c_7 => ?_)
    · skip
      have c_7 : badC v = true := by simp [badC, c_7]
      refine lv_bipush (v := (-5)) hx hb dX0_run_20 (by decide) ?_
      exact hret _ (fc, rd, be, gs, gr, fi, la) _ _ _ _ ⟨by simp [runG, c_1, c_7], hpl⟩ hP hD hS dX0_run_22
    · skip
      have c_7 : badC v = false := by simp [badC, c_1, c_7]
      refine lv_iload_n hx hb dX0_run_10 rfl (lv_at hl 2 rfl) ?_
      refine lv_if_lt (tgt := 20) hx hb dX0_run_11 (by decide) (fun c_11 => ?_) (fun c_11 => ?_)
      · skip
        have c_11 := t_badC1 c_11
        refine lv_bipush (v := (-5)) hx hb dX0_run_20 (by decide) ?_
        exact hret _ (fc, rd, be, gs, gr, fi, la) _ _ _ _ ⟨by simp [runG, c_1, c_7, c_11], hpl⟩ hP hD hS dX0_run_22
      · skip
        refine lv_iload_n hx hb dX0_run_14 rfl (lv_at hl 2 rfl) ?_
        refine lv_bipush (v := 32) hx hb dX0_run_15 (by decide) ?_
        refine lv_icmp_lt (tgt := 23) hx hb dX0_run_17 (by decide) (fun c_17 => ?_) (fun c_17 => ?_)
        · skip
          have c_17 := t_badC3 c_11 c_17
          obtain ⟨lo, hlo32, rfl⟩ := badC_nat c_7
          obtain ⟨up, hup32, rfl⟩ := badC_nat c_17
          refine lv_iconst (v := 0) hx hb dX0_run_23 (by decide) ?_
          refine lv_istore_n (lv' := [(3, .int 0), (0, .ref (a 0)), (1, .int (nI lo)), (2, .int (nI up))]) hx hb dX0_run_24 rfl hl (by decide) rfl (fun ls hl => ?_)
          have L25 : ∀ (n x : Nat) , x + n = N → (ouA (hX sf) (nI lo) (nI up) 0 N = ouA (hX sf) (nI lo) (nI up) x n) → ∀ ls : Array Slot, lv_has ls 5 [(0, .ref (a 0)), (1, .int (nI lo)), (2, .int (nI up)), (3, .int (nI x))] → W p l e rmX0_run s m ar below meth c s.heap [] 0 0 Q (F0 m 25 ls []) := by
            intro n
            induction n with
            | zero =>
              intro x  hin hv ls hl
              refine lv_iload_n hx hb dX0_run_25 rfl (lv_at hl 3 rfl) ?_
              refine lv_aload_n hx hb dX0_run_26 rfl (lv_at hl 0 rfl) ?_
              refine gX_count hx hb hts hown hK hP dX0_run_27 ?_
              refine lv_icmp_ge (tgt := 60) hx hb dX0_run_30 (by decide) (fun c_30 => ?_) (fun c_30 => absurd (nI_le (a := N) (b := x) (by omega) (by omega)) c_30)
              refine lv_iload_n hx hb dX0_run_60 rfl (lv_at hl 1 rfl) ?_
              refine lv_iload_n hx hb dX0_run_61 rfl (lv_at hl 2 rfl) ?_
              refine lv_icmp_le (tgt := 67) hx hb dX0_run_62 (by decide) (fun c_62 => ?_) (fun c_62 => ?_)
              · skip
                have hle : lo ≤ up := (nI_leI (by omega) (by omega)).mp c_62
                have c_62 : ¬ nI up < nI lo := Int32.not_lt.mpr c_62
                have hou : ouA (hX sf) (nI lo) (nI up) 0 N = false := hv
                have hIR := ouA_IR hou
                have hok : ∀ x i, x < N → lo ≤ i → i ≤ up → okG (aX ra) (hX sf) x i := fun x i h1 h2 h3 => ix_ok hVA hVH hIR hup32 h1 h2 h3
                refine lv_aload_n hx hb dX0_run_67 rfl (lv_at hl 0 rfl) ?_
                refine kX0_plan ⟨hx, hb, hml, hown, hts⟩ hK hP hD hS hA   hN4 hpl ⟨by decide, by decide⟩ hl.1 (Nat.le_of_ble_eq_true rfl) dX0_run_68 ⟨Nat.zero_le _, Nat.zero_le _⟩ (fun u1 H locs hu hP hD hS => ?_)
                obtain ⟨rd1, be1, gs1, gr1, fi1⟩ := u1
                obtain ⟨hrd, hplan⟩ := hu
                have hplan2 := hplan
                obtain ⟨k, g, hk4, hgs, hg, hgr, hm, hfi⟩ := hplan2
                dsimp only at hrd hplan hgs hgr hfi hP hD
                subst hgs
                have hP : va_P D vwCl (WX a d fc (nI N) po ra sf oc rd1 be1 (nI k) gr1 fi1 la) H := hP
                have hD : va_D A (WX a d fc (nI N) po ra sf oc rd1 be1 (nI k) gr1 fi1 la) := hD
                refine lv_iconst (v := 0) hx hb dX0_run_71 (by decide) ?_
                refine lv_istore_n (lv' := [(3, .int 0), (0, .ref (a 0)), (1, .int (nI lo)), (2, .int (nI up))]) hx hb dX0_run_72 rfl hl (by decide) rfl (fun ls hl => ?_)
                have L73 : ∀ (n2 j : Nat) , j + n2 = k → ∀ (fv lw : Nat → Int32) (H : Heap) (locs : List Loc), (fv = rnF (stG (aX ra) (hX sf) po oc) (fun x => decide (g x < j)) N lo (up + 1 - lo) fc) → va_P D vwCl (WX a d fv (nI N) po ra sf oc rd1 be1 (nI k) gr1 fi1 lw) H → va_D A (WX a d fv (nI N) po ra sf oc rd1 be1 (nI k) gr1 fi1 lw) → va_S A s.heap H locs → ∀ ls : Array Slot, lv_has ls 5 [(0, .ref (a 0)), (1, .int (nI lo)), (2, .int (nI up)), (3, .int (nI j))] → W p l e rmX0_run s m ar below meth c H locs 0 0 Q (F0 m 73 ls []) := by
                  intro n2
                  induction n2 with
                  | zero =>
                    intro j  hin_n2 fv lw H locs hv hP hD hS ls hl
                    refine lv_iload_n hx hb dX0_run_73 rfl (lv_at hl 3 rfl) ?_
                    refine lv_aload_n hx hb dX0_run_74 rfl (lv_at hl 0 rfl) ?_
                    refine gX_groups hx hb hts hown hK hP dX0_run_75 ?_
                    refine lv_icmp_ge (tgt := 130) hx hb dX0_run_78 (by decide) (fun c_78 => ?_) (fun c_78 => absurd (nI_le (a := k) (b := j) (by omega) (by omega)) c_78)
                    refine lv_aload_n hx hb dX0_run_130 rfl (lv_at hl 0 rfl) ?_
                    refine gX_count hx hb hts hown hK hP dX0_run_131 ?_
                    refine lv_iload_n hx hb dX0_run_134 rfl (lv_at hl 2 rfl) ?_
                    refine lv_iload_n hx hb dX0_run_135 rfl (lv_at hl 1 rfl) ?_
                    refine lv_isub hx hb dX0_run_136 ?_
                    refine lv_iconst (v := 1) hx hb dX0_run_137 (by decide) ?_
                    refine lv_iadd hx hb dX0_run_138 ?_
                    refine lv_imul hx hb dX0_run_139 ?_
                    exact hret _ (fv, rd1, be1, nI k, gr1, fi1, lw) _ _ _ _ ⟨by rw [hv, show j = k by omega, run_end hg]; simp only [runG, c_7, c_17, hou, c_62, nI_clamp (show lo < 2 ^ 31 by omega), nI_clamp (show up < 2 ^ 31 by omega)]; rfl, Or.inr ⟨hrd, hplan⟩⟩ hP hD hS dX0_run_140
                  | succ n2 ih2 =>
                    intro j  hin_n2 fv lw H locs hv hP hD hS ls hl
                    refine lv_iload_n hx hb dX0_run_73 rfl (lv_at hl 3 rfl) ?_
                    refine lv_aload_n hx hb dX0_run_74 rfl (lv_at hl 0 rfl) ?_
                    refine gX_groups hx hb hts hown hK hP dX0_run_75 ?_
                    refine lv_icmp_ge (tgt := 130) hx hb dX0_run_78 (by decide) (fun c_78 => absurd c_78 (nI_ge (a := j) (b := k) (by omega) (by omega))) (fun c_78 => ?_)
                    refine lv_aload_n hx hb dX0_run_81 rfl (lv_at hl 0 rfl) ?_
                    refine gX_group hx hb hts hown hK hP dX0_run_82 ?_
                    refine lv_iload_n hx hb dX0_run_85 rfl (lv_at hl 3 rfl) ?_
                    refine lX_group hx hb hK hP j rfl (by omega) dX0_run_86 ?_
                    refine tope (y := (mkS (grS N g j))) (hgr j (by omega)) ?_
                    refine kX0_lowest ⟨hx, hb, hml, hown, hts⟩ (grS N g j)   ⟨by decide, by decide⟩ hl.1 (Nat.le_of_ble_eq_true rfl) dX0_run_87 ⟨Nat.zero_le _, Nat.zero_le _⟩ ?_
                    refine lv_istore (lv' := [(4, .int (nI (lowS (grS N g j)))), (0, .ref (a 0)), (1, .int (nI lo)), (2, .int (nI up)), (3, .int (nI j))]) hx hb dX0_run_90 hl (by decide) rfl (fun ls hl => ?_)
                    refine lv_aload_n hx hb dX0_run_92 rfl (lv_at hl 1 rfl) ?_
                    refine gX_fits hx hb hts hown hK hP dX0_run_93 ?_
                    refine lv_iload_n hx hb dX0_run_96 rfl (lv_at hl 4 rfl) ?_
                    refine lX_fits hx hb hK hP j rfl (by omega) dX0_run_97 ?_
                    refine lv_if_eq (tgt := 112) hx hb dX0_run_98 (by decide) (fun c_98 => ?_) (fun c_98 => ?_)
                    · skip
                      refine lv_aload_n hx hb dX0_run_112 rfl (lv_at hl 1 rfl) ?_
                      refine lv_aload_n hx hb dX0_run_113 rfl (lv_at hl 1 rfl) ?_
                      refine gX_group hx hb hts hown hK hP dX0_run_114 ?_
                      refine lv_iload_n hx hb dX0_run_117 rfl (lv_at hl 4 rfl) ?_
                      refine lX_group hx hb hK hP j rfl (by omega) dX0_run_118 ?_
                      refine tope (y := (mkS (grS N g j))) (hgr j (by omega)) ?_
                      refine lv_iload_n hx hb dX0_run_119 rfl (lv_at hl 2 rfl) ?_
                      refine lv_iload_n hx hb dX0_run_120 rfl (lv_at hl 3 rfl) ?_
                      refine kX0_runPlain ⟨hx, hb, hml, hown, hts⟩ hK hP hD hS hA (grS N g j) lo up  hN4 hup32 hle hok ⟨by decide, by decide⟩ hl.1 (Nat.le_of_ble_eq_true rfl) dX0_run_121 ⟨Nat.zero_le _, Nat.zero_le _⟩ (fun fw H locs hu hP hD hS => ?_)
                      refine lv_iinc (v := (nI (j + 1))) (lv' := [(3, .int (nI (j + 1))), (4, .int (nI (lowS (grS N g j)))), (0, .ref (a 0)), (1, .int (nI lo)), (2, .int (nI up))]) hx hb dX0_run_124 hl (k := 4) rfl (nI_inc _) (by decide) rfl (fun ls hl => ?_)
                      refine lv_goto (tgt := 73) hx hb dX0_run_127 (by decide) ?_
                      exact ih2 (j + 1)  (by omega) _ _ _ _ (by rw [hu, hv]; exact part_step hVA hVH hIR hup32 hle hm fc) hP hD hS ls (lv_sub hl [2, 3, 4, 0] rfl)
                    · skip
                      obtain ⟨-, x, hxN, hsing, hflx⟩ := (hfi j (by omega)).resolve_left c_98
                      obtain ⟨hlow, hsg⟩ := low_sing hN4 hxN hsing
                      refine lv_aload_n hx hb dX0_run_101 rfl (lv_at hl 1 rfl) ?_
                      refine lv_iload hx hb dX0_run_102 (lv_at hl 0 rfl) ?_
                      refine lv_iload_n hx hb dX0_run_104 rfl (lv_at hl 2 rfl) ?_
                      refine lv_iload_n hx hb dX0_run_105 rfl (lv_at hl 3 rfl) ?_
                      refine kX0_runInLanes ⟨hx, hb, hml, hown, hts⟩ hK hP hD hS hA (lowS (grS N g j)) lo up  (lowS_lt _) hup32 hle (by rw [hlow]; exact fun i h1 h2 => hok x i hxN h1 h2) (by rw [hlow]; exact lanes4 hVA hVH hIR hup32 hxN hflx) ⟨by decide, by decide⟩ hl.1 (Nat.le_of_ble_eq_true rfl) dX0_run_106 ⟨Nat.zero_le _, Nat.zero_le _⟩ (fun u2 H locs hu hP hD hS => ?_)
                      obtain ⟨fw, lw2⟩ := u2
                      dsimp only at hu hP hD
                      rw [hlow] at hu
                      refine lv_goto (tgt := 124) hx hb dX0_run_109 (by decide) ?_
                      refine lv_iinc (v := (nI (j + 1))) (lv' := [(3, .int (nI (j + 1))), (4, .int (nI (lowS (grS N g j)))), (0, .ref (a 0)), (1, .int (nI lo)), (2, .int (nI up))]) hx hb dX0_run_124 hl (k := 4) rfl (nI_inc _) (by decide) rfl (fun ls hl => ?_)
                      refine lv_goto (tgt := 73) hx hb dX0_run_127 (by decide) ?_
                      exact ih2 (j + 1)  (by omega) _ _ _ _ (by rw [hu, ← rn_single hxN hsg, hv]; exact part_step hVA hVH hIR hup32 hle hm fc) hP hD hS ls (lv_sub hl [2, 3, 4, 0] rfl)
                exact L73 (k - 0) 0  (by omega) fc la _ _ (run_0 _ _ _).symm hP hD hS ls (lv_sub hl [1, 2, 3, 0] rfl)
              · skip
                have c_62 : nI up < nI lo := Int32.not_le.mp c_62
                refine lv_iconst (v := 0) hx hb dX0_run_65 (by decide) ?_
                exact hret _ (fc, rd, be, gs, gr, fi, la) _ _ _ _ ⟨by have h9 : ouA (hX sf) (nI lo) (nI up) 0 N = false := hv; simp [runG, c_7, c_17, h9, c_62], hpl⟩ hP hD hS dX0_run_66
            | succ n ih =>
              intro x  hin hv ls hl
              refine lv_iload_n hx hb dX0_run_25 rfl (lv_at hl 3 rfl) ?_
              refine lv_aload_n hx hb dX0_run_26 rfl (lv_at hl 0 rfl) ?_
              refine gX_count hx hb hts hown hK hP dX0_run_27 ?_
              refine lv_icmp_ge (tgt := 60) hx hb dX0_run_30 (by decide) (fun c_30 => absurd c_30 (nI_ge (a := x) (b := N) (by omega) (by omega))) (fun c_30 => ?_)
              refine lv_aload_n hx hb dX0_run_33 rfl (lv_at hl 0 rfl) ?_
              refine lv_iload_n hx hb dX0_run_34 rfl (lv_at hl 3 rfl) ?_
              refine lv_iload_n hx hb dX0_run_35 rfl (lv_at hl 1 rfl) ?_
              refine kX0_outside ⟨hx, hb, hml, hown, hts⟩ hK hP x (nI lo)  (by omega) ⟨by decide, by decide⟩ hl.1 (Nat.le_of_ble_eq_true rfl) dX0_run_36 ⟨Nat.zero_le _, Nat.zero_le _⟩ ?_
              refine lv_if_ne (tgt := 51) hx hb dX0_run_39 (by decide) (fun c_39 => ?_) (fun c_39 => ?_)
              · skip
                have c_39 := bI_n0.mp c_39
                refine lv_bipush (v := (-2)) hx hb dX0_run_51 (by decide) ?_
                exact hret _ (fc, rd, be, gs, gr, fi, la) _ _ _ _ ⟨by have h9 : ouA (hX sf) (nI lo) (nI up) 0 N = true := (by rw [hv]; simp [ouA, c_39]); simp [runG, c_7, c_17, h9], hpl⟩ hP hD hS dX0_run_53
              · skip
                have c_39 := bI_0.mp c_39
                refine lv_aload_n hx hb dX0_run_42 rfl (lv_at hl 0 rfl) ?_
                refine lv_iload_n hx hb dX0_run_43 rfl (lv_at hl 3 rfl) ?_
                refine lv_iload_n hx hb dX0_run_44 rfl (lv_at hl 2 rfl) ?_
                refine kX0_outside ⟨hx, hb, hml, hown, hts⟩ hK hP x (nI up)  (by omega) ⟨by decide, by decide⟩ hl.1 (Nat.le_of_ble_eq_true rfl) dX0_run_45 ⟨Nat.zero_le _, Nat.zero_le _⟩ ?_
                refine lv_if_eq (tgt := 54) hx hb dX0_run_48 (by decide) (fun c_48 => ?_) (fun c_48 => ?_)
                · skip
                  have c_48 := bI_0.mp c_48
                  refine lv_iinc (v := (nI (x + 1))) (lv' := [(3, .int (nI (x + 1))), (0, .ref (a 0)), (1, .int (nI lo)), (2, .int (nI up))]) hx hb dX0_run_54 hl (k := 3) rfl (nI_inc _) (by decide) rfl (fun ls hl => ?_)
                  refine lv_goto (tgt := 25) hx hb dX0_run_57 (by decide) ?_
                  exact ih (x + 1)  (by omega) (by rw [hv]; simp [ouA, c_39, c_48]) ls (lv_sub hl [1, 2, 3, 0] rfl)
                · skip
                  have c_48 := bI_n0.mp c_48
                  refine lv_bipush (v := (-2)) hx hb dX0_run_51 (by decide) ?_
                  exact hret _ (fc, rd, be, gs, gr, fi, la) _ _ _ _ ⟨by have h9 : ouA (hX sf) (nI lo) (nI up) 0 N = true := (by rw [hv]; simp [ouA, c_39, c_48]); simp [runG, c_7, c_17, h9], hpl⟩ hP hD hS dX0_run_53
          exact L25 (N - 0) 0  (by omega) rfl ls (lv_sub hl [1, 2, 3, 0] rfl)
        · skip
          have c_17 := t_badC2 c_17
          refine lv_bipush (v := (-5)) hx hb dX0_run_20 (by decide) ?_
          exact hret _ (fc, rd, be, gs, gr, fi, la) _ _ _ _ ⟨by simp [runG, c_1, c_7, c_11, c_17], hpl⟩ hP hD hS dX0_run_22
end
section
/-! LaneLoopsModel: the methods that change nothing (printed by gen/p21.py) -/
theorem i32_31 {v : Int32} : ¬ v ≤ 31 ↔ 32 ≤ v := by
  rw [Int32.le_iff_toInt_le, Int32.le_iff_toInt_le]
  have e1 : (31 : Int32).toInt = 31 := by decide
  have e2 : (32 : Int32).toInt = 32 := by decide
  rw [e1, e2]; omega
theorem t_cell1 {x : Int32} (h : x < 0) : 1 = bI (badC x) := by simp [badC, h, bI]
theorem t_cell2 {x : Int32} (h : ¬ x ≤ 31) : 1 = bI (badC x) := by have h2 := i32_31.mp h; simp [badC, h2, bI]
theorem t_cell3 {x : Int32} (h : ¬ x < 0) (h2 : x ≤ 31) : 0 = bI (badC x) := by have h3 : ¬ 32 ≤ x := fun q => i32_31.mpr q h2; simp [badC, h, h3, bI]
theorem i32_3 {v : Int32} : v < 4 ↔ v ≤ 3 := by
  rw [Int32.le_iff_toInt_le, Int32.lt_iff_toInt_lt]
  have e1 : (3 : Int32).toInt = 3 := by decide
  have e2 : (4 : Int32).toInt = 4 := by decide
  rw [e1, e2]; omega
def lkG (mo : Nat → Int32) (x q : Nat) : Bool := if q = 0 then true else rdG mo x q
def mqG (a h : Nat → Nat → Int32) (mo : Nat → Int32) (x y : Nat) (t : Int32) (p r : Nat) : Bool := (decide (p = 0) || decide (r = 0)) && (lkG mo x p && (lkG mo y r && mtG a h x p y r t))
def mqI (a h : Nat → Nat → Int32) (mo : Nat → Int32) (x y : Nat) (t : Int32) (p : Nat) : Nat → Nat → Bool
  | _, 0 => false
  | r, n + 1 => mqG a h mo x y t p r || mqI a h mo x y t p (r + 1) n
def mqO (a h : Nat → Nat → Int32) (mo : Nat → Int32) (x y : Nat) (t : Int32) : Nat → Nat → Bool
  | _, 0 => false
  | p, n + 1 => mqI a h mo x y t p 0 3 || mqO a h mo x y t (p + 1) n
theorem mq_pr {a h : Nat → Nat → Int32} {mo : Nat → Int32} {x y : Nat} {t : Int32} : mqO a h mo x y t 0 3 = (mtG a h x 0 y 0 t || (fdG a h mo x y t || spG a h mo x y t)) := by
  simp [mqO, mqI, mqG, lkG, fdG, spG]
  cases mtG a h x 0 y 0 t <;> cases rdG mo y 1 <;> cases mtG a h x 0 y 1 t <;> cases rdG mo y 2 <;> cases mtG a h x 0 y 2 t <;> cases rdG mo x 1 <;> cases mtG a h x 1 y 0 t <;> simp
abbrev rmX1_noStatement : Room := { frames := 0, cells := 0, slots := 0, locals := 0 }
set_option maxHeartbeats 4000000 in
set_option maxRecDepth 100000 in
theorem mX1_noStatement (l : Launch) {D : va_G} {a : Nat → Nat} {d : Nat → ClassId} {mn : Int32} {mo mq ma mh mf : Nat → Int32}  (v : Int32)  : Met l yX1_noStatement (ws_ yX1_noStatement cX1_noStatement 2 (some .boolean)) rmX1_noStatement (va_Pc [.ref (a 0), .int v] (pB D (tyM d) (WM a d mn mo mq ma mh mf))) (QcRead (bI (noSt mn v))) 0 0 (fun _ => False) := by
  refine pureZ (by decide) (Nat.le_of_ble_eq_true rfl) ?_
  intro p e s m ar below meth c Q hx hb hml hown hts hB hret ls hl
  obtain ⟨hP, hK⟩ := hB
  have hown : s.vm.findClass RX1 = some m.cls := hown
  have hl : lv_has ls 2 [(0, .ref (a 0)), (1, .int v)] := hl
  refine lv_iload_n hx hb dX1_noStatement_0 rfl (lv_at hl 1 rfl) ?_
  refine lv_if_lt (tgt := 12) hx hb dX1_noStatement_1 (by decide) (fun c_1 => ?_) (fun c_1 => ?_)
  · skip
    refine lv_iconst (v := 1) hx hb dX1_noStatement_12 (by decide) ?_
    refine lv_goto (tgt := 17) hx hb dX1_noStatement_13 (by decide) ?_
    exact hret _ _ _ (t_noSt1 c_1) dX1_noStatement_17
  · skip
    refine lv_iload_n hx hb dX1_noStatement_4 rfl (lv_at hl 1 rfl) ?_
    refine lv_aload_n hx hb dX1_noStatement_5 rfl (lv_at hl 0 rfl) ?_
    refine gM_size hx hb hts hown hK hP dX1_noStatement_6 ?_
    refine lv_icmp_lt (tgt := 16) hx hb dX1_noStatement_9 (by decide) (fun c_9 => ?_) (fun c_9 => ?_)
    · skip
      refine lv_iconst (v := 0) hx hb dX1_noStatement_16 (by decide) ?_
      exact hret _ _ _ (t_noSt3 c_1 c_9) dX1_noStatement_17
    · skip
      refine lv_iconst (v := 1) hx hb dX1_noStatement_12 (by decide) ?_
      refine lv_goto (tgt := 17) hx hb dX1_noStatement_13 (by decide) ?_
      exact hret _ _ _ (t_noSt2 c_9) dX1_noStatement_17
theorem kX1_noStatement {p : Program} {l : Launch} {e : Env} {R : Room} {s : State} {m : MethodId} {args : Array Value} {below : List Frame} {meth : Method} {c : Code} {H : Heap} {locs : List Loc} {cells slots : Nat} {Q : State → Prop} {cc : ByteArray} {pc nL : Nat} {ls : Array Slot} {rest : List Value} {D : va_G} {a : Nat → Nat} {d : Nat → ClassId} {mn : Int32} {mo mq ma mh mf : Nat → Int32}  (S : CallFix p m c cc nL s args lw_all RX1) (hK : va_K D vwCl (tyM d) s) (hP : va_P D vwCl (WM a d mn mo mq ma mh mf) H) (v : Int32)  (hR : rmX1_noStatement.frames + 1 ≤ R.frames ∧ 8 + (2 + 11) + rmX1_noStatement.locals ≤ R.locals) (hsz : ls.size = nL) (hroom : (rest.map fun v => v.category).sum ≤ 8) (hdg : decode cc pc = .ok (.invokevirtual 29, 3)) (hf : cells ≤ R.cells ∧ slots ≤ R.slots) (kk : W p l e R s m args below meth c H locs cells slots Q (F0 m (pc + 3) ls (.int (bI (noSt mn v)) :: rest))) : W p l e R s m args below meth c H locs cells slots Q (F0 m pc ls (.int v :: .ref (a 0) :: rest)) :=
  pcallV (q := (RX1, TX1, 6)) (ci := 1) (As := [.int v]) S (mX1_noStatement l v) (cwV 1 S.2.2.2.2 (lw_V q255 q257 qs22 q29 q258) rfl rfl rfl (by decide +kernel) hR) hK hP rfl rfl rfl hsz rfl hroom hdg hf kk
abbrev rmX1_badArray : Room := { frames := 0, cells := 0, slots := 0, locals := 0 }
set_option maxHeartbeats 4000000 in
set_option maxRecDepth 100000 in
theorem mX1_badArray (l : Launch) {D : va_G} {a : Nat → Nat} {d : Nat → ClassId} {mn : Int32} {mo mq ma mh mf : Nat → Int32}  (v : Int32)  : Met l yX1_badArray (ws_ yX1_badArray cX1_badArray 2 (some .boolean)) rmX1_badArray (va_Pc [.ref (a 0), .int v] (pB D (tyM d) (WM a d mn mo mq ma mh mf))) (QcRead (bI (badA v))) 0 0 (fun _ => False) := by
  refine pureZ (by decide) (Nat.le_of_ble_eq_true rfl) ?_
  intro p e s m ar below meth c Q hx hb hml hown hts hB hret ls hl
  obtain ⟨hP, hK⟩ := hB
  have hown : s.vm.findClass RX1 = some m.cls := hown
  have hl : lv_has ls 2 [(0, .ref (a 0)), (1, .int v)] := hl
  refine lv_iload_n hx hb dX1_badArray_0 rfl (lv_at hl 1 rfl) ?_
  refine lv_if_lt (tgt := 9) hx hb dX1_badArray_1 (by decide) (fun c_1 => ?_) (fun c_1 => ?_)
  · skip
    refine lv_iconst (v := 1) hx hb dX1_badArray_9 (by decide) ?_
    refine lv_goto (tgt := 14) hx hb dX1_badArray_10 (by decide) ?_
    exact hret _ _ _ (t_badA1 c_1) dX1_badArray_14
  · skip
    refine lv_iload_n hx hb dX1_badArray_4 rfl (lv_at hl 1 rfl) ?_
    refine lv_iconst (v := 2) hx hb dX1_badArray_5 (by decide) ?_
    refine lv_icmp_le (tgt := 13) hx hb dX1_badArray_6 (by decide) (fun c_6 => ?_) (fun c_6 => ?_)
    · skip
      refine lv_iconst (v := 0) hx hb dX1_badArray_13 (by decide) ?_
      exact hret _ _ _ (t_badA3 c_1 c_6) dX1_badArray_14
    · skip
      refine lv_iconst (v := 1) hx hb dX1_badArray_9 (by decide) ?_
      refine lv_goto (tgt := 14) hx hb dX1_badArray_10 (by decide) ?_
      exact hret _ _ _ (t_badA2 c_6) dX1_badArray_14
theorem kX1_badArray {p : Program} {l : Launch} {e : Env} {R : Room} {s : State} {m : MethodId} {args : Array Value} {below : List Frame} {meth : Method} {c : Code} {H : Heap} {locs : List Loc} {cells slots : Nat} {Q : State → Prop} {cc : ByteArray} {pc nL : Nat} {ls : Array Slot} {rest : List Value} {D : va_G} {a : Nat → Nat} {d : Nat → ClassId} {mn : Int32} {mo mq ma mh mf : Nat → Int32}  (S : CallFix p m c cc nL s args lw_all RX1) (hK : va_K D vwCl (tyM d) s) (hP : va_P D vwCl (WM a d mn mo mq ma mh mf) H) (v : Int32)  (hR : rmX1_badArray.frames + 1 ≤ R.frames ∧ 8 + (2 + 11) + rmX1_badArray.locals ≤ R.locals) (hsz : ls.size = nL) (hroom : (rest.map fun v => v.category).sum ≤ 8) (hdg : decode cc pc = .ok (.invokevirtual 33, 3)) (hf : cells ≤ R.cells ∧ slots ≤ R.slots) (kk : W p l e R s m args below meth c H locs cells slots Q (F0 m (pc + 3) ls (.int (bI (badA v)) :: rest))) : W p l e R s m args below meth c H locs cells slots Q (F0 m pc ls (.int v :: .ref (a 0) :: rest)) :=
  pcallV (q := (RX1, TX1, 6)) (ci := 1) (As := [.int v]) S (mX1_badArray l v) (cwV 1 S.2.2.2.2 (lw_V q263 q265 qs23 q29 q266) rfl rfl rfl (by decide +kernel) hR) hK hP rfl rfl rfl hsz rfl hroom hdg hf kk
abbrev rmX1_badCell : Room := { frames := 0, cells := 0, slots := 0, locals := 0 }
set_option maxHeartbeats 4000000 in
set_option maxRecDepth 100000 in
theorem mX1_badCell (l : Launch) {D : va_G} {a : Nat → Nat} {d : Nat → ClassId} {mn : Int32} {mo mq ma mh mf : Nat → Int32}  (v : Int32)  : Met l yX1_badCell (ws_ yX1_badCell cX1_badCell 2 (some .boolean)) rmX1_badCell (va_Pc [.ref (a 0), .int v] (pB D (tyM d) (WM a d mn mo mq ma mh mf))) (QcRead (bI (badC v))) 0 0 (fun _ => False) := by
  refine pureZ (by decide) (Nat.le_of_ble_eq_true rfl) ?_
  intro p e s m ar below meth c Q hx hb hml hown hts hB hret ls hl
  obtain ⟨hP, hK⟩ := hB
  have hown : s.vm.findClass RX1 = some m.cls := hown
  have hl : lv_has ls 2 [(0, .ref (a 0)), (1, .int v)] := hl
  refine lv_iload_n hx hb dX1_badCell_0 rfl (lv_at hl 1 rfl) ?_
  refine lv_if_lt (tgt := 10) hx hb dX1_badCell_1 (by decide) (fun c_1 => ?_) (fun c_1 => ?_)
  · skip
    refine lv_iconst (v := 1) hx hb dX1_badCell_10 (by decide) ?_
    refine lv_goto (tgt := 15) hx hb dX1_badCell_11 (by decide) ?_
    exact hret _ _ _ (t_cell1 c_1) dX1_badCell_15
  · skip
    refine lv_iload_n hx hb dX1_badCell_4 rfl (lv_at hl 1 rfl) ?_
    refine lv_bipush (v := 31) hx hb dX1_badCell_5 (by decide) ?_
    refine lv_icmp_le (tgt := 14) hx hb dX1_badCell_7 (by decide) (fun c_7 => ?_) (fun c_7 => ?_)
    · skip
      refine lv_iconst (v := 0) hx hb dX1_badCell_14 (by decide) ?_
      exact hret _ _ _ (t_cell3 c_1 c_7) dX1_badCell_15
    · skip
      refine lv_iconst (v := 1) hx hb dX1_badCell_10 (by decide) ?_
      refine lv_goto (tgt := 15) hx hb dX1_badCell_11 (by decide) ?_
      exact hret _ _ _ (t_cell2 c_7) dX1_badCell_15
theorem kX1_badCell {p : Program} {l : Launch} {e : Env} {R : Room} {s : State} {m : MethodId} {args : Array Value} {below : List Frame} {meth : Method} {c : Code} {H : Heap} {locs : List Loc} {cells slots : Nat} {Q : State → Prop} {cc : ByteArray} {pc nL : Nat} {ls : Array Slot} {rest : List Value} {D : va_G} {a : Nat → Nat} {d : Nat → ClassId} {mn : Int32} {mo mq ma mh mf : Nat → Int32}  (S : CallFix p m c cc nL s args lw_all RX1) (hK : va_K D vwCl (tyM d) s) (hP : va_P D vwCl (WM a d mn mo mq ma mh mf) H) (v : Int32)  (hR : rmX1_badCell.frames + 1 ≤ R.frames ∧ 8 + (2 + 11) + rmX1_badCell.locals ≤ R.locals) (hsz : ls.size = nL) (hroom : (rest.map fun v => v.category).sum ≤ 8) (hdg : decode cc pc = .ok (.invokevirtual 36, 3)) (hf : cells ≤ R.cells ∧ slots ≤ R.slots) (kk : W p l e R s m args below meth c H locs cells slots Q (F0 m (pc + 3) ls (.int (bI (badC v)) :: rest))) : W p l e R s m args below meth c H locs cells slots Q (F0 m pc ls (.int v :: .ref (a 0) :: rest)) :=
  pcallV (q := (RX1, TX1, 6)) (ci := 1) (As := [.int v]) S (mX1_badCell l v) (cwV 1 S.2.2.2.2 (lw_V q267 q269 qs24 q29 q270) rfl rfl rfl (by decide +kernel) hR) hK hP rfl rfl rfl hsz rfl hroom hdg hf kk
abbrev rmX1_size : Room := { frames := 0, cells := 0, slots := 0, locals := 0 }
set_option maxHeartbeats 4000000 in
set_option maxRecDepth 100000 in
theorem mX1_size (l : Launch) {D : va_G} {a : Nat → Nat} {d : Nat → ClassId} {mn : Int32} {mo mq ma mh mf : Nat → Int32}   : Met l yX1_size (ws_ yX1_size cX1_size 1 (some .int)) rmX1_size (va_Pc [.ref (a 0)] (pB D (tyM d) (WM a d mn mo mq ma mh mf))) (QcRead (mn)) 0 0 (fun _ => False) := by
  refine pureI (by decide) (Nat.le_of_ble_eq_true rfl) ?_
  intro p e s m ar below meth c Q hx hb hml hown hts hB hret ls hl
  obtain ⟨hP, hK⟩ := hB
  have hown : s.vm.findClass RX1 = some m.cls := hown
  have hl : lv_has ls 1 [(0, .ref (a 0))] := hl
  refine lv_aload_n hx hb dX1_size_0 rfl (lv_at hl 0 rfl) ?_
  refine gM_size hx hb hts hown hK hP dX1_size_1 ?_
  exact hret _ _ _ rfl dX1_size_4
abbrev rmX1_looks : Room := { frames := 0, cells := 0, slots := 0, locals := 0 }
set_option maxHeartbeats 4000000 in
set_option maxRecDepth 100000 in
theorem mX1_looks (l : Launch) {D : va_G} {a : Nat → Nat} {d : Nat → ClassId} {mn : Int32} {mo mq ma mh mf : Nat → Int32}  (x : Nat) (q : Nat)  (hx4 : x < 4) (hq3 : q < 3) : Met l yX1_looks (ws_ yX1_looks cX1_looks 3 (some .boolean)) rmX1_looks (va_Pc [.ref (a 0), .int (nI x), .int (nI q)] (pB D (tyM d) (WM a d mn mo mq ma mh mf))) (QcRead (bI (lkG mo x q))) 0 0 (fun _ => False) := by
  refine pureZ (by decide) (Nat.le_of_ble_eq_true rfl) ?_
  intro p e s m ar below meth c Q hx hb hml hown hts hB hret ls hl
  obtain ⟨hP, hK⟩ := hB
  have hown : s.vm.findClass RX1 = some m.cls := hown
  have hl : lv_has ls 3 [(0, .ref (a 0)), (1, .int (nI x)), (2, .int (nI q))] := hl
  refine lv_iload_n hx hb dX1_looks_0 rfl (lv_at hl 2 rfl) ?_
  refine lv_if_ne (tgt := 6) hx hb dX1_looks_1 (by decide) (fun c_1 => ?_) (fun c_1 => ?_)
  · skip
    have c_1 : ¬ q = 0 := fun h => c_1 (by rw [h]; rfl)
    refine lv_iload_n hx hb dX1_looks_6 rfl (lv_at hl 2 rfl) ?_
    refine lv_iconst (v := 1) hx hb dX1_looks_7 (by decide) ?_
    refine lv_icmp_ne (tgt := 29) hx hb dX1_looks_8 (by decide) (fun c_8 => ?_) (fun c_8 => ?_)
    · skip
      have c_8 : ¬ q = 1 := fun h => c_8 (by rw [h]; rfl)
      refine lv_aload_n hx hb dX1_looks_29 rfl (lv_at hl 0 rfl) ?_
      refine gM_ops hx hb hts hown hK hP dX1_looks_30 ?_
      refine lv_iload_n hx hb dX1_looks_33 rfl (lv_at hl 1 rfl) ?_
      refine lM_ops hx hb hK hP x rfl (by omega) dX1_looks_34 ?_
      refine lv_iconst (v := 4) hx hb dX1_looks_35 (by decide) ?_
      refine lv_icmp_ge (tgt := 43) hx hb dX1_looks_36 (by decide) (fun c_36 => ?_) (fun c_36 => ?_)
      · skip
        have c_36 : ¬ mo x ≤ 3 := fun h => absurd (i32_3.mpr h) (Int32.not_lt.mpr c_36)
        refine lv_iconst (v := 0) hx hb dX1_looks_43 (by decide) ?_
        exact hret _ _ _ (by simp [lkG, rdG, bI, c_1, c_8, c_36]) dX1_looks_44
      · skip
        have c_36 : mo x ≤ 3 := i32_3.mp (Int32.not_le.mp c_36)
        refine lv_iconst (v := 1) hx hb dX1_looks_39 (by decide) ?_
        refine lv_goto (tgt := 44) hx hb dX1_looks_40 (by decide) ?_
        exact hret _ _ _ (by simp [lkG, rdG, bI, c_1, c_8, c_36]) dX1_looks_44
    · skip
      have c_8 : q = 1 := (nI_eq (a := q) (b := 1) (by omega) (by omega)).mp c_8
      refine lv_aload_n hx hb dX1_looks_11 rfl (lv_at hl 0 rfl) ?_
      refine gM_ops hx hb hts hown hK hP dX1_looks_12 ?_
      refine lv_iload_n hx hb dX1_looks_15 rfl (lv_at hl 1 rfl) ?_
      refine lM_ops hx hb hK hP x rfl (by omega) dX1_looks_16 ?_
      refine lv_iconst (v := 5) hx hb dX1_looks_17 (by decide) ?_
      refine lv_icmp_eq (tgt := 25) hx hb dX1_looks_18 (by decide) (fun c_18 => ?_) (fun c_18 => ?_)
      · skip
        refine lv_iconst (v := 0) hx hb dX1_looks_25 (by decide) ?_
        refine lv_goto (tgt := 44) hx hb dX1_looks_26 (by decide) ?_
        exact hret _ _ _ (by simp [lkG, rdG, bI, c_1, c_8, c_18]) dX1_looks_44
      · skip
        refine lv_iconst (v := 1) hx hb dX1_looks_21 (by decide) ?_
        refine lv_goto (tgt := 44) hx hb dX1_looks_22 (by decide) ?_
        exact hret _ _ _ (by simp [lkG, rdG, bI, c_1, c_8, c_18]) dX1_looks_44
  · skip
    have c_1 : q = 0 := (nI_eq (a := q) (b := 0) (by omega) (by omega)).mp c_1
    refine lv_iconst (v := 1) hx hb dX1_looks_4 (by decide) ?_
    exact hret _ _ _ (by simp [lkG, rdG, bI, c_1]) dX1_looks_5
theorem kX1_looks {p : Program} {l : Launch} {e : Env} {R : Room} {s : State} {m : MethodId} {args : Array Value} {below : List Frame} {meth : Method} {c : Code} {H : Heap} {locs : List Loc} {cells slots : Nat} {Q : State → Prop} {cc : ByteArray} {pc nL : Nat} {ls : Array Slot} {rest : List Value} {D : va_G} {a : Nat → Nat} {d : Nat → ClassId} {mn : Int32} {mo mq ma mh mf : Nat → Int32}  (S : CallFix p m c cc nL s args lw_all RX1) (hK : va_K D vwCl (tyM d) s) (hP : va_P D vwCl (WM a d mn mo mq ma mh mf) H) (x : Nat) (q : Nat)  (hx4 : x < 4) (hq3 : q < 3) (hR : rmX1_looks.frames + 1 ≤ R.frames ∧ 8 + (3 + 11) + rmX1_looks.locals ≤ R.locals) (hsz : ls.size = nL) (hroom : (rest.map fun v => v.category).sum ≤ 8) (hdg : decode cc pc = .ok (.invokevirtual 43, 3)) (hf : cells ≤ R.cells ∧ slots ≤ R.slots) (kk : W p l e R s m args below meth c H locs cells slots Q (F0 m (pc + 3) ls (.int (bI (lkG mo x q)) :: rest))) : W p l e R s m args below meth c H locs cells slots Q (F0 m pc ls (.int (nI q) :: .int (nI x) :: .ref (a 0) :: rest)) :=
  pcallV (q := (RX1, TX1, 6)) (ci := 1) (As := [.int (nI x), .int (nI q)]) S (mX1_looks l x q hx4 hq3) (cwV 2 S.2.2.2.2 (lw_V q303 q305 qs26 q29 q306) rfl rfl rfl (by decide +kernel) hR) hK hP rfl rfl rfl hsz rfl hroom hdg hf kk
abbrev rmX1_get : Room := { frames := 1, cells := 0, slots := 0, locals := 21 }
set_option maxHeartbeats 4000000 in
set_option maxRecDepth 100000 in
theorem mX1_get (l : Launch) {D : va_G} {a : Nat → Nat} {d : Nat → ClassId} {mn : Int32} {mo mq ma mh mf : Nat → Int32}  (v : Int32) (w : Int32)  : Met l yX1_get (ws_ yX1_get cX1_get 3 (some .int)) rmX1_get (va_Pc [.ref (a 0), .int v, .int w] (pB D (tyM d) (WM a d mn mo mq ma mh mf))) (QcRead (gtG mf v w)) 0 0 (fun _ => False) := by
  refine pureI (by decide) (Nat.le_of_ble_eq_true rfl) ?_
  intro p e s m ar below meth c Q hx hb hml hown hts hB hret ls hl
  obtain ⟨hP, hK⟩ := hB
  have hown : s.vm.findClass RX1 = some m.cls := hown
  have hl : lv_has ls 3 [(0, .ref (a 0)), (1, .int v), (2, .int w)] := hl
  refine lv_aload_n hx hb dX1_get_0 rfl (lv_at hl 0 rfl) ?_
  refine lv_iload_n hx hb dX1_get_1 rfl (lv_at hl 1 rfl) ?_
  refine kX1_badArray ⟨hx, hb, hml, hown, hts⟩ hK hP v   ⟨by decide, by decide⟩ hl.1 (Nat.le_of_ble_eq_true rfl) dX1_get_2 ⟨Nat.zero_le _, Nat.zero_le _⟩ ?_
  refine lv_if_ne (tgt := 16) hx hb dX1_get_5 (by decide) (fun c_5 => ?_) (fun c_5 => ?_)
  · skip
    have c_5 := bI_n0.mp c_5
    refine lv_iconst (v := 0) hx hb dX1_get_16 (by decide) ?_
    refine lv_goto (tgt := 31) hx hb dX1_get_17 (by decide) ?_
    exact hret _ _ _ (by simp [gtG, c_5]) dX1_get_31
  · skip
    have c_5 := bI_0.mp c_5
    refine lv_aload_n hx hb dX1_get_8 rfl (lv_at hl 0 rfl) ?_
    refine lv_iload_n hx hb dX1_get_9 rfl (lv_at hl 2 rfl) ?_
    refine kX1_badCell ⟨hx, hb, hml, hown, hts⟩ hK hP w   ⟨by decide, by decide⟩ hl.1 (Nat.le_of_ble_eq_true rfl) dX1_get_10 ⟨Nat.zero_le _, Nat.zero_le _⟩ ?_
    refine lv_if_eq (tgt := 20) hx hb dX1_get_13 (by decide) (fun c_13 => ?_) (fun c_13 => ?_)
    · skip
      have c_13 := bI_0.mp c_13
      obtain ⟨j, hj, ej⟩ := ix_nat2 c_5 c_13
      refine lv_aload_n hx hb dX1_get_20 rfl (lv_at hl 0 rfl) ?_
      refine gM_cells hx hb hts hown hK hP dX1_get_21 ?_
      refine lv_iload_n hx hb dX1_get_24 rfl (lv_at hl 1 rfl) ?_
      refine lv_bipush (v := 32) hx hb dX1_get_25 (by decide) ?_
      refine lv_imul hx hb dX1_get_27 ?_
      refine lv_iload_n hx hb dX1_get_28 rfl (lv_at hl 2 rfl) ?_
      refine lv_iadd hx hb dX1_get_29 ?_
      refine lM_cells hx hb hK hP j ej hj dX1_get_30 ?_
      exact hret _ _ _ (by simp only [gtG, c_5, c_13, ej]; rw [nI_clamp (by omega)]; rfl) dX1_get_31
    · skip
      have c_13 := bI_n0.mp c_13
      refine lv_iconst (v := 0) hx hb dX1_get_16 (by decide) ?_
      refine lv_goto (tgt := 31) hx hb dX1_get_17 (by decide) ?_
      exact hret _ _ _ (by simp [gtG, c_5, c_13]) dX1_get_31
abbrev rmX1_sum : Room := { frames := 1, cells := 0, slots := 0, locals := 21 }
set_option maxHeartbeats 4000000 in
set_option maxRecDepth 100000 in
theorem mX1_sum (l : Launch) {D : va_G} {a : Nat → Nat} {d : Nat → ClassId} {mn : Int32} {mo mq ma mh mf : Nat → Int32}  (v : Int32)  : Met l yX1_sum (ws_ yX1_sum cX1_sum 4 (some .int)) rmX1_sum (va_Pc [.ref (a 0), .int v] (pB D (tyM d) (WM a d mn mo mq ma mh mf))) (QcRead (smG mf v)) 0 0 (fun _ => False) := by
  refine pureI (by decide) (Nat.le_of_ble_eq_true rfl) ?_
  intro p e s m ar below meth c Q hx hb hml hown hts hB hret ls hl
  obtain ⟨hP, hK⟩ := hB
  have hown : s.vm.findClass RX1 = some m.cls := hown
  have hl : lv_has ls 4 [(0, .ref (a 0)), (1, .int v)] := hl
  refine lv_iconst (v := 0) hx hb dX1_sum_0 (by decide) ?_
  refine lv_istore_n (lv' := [(2, .int 0), (0, .ref (a 0)), (1, .int v)]) hx hb dX1_sum_1 rfl hl (by decide) rfl (fun ls hl => ?_)
  refine lv_iconst (v := 0) hx hb dX1_sum_2 (by decide) ?_
  refine lv_istore_n (lv' := [(3, .int 0), (2, .int 0), (0, .ref (a 0)), (1, .int v)]) hx hb dX1_sum_3 rfl hl (by decide) rfl (fun ls hl => ?_)
  have L4 : ∀ (n i : Nat) (w2 : Int32), i + n = 32 → (w2 = if badA v then 0 else smF mf v i) → ∀ ls : Array Slot, lv_has ls 4 [(0, .ref (a 0)), (1, .int v), (2, .int w2), (3, .int (nI i))] → W p l e rmX1_sum s m ar below meth c s.heap [] 0 0 Q (F0 m 4 ls []) := by
    intro n
    induction n with
    | zero =>
      intro i w2 hin hw ls hl
      refine lv_iload_n hx hb dX1_sum_4 rfl (lv_at hl 3 rfl) ?_
      refine lv_bipush (v := 32) hx hb dX1_sum_5 (by decide) ?_
      refine lv_icmp_ge (tgt := 38) hx hb dX1_sum_7 (by decide) (fun c_7 => ?_) (fun c_7 => absurd (nI_le (a := 32) (b := i) (by omega) (by omega)) c_7)
      refine lv_iload_n hx hb dX1_sum_38 rfl (lv_at hl 2 rfl) ?_
      exact hret _ _ _ (by rw [hw, show i = 32 by omega]; rfl) dX1_sum_39
    | succ n ih =>
      intro i w2 hin hw ls hl
      refine lv_iload_n hx hb dX1_sum_4 rfl (lv_at hl 3 rfl) ?_
      refine lv_bipush (v := 32) hx hb dX1_sum_5 (by decide) ?_
      refine lv_icmp_ge (tgt := 38) hx hb dX1_sum_7 (by decide) (fun c_7 => absurd c_7 (nI_ge (a := i) (b := 32) (by omega) (by omega))) (fun c_7 => ?_)
      refine lv_aload_n hx hb dX1_sum_10 rfl (lv_at hl 0 rfl) ?_
      refine lv_iload_n hx hb dX1_sum_11 rfl (lv_at hl 1 rfl) ?_
      refine kX1_badArray ⟨hx, hb, hml, hown, hts⟩ hK hP v   ⟨by decide, by decide⟩ hl.1 (Nat.le_of_ble_eq_true rfl) dX1_sum_12 ⟨Nat.zero_le _, Nat.zero_le _⟩ ?_
      refine lv_if_ne (tgt := 32) hx hb dX1_sum_15 (by decide) (fun c_15 => ?_) (fun c_15 => ?_)
      · skip
        have c_15 := bI_n0.mp c_15
        refine lv_iinc (v := (nI (i + 1))) (lv' := [(3, .int (nI (i + 1))), (0, .ref (a 0)), (1, .int v), (2, .int w2)]) hx hb dX1_sum_32 hl (k := 3) rfl (nI_inc _) (by decide) rfl (fun ls hl => ?_)
        refine lv_goto (tgt := 4) hx hb dX1_sum_35 (by decide) ?_
        exact ih (i + 1) w2 (by omega) (by rw [hw]; simp [c_15]) ls (lv_sub hl [1, 2, 3, 0] rfl)
      · skip
        have c_15 := bI_0.mp c_15
        obtain ⟨j, hj, ej⟩ := ix_nat (i := i) c_15 (by omega)
        refine lv_iload_n hx hb dX1_sum_18 rfl (lv_at hl 2 rfl) ?_
        refine lv_aload_n hx hb dX1_sum_19 rfl (lv_at hl 0 rfl) ?_
        refine gM_cells hx hb hts hown hK hP dX1_sum_20 ?_
        refine lv_iload_n hx hb dX1_sum_23 rfl (lv_at hl 1 rfl) ?_
        refine lv_bipush (v := 32) hx hb dX1_sum_24 (by decide) ?_
        refine lv_imul hx hb dX1_sum_26 ?_
        refine lv_iload_n hx hb dX1_sum_27 rfl (lv_at hl 3 rfl) ?_
        refine lv_iadd hx hb dX1_sum_28 ?_
        refine lM_cells hx hb hK hP j ej hj dX1_sum_29 ?_
        refine lv_iadd hx hb dX1_sum_30 ?_
        refine lv_istore_n (lv' := [(2, .int (w2 + (mf j))), (0, .ref (a 0)), (1, .int v), (3, .int (nI i))]) hx hb dX1_sum_31 rfl hl (by decide) rfl (fun ls hl => ?_)
        refine lv_iinc (v := (nI (i + 1))) (lv' := [(3, .int (nI (i + 1))), (2, .int (w2 + (mf j))), (0, .ref (a 0)), (1, .int v)]) hx hb dX1_sum_32 hl (k := 3) rfl (nI_inc _) (by decide) rfl (fun ls hl => ?_)
        refine lv_goto (tgt := 4) hx hb dX1_sum_35 (by decide) ?_
        exact ih (i + 1) (w2 + (mf j)) (by omega) (by rw [hw]; simp only [smF, c_15]; rw [ej, nI_clamp (by omega)]; rfl) ls (lv_sub hl [2, 3, 1, 0] rfl)
  exact L4 (32 - 0) 0 0 (by omega) (by simp [smF]) ls (lv_sub hl [2, 3, 1, 0] rfl)
abbrev rmX1_differ : Room := { frames := 1, cells := 0, slots := 0, locals := 21 }
set_option maxHeartbeats 4000000 in
set_option maxRecDepth 100000 in
theorem mX1_differ (l : Launch) {D : va_G} {a : Nat → Nat} {d : Nat → ClassId} {mn : Int32} {mo mq ma mh mf : Nat → Int32}  (v : Int32) (w : Int32)  : Met l yX1_differ (ws_ yX1_differ cX1_differ 5 (some .int)) rmX1_differ (va_Pc [.ref (a 0), .int v, .int w] (pB D (tyM d) (WM a d mn mo mq ma mh mf))) (QcRead (dfG mf v w)) 0 0 (fun _ => False) := by
  refine pureI (by decide) (Nat.le_of_ble_eq_true rfl) ?_
  intro p e s m ar below meth c Q hx hb hml hown hts hB hret ls hl
  obtain ⟨hP, hK⟩ := hB
  have hown : s.vm.findClass RX1 = some m.cls := hown
  have hl : lv_has ls 5 [(0, .ref (a 0)), (1, .int v), (2, .int w)] := hl
  refine lv_aload_n hx hb dX1_differ_0 rfl (lv_at hl 0 rfl) ?_
  refine lv_iload_n hx hb dX1_differ_1 rfl (lv_at hl 1 rfl) ?_
  refine kX1_badArray ⟨hx, hb, hml, hown, hts⟩ hK hP v   ⟨by decide, by decide⟩ hl.1 (Nat.le_of_ble_eq_true rfl) dX1_differ_2 ⟨Nat.zero_le _, Nat.zero_le _⟩ ?_
  refine lv_if_ne (tgt := 16) hx hb dX1_differ_5 (by decide) (fun c_5 => ?_) (fun c_5 => ?_)
  · skip
    have c_5 := bI_n0.mp c_5
    refine lv_iconst (v := (-1)) hx hb dX1_differ_16 (by decide) ?_
    exact hret _ _ _ (by simp [dfG, c_5]) dX1_differ_17
  · skip
    have c_5 := bI_0.mp c_5
    refine lv_aload_n hx hb dX1_differ_8 rfl (lv_at hl 0 rfl) ?_
    refine lv_iload_n hx hb dX1_differ_9 rfl (lv_at hl 2 rfl) ?_
    refine kX1_badArray ⟨hx, hb, hml, hown, hts⟩ hK hP w   ⟨by decide, by decide⟩ hl.1 (Nat.le_of_ble_eq_true rfl) dX1_differ_10 ⟨Nat.zero_le _, Nat.zero_le _⟩ ?_
    refine lv_if_eq (tgt := 18) hx hb dX1_differ_13 (by decide) (fun c_13 => ?_) (fun c_13 => ?_)
    · skip
      have c_13 := bI_0.mp c_13
      refine lv_iconst (v := 0) hx hb dX1_differ_18 (by decide) ?_
      refine lv_istore_n (lv' := [(3, .int 0), (0, .ref (a 0)), (1, .int v), (2, .int w)]) hx hb dX1_differ_19 rfl hl (by decide) rfl (fun ls hl => ?_)
      refine lv_iconst (v := 0) hx hb dX1_differ_20 (by decide) ?_
      refine lv_istore (lv' := [(4, .int 0), (3, .int 0), (0, .ref (a 0)), (1, .int v), (2, .int w)]) hx hb dX1_differ_21 hl (by decide) rfl (fun ls hl => ?_)
      have L23 : ∀ (n i : Nat) (w3 : Int32), i + n = 32 → (w3 = dfF mf v w i) → ∀ ls : Array Slot, lv_has ls 5 [(0, .ref (a 0)), (1, .int v), (2, .int w), (3, .int w3), (4, .int (nI i))] → W p l e rmX1_differ s m ar below meth c s.heap [] 0 0 Q (F0 m 23 ls []) := by
        intro n
        induction n with
        | zero =>
          intro i w3 hin hw ls hl
          refine lv_iload hx hb dX1_differ_23 (lv_at hl 4 rfl) ?_
          refine lv_bipush (v := 32) hx hb dX1_differ_25 (by decide) ?_
          refine lv_icmp_ge (tgt := 66) hx hb dX1_differ_27 (by decide) (fun c_27 => ?_) (fun c_27 => absurd (nI_le (a := 32) (b := i) (by omega) (by omega)) c_27)
          refine lv_iload_n hx hb dX1_differ_66 rfl (lv_at hl 3 rfl) ?_
          exact hret _ _ _ (by rw [hw, show i = 32 by omega]; simp [dfG, c_5, c_13]) dX1_differ_67
        | succ n ih =>
          intro i w3 hin hw ls hl
          refine lv_iload hx hb dX1_differ_23 (lv_at hl 4 rfl) ?_
          refine lv_bipush (v := 32) hx hb dX1_differ_25 (by decide) ?_
          refine lv_icmp_ge (tgt := 66) hx hb dX1_differ_27 (by decide) (fun c_27 => absurd c_27 (nI_ge (a := i) (b := 32) (by omega) (by omega))) (fun c_27 => ?_)
          obtain ⟨j, hj, ej⟩ := ix_nat (i := i) c_5 (by omega)
          obtain ⟨k, hk, ek⟩ := ix_nat (i := i) c_13 (by omega)
          refine lv_aload_n hx hb dX1_differ_30 rfl (lv_at hl 0 rfl) ?_
          refine gM_cells hx hb hts hown hK hP dX1_differ_31 ?_
          refine lv_iload_n hx hb dX1_differ_34 rfl (lv_at hl 1 rfl) ?_
          refine lv_bipush (v := 32) hx hb dX1_differ_35 (by decide) ?_
          refine lv_imul hx hb dX1_differ_37 ?_
          refine lv_iload hx hb dX1_differ_38 (lv_at hl 4 rfl) ?_
          refine lv_iadd hx hb dX1_differ_40 ?_
          refine lM_cells hx hb hK hP j ej hj dX1_differ_41 ?_
          refine lv_aload_n hx hb dX1_differ_42 rfl (lv_at hl 0 rfl) ?_
          refine gM_cells hx hb hts hown hK hP dX1_differ_43 ?_
          refine lv_iload_n hx hb dX1_differ_46 rfl (lv_at hl 2 rfl) ?_
          refine lv_bipush (v := 32) hx hb dX1_differ_47 (by decide) ?_
          refine lv_imul hx hb dX1_differ_49 ?_
          refine lv_iload hx hb dX1_differ_50 (lv_at hl 4 rfl) ?_
          refine lv_iadd hx hb dX1_differ_52 ?_
          refine lM_cells hx hb hK hP k ek hk dX1_differ_53 ?_
          refine lv_icmp_eq (tgt := 60) hx hb dX1_differ_54 (by decide) (fun c_54 => ?_) (fun c_54 => ?_)
          · skip
            refine lv_iinc (v := (nI (i + 1))) (lv' := [(4, .int (nI (i + 1))), (0, .ref (a 0)), (1, .int v), (2, .int w), (3, .int w3)]) hx hb dX1_differ_60 hl (k := 4) rfl (nI_inc _) (by decide) rfl (fun ls hl => ?_)
            refine lv_goto (tgt := 23) hx hb dX1_differ_63 (by decide) ?_
            exact ih (i + 1) w3 (by omega) (by rw [hw]; simp only [dfF]; rw [ej, ek, nI_clamp (show j < 2 ^ 31 by omega), nI_clamp (show k < 2 ^ 31 by omega)]; simp [c_54]) ls (lv_sub hl [1, 2, 3, 4, 0] rfl)
          · skip
            refine lv_iinc (v := (w3 + 1)) (lv' := [(3, .int (w3 + 1)), (0, .ref (a 0)), (1, .int v), (2, .int w), (4, .int (nI i))]) hx hb dX1_differ_57 hl (k := 3) rfl rfl (by decide) rfl (fun ls hl => ?_)
            refine lv_iinc (v := (nI (i + 1))) (lv' := [(4, .int (nI (i + 1))), (3, .int (w3 + 1)), (0, .ref (a 0)), (1, .int v), (2, .int w)]) hx hb dX1_differ_60 hl (k := 4) rfl (nI_inc _) (by decide) rfl (fun ls hl => ?_)
            refine lv_goto (tgt := 23) hx hb dX1_differ_63 (by decide) ?_
            exact ih (i + 1) (w3 + 1) (by omega) (by rw [hw]; simp only [dfF]; rw [ej, ek, nI_clamp (show j < 2 ^ 31 by omega), nI_clamp (show k < 2 ^ 31 by omega)]; simp [c_54]) ls (lv_sub hl [2, 3, 4, 1, 0] rfl)
      exact L23 (32 - 0) 0 0 (by omega) rfl ls (lv_sub hl [2, 3, 4, 1, 0] rfl)
    · skip
      have c_13 := bI_n0.mp c_13
      refine lv_iconst (v := (-1)) hx hb dX1_differ_16 (by decide) ?_
      exact hret _ _ _ (by simp [dfG, c_5, c_13]) dX1_differ_17
theorem mp_end {a h : Nat → Nat → Int32} {mo : Nat → Int32} {N x y : Nat} {t : Int32} {b : Bool} (c1 : noSt (nI N) (nI x) = false) (c2 : noSt (nI N) (nI y) = false) (c3 : decide (t < 0) = false) (c4 : decide (8 < t) = false) (hz : (decide (t = 0) && decide (y ≤ x)) = false) (hx : x < 2 ^ 31) (hy : y < 2 ^ 31) (hb : mqO a h mo x y t 0 3 = b) : bI b = bI (mpG a h mo (nI N) (nI x) (nI y) t) := by
  unfold mpG prG
  rw [c1, c2, c3, c4, nI_clamp hx, nI_clamp hy, hz, ← hb, mq_pr]
  rfl
abbrev rmX1_mustPrecede : Room := { frames := 1, cells := 0, slots := 0, locals := 22 }
set_option maxHeartbeats 4000000 in
set_option maxRecDepth 100000 in
theorem mX1_mustPrecede (l : Launch) {D : va_G} {a : Nat → Nat} {d : Nat → ClassId} {mo mq ma mh mf : Nat → Int32} {N : Nat} (v : Int32) (w : Int32) (t : Int32)  (hN4 : N ≤ 4) : Met l yX1_mustPrecede (ws_ yX1_mustPrecede cX1_mustPrecede 7 (some .boolean)) rmX1_mustPrecede (va_Pc [.ref (a 0), .int v, .int w, .int t] (pB D (tyM d) (WM a d (nI N) mo mq ma mh mf))) (QcRead (bI (mpG (aM ma) (aM mh) mo (nI N) v w t))) 0 0 (fun _ => False) := by
  refine pureZ (by decide) (Nat.le_of_ble_eq_true rfl) ?_
  intro p e s m ar below meth c Q hx hb hml hown hts hB hret ls hl
  obtain ⟨hP, hK⟩ := hB
  have hown : s.vm.findClass RX1 = some m.cls := hown
  have hl : lv_has ls 7 [(0, .ref (a 0)), (1, .int v), (2, .int w), (3, .int t)] := hl
  refine lv_aload_n hx hb dX1_mustPrecede_0 rfl (lv_at hl 0 rfl) ?_
  refine lv_iload_n hx hb dX1_mustPrecede_1 rfl (lv_at hl 1 rfl) ?_
  refine kX1_noStatement ⟨hx, hb, hml, hown, hts⟩ hK hP v   ⟨by decide, by decide⟩ hl.1 (Nat.le_of_ble_eq_true rfl) dX1_mustPrecede_2 ⟨Nat.zero_le _, Nat.zero_le _⟩ ?_
  refine lv_if_ne (tgt := 35) hx hb dX1_mustPrecede_5 (by decide) (fun c_5 => ?_) (fun c_5 => ?_)
  · skip
    have c_5 := bI_n0.mp c_5
    refine lv_iconst (v := 0) hx hb dX1_mustPrecede_35 (by decide) ?_
    exact hret _ _ _ (by simp only [mpG, prG, c_5]; simp [bI]) dX1_mustPrecede_36
  · skip
    have c_5 := bI_0.mp c_5
    refine lv_aload_n hx hb dX1_mustPrecede_8 rfl (lv_at hl 0 rfl) ?_
    refine lv_iload_n hx hb dX1_mustPrecede_9 rfl (lv_at hl 2 rfl) ?_
    refine kX1_noStatement ⟨hx, hb, hml, hown, hts⟩ hK hP w   ⟨by decide, by decide⟩ hl.1 (Nat.le_of_ble_eq_true rfl) dX1_mustPrecede_10 ⟨Nat.zero_le _, Nat.zero_le _⟩ ?_
    refine lv_if_ne (tgt := 35) hx hb dX1_mustPrecede_13 (by decide) (fun c_13 => ?_) (fun c_13 => ?_)
    · skip
      have c_13 := bI_n0.mp c_13
      refine lv_iconst (v := 0) hx hb dX1_mustPrecede_35 (by decide) ?_
      exact hret _ _ _ (by simp only [mpG, prG, c_5, c_13]; simp [bI]) dX1_mustPrecede_36
    · skip
      have c_13 := bI_0.mp c_13
      obtain ⟨x, hxN, rfl⟩ := noSt_nat hN4 c_5
      obtain ⟨y, hyN, rfl⟩ := noSt_nat hN4 c_13
      refine lv_iload_n hx hb dX1_mustPrecede_16 rfl (lv_at hl 3 rfl) ?_
      refine lv_if_lt (tgt := 35) hx hb dX1_mustPrecede_17 (by decide) (fun c_17 => ?_) (fun c_17 => ?_)
      · skip
        have c_17 := decide_eq_true c_17
        refine lv_iconst (v := 0) hx hb dX1_mustPrecede_35 (by decide) ?_
        exact hret _ _ _ (by simp only [mpG, prG, c_5, c_13, c_17]; simp [bI]) dX1_mustPrecede_36
      · skip
        have c_17 := decide_eq_false c_17
        refine lv_iload_n hx hb dX1_mustPrecede_20 rfl (lv_at hl 3 rfl) ?_
        refine lv_bipush (v := 8) hx hb dX1_mustPrecede_21 (by decide) ?_
        refine lv_icmp_gt (tgt := 35) hx hb dX1_mustPrecede_23 (by decide) (fun c_23 => ?_) (fun c_23 => ?_)
        · skip
          have c_23 := decide_eq_true c_23
          refine lv_iconst (v := 0) hx hb dX1_mustPrecede_35 (by decide) ?_
          exact hret _ _ _ (by simp only [mpG, prG, c_5, c_13, c_17, c_23]; simp [bI]) dX1_mustPrecede_36
        · skip
          have c_23 := decide_eq_false c_23
          refine lv_iload_n hx hb dX1_mustPrecede_26 rfl (lv_at hl 3 rfl) ?_
          refine lv_if_ne (tgt := 37) hx hb dX1_mustPrecede_27 (by decide) (fun c_27 => ?_) (fun c_27 => ?_)
          · skip
            have c_27 := decide_eq_false c_27
            have hz : (decide (t = 0) && decide (y ≤ x)) = false := by simp only [c_27, Bool.false_and, Bool.and_false]
            refine lv_iconst (v := 0) hx hb dX1_mustPrecede_37 (by decide) ?_
            refine lv_istore (lv' := [(4, .int 0), (0, .ref (a 0)), (1, .int (nI x)), (2, .int (nI y)), (3, .int t)]) hx hb dX1_mustPrecede_38 hl (by decide) rfl (fun ls hl => ?_)
            have L40 : ∀ (n u : Nat) , u + n = 3 → (mqO (aM ma) (aM mh) mo x y t 0 3 = mqO (aM ma) (aM mh) mo x y t u n) → ∀ ls : Array Slot, lv_has ls 7 [(0, .ref (a 0)), (1, .int (nI x)), (2, .int (nI y)), (3, .int t), (4, .int (nI u))] → W p l e rmX1_mustPrecede s m ar below meth c s.heap [] 0 0 Q (F0 m 40 ls []) := by
              intro n
              induction n with
              | zero =>
                intro u  hin hv ls hl
                refine lv_iload hx hb dX1_mustPrecede_40 (lv_at hl 4 rfl) ?_
                refine lv_iconst (v := 3) hx hb dX1_mustPrecede_42 (by decide) ?_
                refine lv_icmp_ge (tgt := 163) hx hb dX1_mustPrecede_43 (by decide) (fun c_43 => ?_) (fun c_43 => absurd (nI_le (a := 3) (b := u) (by omega) (by omega)) c_43)
                refine lv_iconst (v := 0) hx hb dX1_mustPrecede_163 (by decide) ?_
                exact hret _ _ _ (mp_end (b := false) c_5 c_13 c_17 c_23 hz (by omega) (by omega) (by rw [hv]; rfl)) dX1_mustPrecede_164
              | succ n ih =>
                intro u  hin hv ls hl
                refine lv_iload hx hb dX1_mustPrecede_40 (lv_at hl 4 rfl) ?_
                refine lv_iconst (v := 3) hx hb dX1_mustPrecede_42 (by decide) ?_
                refine lv_icmp_ge (tgt := 163) hx hb dX1_mustPrecede_43 (by decide) (fun c_43 => absurd c_43 (nI_ge (a := u) (b := 3) (by omega) (by omega))) (fun c_43 => ?_)
                refine lv_iconst (v := 0) hx hb dX1_mustPrecede_46 (by decide) ?_
                refine lv_istore (lv' := [(5, .int 0), (0, .ref (a 0)), (1, .int (nI x)), (2, .int (nI y)), (3, .int t), (4, .int (nI u))]) hx hb dX1_mustPrecede_47 hl (by decide) rfl (fun ls hl => ?_)
                have L49 : ∀ (n2 r : Nat) , r + n2 = 3 → (mqO (aM ma) (aM mh) mo x y t 0 3 = (mqI (aM ma) (aM mh) mo x y t u r n2 || mqO (aM ma) (aM mh) mo x y t (u + 1) n)) → ∀ ls : Array Slot, lv_has ls 7 [(0, .ref (a 0)), (1, .int (nI x)), (2, .int (nI y)), (3, .int t), (4, .int (nI u)), (5, .int (nI r))] → W p l e rmX1_mustPrecede s m ar below meth c s.heap [] 0 0 Q (F0 m 49 ls []) := by
                  intro n2
                  induction n2 with
                  | zero =>
                    intro r  hin_n2 hv2 ls hl
                    refine lv_iload hx hb dX1_mustPrecede_49 (lv_at hl 5 rfl) ?_
                    refine lv_iconst (v := 3) hx hb dX1_mustPrecede_51 (by decide) ?_
                    refine lv_icmp_ge (tgt := 157) hx hb dX1_mustPrecede_52 (by decide) (fun c_52 => ?_) (fun c_52 => absurd (nI_le (a := 3) (b := r) (by omega) (by omega)) c_52)
                    refine lv_iinc (v := (nI (u + 1))) (lv' := [(4, .int (nI (u + 1))), (0, .ref (a 0)), (1, .int (nI x)), (2, .int (nI y)), (3, .int t), (5, .int (nI r))]) hx hb dX1_mustPrecede_157 hl (k := 4) rfl (nI_inc _) (by decide) rfl (fun ls hl => ?_)
                    refine lv_goto (tgt := 40) hx hb dX1_mustPrecede_160 (by decide) ?_
                    exact ih (u + 1)  (by omega) (by rw [hv2]; simp [mqI]) ls (lv_sub hl [1, 2, 3, 4, 0] rfl)
                  | succ n2 ih2 =>
                    intro r  hin_n2 hv2 ls hl
                    refine lv_iload hx hb dX1_mustPrecede_49 (lv_at hl 5 rfl) ?_
                    refine lv_iconst (v := 3) hx hb dX1_mustPrecede_51 (by decide) ?_
                    refine lv_icmp_ge (tgt := 157) hx hb dX1_mustPrecede_52 (by decide) (fun c_52 => absurd c_52 (nI_ge (a := r) (b := 3) (by omega) (by omega))) (fun c_52 => ?_)
                    refine lv_aload_n hx hb dX1_mustPrecede_55 rfl (lv_at hl 0 rfl) ?_
                    refine gM_arrays hx hb hts hown hK hP dX1_mustPrecede_56 ?_
                    refine lv_iload_n hx hb dX1_mustPrecede_59 rfl (lv_at hl 1 rfl) ?_
                    refine lv_iconst (v := 3) hx hb dX1_mustPrecede_60 (by decide) ?_
                    refine lv_imul hx hb dX1_mustPrecede_61 ?_
                    refine tope (y := (nI (x * 3))) (pk_mul x 3) ?_
                    refine lv_iload hx hb dX1_mustPrecede_62 (lv_at hl 4 rfl) ?_
                    refine lv_iadd hx hb dX1_mustPrecede_64 ?_
                    refine tope (y := (nI (x * 3 + u))) (nI_add (x * 3) u) ?_
                    refine lM_arrays hx hb hK hP (x * 3 + u) rfl (by omega) dX1_mustPrecede_65 ?_
                    refine lv_aload_n hx hb dX1_mustPrecede_66 rfl (lv_at hl 0 rfl) ?_
                    refine gM_arrays hx hb hts hown hK hP dX1_mustPrecede_67 ?_
                    refine lv_iload_n hx hb dX1_mustPrecede_70 rfl (lv_at hl 2 rfl) ?_
                    refine lv_iconst (v := 3) hx hb dX1_mustPrecede_71 (by decide) ?_
                    refine lv_imul hx hb dX1_mustPrecede_72 ?_
                    refine tope (y := (nI (y * 3))) (pk_mul y 3) ?_
                    refine lv_iload hx hb dX1_mustPrecede_73 (lv_at hl 5 rfl) ?_
                    refine lv_iadd hx hb dX1_mustPrecede_75 ?_
                    refine tope (y := (nI (y * 3 + r))) (nI_add (y * 3) r) ?_
                    refine lM_arrays hx hb hK hP (y * 3 + r) rfl (by omega) dX1_mustPrecede_76 ?_
                    refine lv_icmp_ne (tgt := 111) hx hb dX1_mustPrecede_77 (by decide) (fun c_77 => ?_) (fun c_77 => ?_)
                    · skip
                      refine lv_iconst (v := 0) hx hb dX1_mustPrecede_111 (by decide) ?_
                      refine lv_istore (lv' := [(6, .int 0), (0, .ref (a 0)), (1, .int (nI x)), (2, .int (nI y)), (3, .int t), (4, .int (nI u)), (5, .int (nI r))]) hx hb dX1_mustPrecede_112 hl (by decide) rfl (fun ls hl => ?_)
                      refine lv_iload hx hb dX1_mustPrecede_114 (lv_at hl 5 rfl) ?_
                      refine lv_if_eq (tgt := 124) hx hb dX1_mustPrecede_116 (by decide) (fun c_116 => ?_) (fun c_116 => ?_)
                      · skip
                        have c_116 : decide (u = 0) = true := decide_eq_true ((nI_eq (a := u) (b := 0) (by omega) (by omega)).mp c_116)
                        refine lv_aload_n hx hb dX1_mustPrecede_124 rfl (lv_at hl 1 rfl) ?_
                        refine lv_iload_n hx hb dX1_mustPrecede_125 rfl (lv_at hl 2 rfl) ?_
                        refine lv_iload hx hb dX1_mustPrecede_126 (lv_at hl 5 rfl) ?_
                        refine kX1_looks ⟨hx, hb, hml, hown, hts⟩ hK hP x u  (by omega) (by omega) ⟨by decide, by decide⟩ hl.1 (Nat.le_of_ble_eq_true rfl) dX1_mustPrecede_128 ⟨Nat.zero_le _, Nat.zero_le _⟩ ?_
                        refine lv_if_eq (tgt := 151) hx hb dX1_mustPrecede_131 (by decide) (fun c_131 => ?_) (fun c_131 => ?_)
                        · skip
                          have c_131 := bI_0.mp c_131
                          refine lv_iinc (v := (nI (r + 1))) (lv' := [(5, .int (nI (r + 1))), (6, .int 0), (0, .ref (a 0)), (1, .int (nI x)), (2, .int (nI y)), (3, .int t), (4, .int (nI u))]) hx hb dX1_mustPrecede_151 hl (k := 6) rfl (nI_inc _) (by decide) rfl (fun ls hl => ?_)
                          refine lv_goto (tgt := 49) hx hb dX1_mustPrecede_154 (by decide) ?_
                          exact ih2 (r + 1)  (by omega) (by rw [hv2]; simp [mqI, mqG, mtG, aM, c_77, c_116, c_131]) ls (lv_sub hl [2, 3, 4, 5, 6, 0] rfl)
                        · skip
                          have c_131 := bI_n0.mp c_131
                          refine lv_aload_n hx hb dX1_mustPrecede_134 rfl (lv_at hl 1 rfl) ?_
                          refine lv_iload_n hx hb dX1_mustPrecede_135 rfl (lv_at hl 3 rfl) ?_
                          refine lv_iload hx hb dX1_mustPrecede_136 (lv_at hl 6 rfl) ?_
                          refine kX1_looks ⟨hx, hb, hml, hown, hts⟩ hK hP y r  (by omega) (by omega) ⟨by decide, by decide⟩ hl.1 (Nat.le_of_ble_eq_true rfl) dX1_mustPrecede_138 ⟨Nat.zero_le _, Nat.zero_le _⟩ ?_
                          refine lv_if_eq (tgt := 151) hx hb dX1_mustPrecede_141 (by decide) (fun c_141 => ?_) (fun c_141 => ?_)
                          · skip
                            have c_141 := bI_0.mp c_141
                            refine lv_iinc (v := (nI (r + 1))) (lv' := [(5, .int (nI (r + 1))), (6, .int 0), (0, .ref (a 0)), (1, .int (nI x)), (2, .int (nI y)), (3, .int t), (4, .int (nI u))]) hx hb dX1_mustPrecede_151 hl (k := 6) rfl (nI_inc _) (by decide) rfl (fun ls hl => ?_)
                            refine lv_goto (tgt := 49) hx hb dX1_mustPrecede_154 (by decide) ?_
                            exact ih2 (r + 1)  (by omega) (by rw [hv2]; simp [mqI, mqG, mtG, aM, c_77, c_116, c_131, c_141]) ls (lv_sub hl [2, 3, 4, 5, 6, 0] rfl)
                          · skip
                            have c_141 := bI_n0.mp c_141
                            refine lv_iload hx hb dX1_mustPrecede_144 (lv_at hl 0 rfl) ?_
                            refine lv_if_eq (tgt := 151) hx hb dX1_mustPrecede_146 (by decide) (fun c_146 => ?_) (fun c_146 => absurd (by decide) c_146)
                            refine lv_iinc (v := (nI (r + 1))) (lv' := [(5, .int (nI (r + 1))), (6, .int 0), (0, .ref (a 0)), (1, .int (nI x)), (2, .int (nI y)), (3, .int t), (4, .int (nI u))]) hx hb dX1_mustPrecede_151 hl (k := 6) rfl (nI_inc _) (by decide) rfl (fun ls hl => ?_)
                            refine lv_goto (tgt := 49) hx hb dX1_mustPrecede_154 (by decide) ?_
                            exact ih2 (r + 1)  (by omega) (by rw [hv2]; simp [mqI, mqG, mtG, aM, c_77, c_116, c_131, c_141]) ls (lv_sub hl [2, 3, 4, 5, 6, 0] rfl)
                      · skip
                        have c_116 : decide (u = 0) = false := decide_eq_false (fun h => c_116 (by rw [h]; rfl))
                        refine lv_iload hx hb dX1_mustPrecede_119 (lv_at hl 6 rfl) ?_
                        refine lv_if_ne (tgt := 151) hx hb dX1_mustPrecede_121 (by decide) (fun c_121 => ?_) (fun c_121 => ?_)
                        · skip
                          have c_121 : decide (r = 0) = false := decide_eq_false (fun h => c_121 (by rw [h]; rfl))
                          refine lv_iinc (v := (nI (r + 1))) (lv' := [(5, .int (nI (r + 1))), (6, .int 0), (0, .ref (a 0)), (1, .int (nI x)), (2, .int (nI y)), (3, .int t), (4, .int (nI u))]) hx hb dX1_mustPrecede_151 hl (k := 6) rfl (nI_inc _) (by decide) rfl (fun ls hl => ?_)
                          refine lv_goto (tgt := 49) hx hb dX1_mustPrecede_154 (by decide) ?_
                          exact ih2 (r + 1)  (by omega) (by rw [hv2]; simp [mqI, mqG, mtG, aM, c_77, c_116, c_121]) ls (lv_sub hl [2, 3, 4, 5, 6, 0] rfl)
                        · skip
                          have c_121 : decide (r = 0) = true := decide_eq_true ((nI_eq (a := r) (b := 0) (by omega) (by omega)).mp c_121)
                          refine lv_aload_n hx hb dX1_mustPrecede_124 rfl (lv_at hl 1 rfl) ?_
                          refine lv_iload_n hx hb dX1_mustPrecede_125 rfl (lv_at hl 2 rfl) ?_
                          refine lv_iload hx hb dX1_mustPrecede_126 (lv_at hl 5 rfl) ?_
                          refine kX1_looks ⟨hx, hb, hml, hown, hts⟩ hK hP x u  (by omega) (by omega) ⟨by decide, by decide⟩ hl.1 (Nat.le_of_ble_eq_true rfl) dX1_mustPrecede_128 ⟨Nat.zero_le _, Nat.zero_le _⟩ ?_
                          refine lv_if_eq (tgt := 151) hx hb dX1_mustPrecede_131 (by decide) (fun c_131 => ?_) (fun c_131 => ?_)
                          · skip
                            have c_131 := bI_0.mp c_131
                            refine lv_iinc (v := (nI (r + 1))) (lv' := [(5, .int (nI (r + 1))), (6, .int 0), (0, .ref (a 0)), (1, .int (nI x)), (2, .int (nI y)), (3, .int t), (4, .int (nI u))]) hx hb dX1_mustPrecede_151 hl (k := 6) rfl (nI_inc _) (by decide) rfl (fun ls hl => ?_)
                            refine lv_goto (tgt := 49) hx hb dX1_mustPrecede_154 (by decide) ?_
                            exact ih2 (r + 1)  (by omega) (by rw [hv2]; simp [mqI, mqG, mtG, aM, c_77, c_116, c_121, c_131]) ls (lv_sub hl [2, 3, 4, 5, 6, 0] rfl)
                          · skip
                            have c_131 := bI_n0.mp c_131
                            refine lv_aload_n hx hb dX1_mustPrecede_134 rfl (lv_at hl 1 rfl) ?_
                            refine lv_iload_n hx hb dX1_mustPrecede_135 rfl (lv_at hl 3 rfl) ?_
                            refine lv_iload hx hb dX1_mustPrecede_136 (lv_at hl 6 rfl) ?_
                            refine kX1_looks ⟨hx, hb, hml, hown, hts⟩ hK hP y r  (by omega) (by omega) ⟨by decide, by decide⟩ hl.1 (Nat.le_of_ble_eq_true rfl) dX1_mustPrecede_138 ⟨Nat.zero_le _, Nat.zero_le _⟩ ?_
                            refine lv_if_eq (tgt := 151) hx hb dX1_mustPrecede_141 (by decide) (fun c_141 => ?_) (fun c_141 => ?_)
                            · skip
                              have c_141 := bI_0.mp c_141
                              refine lv_iinc (v := (nI (r + 1))) (lv' := [(5, .int (nI (r + 1))), (6, .int 0), (0, .ref (a 0)), (1, .int (nI x)), (2, .int (nI y)), (3, .int t), (4, .int (nI u))]) hx hb dX1_mustPrecede_151 hl (k := 6) rfl (nI_inc _) (by decide) rfl (fun ls hl => ?_)
                              refine lv_goto (tgt := 49) hx hb dX1_mustPrecede_154 (by decide) ?_
                              exact ih2 (r + 1)  (by omega) (by rw [hv2]; simp [mqI, mqG, mtG, aM, c_77, c_116, c_121, c_131, c_141]) ls (lv_sub hl [2, 3, 4, 5, 6, 0] rfl)
                            · skip
                              have c_141 := bI_n0.mp c_141
                              refine lv_iload hx hb dX1_mustPrecede_144 (lv_at hl 0 rfl) ?_
                              refine lv_if_eq (tgt := 151) hx hb dX1_mustPrecede_146 (by decide) (fun c_146 => ?_) (fun c_146 => absurd (by decide) c_146)
                              refine lv_iinc (v := (nI (r + 1))) (lv' := [(5, .int (nI (r + 1))), (6, .int 0), (0, .ref (a 0)), (1, .int (nI x)), (2, .int (nI y)), (3, .int t), (4, .int (nI u))]) hx hb dX1_mustPrecede_151 hl (k := 6) rfl (nI_inc _) (by decide) rfl (fun ls hl => ?_)
                              refine lv_goto (tgt := 49) hx hb dX1_mustPrecede_154 (by decide) ?_
                              exact ih2 (r + 1)  (by omega) (by rw [hv2]; simp [mqI, mqG, mtG, aM, c_77, c_116, c_121, c_131, c_141]) ls (lv_sub hl [2, 3, 4, 5, 6, 0] rfl)
                    · skip
                      refine lv_aload_n hx hb dX1_mustPrecede_80 rfl (lv_at hl 0 rfl) ?_
                      refine gM_shifts hx hb hts hown hK hP dX1_mustPrecede_81 ?_
                      refine lv_iload_n hx hb dX1_mustPrecede_84 rfl (lv_at hl 1 rfl) ?_
                      refine lv_iconst (v := 3) hx hb dX1_mustPrecede_85 (by decide) ?_
                      refine lv_imul hx hb dX1_mustPrecede_86 ?_
                      refine tope (y := (nI (x * 3))) (pk_mul x 3) ?_
                      refine lv_iload hx hb dX1_mustPrecede_87 (lv_at hl 4 rfl) ?_
                      refine lv_iadd hx hb dX1_mustPrecede_89 ?_
                      refine tope (y := (nI (x * 3 + u))) (nI_add (x * 3) u) ?_
                      refine lM_shifts hx hb hK hP (x * 3 + u) rfl (by omega) dX1_mustPrecede_90 ?_
                      refine lv_iload_n hx hb dX1_mustPrecede_91 rfl (lv_at hl 3 rfl) ?_
                      refine lv_aload_n hx hb dX1_mustPrecede_92 rfl (lv_at hl 0 rfl) ?_
                      refine gM_shifts hx hb hts hown hK hP dX1_mustPrecede_93 ?_
                      refine lv_iload_n hx hb dX1_mustPrecede_96 rfl (lv_at hl 2 rfl) ?_
                      refine lv_iconst (v := 3) hx hb dX1_mustPrecede_97 (by decide) ?_
                      refine lv_imul hx hb dX1_mustPrecede_98 ?_
                      refine tope (y := (nI (y * 3))) (pk_mul y 3) ?_
                      refine lv_iload hx hb dX1_mustPrecede_99 (lv_at hl 5 rfl) ?_
                      refine lv_iadd hx hb dX1_mustPrecede_101 ?_
                      refine tope (y := (nI (y * 3 + r))) (nI_add (y * 3) r) ?_
                      refine lM_shifts hx hb hK hP (y * 3 + r) rfl (by omega) dX1_mustPrecede_102 ?_
                      refine lv_iadd hx hb dX1_mustPrecede_103 ?_
                      refine lv_icmp_ne (tgt := 111) hx hb dX1_mustPrecede_104 (by decide) (fun c_104 => ?_) (fun c_104 => ?_)
                      · skip
                        have c_104 : ¬ mh (x * 3 + u) = mh (y * 3 + r) + t := fun h => c_104 (by rw [h]; exact Int32.add_comm _ _)
                        refine lv_iconst (v := 0) hx hb dX1_mustPrecede_111 (by decide) ?_
                        refine lv_istore (lv' := [(6, .int 0), (0, .ref (a 0)), (1, .int (nI x)), (2, .int (nI y)), (3, .int t), (4, .int (nI u)), (5, .int (nI r))]) hx hb dX1_mustPrecede_112 hl (by decide) rfl (fun ls hl => ?_)
                        refine lv_iload hx hb dX1_mustPrecede_114 (lv_at hl 5 rfl) ?_
                        refine lv_if_eq (tgt := 124) hx hb dX1_mustPrecede_116 (by decide) (fun c_116 => ?_) (fun c_116 => ?_)
                        · skip
                          have c_116 : decide (u = 0) = true := decide_eq_true ((nI_eq (a := u) (b := 0) (by omega) (by omega)).mp c_116)
                          refine lv_aload_n hx hb dX1_mustPrecede_124 rfl (lv_at hl 1 rfl) ?_
                          refine lv_iload_n hx hb dX1_mustPrecede_125 rfl (lv_at hl 2 rfl) ?_
                          refine lv_iload hx hb dX1_mustPrecede_126 (lv_at hl 5 rfl) ?_
                          refine kX1_looks ⟨hx, hb, hml, hown, hts⟩ hK hP x u  (by omega) (by omega) ⟨by decide, by decide⟩ hl.1 (Nat.le_of_ble_eq_true rfl) dX1_mustPrecede_128 ⟨Nat.zero_le _, Nat.zero_le _⟩ ?_
                          refine lv_if_eq (tgt := 151) hx hb dX1_mustPrecede_131 (by decide) (fun c_131 => ?_) (fun c_131 => ?_)
                          · skip
                            have c_131 := bI_0.mp c_131
                            refine lv_iinc (v := (nI (r + 1))) (lv' := [(5, .int (nI (r + 1))), (6, .int 0), (0, .ref (a 0)), (1, .int (nI x)), (2, .int (nI y)), (3, .int t), (4, .int (nI u))]) hx hb dX1_mustPrecede_151 hl (k := 6) rfl (nI_inc _) (by decide) rfl (fun ls hl => ?_)
                            refine lv_goto (tgt := 49) hx hb dX1_mustPrecede_154 (by decide) ?_
                            exact ih2 (r + 1)  (by omega) (by rw [hv2]; simp [mqI, mqG, mtG, aM, c_77, c_104, c_116, c_131]) ls (lv_sub hl [2, 3, 4, 5, 6, 0] rfl)
                          · skip
                            have c_131 := bI_n0.mp c_131
                            refine lv_aload_n hx hb dX1_mustPrecede_134 rfl (lv_at hl 1 rfl) ?_
                            refine lv_iload_n hx hb dX1_mustPrecede_135 rfl (lv_at hl 3 rfl) ?_
                            refine lv_iload hx hb dX1_mustPrecede_136 (lv_at hl 6 rfl) ?_
                            refine kX1_looks ⟨hx, hb, hml, hown, hts⟩ hK hP y r  (by omega) (by omega) ⟨by decide, by decide⟩ hl.1 (Nat.le_of_ble_eq_true rfl) dX1_mustPrecede_138 ⟨Nat.zero_le _, Nat.zero_le _⟩ ?_
                            refine lv_if_eq (tgt := 151) hx hb dX1_mustPrecede_141 (by decide) (fun c_141 => ?_) (fun c_141 => ?_)
                            · skip
                              have c_141 := bI_0.mp c_141
                              refine lv_iinc (v := (nI (r + 1))) (lv' := [(5, .int (nI (r + 1))), (6, .int 0), (0, .ref (a 0)), (1, .int (nI x)), (2, .int (nI y)), (3, .int t), (4, .int (nI u))]) hx hb dX1_mustPrecede_151 hl (k := 6) rfl (nI_inc _) (by decide) rfl (fun ls hl => ?_)
                              refine lv_goto (tgt := 49) hx hb dX1_mustPrecede_154 (by decide) ?_
                              exact ih2 (r + 1)  (by omega) (by rw [hv2]; simp [mqI, mqG, mtG, aM, c_77, c_104, c_116, c_131, c_141]) ls (lv_sub hl [2, 3, 4, 5, 6, 0] rfl)
                            · skip
                              have c_141 := bI_n0.mp c_141
                              refine lv_iload hx hb dX1_mustPrecede_144 (lv_at hl 0 rfl) ?_
                              refine lv_if_eq (tgt := 151) hx hb dX1_mustPrecede_146 (by decide) (fun c_146 => ?_) (fun c_146 => absurd (by decide) c_146)
                              refine lv_iinc (v := (nI (r + 1))) (lv' := [(5, .int (nI (r + 1))), (6, .int 0), (0, .ref (a 0)), (1, .int (nI x)), (2, .int (nI y)), (3, .int t), (4, .int (nI u))]) hx hb dX1_mustPrecede_151 hl (k := 6) rfl (nI_inc _) (by decide) rfl (fun ls hl => ?_)
                              refine lv_goto (tgt := 49) hx hb dX1_mustPrecede_154 (by decide) ?_
                              exact ih2 (r + 1)  (by omega) (by rw [hv2]; simp [mqI, mqG, mtG, aM, c_77, c_104, c_116, c_131, c_141]) ls (lv_sub hl [2, 3, 4, 5, 6, 0] rfl)
                        · skip
                          have c_116 : decide (u = 0) = false := decide_eq_false (fun h => c_116 (by rw [h]; rfl))
                          refine lv_iload hx hb dX1_mustPrecede_119 (lv_at hl 6 rfl) ?_
                          refine lv_if_ne (tgt := 151) hx hb dX1_mustPrecede_121 (by decide) (fun c_121 => ?_) (fun c_121 => ?_)
                          · skip
                            have c_121 : decide (r = 0) = false := decide_eq_false (fun h => c_121 (by rw [h]; rfl))
                            refine lv_iinc (v := (nI (r + 1))) (lv' := [(5, .int (nI (r + 1))), (6, .int 0), (0, .ref (a 0)), (1, .int (nI x)), (2, .int (nI y)), (3, .int t), (4, .int (nI u))]) hx hb dX1_mustPrecede_151 hl (k := 6) rfl (nI_inc _) (by decide) rfl (fun ls hl => ?_)
                            refine lv_goto (tgt := 49) hx hb dX1_mustPrecede_154 (by decide) ?_
                            exact ih2 (r + 1)  (by omega) (by rw [hv2]; simp [mqI, mqG, mtG, aM, c_77, c_104, c_116, c_121]) ls (lv_sub hl [2, 3, 4, 5, 6, 0] rfl)
                          · skip
                            have c_121 : decide (r = 0) = true := decide_eq_true ((nI_eq (a := r) (b := 0) (by omega) (by omega)).mp c_121)
                            refine lv_aload_n hx hb dX1_mustPrecede_124 rfl (lv_at hl 1 rfl) ?_
                            refine lv_iload_n hx hb dX1_mustPrecede_125 rfl (lv_at hl 2 rfl) ?_
                            refine lv_iload hx hb dX1_mustPrecede_126 (lv_at hl 5 rfl) ?_
                            refine kX1_looks ⟨hx, hb, hml, hown, hts⟩ hK hP x u  (by omega) (by omega) ⟨by decide, by decide⟩ hl.1 (Nat.le_of_ble_eq_true rfl) dX1_mustPrecede_128 ⟨Nat.zero_le _, Nat.zero_le _⟩ ?_
                            refine lv_if_eq (tgt := 151) hx hb dX1_mustPrecede_131 (by decide) (fun c_131 => ?_) (fun c_131 => ?_)
                            · skip
                              have c_131 := bI_0.mp c_131
                              refine lv_iinc (v := (nI (r + 1))) (lv' := [(5, .int (nI (r + 1))), (6, .int 0), (0, .ref (a 0)), (1, .int (nI x)), (2, .int (nI y)), (3, .int t), (4, .int (nI u))]) hx hb dX1_mustPrecede_151 hl (k := 6) rfl (nI_inc _) (by decide) rfl (fun ls hl => ?_)
                              refine lv_goto (tgt := 49) hx hb dX1_mustPrecede_154 (by decide) ?_
                              exact ih2 (r + 1)  (by omega) (by rw [hv2]; simp [mqI, mqG, mtG, aM, c_77, c_104, c_116, c_121, c_131]) ls (lv_sub hl [2, 3, 4, 5, 6, 0] rfl)
                            · skip
                              have c_131 := bI_n0.mp c_131
                              refine lv_aload_n hx hb dX1_mustPrecede_134 rfl (lv_at hl 1 rfl) ?_
                              refine lv_iload_n hx hb dX1_mustPrecede_135 rfl (lv_at hl 3 rfl) ?_
                              refine lv_iload hx hb dX1_mustPrecede_136 (lv_at hl 6 rfl) ?_
                              refine kX1_looks ⟨hx, hb, hml, hown, hts⟩ hK hP y r  (by omega) (by omega) ⟨by decide, by decide⟩ hl.1 (Nat.le_of_ble_eq_true rfl) dX1_mustPrecede_138 ⟨Nat.zero_le _, Nat.zero_le _⟩ ?_
                              refine lv_if_eq (tgt := 151) hx hb dX1_mustPrecede_141 (by decide) (fun c_141 => ?_) (fun c_141 => ?_)
                              · skip
                                have c_141 := bI_0.mp c_141
                                refine lv_iinc (v := (nI (r + 1))) (lv' := [(5, .int (nI (r + 1))), (6, .int 0), (0, .ref (a 0)), (1, .int (nI x)), (2, .int (nI y)), (3, .int t), (4, .int (nI u))]) hx hb dX1_mustPrecede_151 hl (k := 6) rfl (nI_inc _) (by decide) rfl (fun ls hl => ?_)
                                refine lv_goto (tgt := 49) hx hb dX1_mustPrecede_154 (by decide) ?_
                                exact ih2 (r + 1)  (by omega) (by rw [hv2]; simp [mqI, mqG, mtG, aM, c_77, c_104, c_116, c_121, c_131, c_141]) ls (lv_sub hl [2, 3, 4, 5, 6, 0] rfl)
                              · skip
                                have c_141 := bI_n0.mp c_141
                                refine lv_iload hx hb dX1_mustPrecede_144 (lv_at hl 0 rfl) ?_
                                refine lv_if_eq (tgt := 151) hx hb dX1_mustPrecede_146 (by decide) (fun c_146 => ?_) (fun c_146 => absurd (by decide) c_146)
                                refine lv_iinc (v := (nI (r + 1))) (lv' := [(5, .int (nI (r + 1))), (6, .int 0), (0, .ref (a 0)), (1, .int (nI x)), (2, .int (nI y)), (3, .int t), (4, .int (nI u))]) hx hb dX1_mustPrecede_151 hl (k := 6) rfl (nI_inc _) (by decide) rfl (fun ls hl => ?_)
                                refine lv_goto (tgt := 49) hx hb dX1_mustPrecede_154 (by decide) ?_
                                exact ih2 (r + 1)  (by omega) (by rw [hv2]; simp [mqI, mqG, mtG, aM, c_77, c_104, c_116, c_121, c_131, c_141]) ls (lv_sub hl [2, 3, 4, 5, 6, 0] rfl)
                      · skip
                        have c_104 : mh (x * 3 + u) = mh (y * 3 + r) + t := by rw [c_104]; exact Int32.add_comm _ _
                        refine lv_iconst (v := 1) hx hb dX1_mustPrecede_107 (by decide) ?_
                        refine lv_goto (tgt := 112) hx hb dX1_mustPrecede_108 (by decide) ?_
                        refine lv_istore (lv' := [(6, .int 1), (0, .ref (a 0)), (1, .int (nI x)), (2, .int (nI y)), (3, .int t), (4, .int (nI u)), (5, .int (nI r))]) hx hb dX1_mustPrecede_112 hl (by decide) rfl (fun ls hl => ?_)
                        refine lv_iload hx hb dX1_mustPrecede_114 (lv_at hl 5 rfl) ?_
                        refine lv_if_eq (tgt := 124) hx hb dX1_mustPrecede_116 (by decide) (fun c_116 => ?_) (fun c_116 => ?_)
                        · skip
                          have c_116 : decide (u = 0) = true := decide_eq_true ((nI_eq (a := u) (b := 0) (by omega) (by omega)).mp c_116)
                          refine lv_aload_n hx hb dX1_mustPrecede_124 rfl (lv_at hl 1 rfl) ?_
                          refine lv_iload_n hx hb dX1_mustPrecede_125 rfl (lv_at hl 2 rfl) ?_
                          refine lv_iload hx hb dX1_mustPrecede_126 (lv_at hl 5 rfl) ?_
                          refine kX1_looks ⟨hx, hb, hml, hown, hts⟩ hK hP x u  (by omega) (by omega) ⟨by decide, by decide⟩ hl.1 (Nat.le_of_ble_eq_true rfl) dX1_mustPrecede_128 ⟨Nat.zero_le _, Nat.zero_le _⟩ ?_
                          refine lv_if_eq (tgt := 151) hx hb dX1_mustPrecede_131 (by decide) (fun c_131 => ?_) (fun c_131 => ?_)
                          · skip
                            have c_131 := bI_0.mp c_131
                            refine lv_iinc (v := (nI (r + 1))) (lv' := [(5, .int (nI (r + 1))), (6, .int 1), (0, .ref (a 0)), (1, .int (nI x)), (2, .int (nI y)), (3, .int t), (4, .int (nI u))]) hx hb dX1_mustPrecede_151 hl (k := 6) rfl (nI_inc _) (by decide) rfl (fun ls hl => ?_)
                            refine lv_goto (tgt := 49) hx hb dX1_mustPrecede_154 (by decide) ?_
                            exact ih2 (r + 1)  (by omega) (by rw [hv2]; simp [mqI, mqG, mtG, aM, c_77, c_104, c_116, c_131]) ls (lv_sub hl [2, 3, 4, 5, 6, 0] rfl)
                          · skip
                            have c_131 := bI_n0.mp c_131
                            refine lv_aload_n hx hb dX1_mustPrecede_134 rfl (lv_at hl 1 rfl) ?_
                            refine lv_iload_n hx hb dX1_mustPrecede_135 rfl (lv_at hl 3 rfl) ?_
                            refine lv_iload hx hb dX1_mustPrecede_136 (lv_at hl 6 rfl) ?_
                            refine kX1_looks ⟨hx, hb, hml, hown, hts⟩ hK hP y r  (by omega) (by omega) ⟨by decide, by decide⟩ hl.1 (Nat.le_of_ble_eq_true rfl) dX1_mustPrecede_138 ⟨Nat.zero_le _, Nat.zero_le _⟩ ?_
                            refine lv_if_eq (tgt := 151) hx hb dX1_mustPrecede_141 (by decide) (fun c_141 => ?_) (fun c_141 => ?_)
                            · skip
                              have c_141 := bI_0.mp c_141
                              refine lv_iinc (v := (nI (r + 1))) (lv' := [(5, .int (nI (r + 1))), (6, .int 1), (0, .ref (a 0)), (1, .int (nI x)), (2, .int (nI y)), (3, .int t), (4, .int (nI u))]) hx hb dX1_mustPrecede_151 hl (k := 6) rfl (nI_inc _) (by decide) rfl (fun ls hl => ?_)
                              refine lv_goto (tgt := 49) hx hb dX1_mustPrecede_154 (by decide) ?_
                              exact ih2 (r + 1)  (by omega) (by rw [hv2]; simp [mqI, mqG, mtG, aM, c_77, c_104, c_116, c_131, c_141]) ls (lv_sub hl [2, 3, 4, 5, 6, 0] rfl)
                            · skip
                              have c_141 := bI_n0.mp c_141
                              refine lv_iload hx hb dX1_mustPrecede_144 (lv_at hl 0 rfl) ?_
                              refine lv_if_eq (tgt := 151) hx hb dX1_mustPrecede_146 (by decide) (fun c_146 => absurd c_146 (by decide)) (fun c_146 => ?_)
                              refine lv_iconst (v := 1) hx hb dX1_mustPrecede_149 (by decide) ?_
                              exact hret _ _ _ (mp_end (b := true) c_5 c_13 c_17 c_23 hz (by omega) (by omega) (by rw [hv2]; simp [mqI, mqG, mtG, aM, c_77, c_104, c_116, c_131, c_141])) dX1_mustPrecede_150
                        · skip
                          have c_116 : decide (u = 0) = false := decide_eq_false (fun h => c_116 (by rw [h]; rfl))
                          refine lv_iload hx hb dX1_mustPrecede_119 (lv_at hl 6 rfl) ?_
                          refine lv_if_ne (tgt := 151) hx hb dX1_mustPrecede_121 (by decide) (fun c_121 => ?_) (fun c_121 => ?_)
                          · skip
                            have c_121 : decide (r = 0) = false := decide_eq_false (fun h => c_121 (by rw [h]; rfl))
                            refine lv_iinc (v := (nI (r + 1))) (lv' := [(5, .int (nI (r + 1))), (6, .int 1), (0, .ref (a 0)), (1, .int (nI x)), (2, .int (nI y)), (3, .int t), (4, .int (nI u))]) hx hb dX1_mustPrecede_151 hl (k := 6) rfl (nI_inc _) (by decide) rfl (fun ls hl => ?_)
                            refine lv_goto (tgt := 49) hx hb dX1_mustPrecede_154 (by decide) ?_
                            exact ih2 (r + 1)  (by omega) (by rw [hv2]; simp [mqI, mqG, mtG, aM, c_77, c_104, c_116, c_121]) ls (lv_sub hl [2, 3, 4, 5, 6, 0] rfl)
                          · skip
                            have c_121 : decide (r = 0) = true := decide_eq_true ((nI_eq (a := r) (b := 0) (by omega) (by omega)).mp c_121)
                            refine lv_aload_n hx hb dX1_mustPrecede_124 rfl (lv_at hl 1 rfl) ?_
                            refine lv_iload_n hx hb dX1_mustPrecede_125 rfl (lv_at hl 2 rfl) ?_
                            refine lv_iload hx hb dX1_mustPrecede_126 (lv_at hl 5 rfl) ?_
                            refine kX1_looks ⟨hx, hb, hml, hown, hts⟩ hK hP x u  (by omega) (by omega) ⟨by decide, by decide⟩ hl.1 (Nat.le_of_ble_eq_true rfl) dX1_mustPrecede_128 ⟨Nat.zero_le _, Nat.zero_le _⟩ ?_
                            refine lv_if_eq (tgt := 151) hx hb dX1_mustPrecede_131 (by decide) (fun c_131 => ?_) (fun c_131 => ?_)
                            · skip
                              have c_131 := bI_0.mp c_131
                              refine lv_iinc (v := (nI (r + 1))) (lv' := [(5, .int (nI (r + 1))), (6, .int 1), (0, .ref (a 0)), (1, .int (nI x)), (2, .int (nI y)), (3, .int t), (4, .int (nI u))]) hx hb dX1_mustPrecede_151 hl (k := 6) rfl (nI_inc _) (by decide) rfl (fun ls hl => ?_)
                              refine lv_goto (tgt := 49) hx hb dX1_mustPrecede_154 (by decide) ?_
                              exact ih2 (r + 1)  (by omega) (by rw [hv2]; simp [mqI, mqG, mtG, aM, c_77, c_104, c_116, c_121, c_131]) ls (lv_sub hl [2, 3, 4, 5, 6, 0] rfl)
                            · skip
                              have c_131 := bI_n0.mp c_131
                              refine lv_aload_n hx hb dX1_mustPrecede_134 rfl (lv_at hl 1 rfl) ?_
                              refine lv_iload_n hx hb dX1_mustPrecede_135 rfl (lv_at hl 3 rfl) ?_
                              refine lv_iload hx hb dX1_mustPrecede_136 (lv_at hl 6 rfl) ?_
                              refine kX1_looks ⟨hx, hb, hml, hown, hts⟩ hK hP y r  (by omega) (by omega) ⟨by decide, by decide⟩ hl.1 (Nat.le_of_ble_eq_true rfl) dX1_mustPrecede_138 ⟨Nat.zero_le _, Nat.zero_le _⟩ ?_
                              refine lv_if_eq (tgt := 151) hx hb dX1_mustPrecede_141 (by decide) (fun c_141 => ?_) (fun c_141 => ?_)
                              · skip
                                have c_141 := bI_0.mp c_141
                                refine lv_iinc (v := (nI (r + 1))) (lv' := [(5, .int (nI (r + 1))), (6, .int 1), (0, .ref (a 0)), (1, .int (nI x)), (2, .int (nI y)), (3, .int t), (4, .int (nI u))]) hx hb dX1_mustPrecede_151 hl (k := 6) rfl (nI_inc _) (by decide) rfl (fun ls hl => ?_)
                                refine lv_goto (tgt := 49) hx hb dX1_mustPrecede_154 (by decide) ?_
                                exact ih2 (r + 1)  (by omega) (by rw [hv2]; simp [mqI, mqG, mtG, aM, c_77, c_104, c_116, c_121, c_131, c_141]) ls (lv_sub hl [2, 3, 4, 5, 6, 0] rfl)
                              · skip
                                have c_141 := bI_n0.mp c_141
                                refine lv_iload hx hb dX1_mustPrecede_144 (lv_at hl 0 rfl) ?_
                                refine lv_if_eq (tgt := 151) hx hb dX1_mustPrecede_146 (by decide) (fun c_146 => absurd c_146 (by decide)) (fun c_146 => ?_)
                                refine lv_iconst (v := 1) hx hb dX1_mustPrecede_149 (by decide) ?_
                                exact hret _ _ _ (mp_end (b := true) c_5 c_13 c_17 c_23 hz (by omega) (by omega) (by rw [hv2]; simp [mqI, mqG, mtG, aM, c_77, c_104, c_116, c_121, c_131, c_141])) dX1_mustPrecede_150
                exact L49 (3 - 0) 0  (by omega) (hv.trans rfl) ls (lv_sub hl [1, 2, 3, 4, 5, 0] rfl)
            exact L40 (3 - 0) 0  (by omega) rfl ls (lv_sub hl [1, 2, 3, 4, 0] rfl)
          · skip
            have c_27 := decide_eq_true c_27
            refine lv_iload_n hx hb dX1_mustPrecede_30 rfl (lv_at hl 1 rfl) ?_
            refine lv_iload_n hx hb dX1_mustPrecede_31 rfl (lv_at hl 2 rfl) ?_
            refine lv_icmp_lt (tgt := 37) hx hb dX1_mustPrecede_32 (by decide) (fun c_32 => ?_) (fun c_32 => ?_)
            · skip
              have c_32 : decide (y ≤ x) = false := by have h9 := (nI_ltI (a := x) (b := y) (by omega) (by omega)).mp c_32; simp; omega
              have hz : (decide (t = 0) && decide (y ≤ x)) = false := by simp only [c_32, Bool.false_and, Bool.and_false]
              refine lv_iconst (v := 0) hx hb dX1_mustPrecede_37 (by decide) ?_
              refine lv_istore (lv' := [(4, .int 0), (0, .ref (a 0)), (1, .int (nI x)), (2, .int (nI y)), (3, .int t)]) hx hb dX1_mustPrecede_38 hl (by decide) rfl (fun ls hl => ?_)
              have L40 : ∀ (n u : Nat) , u + n = 3 → (mqO (aM ma) (aM mh) mo x y t 0 3 = mqO (aM ma) (aM mh) mo x y t u n) → ∀ ls : Array Slot, lv_has ls 7 [(0, .ref (a 0)), (1, .int (nI x)), (2, .int (nI y)), (3, .int t), (4, .int (nI u))] → W p l e rmX1_mustPrecede s m ar below meth c s.heap [] 0 0 Q (F0 m 40 ls []) := by
                intro n
                induction n with
                | zero =>
                  intro u  hin hv ls hl
                  refine lv_iload hx hb dX1_mustPrecede_40 (lv_at hl 4 rfl) ?_
                  refine lv_iconst (v := 3) hx hb dX1_mustPrecede_42 (by decide) ?_
                  refine lv_icmp_ge (tgt := 163) hx hb dX1_mustPrecede_43 (by decide) (fun c_43 => ?_) (fun c_43 => absurd (nI_le (a := 3) (b := u) (by omega) (by omega)) c_43)
                  refine lv_iconst (v := 0) hx hb dX1_mustPrecede_163 (by decide) ?_
                  exact hret _ _ _ (mp_end (b := false) c_5 c_13 c_17 c_23 hz (by omega) (by omega) (by rw [hv]; rfl)) dX1_mustPrecede_164
                | succ n ih =>
                  intro u  hin hv ls hl
                  refine lv_iload hx hb dX1_mustPrecede_40 (lv_at hl 4 rfl) ?_
                  refine lv_iconst (v := 3) hx hb dX1_mustPrecede_42 (by decide) ?_
                  refine lv_icmp_ge (tgt := 163) hx hb dX1_mustPrecede_43 (by decide) (fun c_43 => absurd c_43 (nI_ge (a := u) (b := 3) (by omega) (by omega))) (fun c_43 => ?_)
                  refine lv_iconst (v := 0) hx hb dX1_mustPrecede_46 (by decide) ?_
                  refine lv_istore (lv' := [(5, .int 0), (0, .ref (a 0)), (1, .int (nI x)), (2, .int (nI y)), (3, .int t), (4, .int (nI u))]) hx hb dX1_mustPrecede_47 hl (by decide) rfl (fun ls hl => ?_)
                  have L49 : ∀ (n2 r : Nat) , r + n2 = 3 → (mqO (aM ma) (aM mh) mo x y t 0 3 = (mqI (aM ma) (aM mh) mo x y t u r n2 || mqO (aM ma) (aM mh) mo x y t (u + 1) n)) → ∀ ls : Array Slot, lv_has ls 7 [(0, .ref (a 0)), (1, .int (nI x)), (2, .int (nI y)), (3, .int t), (4, .int (nI u)), (5, .int (nI r))] → W p l e rmX1_mustPrecede s m ar below meth c s.heap [] 0 0 Q (F0 m 49 ls []) := by
                    intro n2
                    induction n2 with
                    | zero =>
                      intro r  hin_n2 hv2 ls hl
                      refine lv_iload hx hb dX1_mustPrecede_49 (lv_at hl 5 rfl) ?_
                      refine lv_iconst (v := 3) hx hb dX1_mustPrecede_51 (by decide) ?_
                      refine lv_icmp_ge (tgt := 157) hx hb dX1_mustPrecede_52 (by decide) (fun c_52 => ?_) (fun c_52 => absurd (nI_le (a := 3) (b := r) (by omega) (by omega)) c_52)
                      refine lv_iinc (v := (nI (u + 1))) (lv' := [(4, .int (nI (u + 1))), (0, .ref (a 0)), (1, .int (nI x)), (2, .int (nI y)), (3, .int t), (5, .int (nI r))]) hx hb dX1_mustPrecede_157 hl (k := 4) rfl (nI_inc _) (by decide) rfl (fun ls hl => ?_)
                      refine lv_goto (tgt := 40) hx hb dX1_mustPrecede_160 (by decide) ?_
                      exact ih (u + 1)  (by omega) (by rw [hv2]; simp [mqI]) ls (lv_sub hl [1, 2, 3, 4, 0] rfl)
                    | succ n2 ih2 =>
                      intro r  hin_n2 hv2 ls hl
                      refine lv_iload hx hb dX1_mustPrecede_49 (lv_at hl 5 rfl) ?_
                      refine lv_iconst (v := 3) hx hb dX1_mustPrecede_51 (by decide) ?_
                      refine lv_icmp_ge (tgt := 157) hx hb dX1_mustPrecede_52 (by decide) (fun c_52 => absurd c_52 (nI_ge (a := r) (b := 3) (by omega) (by omega))) (fun c_52 => ?_)
                      refine lv_aload_n hx hb dX1_mustPrecede_55 rfl (lv_at hl 0 rfl) ?_
                      refine gM_arrays hx hb hts hown hK hP dX1_mustPrecede_56 ?_
                      refine lv_iload_n hx hb dX1_mustPrecede_59 rfl (lv_at hl 1 rfl) ?_
                      refine lv_iconst (v := 3) hx hb dX1_mustPrecede_60 (by decide) ?_
                      refine lv_imul hx hb dX1_mustPrecede_61 ?_
                      refine tope (y := (nI (x * 3))) (pk_mul x 3) ?_
                      refine lv_iload hx hb dX1_mustPrecede_62 (lv_at hl 4 rfl) ?_
                      refine lv_iadd hx hb dX1_mustPrecede_64 ?_
                      refine tope (y := (nI (x * 3 + u))) (nI_add (x * 3) u) ?_
                      refine lM_arrays hx hb hK hP (x * 3 + u) rfl (by omega) dX1_mustPrecede_65 ?_
                      refine lv_aload_n hx hb dX1_mustPrecede_66 rfl (lv_at hl 0 rfl) ?_
                      refine gM_arrays hx hb hts hown hK hP dX1_mustPrecede_67 ?_
                      refine lv_iload_n hx hb dX1_mustPrecede_70 rfl (lv_at hl 2 rfl) ?_
                      refine lv_iconst (v := 3) hx hb dX1_mustPrecede_71 (by decide) ?_
                      refine lv_imul hx hb dX1_mustPrecede_72 ?_
                      refine tope (y := (nI (y * 3))) (pk_mul y 3) ?_
                      refine lv_iload hx hb dX1_mustPrecede_73 (lv_at hl 5 rfl) ?_
                      refine lv_iadd hx hb dX1_mustPrecede_75 ?_
                      refine tope (y := (nI (y * 3 + r))) (nI_add (y * 3) r) ?_
                      refine lM_arrays hx hb hK hP (y * 3 + r) rfl (by omega) dX1_mustPrecede_76 ?_
                      refine lv_icmp_ne (tgt := 111) hx hb dX1_mustPrecede_77 (by decide) (fun c_77 => ?_) (fun c_77 => ?_)
                      · skip
                        refine lv_iconst (v := 0) hx hb dX1_mustPrecede_111 (by decide) ?_
                        refine lv_istore (lv' := [(6, .int 0), (0, .ref (a 0)), (1, .int (nI x)), (2, .int (nI y)), (3, .int t), (4, .int (nI u)), (5, .int (nI r))]) hx hb dX1_mustPrecede_112 hl (by decide) rfl (fun ls hl => ?_)
                        refine lv_iload hx hb dX1_mustPrecede_114 (lv_at hl 5 rfl) ?_
                        refine lv_if_eq (tgt := 124) hx hb dX1_mustPrecede_116 (by decide) (fun c_116 => ?_) (fun c_116 => ?_)
                        · skip
                          have c_116 : decide (u = 0) = true := decide_eq_true ((nI_eq (a := u) (b := 0) (by omega) (by omega)).mp c_116)
                          refine lv_aload_n hx hb dX1_mustPrecede_124 rfl (lv_at hl 1 rfl) ?_
                          refine lv_iload_n hx hb dX1_mustPrecede_125 rfl (lv_at hl 2 rfl) ?_
                          refine lv_iload hx hb dX1_mustPrecede_126 (lv_at hl 5 rfl) ?_
                          refine kX1_looks ⟨hx, hb, hml, hown, hts⟩ hK hP x u  (by omega) (by omega) ⟨by decide, by decide⟩ hl.1 (Nat.le_of_ble_eq_true rfl) dX1_mustPrecede_128 ⟨Nat.zero_le _, Nat.zero_le _⟩ ?_
                          refine lv_if_eq (tgt := 151) hx hb dX1_mustPrecede_131 (by decide) (fun c_131 => ?_) (fun c_131 => ?_)
                          · skip
                            have c_131 := bI_0.mp c_131
                            refine lv_iinc (v := (nI (r + 1))) (lv' := [(5, .int (nI (r + 1))), (6, .int 0), (0, .ref (a 0)), (1, .int (nI x)), (2, .int (nI y)), (3, .int t), (4, .int (nI u))]) hx hb dX1_mustPrecede_151 hl (k := 6) rfl (nI_inc _) (by decide) rfl (fun ls hl => ?_)
                            refine lv_goto (tgt := 49) hx hb dX1_mustPrecede_154 (by decide) ?_
                            exact ih2 (r + 1)  (by omega) (by rw [hv2]; simp [mqI, mqG, mtG, aM, c_77, c_116, c_131]) ls (lv_sub hl [2, 3, 4, 5, 6, 0] rfl)
                          · skip
                            have c_131 := bI_n0.mp c_131
                            refine lv_aload_n hx hb dX1_mustPrecede_134 rfl (lv_at hl 1 rfl) ?_
                            refine lv_iload_n hx hb dX1_mustPrecede_135 rfl (lv_at hl 3 rfl) ?_
                            refine lv_iload hx hb dX1_mustPrecede_136 (lv_at hl 6 rfl) ?_
                            refine kX1_looks ⟨hx, hb, hml, hown, hts⟩ hK hP y r  (by omega) (by omega) ⟨by decide, by decide⟩ hl.1 (Nat.le_of_ble_eq_true rfl) dX1_mustPrecede_138 ⟨Nat.zero_le _, Nat.zero_le _⟩ ?_
                            refine lv_if_eq (tgt := 151) hx hb dX1_mustPrecede_141 (by decide) (fun c_141 => ?_) (fun c_141 => ?_)
                            · skip
                              have c_141 := bI_0.mp c_141
                              refine lv_iinc (v := (nI (r + 1))) (lv' := [(5, .int (nI (r + 1))), (6, .int 0), (0, .ref (a 0)), (1, .int (nI x)), (2, .int (nI y)), (3, .int t), (4, .int (nI u))]) hx hb dX1_mustPrecede_151 hl (k := 6) rfl (nI_inc _) (by decide) rfl (fun ls hl => ?_)
                              refine lv_goto (tgt := 49) hx hb dX1_mustPrecede_154 (by decide) ?_
                              exact ih2 (r + 1)  (by omega) (by rw [hv2]; simp [mqI, mqG, mtG, aM, c_77, c_116, c_131, c_141]) ls (lv_sub hl [2, 3, 4, 5, 6, 0] rfl)
                            · skip
                              have c_141 := bI_n0.mp c_141
                              refine lv_iload hx hb dX1_mustPrecede_144 (lv_at hl 0 rfl) ?_
                              refine lv_if_eq (tgt := 151) hx hb dX1_mustPrecede_146 (by decide) (fun c_146 => ?_) (fun c_146 => absurd (by decide) c_146)
                              refine lv_iinc (v := (nI (r + 1))) (lv' := [(5, .int (nI (r + 1))), (6, .int 0), (0, .ref (a 0)), (1, .int (nI x)), (2, .int (nI y)), (3, .int t), (4, .int (nI u))]) hx hb dX1_mustPrecede_151 hl (k := 6) rfl (nI_inc _) (by decide) rfl (fun ls hl => ?_)
                              refine lv_goto (tgt := 49) hx hb dX1_mustPrecede_154 (by decide) ?_
                              exact ih2 (r + 1)  (by omega) (by rw [hv2]; simp [mqI, mqG, mtG, aM, c_77, c_116, c_131, c_141]) ls (lv_sub hl [2, 3, 4, 5, 6, 0] rfl)
                        · skip
                          have c_116 : decide (u = 0) = false := decide_eq_false (fun h => c_116 (by rw [h]; rfl))
                          refine lv_iload hx hb dX1_mustPrecede_119 (lv_at hl 6 rfl) ?_
                          refine lv_if_ne (tgt := 151) hx hb dX1_mustPrecede_121 (by decide) (fun c_121 => ?_) (fun c_121 => ?_)
                          · skip
                            have c_121 : decide (r = 0) = false := decide_eq_false (fun h => c_121 (by rw [h]; rfl))
                            refine lv_iinc (v := (nI (r + 1))) (lv' := [(5, .int (nI (r + 1))), (6, .int 0), (0, .ref (a 0)), (1, .int (nI x)), (2, .int (nI y)), (3, .int t), (4, .int (nI u))]) hx hb dX1_mustPrecede_151 hl (k := 6) rfl (nI_inc _) (by decide) rfl (fun ls hl => ?_)
                            refine lv_goto (tgt := 49) hx hb dX1_mustPrecede_154 (by decide) ?_
                            exact ih2 (r + 1)  (by omega) (by rw [hv2]; simp [mqI, mqG, mtG, aM, c_77, c_116, c_121]) ls (lv_sub hl [2, 3, 4, 5, 6, 0] rfl)
                          · skip
                            have c_121 : decide (r = 0) = true := decide_eq_true ((nI_eq (a := r) (b := 0) (by omega) (by omega)).mp c_121)
                            refine lv_aload_n hx hb dX1_mustPrecede_124 rfl (lv_at hl 1 rfl) ?_
                            refine lv_iload_n hx hb dX1_mustPrecede_125 rfl (lv_at hl 2 rfl) ?_
                            refine lv_iload hx hb dX1_mustPrecede_126 (lv_at hl 5 rfl) ?_
                            refine kX1_looks ⟨hx, hb, hml, hown, hts⟩ hK hP x u  (by omega) (by omega) ⟨by decide, by decide⟩ hl.1 (Nat.le_of_ble_eq_true rfl) dX1_mustPrecede_128 ⟨Nat.zero_le _, Nat.zero_le _⟩ ?_
                            refine lv_if_eq (tgt := 151) hx hb dX1_mustPrecede_131 (by decide) (fun c_131 => ?_) (fun c_131 => ?_)
                            · skip
                              have c_131 := bI_0.mp c_131
                              refine lv_iinc (v := (nI (r + 1))) (lv' := [(5, .int (nI (r + 1))), (6, .int 0), (0, .ref (a 0)), (1, .int (nI x)), (2, .int (nI y)), (3, .int t), (4, .int (nI u))]) hx hb dX1_mustPrecede_151 hl (k := 6) rfl (nI_inc _) (by decide) rfl (fun ls hl => ?_)
                              refine lv_goto (tgt := 49) hx hb dX1_mustPrecede_154 (by decide) ?_
                              exact ih2 (r + 1)  (by omega) (by rw [hv2]; simp [mqI, mqG, mtG, aM, c_77, c_116, c_121, c_131]) ls (lv_sub hl [2, 3, 4, 5, 6, 0] rfl)
                            · skip
                              have c_131 := bI_n0.mp c_131
                              refine lv_aload_n hx hb dX1_mustPrecede_134 rfl (lv_at hl 1 rfl) ?_
                              refine lv_iload_n hx hb dX1_mustPrecede_135 rfl (lv_at hl 3 rfl) ?_
                              refine lv_iload hx hb dX1_mustPrecede_136 (lv_at hl 6 rfl) ?_
                              refine kX1_looks ⟨hx, hb, hml, hown, hts⟩ hK hP y r  (by omega) (by omega) ⟨by decide, by decide⟩ hl.1 (Nat.le_of_ble_eq_true rfl) dX1_mustPrecede_138 ⟨Nat.zero_le _, Nat.zero_le _⟩ ?_
                              refine lv_if_eq (tgt := 151) hx hb dX1_mustPrecede_141 (by decide) (fun c_141 => ?_) (fun c_141 => ?_)
                              · skip
                                have c_141 := bI_0.mp c_141
                                refine lv_iinc (v := (nI (r + 1))) (lv' := [(5, .int (nI (r + 1))), (6, .int 0), (0, .ref (a 0)), (1, .int (nI x)), (2, .int (nI y)), (3, .int t), (4, .int (nI u))]) hx hb dX1_mustPrecede_151 hl (k := 6) rfl (nI_inc _) (by decide) rfl (fun ls hl => ?_)
                                refine lv_goto (tgt := 49) hx hb dX1_mustPrecede_154 (by decide) ?_
                                exact ih2 (r + 1)  (by omega) (by rw [hv2]; simp [mqI, mqG, mtG, aM, c_77, c_116, c_121, c_131, c_141]) ls (lv_sub hl [2, 3, 4, 5, 6, 0] rfl)
                              · skip
                                have c_141 := bI_n0.mp c_141
                                refine lv_iload hx hb dX1_mustPrecede_144 (lv_at hl 0 rfl) ?_
                                refine lv_if_eq (tgt := 151) hx hb dX1_mustPrecede_146 (by decide) (fun c_146 => ?_) (fun c_146 => absurd (by decide) c_146)
                                refine lv_iinc (v := (nI (r + 1))) (lv' := [(5, .int (nI (r + 1))), (6, .int 0), (0, .ref (a 0)), (1, .int (nI x)), (2, .int (nI y)), (3, .int t), (4, .int (nI u))]) hx hb dX1_mustPrecede_151 hl (k := 6) rfl (nI_inc _) (by decide) rfl (fun ls hl => ?_)
                                refine lv_goto (tgt := 49) hx hb dX1_mustPrecede_154 (by decide) ?_
                                exact ih2 (r + 1)  (by omega) (by rw [hv2]; simp [mqI, mqG, mtG, aM, c_77, c_116, c_121, c_131, c_141]) ls (lv_sub hl [2, 3, 4, 5, 6, 0] rfl)
                      · skip
                        refine lv_aload_n hx hb dX1_mustPrecede_80 rfl (lv_at hl 0 rfl) ?_
                        refine gM_shifts hx hb hts hown hK hP dX1_mustPrecede_81 ?_
                        refine lv_iload_n hx hb dX1_mustPrecede_84 rfl (lv_at hl 1 rfl) ?_
                        refine lv_iconst (v := 3) hx hb dX1_mustPrecede_85 (by decide) ?_
                        refine lv_imul hx hb dX1_mustPrecede_86 ?_
                        refine tope (y := (nI (x * 3))) (pk_mul x 3) ?_
                        refine lv_iload hx hb dX1_mustPrecede_87 (lv_at hl 4 rfl) ?_
                        refine lv_iadd hx hb dX1_mustPrecede_89 ?_
                        refine tope (y := (nI (x * 3 + u))) (nI_add (x * 3) u) ?_
                        refine lM_shifts hx hb hK hP (x * 3 + u) rfl (by omega) dX1_mustPrecede_90 ?_
                        refine lv_iload_n hx hb dX1_mustPrecede_91 rfl (lv_at hl 3 rfl) ?_
                        refine lv_aload_n hx hb dX1_mustPrecede_92 rfl (lv_at hl 0 rfl) ?_
                        refine gM_shifts hx hb hts hown hK hP dX1_mustPrecede_93 ?_
                        refine lv_iload_n hx hb dX1_mustPrecede_96 rfl (lv_at hl 2 rfl) ?_
                        refine lv_iconst (v := 3) hx hb dX1_mustPrecede_97 (by decide) ?_
                        refine lv_imul hx hb dX1_mustPrecede_98 ?_
                        refine tope (y := (nI (y * 3))) (pk_mul y 3) ?_
                        refine lv_iload hx hb dX1_mustPrecede_99 (lv_at hl 5 rfl) ?_
                        refine lv_iadd hx hb dX1_mustPrecede_101 ?_
                        refine tope (y := (nI (y * 3 + r))) (nI_add (y * 3) r) ?_
                        refine lM_shifts hx hb hK hP (y * 3 + r) rfl (by omega) dX1_mustPrecede_102 ?_
                        refine lv_iadd hx hb dX1_mustPrecede_103 ?_
                        refine lv_icmp_ne (tgt := 111) hx hb dX1_mustPrecede_104 (by decide) (fun c_104 => ?_) (fun c_104 => ?_)
                        · skip
                          have c_104 : ¬ mh (x * 3 + u) = mh (y * 3 + r) + t := fun h => c_104 (by rw [h]; exact Int32.add_comm _ _)
                          refine lv_iconst (v := 0) hx hb dX1_mustPrecede_111 (by decide) ?_
                          refine lv_istore (lv' := [(6, .int 0), (0, .ref (a 0)), (1, .int (nI x)), (2, .int (nI y)), (3, .int t), (4, .int (nI u)), (5, .int (nI r))]) hx hb dX1_mustPrecede_112 hl (by decide) rfl (fun ls hl => ?_)
                          refine lv_iload hx hb dX1_mustPrecede_114 (lv_at hl 5 rfl) ?_
                          refine lv_if_eq (tgt := 124) hx hb dX1_mustPrecede_116 (by decide) (fun c_116 => ?_) (fun c_116 => ?_)
                          · skip
                            have c_116 : decide (u = 0) = true := decide_eq_true ((nI_eq (a := u) (b := 0) (by omega) (by omega)).mp c_116)
                            refine lv_aload_n hx hb dX1_mustPrecede_124 rfl (lv_at hl 1 rfl) ?_
                            refine lv_iload_n hx hb dX1_mustPrecede_125 rfl (lv_at hl 2 rfl) ?_
                            refine lv_iload hx hb dX1_mustPrecede_126 (lv_at hl 5 rfl) ?_
                            refine kX1_looks ⟨hx, hb, hml, hown, hts⟩ hK hP x u  (by omega) (by omega) ⟨by decide, by decide⟩ hl.1 (Nat.le_of_ble_eq_true rfl) dX1_mustPrecede_128 ⟨Nat.zero_le _, Nat.zero_le _⟩ ?_
                            refine lv_if_eq (tgt := 151) hx hb dX1_mustPrecede_131 (by decide) (fun c_131 => ?_) (fun c_131 => ?_)
                            · skip
                              have c_131 := bI_0.mp c_131
                              refine lv_iinc (v := (nI (r + 1))) (lv' := [(5, .int (nI (r + 1))), (6, .int 0), (0, .ref (a 0)), (1, .int (nI x)), (2, .int (nI y)), (3, .int t), (4, .int (nI u))]) hx hb dX1_mustPrecede_151 hl (k := 6) rfl (nI_inc _) (by decide) rfl (fun ls hl => ?_)
                              refine lv_goto (tgt := 49) hx hb dX1_mustPrecede_154 (by decide) ?_
                              exact ih2 (r + 1)  (by omega) (by rw [hv2]; simp [mqI, mqG, mtG, aM, c_77, c_104, c_116, c_131]) ls (lv_sub hl [2, 3, 4, 5, 6, 0] rfl)
                            · skip
                              have c_131 := bI_n0.mp c_131
                              refine lv_aload_n hx hb dX1_mustPrecede_134 rfl (lv_at hl 1 rfl) ?_
                              refine lv_iload_n hx hb dX1_mustPrecede_135 rfl (lv_at hl 3 rfl) ?_
                              refine lv_iload hx hb dX1_mustPrecede_136 (lv_at hl 6 rfl) ?_
                              refine kX1_looks ⟨hx, hb, hml, hown, hts⟩ hK hP y r  (by omega) (by omega) ⟨by decide, by decide⟩ hl.1 (Nat.le_of_ble_eq_true rfl) dX1_mustPrecede_138 ⟨Nat.zero_le _, Nat.zero_le _⟩ ?_
                              refine lv_if_eq (tgt := 151) hx hb dX1_mustPrecede_141 (by decide) (fun c_141 => ?_) (fun c_141 => ?_)
                              · skip
                                have c_141 := bI_0.mp c_141
                                refine lv_iinc (v := (nI (r + 1))) (lv' := [(5, .int (nI (r + 1))), (6, .int 0), (0, .ref (a 0)), (1, .int (nI x)), (2, .int (nI y)), (3, .int t), (4, .int (nI u))]) hx hb dX1_mustPrecede_151 hl (k := 6) rfl (nI_inc _) (by decide) rfl (fun ls hl => ?_)
                                refine lv_goto (tgt := 49) hx hb dX1_mustPrecede_154 (by decide) ?_
                                exact ih2 (r + 1)  (by omega) (by rw [hv2]; simp [mqI, mqG, mtG, aM, c_77, c_104, c_116, c_131, c_141]) ls (lv_sub hl [2, 3, 4, 5, 6, 0] rfl)
                              · skip
                                have c_141 := bI_n0.mp c_141
                                refine lv_iload hx hb dX1_mustPrecede_144 (lv_at hl 0 rfl) ?_
                                refine lv_if_eq (tgt := 151) hx hb dX1_mustPrecede_146 (by decide) (fun c_146 => ?_) (fun c_146 => absurd (by decide) c_146)
                                refine lv_iinc (v := (nI (r + 1))) (lv' := [(5, .int (nI (r + 1))), (6, .int 0), (0, .ref (a 0)), (1, .int (nI x)), (2, .int (nI y)), (3, .int t), (4, .int (nI u))]) hx hb dX1_mustPrecede_151 hl (k := 6) rfl (nI_inc _) (by decide) rfl (fun ls hl => ?_)
                                refine lv_goto (tgt := 49) hx hb dX1_mustPrecede_154 (by decide) ?_
                                exact ih2 (r + 1)  (by omega) (by rw [hv2]; simp [mqI, mqG, mtG, aM, c_77, c_104, c_116, c_131, c_141]) ls (lv_sub hl [2, 3, 4, 5, 6, 0] rfl)
                          · skip
                            have c_116 : decide (u = 0) = false := decide_eq_false (fun h => c_116 (by rw [h]; rfl))
                            refine lv_iload hx hb dX1_mustPrecede_119 (lv_at hl 6 rfl) ?_
                            refine lv_if_ne (tgt := 151) hx hb dX1_mustPrecede_121 (by decide) (fun c_121 => ?_) (fun c_121 => ?_)
                            · skip
                              have c_121 : decide (r = 0) = false := decide_eq_false (fun h => c_121 (by rw [h]; rfl))
                              refine lv_iinc (v := (nI (r + 1))) (lv' := [(5, .int (nI (r + 1))), (6, .int 0), (0, .ref (a 0)), (1, .int (nI x)), (2, .int (nI y)), (3, .int t), (4, .int (nI u))]) hx hb dX1_mustPrecede_151 hl (k := 6) rfl (nI_inc _) (by decide) rfl (fun ls hl => ?_)
                              refine lv_goto (tgt := 49) hx hb dX1_mustPrecede_154 (by decide) ?_
                              exact ih2 (r + 1)  (by omega) (by rw [hv2]; simp [mqI, mqG, mtG, aM, c_77, c_104, c_116, c_121]) ls (lv_sub hl [2, 3, 4, 5, 6, 0] rfl)
                            · skip
                              have c_121 : decide (r = 0) = true := decide_eq_true ((nI_eq (a := r) (b := 0) (by omega) (by omega)).mp c_121)
                              refine lv_aload_n hx hb dX1_mustPrecede_124 rfl (lv_at hl 1 rfl) ?_
                              refine lv_iload_n hx hb dX1_mustPrecede_125 rfl (lv_at hl 2 rfl) ?_
                              refine lv_iload hx hb dX1_mustPrecede_126 (lv_at hl 5 rfl) ?_
                              refine kX1_looks ⟨hx, hb, hml, hown, hts⟩ hK hP x u  (by omega) (by omega) ⟨by decide, by decide⟩ hl.1 (Nat.le_of_ble_eq_true rfl) dX1_mustPrecede_128 ⟨Nat.zero_le _, Nat.zero_le _⟩ ?_
                              refine lv_if_eq (tgt := 151) hx hb dX1_mustPrecede_131 (by decide) (fun c_131 => ?_) (fun c_131 => ?_)
                              · skip
                                have c_131 := bI_0.mp c_131
                                refine lv_iinc (v := (nI (r + 1))) (lv' := [(5, .int (nI (r + 1))), (6, .int 0), (0, .ref (a 0)), (1, .int (nI x)), (2, .int (nI y)), (3, .int t), (4, .int (nI u))]) hx hb dX1_mustPrecede_151 hl (k := 6) rfl (nI_inc _) (by decide) rfl (fun ls hl => ?_)
                                refine lv_goto (tgt := 49) hx hb dX1_mustPrecede_154 (by decide) ?_
                                exact ih2 (r + 1)  (by omega) (by rw [hv2]; simp [mqI, mqG, mtG, aM, c_77, c_104, c_116, c_121, c_131]) ls (lv_sub hl [2, 3, 4, 5, 6, 0] rfl)
                              · skip
                                have c_131 := bI_n0.mp c_131
                                refine lv_aload_n hx hb dX1_mustPrecede_134 rfl (lv_at hl 1 rfl) ?_
                                refine lv_iload_n hx hb dX1_mustPrecede_135 rfl (lv_at hl 3 rfl) ?_
                                refine lv_iload hx hb dX1_mustPrecede_136 (lv_at hl 6 rfl) ?_
                                refine kX1_looks ⟨hx, hb, hml, hown, hts⟩ hK hP y r  (by omega) (by omega) ⟨by decide, by decide⟩ hl.1 (Nat.le_of_ble_eq_true rfl) dX1_mustPrecede_138 ⟨Nat.zero_le _, Nat.zero_le _⟩ ?_
                                refine lv_if_eq (tgt := 151) hx hb dX1_mustPrecede_141 (by decide) (fun c_141 => ?_) (fun c_141 => ?_)
                                · skip
                                  have c_141 := bI_0.mp c_141
                                  refine lv_iinc (v := (nI (r + 1))) (lv' := [(5, .int (nI (r + 1))), (6, .int 0), (0, .ref (a 0)), (1, .int (nI x)), (2, .int (nI y)), (3, .int t), (4, .int (nI u))]) hx hb dX1_mustPrecede_151 hl (k := 6) rfl (nI_inc _) (by decide) rfl (fun ls hl => ?_)
                                  refine lv_goto (tgt := 49) hx hb dX1_mustPrecede_154 (by decide) ?_
                                  exact ih2 (r + 1)  (by omega) (by rw [hv2]; simp [mqI, mqG, mtG, aM, c_77, c_104, c_116, c_121, c_131, c_141]) ls (lv_sub hl [2, 3, 4, 5, 6, 0] rfl)
                                · skip
                                  have c_141 := bI_n0.mp c_141
                                  refine lv_iload hx hb dX1_mustPrecede_144 (lv_at hl 0 rfl) ?_
                                  refine lv_if_eq (tgt := 151) hx hb dX1_mustPrecede_146 (by decide) (fun c_146 => ?_) (fun c_146 => absurd (by decide) c_146)
                                  refine lv_iinc (v := (nI (r + 1))) (lv' := [(5, .int (nI (r + 1))), (6, .int 0), (0, .ref (a 0)), (1, .int (nI x)), (2, .int (nI y)), (3, .int t), (4, .int (nI u))]) hx hb dX1_mustPrecede_151 hl (k := 6) rfl (nI_inc _) (by decide) rfl (fun ls hl => ?_)
                                  refine lv_goto (tgt := 49) hx hb dX1_mustPrecede_154 (by decide) ?_
                                  exact ih2 (r + 1)  (by omega) (by rw [hv2]; simp [mqI, mqG, mtG, aM, c_77, c_104, c_116, c_121, c_131, c_141]) ls (lv_sub hl [2, 3, 4, 5, 6, 0] rfl)
                        · skip
                          have c_104 : mh (x * 3 + u) = mh (y * 3 + r) + t := by rw [c_104]; exact Int32.add_comm _ _
                          refine lv_iconst (v := 1) hx hb dX1_mustPrecede_107 (by decide) ?_
                          refine lv_goto (tgt := 112) hx hb dX1_mustPrecede_108 (by decide) ?_
                          refine lv_istore (lv' := [(6, .int 1), (0, .ref (a 0)), (1, .int (nI x)), (2, .int (nI y)), (3, .int t), (4, .int (nI u)), (5, .int (nI r))]) hx hb dX1_mustPrecede_112 hl (by decide) rfl (fun ls hl => ?_)
                          refine lv_iload hx hb dX1_mustPrecede_114 (lv_at hl 5 rfl) ?_
                          refine lv_if_eq (tgt := 124) hx hb dX1_mustPrecede_116 (by decide) (fun c_116 => ?_) (fun c_116 => ?_)
                          · skip
                            have c_116 : decide (u = 0) = true := decide_eq_true ((nI_eq (a := u) (b := 0) (by omega) (by omega)).mp c_116)
                            refine lv_aload_n hx hb dX1_mustPrecede_124 rfl (lv_at hl 1 rfl) ?_
                            refine lv_iload_n hx hb dX1_mustPrecede_125 rfl (lv_at hl 2 rfl) ?_
                            refine lv_iload hx hb dX1_mustPrecede_126 (lv_at hl 5 rfl) ?_
                            refine kX1_looks ⟨hx, hb, hml, hown, hts⟩ hK hP x u  (by omega) (by omega) ⟨by decide, by decide⟩ hl.1 (Nat.le_of_ble_eq_true rfl) dX1_mustPrecede_128 ⟨Nat.zero_le _, Nat.zero_le _⟩ ?_
                            refine lv_if_eq (tgt := 151) hx hb dX1_mustPrecede_131 (by decide) (fun c_131 => ?_) (fun c_131 => ?_)
                            · skip
                              have c_131 := bI_0.mp c_131
                              refine lv_iinc (v := (nI (r + 1))) (lv' := [(5, .int (nI (r + 1))), (6, .int 1), (0, .ref (a 0)), (1, .int (nI x)), (2, .int (nI y)), (3, .int t), (4, .int (nI u))]) hx hb dX1_mustPrecede_151 hl (k := 6) rfl (nI_inc _) (by decide) rfl (fun ls hl => ?_)
                              refine lv_goto (tgt := 49) hx hb dX1_mustPrecede_154 (by decide) ?_
                              exact ih2 (r + 1)  (by omega) (by rw [hv2]; simp [mqI, mqG, mtG, aM, c_77, c_104, c_116, c_131]) ls (lv_sub hl [2, 3, 4, 5, 6, 0] rfl)
                            · skip
                              have c_131 := bI_n0.mp c_131
                              refine lv_aload_n hx hb dX1_mustPrecede_134 rfl (lv_at hl 1 rfl) ?_
                              refine lv_iload_n hx hb dX1_mustPrecede_135 rfl (lv_at hl 3 rfl) ?_
                              refine lv_iload hx hb dX1_mustPrecede_136 (lv_at hl 6 rfl) ?_
                              refine kX1_looks ⟨hx, hb, hml, hown, hts⟩ hK hP y r  (by omega) (by omega) ⟨by decide, by decide⟩ hl.1 (Nat.le_of_ble_eq_true rfl) dX1_mustPrecede_138 ⟨Nat.zero_le _, Nat.zero_le _⟩ ?_
                              refine lv_if_eq (tgt := 151) hx hb dX1_mustPrecede_141 (by decide) (fun c_141 => ?_) (fun c_141 => ?_)
                              · skip
                                have c_141 := bI_0.mp c_141
                                refine lv_iinc (v := (nI (r + 1))) (lv' := [(5, .int (nI (r + 1))), (6, .int 1), (0, .ref (a 0)), (1, .int (nI x)), (2, .int (nI y)), (3, .int t), (4, .int (nI u))]) hx hb dX1_mustPrecede_151 hl (k := 6) rfl (nI_inc _) (by decide) rfl (fun ls hl => ?_)
                                refine lv_goto (tgt := 49) hx hb dX1_mustPrecede_154 (by decide) ?_
                                exact ih2 (r + 1)  (by omega) (by rw [hv2]; simp [mqI, mqG, mtG, aM, c_77, c_104, c_116, c_131, c_141]) ls (lv_sub hl [2, 3, 4, 5, 6, 0] rfl)
                              · skip
                                have c_141 := bI_n0.mp c_141
                                refine lv_iload hx hb dX1_mustPrecede_144 (lv_at hl 0 rfl) ?_
                                refine lv_if_eq (tgt := 151) hx hb dX1_mustPrecede_146 (by decide) (fun c_146 => absurd c_146 (by decide)) (fun c_146 => ?_)
                                refine lv_iconst (v := 1) hx hb dX1_mustPrecede_149 (by decide) ?_
                                exact hret _ _ _ (mp_end (b := true) c_5 c_13 c_17 c_23 hz (by omega) (by omega) (by rw [hv2]; simp [mqI, mqG, mtG, aM, c_77, c_104, c_116, c_131, c_141])) dX1_mustPrecede_150
                          · skip
                            have c_116 : decide (u = 0) = false := decide_eq_false (fun h => c_116 (by rw [h]; rfl))
                            refine lv_iload hx hb dX1_mustPrecede_119 (lv_at hl 6 rfl) ?_
                            refine lv_if_ne (tgt := 151) hx hb dX1_mustPrecede_121 (by decide) (fun c_121 => ?_) (fun c_121 => ?_)
                            · skip
                              have c_121 : decide (r = 0) = false := decide_eq_false (fun h => c_121 (by rw [h]; rfl))
                              refine lv_iinc (v := (nI (r + 1))) (lv' := [(5, .int (nI (r + 1))), (6, .int 1), (0, .ref (a 0)), (1, .int (nI x)), (2, .int (nI y)), (3, .int t), (4, .int (nI u))]) hx hb dX1_mustPrecede_151 hl (k := 6) rfl (nI_inc _) (by decide) rfl (fun ls hl => ?_)
                              refine lv_goto (tgt := 49) hx hb dX1_mustPrecede_154 (by decide) ?_
                              exact ih2 (r + 1)  (by omega) (by rw [hv2]; simp [mqI, mqG, mtG, aM, c_77, c_104, c_116, c_121]) ls (lv_sub hl [2, 3, 4, 5, 6, 0] rfl)
                            · skip
                              have c_121 : decide (r = 0) = true := decide_eq_true ((nI_eq (a := r) (b := 0) (by omega) (by omega)).mp c_121)
                              refine lv_aload_n hx hb dX1_mustPrecede_124 rfl (lv_at hl 1 rfl) ?_
                              refine lv_iload_n hx hb dX1_mustPrecede_125 rfl (lv_at hl 2 rfl) ?_
                              refine lv_iload hx hb dX1_mustPrecede_126 (lv_at hl 5 rfl) ?_
                              refine kX1_looks ⟨hx, hb, hml, hown, hts⟩ hK hP x u  (by omega) (by omega) ⟨by decide, by decide⟩ hl.1 (Nat.le_of_ble_eq_true rfl) dX1_mustPrecede_128 ⟨Nat.zero_le _, Nat.zero_le _⟩ ?_
                              refine lv_if_eq (tgt := 151) hx hb dX1_mustPrecede_131 (by decide) (fun c_131 => ?_) (fun c_131 => ?_)
                              · skip
                                have c_131 := bI_0.mp c_131
                                refine lv_iinc (v := (nI (r + 1))) (lv' := [(5, .int (nI (r + 1))), (6, .int 1), (0, .ref (a 0)), (1, .int (nI x)), (2, .int (nI y)), (3, .int t), (4, .int (nI u))]) hx hb dX1_mustPrecede_151 hl (k := 6) rfl (nI_inc _) (by decide) rfl (fun ls hl => ?_)
                                refine lv_goto (tgt := 49) hx hb dX1_mustPrecede_154 (by decide) ?_
                                exact ih2 (r + 1)  (by omega) (by rw [hv2]; simp [mqI, mqG, mtG, aM, c_77, c_104, c_116, c_121, c_131]) ls (lv_sub hl [2, 3, 4, 5, 6, 0] rfl)
                              · skip
                                have c_131 := bI_n0.mp c_131
                                refine lv_aload_n hx hb dX1_mustPrecede_134 rfl (lv_at hl 1 rfl) ?_
                                refine lv_iload_n hx hb dX1_mustPrecede_135 rfl (lv_at hl 3 rfl) ?_
                                refine lv_iload hx hb dX1_mustPrecede_136 (lv_at hl 6 rfl) ?_
                                refine kX1_looks ⟨hx, hb, hml, hown, hts⟩ hK hP y r  (by omega) (by omega) ⟨by decide, by decide⟩ hl.1 (Nat.le_of_ble_eq_true rfl) dX1_mustPrecede_138 ⟨Nat.zero_le _, Nat.zero_le _⟩ ?_
                                refine lv_if_eq (tgt := 151) hx hb dX1_mustPrecede_141 (by decide) (fun c_141 => ?_) (fun c_141 => ?_)
                                · skip
                                  have c_141 := bI_0.mp c_141
                                  refine lv_iinc (v := (nI (r + 1))) (lv' := [(5, .int (nI (r + 1))), (6, .int 1), (0, .ref (a 0)), (1, .int (nI x)), (2, .int (nI y)), (3, .int t), (4, .int (nI u))]) hx hb dX1_mustPrecede_151 hl (k := 6) rfl (nI_inc _) (by decide) rfl (fun ls hl => ?_)
                                  refine lv_goto (tgt := 49) hx hb dX1_mustPrecede_154 (by decide) ?_
                                  exact ih2 (r + 1)  (by omega) (by rw [hv2]; simp [mqI, mqG, mtG, aM, c_77, c_104, c_116, c_121, c_131, c_141]) ls (lv_sub hl [2, 3, 4, 5, 6, 0] rfl)
                                · skip
                                  have c_141 := bI_n0.mp c_141
                                  refine lv_iload hx hb dX1_mustPrecede_144 (lv_at hl 0 rfl) ?_
                                  refine lv_if_eq (tgt := 151) hx hb dX1_mustPrecede_146 (by decide) (fun c_146 => absurd c_146 (by decide)) (fun c_146 => ?_)
                                  refine lv_iconst (v := 1) hx hb dX1_mustPrecede_149 (by decide) ?_
                                  exact hret _ _ _ (mp_end (b := true) c_5 c_13 c_17 c_23 hz (by omega) (by omega) (by rw [hv2]; simp [mqI, mqG, mtG, aM, c_77, c_104, c_116, c_121, c_131, c_141])) dX1_mustPrecede_150
                  exact L49 (3 - 0) 0  (by omega) (hv.trans rfl) ls (lv_sub hl [1, 2, 3, 4, 5, 0] rfl)
              exact L40 (3 - 0) 0  (by omega) rfl ls (lv_sub hl [1, 2, 3, 4, 0] rfl)
            · skip
              have c_32 : decide (y ≤ x) = true := decide_eq_true (Nat.le_of_not_lt (fun h => c_32 ((nI_ltI (a := x) (b := y) (by omega) (by omega)).mpr h)))
              refine lv_iconst (v := 0) hx hb dX1_mustPrecede_35 (by decide) ?_
              exact hret _ _ _ (by simp only [mpG, prG, c_5, c_13, c_17, c_23, c_27, c_32, nI_clamp (show x < 2 ^ 31 by omega), nI_clamp (show y < 2 ^ 31 by omega)]; simp [bI]) dX1_mustPrecede_36
end
section
/-! LaneLoopsModel: clear, set, ramp, statement, exchange, carryOut, run (printed by gen/p22.py) -/
/-- size, operations, constants, arrays, shifts -/
abbrev MB : Type := Int32 × (Nat → Int32) × (Nat → Int32) × (Nat → Int32) × (Nat → Int32)
def upd3 (f : Nat → Int32) (N : Nat) (x y z : Int32) : Nat → Int32 := upd (upd (upd f (N * 3 + 0) x) (N * 3 + 1) y) (N * 3 + 2) z
def smtM (N : Nat) (B : MB) (o x y t : Int32) : Int32 × MB := if bad3A x then (-1, B) else if bad3S y then (-2, B) else if badO o then (-3, B) else if 4 ≤ N then (-4, B) else (nI N, (nI (N + 1), upd B.2.1 N o, upd B.2.2.1 N t, upd3 B.2.2.2.1 N (arI x 0) (arI x 1) (arI x 2), upd3 B.2.2.2.2 N (shI y 0) (shI y 1) (shI y 2)))
def sw3 (f : Nat → Int32) (x y : Nat) : Nat → Int32 := swF (swF (swF f (x * 3 + 0) (y * 3 + 0)) (x * 3 + 1) (y * 3 + 1)) (x * 3 + 2) (y * 3 + 2)
def exM (N : Nat) (B : MB) (v w : Int32) : Int32 × MB := if noSt (nI N) v || noSt (nI N) w then (-3, B) else (0, (B.1, swF B.2.1 v.toNatClampNeg w.toNatClampNeg, swF B.2.2.1 v.toNatClampNeg w.toNatClampNeg, sw3 B.2.2.2.1 v.toNatClampNeg w.toNatClampNeg, sw3 B.2.2.2.2 v.toNatClampNeg w.toNatClampNeg))
theorem and3_badA (y : Int32) : (y &&& 3 = 3 → badA (y &&& 3) = true) ∧ (¬ y &&& 3 = 3 → badA (y &&& 3) = false) := by
  obtain ⟨j, hj, e⟩ := pk_andE y (m := 3) 2 (by decide)
  rw [e]
  rcases (show j = 0 ∨ j = 1 ∨ j = 2 ∨ j = 3 by omega) with rfl | rfl | rfl | rfl <;> decide +kernel
theorem and15_badS (y : Int32) : (8 < y &&& 15 → badS ((y &&& 15) - 4) = true) ∧ (¬ 8 < y &&& 15 → badS ((y &&& 15) - 4) = false) := by
  obtain ⟨j, hj, e⟩ := pk_andE y (m := 15) 4 (by decide)
  rw [e]
  have h : ∀ j, j < 16 → (8 < nI j → badS (nI j - 4) = true) ∧ (¬ 8 < nI j → badS (nI j - 4) = false) := by decide +kernel
  exact h j hj
def ouM (mh : Nat → Int32) (v w : Int32) : Nat → Nat → Bool
  | _, 0 => false
  | k, n + 1 => (badC (v + mh k) || badC (w + mh k)) || ouM mh v w (k + 1) n
theorem ouM_eq {mh : Nat → Int32} {v w : Int32} : ∀ (n x : Nat), ouM mh v w (x * 3) (n * 3) = ouA (aM mh) v w x n
  | 0, _ => rfl
  | n + 1, x => by
    have e : (n + 1) * 3 = n * 3 + 1 + 1 + 1 := by omega
    rw [e]
    simp only [ouM, ouA, ouG, aM]
    rw [← ouM_eq n (x + 1), show (x + 1) * 3 = x * 3 + 1 + 1 + 1 by omega]
    simp only [Nat.add_zero]
    cases badC (v + mh (x * 3)) <;> cases badC (w + mh (x * 3)) <;> cases badC (v + mh (x * 3 + 1)) <;> cases badC (w + mh (x * 3 + 1)) <;> cases badC (v + mh (x * 3 + 2)) <;> cases badC (w + mh (x * 3 + 2)) <;> simp
theorem runM_end {a h : Nat → Nat → Int32} {po oc : Nat → Int32} {N lo up i : Nat} {f g : Nat → Int32} {r : Int32} (hlo : badC (nI lo) = false) (hup : badC (nI up) = false) (h32 : lo < 32) (u32 : up < 32) (hou : ouA h (nI lo) (nI up) 0 N = false) (hi : i = lo + (up + 1 - lo)) (hr : r = nI ((i - lo) * N)) (hg : g = rnF (stG a h po oc) (fun _ => true) N lo (up + 1 - lo) f) : (r, g) = runG a h po oc N (nI lo) (nI up) f := by
  unfold runG
  rw [hlo, hup, hou, nI_clamp (by omega), nI_clamp (by omega)]
  by_cases e : lo ≤ up
  · have e2 : ¬ nI up < nI lo := Int32.not_lt.mpr (nI_le e (by omega))
    have e3 : nI N * (nI up - nI lo + 1) = nI ((i - lo) * N) := by
      have e4 : nI up - nI lo + 1 = nI (up + 1 - lo) := by
        rw [pk_sub e]
        rw [show up + 1 - lo = (up - lo) + 1 by omega]
        exact nI_1 _
      rw [e4, pk_mul, hi, Nat.mul_comm]
      congr 2
      omega
    rw [if_neg (by decide), if_neg (by decide), if_neg e2, e3, hr, hg]
  · have e2 : nI up < nI lo := nI_lt (by omega) (by omega)
    have e5 : up + 1 - lo = 0 := by omega
    rw [if_neg (by decide), if_neg (by decide), if_pos e2, hr, hg, hi, e5]
    simp [rnF]
    rfl
abbrev rmX1_clear : Room := { frames := 0, cells := 0, slots := 0, locals := 0 }
set_option maxHeartbeats 4000000 in
set_option maxRecDepth 100000 in
theorem mX1_clear (l : Launch) {D : va_G} {a : Nat → Nat} {d : Nat → ClassId} {mn : Int32} {mo mq ma mh mf : Nat → Int32}   : MV l yX1_clear (ws_ yX1_clear cX1_clear 1 none) rmX1_clear [.ref (a 0)] D (tyM d) (WM a d mn mo mq ma mh mf) (T := Unit) (fun _ => True) (fun _ => WM a d 0 mo mq ma mh mf) := by
  refine impV (by decide) (Nat.le_of_ble_eq_true rfl) ?_
  intro p e s m ar below meth c Q A hx hb hml hown hts hK hP hD hS hA hret ls hl
  have hown : s.vm.findClass RX1 = some m.cls := hown
  have hl : lv_has ls 1 [(0, .ref (a 0))] := hl
  refine lv_aload_n hx hb dX1_clear_0 rfl (lv_at hl 0 rfl) ?_
  refine lv_iconst (v := 0) hx hb dX1_clear_1 (by decide) ?_
  refine pM_size hx hb hts hown hK hP hD hS dX1_clear_2 (fun H locs hP hD hS => ?_)
  exact hret () _ _ _ _ trivial hP hD hS dX1_clear_5
abbrev rmX1_set : Room := { frames := 1, cells := 0, slots := 0, locals := 21 }
set_option maxHeartbeats 4000000 in
set_option maxRecDepth 100000 in
theorem mX1_set (l : Launch) {D : va_G} {a : Nat → Nat} {d : Nat → ClassId} {mn : Int32} {mo mq ma mh mf : Nat → Int32}  (v : Int32) (w : Int32) (t : Int32)  : MI l yX1_set (ws_ yX1_set cX1_set 5 (some .int)) rmX1_set [.ref (a 0), .int v, .int w, .int t] D (tyM d) (WM a d mn mo mq ma mh mf) (T := Nat → Int32) (fun r u => (r, u) = setG mf v w t) (fun u => WM a d mn mo mq ma mh u) := by
  refine impI (by decide) (Nat.le_of_ble_eq_true rfl) ?_
  intro p e s m ar below meth c Q A hx hb hml hown hts hK hP hD hS hA hret ls hl
  have hown : s.vm.findClass RX1 = some m.cls := hown
  have hl : lv_has ls 5 [(0, .ref (a 0)), (1, .int v), (2, .int w), (3, .int t)] := hl
  refine lv_aload_n hx hb dX1_set_0 rfl (lv_at hl 0 rfl) ?_
  refine lv_iload_n hx hb dX1_set_1 rfl (lv_at hl 1 rfl) ?_
  refine kX1_badArray ⟨hx, hb, hml, hown, hts⟩ hK hP v   ⟨by decide, by decide⟩ hl.1 (Nat.le_of_ble_eq_true rfl) dX1_set_2 ⟨Nat.zero_le _, Nat.zero_le _⟩ ?_
  refine lv_if_eq (tgt := 10) hx hb dX1_set_5 (by decide) (fun c_5 => ?_) (fun c_5 => ?_)
  · skip
    have c_5 := bI_0.mp c_5
    refine lv_aload_n hx hb dX1_set_10 rfl (lv_at hl 0 rfl) ?_
    refine lv_iload_n hx hb dX1_set_11 rfl (lv_at hl 2 rfl) ?_
    refine kX1_badCell ⟨hx, hb, hml, hown, hts⟩ hK hP w   ⟨by decide, by decide⟩ hl.1 (Nat.le_of_ble_eq_true rfl) dX1_set_12 ⟨Nat.zero_le _, Nat.zero_le _⟩ ?_
    refine lv_if_eq (tgt := 21) hx hb dX1_set_15 (by decide) (fun c_15 => ?_) (fun c_15 => ?_)
    · skip
      have c_15 := bI_0.mp c_15
      obtain ⟨j, hj, ej⟩ := ix_nat2 c_5 c_15
      refine lv_aload_n hx hb dX1_set_21 rfl (lv_at hl 0 rfl) ?_
      refine gM_cells hx hb hts hown hK hP dX1_set_22 ?_
      refine lv_iload_n hx hb dX1_set_25 rfl (lv_at hl 1 rfl) ?_
      refine lv_bipush (v := 32) hx hb dX1_set_26 (by decide) ?_
      refine lv_imul hx hb dX1_set_28 ?_
      refine lv_iload_n hx hb dX1_set_29 rfl (lv_at hl 2 rfl) ?_
      refine lv_iadd hx hb dX1_set_30 ?_
      refine lM_cells hx hb hK hP j ej hj dX1_set_31 ?_
      refine lv_istore (lv' := [(4, .int (mf j)), (0, .ref (a 0)), (1, .int v), (2, .int w), (3, .int t)]) hx hb dX1_set_32 hl (by decide) rfl (fun ls hl => ?_)
      refine lv_aload_n hx hb dX1_set_34 rfl (lv_at hl 1 rfl) ?_
      refine gM_cells hx hb hts hown hK hP dX1_set_35 ?_
      refine lv_iload_n hx hb dX1_set_38 rfl (lv_at hl 2 rfl) ?_
      refine lv_bipush (v := 32) hx hb dX1_set_39 (by decide) ?_
      refine lv_imul hx hb dX1_set_41 ?_
      refine lv_iload_n hx hb dX1_set_42 rfl (lv_at hl 3 rfl) ?_
      refine lv_iadd hx hb dX1_set_43 ?_
      refine lv_iload_n hx hb dX1_set_44 rfl (lv_at hl 4 rfl) ?_
      refine sM_cells hx hb hK hP hD hS j ej hj dX1_set_45 (fun H locs hP hD hS => ?_)
      refine lv_iload hx hb dX1_set_46 (lv_at hl 0 rfl) ?_
      exact hret _ _ _ _ _ _ (by simp only [setG, c_5, c_15, ej]; rw [nI_clamp (by omega)]; rfl) hP hD hS dX1_set_48
    · skip
      have c_15 := bI_n0.mp c_15
      refine lv_bipush (v := (-5)) hx hb dX1_set_18 (by decide) ?_
      exact hret _ mf _ _ _ _ (by simp [setG, c_5, c_15]) hP hD hS dX1_set_20
  · skip
    have c_5 := bI_n0.mp c_5
    refine lv_iconst (v := (-1)) hx hb dX1_set_8 (by decide) ?_
    exact hret _ mf _ _ _ _ (by simp [setG, c_5]) hP hD hS dX1_set_9
abbrev rmX1_ramp : Room := { frames := 1, cells := 0, slots := 0, locals := 21 }
set_option maxHeartbeats 4000000 in
set_option maxRecDepth 100000 in
theorem mX1_ramp (l : Launch) {D : va_G} {a : Nat → Nat} {d : Nat → ClassId} {mn : Int32} {mo mq ma mh mf : Nat → Int32}  (v : Int32) (b : Int32) (t : Int32)  : MI l yX1_ramp (ws_ yX1_ramp cX1_ramp 5 (some .int)) rmX1_ramp [.ref (a 0), .int v, .int b, .int t] D (tyM d) (WM a d mn mo mq ma mh mf) (T := Nat → Int32) (fun r u => (r, u) = rpG mf v b t) (fun u => WM a d mn mo mq ma mh u) := by
  refine impI (by decide) (Nat.le_of_ble_eq_true rfl) ?_
  intro p e s m ar below meth c Q A hx hb hml hown hts hK hP hD hS hA hret ls hl
  have hown : s.vm.findClass RX1 = some m.cls := hown
  have hl : lv_has ls 5 [(0, .ref (a 0)), (1, .int v), (2, .int b), (3, .int t)] := hl
  refine lv_aload_n hx hb dX1_ramp_0 rfl (lv_at hl 0 rfl) ?_
  refine lv_iload_n hx hb dX1_ramp_1 rfl (lv_at hl 1 rfl) ?_
  refine kX1_badArray ⟨hx, hb, hml, hown, hts⟩ hK hP v   ⟨by decide, by decide⟩ hl.1 (Nat.le_of_ble_eq_true rfl) dX1_ramp_2 ⟨Nat.zero_le _, Nat.zero_le _⟩ ?_
  refine lv_if_eq (tgt := 10) hx hb dX1_ramp_5 (by decide) (fun c_5 => ?_) (fun c_5 => ?_)
  · skip
    have c_5 := bI_0.mp c_5
    refine lv_iconst (v := 0) hx hb dX1_ramp_10 (by decide) ?_
    refine lv_istore (lv' := [(4, .int 0), (0, .ref (a 0)), (1, .int v), (2, .int b), (3, .int t)]) hx hb dX1_ramp_11 hl (by decide) rfl (fun ls hl => ?_)
    have L13 : ∀ (n i : Nat) , i + n = 32 → ∀ (fv : Nat → Int32) (H : Heap) (locs : List Loc), (fv = rpF mf v b t i) → va_P D vwCl (WM a d mn mo mq ma mh fv) H → va_D A (WM a d mn mo mq ma mh fv) → va_S A s.heap H locs → ∀ ls : Array Slot, lv_has ls 5 [(0, .ref (a 0)), (1, .int v), (2, .int b), (3, .int t), (4, .int (nI i))] → W p l e rmX1_ramp s m ar below meth c H locs 0 0 Q (F0 m 13 ls []) := by
      intro n
      induction n with
      | zero =>
        intro i  hin fv H locs hw hP hD hS ls hl
        refine lv_iload hx hb dX1_ramp_13 (lv_at hl 4 rfl) ?_
        refine lv_bipush (v := 32) hx hb dX1_ramp_15 (by decide) ?_
        refine lv_icmp_ge (tgt := 44) hx hb dX1_ramp_17 (by decide) (fun c_17 => ?_) (fun c_17 => absurd (nI_le (a := 32) (b := i) (by omega) (by omega)) c_17)
        refine lv_iconst (v := 0) hx hb dX1_ramp_44 (by decide) ?_
        exact hret _ fv _ _ _ _ (by rw [hw, show i = 32 by omega]; simp [rpG, c_5]) hP hD hS dX1_ramp_45
      | succ n ih =>
        intro i  hin fv H locs hw hP hD hS ls hl
        refine lv_iload hx hb dX1_ramp_13 (lv_at hl 4 rfl) ?_
        refine lv_bipush (v := 32) hx hb dX1_ramp_15 (by decide) ?_
        refine lv_icmp_ge (tgt := 44) hx hb dX1_ramp_17 (by decide) (fun c_17 => absurd c_17 (nI_ge (a := i) (b := 32) (by omega) (by omega))) (fun c_17 => ?_)
        obtain ⟨j, hj, ej⟩ := ix_nat (i := i) c_5 (by omega)
        refine lv_aload_n hx hb dX1_ramp_20 rfl (lv_at hl 0 rfl) ?_
        refine gM_cells hx hb hts hown hK hP dX1_ramp_21 ?_
        refine lv_iload_n hx hb dX1_ramp_24 rfl (lv_at hl 1 rfl) ?_
        refine lv_bipush (v := 32) hx hb dX1_ramp_25 (by decide) ?_
        refine lv_imul hx hb dX1_ramp_27 ?_
        refine lv_iload hx hb dX1_ramp_28 (lv_at hl 4 rfl) ?_
        refine lv_iadd hx hb dX1_ramp_30 ?_
        refine lv_iload_n hx hb dX1_ramp_31 rfl (lv_at hl 2 rfl) ?_
        refine lv_iload hx hb dX1_ramp_32 (lv_at hl 4 rfl) ?_
        refine lv_iload_n hx hb dX1_ramp_34 rfl (lv_at hl 3 rfl) ?_
        refine lv_imul hx hb dX1_ramp_35 ?_
        refine lv_iadd hx hb dX1_ramp_36 ?_
        refine sM_cells hx hb hK hP hD hS j ej hj dX1_ramp_37 (fun H locs hP hD hS => ?_)
        refine lv_iinc (v := (nI (i + 1))) (lv' := [(4, .int (nI (i + 1))), (0, .ref (a 0)), (1, .int v), (2, .int b), (3, .int t)]) hx hb dX1_ramp_38 hl (k := 4) rfl (nI_inc _) (by decide) rfl (fun ls hl => ?_)
        refine lv_goto (tgt := 13) hx hb dX1_ramp_41 (by decide) ?_
        exact ih (i + 1)  (by omega) _ _ _ (by rw [hw]; simp only [rpF]; rw [ej, nI_clamp (by omega)]) hP hD hS ls (lv_sub hl [1, 2, 3, 4, 0] rfl)
    exact L13 (32 - 0) 0  (by omega) mf _ _ rfl hP hD hS ls (lv_sub hl [1, 2, 3, 4, 0] rfl)
  · skip
    have c_5 := bI_n0.mp c_5
    refine lv_iconst (v := (-1)) hx hb dX1_ramp_8 (by decide) ?_
    exact hret _ mf _ _ _ _ (by simp [rpG, c_5]) hP hD hS dX1_ramp_9
abbrev rmX1_statement : Room := { frames := 0, cells := 0, slots := 0, locals := 0 }
set_option maxHeartbeats 4000000 in
set_option maxRecDepth 100000 in
theorem mX1_statement (l : Launch) {D : va_G} {a : Nat → Nat} {d : Nat → ClassId} {mo mq ma mh mf : Nat → Int32} {N : Nat} (v : Int32) (w : Int32) (b : Int32) (t : Int32)  (hN4 : N ≤ 4) : MI l yX1_statement (ws_ yX1_statement cX1_statement 6 (some .int)) rmX1_statement [.ref (a 0), .int v, .int w, .int b, .int t] D (tyM d) (WM a d (nI N) mo mq ma mh mf) (T := MB) (fun r u => (r, u) = smtM N (nI N, mo, mq, ma, mh) v w b t) (fun u => WM a d u.1 u.2.1 u.2.2.1 u.2.2.2.1 u.2.2.2.2 mf) := by
  refine impI (by decide) (Nat.le_of_ble_eq_true rfl) ?_
  intro p e s m ar below meth c Q A hx hb hml hown hts hK hP hD hS hA hret ls hl
  have hown : s.vm.findClass RX1 = some m.cls := hown
  have hl : lv_has ls 6 [(0, .ref (a 0)), (1, .int v), (2, .int w), (3, .int b), (4, .int t)] := hl
  refine lv_iconst (v := 0) hx hb dX1_statement_0 (by decide) ?_
  refine lv_istore (lv' := [(5, .int 0), (0, .ref (a 0)), (1, .int v), (2, .int w), (3, .int b), (4, .int t)]) hx hb dX1_statement_1 hl (by decide) rfl (fun ls hl => ?_)
  refine lv_iload hx hb dX1_statement_3 (lv_at hl 0 rfl) ?_
  refine lv_iconst (v := 3) hx hb dX1_statement_5 (by decide) ?_
  refine lv_icmp_ge (tgt := 29) hx hb dX1_statement_6 (by decide) (fun c_6 => absurd c_6 (by decide)) (fun c_6 => ?_)
  refine lv_iload_n hx hb dX1_statement_9 rfl (lv_at hl 3 rfl) ?_
  refine lv_iconst (v := 2) hx hb dX1_statement_10 (by decide) ?_
  refine lv_iload hx hb dX1_statement_11 (lv_at hl 0 rfl) ?_
  refine lv_imul hx hb dX1_statement_13 ?_
  refine lv_ishr hx hb dX1_statement_14 ?_
  refine lv_iconst (v := 3) hx hb dX1_statement_15 (by decide) ?_
  refine lv_iand hx hb dX1_statement_16 ?_
  refine lv_iconst (v := 3) hx hb dX1_statement_17 (by decide) ?_
  refine lv_icmp_ne (tgt := 23) hx hb dX1_statement_18 (by decide) (fun c_18 => ?_) (fun c_18 => ?_)
  · skip
    have c_18 : badA (arI w 0) = false := (and3_badA _).2 c_18
    refine lv_iinc (v := 1) (lv' := [(5, .int 1), (0, .ref (a 0)), (1, .int v), (2, .int w), (3, .int b), (4, .int t)]) hx hb dX1_statement_23 hl (k := 0) rfl (by decide) (by decide) rfl (fun ls hl => ?_)
    refine lv_goto (tgt := 3) hx hb dX1_statement_26 (by decide) ?_
    refine lv_iload hx hb dX1_statement_3 (lv_at hl 0 rfl) ?_
    refine lv_iconst (v := 3) hx hb dX1_statement_5 (by decide) ?_
    refine lv_icmp_ge (tgt := 29) hx hb dX1_statement_6 (by decide) (fun c_6 => absurd c_6 (by decide)) (fun c_6 => ?_)
    refine lv_iload_n hx hb dX1_statement_9 rfl (lv_at hl 3 rfl) ?_
    refine lv_iconst (v := 2) hx hb dX1_statement_10 (by decide) ?_
    refine lv_iload hx hb dX1_statement_11 (lv_at hl 0 rfl) ?_
    refine lv_imul hx hb dX1_statement_13 ?_
    refine lv_ishr hx hb dX1_statement_14 ?_
    refine lv_iconst (v := 3) hx hb dX1_statement_15 (by decide) ?_
    refine lv_iand hx hb dX1_statement_16 ?_
    refine lv_iconst (v := 3) hx hb dX1_statement_17 (by decide) ?_
    refine lv_icmp_ne (tgt := 23) hx hb dX1_statement_18 (by decide) (fun c_18' => ?_) (fun c_18' => ?_)
    · skip
      have c_18' : badA (arI w 1) = false := (and3_badA _).2 c_18'
      refine lv_iinc (v := 2) (lv' := [(5, .int 2), (0, .ref (a 0)), (1, .int v), (2, .int w), (3, .int b), (4, .int t)]) hx hb dX1_statement_23 hl (k := 0) rfl (by decide) (by decide) rfl (fun ls hl => ?_)
      refine lv_goto (tgt := 3) hx hb dX1_statement_26 (by decide) ?_
      refine lv_iload hx hb dX1_statement_3 (lv_at hl 0 rfl) ?_
      refine lv_iconst (v := 3) hx hb dX1_statement_5 (by decide) ?_
      refine lv_icmp_ge (tgt := 29) hx hb dX1_statement_6 (by decide) (fun c_6 => absurd c_6 (by decide)) (fun c_6 => ?_)
      refine lv_iload_n hx hb dX1_statement_9 rfl (lv_at hl 3 rfl) ?_
      refine lv_iconst (v := 2) hx hb dX1_statement_10 (by decide) ?_
      refine lv_iload hx hb dX1_statement_11 (lv_at hl 0 rfl) ?_
      refine lv_imul hx hb dX1_statement_13 ?_
      refine lv_ishr hx hb dX1_statement_14 ?_
      refine lv_iconst (v := 3) hx hb dX1_statement_15 (by decide) ?_
      refine lv_iand hx hb dX1_statement_16 ?_
      refine lv_iconst (v := 3) hx hb dX1_statement_17 (by decide) ?_
      refine lv_icmp_ne (tgt := 23) hx hb dX1_statement_18 (by decide) (fun c_18'' => ?_) (fun c_18'' => ?_)
      · skip
        have c_18'' : badA (arI w 2) = false := (and3_badA _).2 c_18''
        refine lv_iinc (v := 3) (lv' := [(5, .int 3), (0, .ref (a 0)), (1, .int v), (2, .int w), (3, .int b), (4, .int t)]) hx hb dX1_statement_23 hl (k := 0) rfl (by decide) (by decide) rfl (fun ls hl => ?_)
        refine lv_goto (tgt := 3) hx hb dX1_statement_26 (by decide) ?_
        refine lv_iload hx hb dX1_statement_3 (lv_at hl 0 rfl) ?_
        refine lv_iconst (v := 3) hx hb dX1_statement_5 (by decide) ?_
        refine lv_icmp_ge (tgt := 29) hx hb dX1_statement_6 (by decide) (fun c_6 => ?_) (fun c_6 => absurd (by decide) c_6)
        refine lv_iconst (v := 0) hx hb dX1_statement_29 (by decide) ?_
        refine lv_istore (lv' := [(5, .int 0), (0, .ref (a 0)), (1, .int v), (2, .int w), (3, .int b), (4, .int t)]) hx hb dX1_statement_30 hl (by decide) rfl (fun ls hl => ?_)
        refine lv_iload hx hb dX1_statement_32 (lv_at hl 0 rfl) ?_
        refine lv_iconst (v := 3) hx hb dX1_statement_34 (by decide) ?_
        refine lv_icmp_ge (tgt := 61) hx hb dX1_statement_35 (by decide) (fun c_35 => absurd c_35 (by decide)) (fun c_35 => ?_)
        refine lv_iload_n hx hb dX1_statement_38 rfl (lv_at hl 4 rfl) ?_
        refine lv_iconst (v := 4) hx hb dX1_statement_39 (by decide) ?_
        refine lv_iload hx hb dX1_statement_40 (lv_at hl 0 rfl) ?_
        refine lv_imul hx hb dX1_statement_42 ?_
        refine lv_ishr hx hb dX1_statement_43 ?_
        refine lv_bipush (v := 15) hx hb dX1_statement_44 (by decide) ?_
        refine lv_iand hx hb dX1_statement_46 ?_
        refine lv_bipush (v := 8) hx hb dX1_statement_47 (by decide) ?_
        refine lv_icmp_le (tgt := 55) hx hb dX1_statement_49 (by decide) (fun c_49 => ?_) (fun c_49 => ?_)
        · skip
          have c_49 : badS (shI b 0) = false := (and15_badS _).2 (Int32.not_lt.mpr c_49)
          refine lv_iinc (v := 1) (lv' := [(5, .int 1), (0, .ref (a 0)), (1, .int v), (2, .int w), (3, .int b), (4, .int t)]) hx hb dX1_statement_55 hl (k := 0) rfl (by decide) (by decide) rfl (fun ls hl => ?_)
          refine lv_goto (tgt := 32) hx hb dX1_statement_58 (by decide) ?_
          refine lv_iload hx hb dX1_statement_32 (lv_at hl 0 rfl) ?_
          refine lv_iconst (v := 3) hx hb dX1_statement_34 (by decide) ?_
          refine lv_icmp_ge (tgt := 61) hx hb dX1_statement_35 (by decide) (fun c_35 => absurd c_35 (by decide)) (fun c_35 => ?_)
          refine lv_iload_n hx hb dX1_statement_38 rfl (lv_at hl 4 rfl) ?_
          refine lv_iconst (v := 4) hx hb dX1_statement_39 (by decide) ?_
          refine lv_iload hx hb dX1_statement_40 (lv_at hl 0 rfl) ?_
          refine lv_imul hx hb dX1_statement_42 ?_
          refine lv_ishr hx hb dX1_statement_43 ?_
          refine lv_bipush (v := 15) hx hb dX1_statement_44 (by decide) ?_
          refine lv_iand hx hb dX1_statement_46 ?_
          refine lv_bipush (v := 8) hx hb dX1_statement_47 (by decide) ?_
          refine lv_icmp_le (tgt := 55) hx hb dX1_statement_49 (by decide) (fun c_49' => ?_) (fun c_49' => ?_)
          · skip
            have c_49' : badS (shI b 1) = false := (and15_badS _).2 (Int32.not_lt.mpr c_49')
            refine lv_iinc (v := 2) (lv' := [(5, .int 2), (0, .ref (a 0)), (1, .int v), (2, .int w), (3, .int b), (4, .int t)]) hx hb dX1_statement_55 hl (k := 0) rfl (by decide) (by decide) rfl (fun ls hl => ?_)
            refine lv_goto (tgt := 32) hx hb dX1_statement_58 (by decide) ?_
            refine lv_iload hx hb dX1_statement_32 (lv_at hl 0 rfl) ?_
            refine lv_iconst (v := 3) hx hb dX1_statement_34 (by decide) ?_
            refine lv_icmp_ge (tgt := 61) hx hb dX1_statement_35 (by decide) (fun c_35 => absurd c_35 (by decide)) (fun c_35 => ?_)
            refine lv_iload_n hx hb dX1_statement_38 rfl (lv_at hl 4 rfl) ?_
            refine lv_iconst (v := 4) hx hb dX1_statement_39 (by decide) ?_
            refine lv_iload hx hb dX1_statement_40 (lv_at hl 0 rfl) ?_
            refine lv_imul hx hb dX1_statement_42 ?_
            refine lv_ishr hx hb dX1_statement_43 ?_
            refine lv_bipush (v := 15) hx hb dX1_statement_44 (by decide) ?_
            refine lv_iand hx hb dX1_statement_46 ?_
            refine lv_bipush (v := 8) hx hb dX1_statement_47 (by decide) ?_
            refine lv_icmp_le (tgt := 55) hx hb dX1_statement_49 (by decide) (fun c_49'' => ?_) (fun c_49'' => ?_)
            · skip
              have c_49'' : badS (shI b 2) = false := (and15_badS _).2 (Int32.not_lt.mpr c_49'')
              refine lv_iinc (v := 3) (lv' := [(5, .int 3), (0, .ref (a 0)), (1, .int v), (2, .int w), (3, .int b), (4, .int t)]) hx hb dX1_statement_55 hl (k := 0) rfl (by decide) (by decide) rfl (fun ls hl => ?_)
              refine lv_goto (tgt := 32) hx hb dX1_statement_58 (by decide) ?_
              refine lv_iload hx hb dX1_statement_32 (lv_at hl 0 rfl) ?_
              refine lv_iconst (v := 3) hx hb dX1_statement_34 (by decide) ?_
              refine lv_icmp_ge (tgt := 61) hx hb dX1_statement_35 (by decide) (fun c_35 => ?_) (fun c_35 => absurd (by decide) c_35)
              refine lv_iload_n hx hb dX1_statement_61 rfl (lv_at hl 2 rfl) ?_
              refine lv_if_lt (tgt := 71) hx hb dX1_statement_62 (by decide) (fun c_62 => ?_) (fun c_62 => ?_)
              · skip
                have c_62 := t_badO1 c_62
                refine lv_bipush (v := (-3)) hx hb dX1_statement_71 (by decide) ?_
                exact hret _ (nI N, mo, mq, ma, mh) _ _ _ _ (by simp [smtM, bad3A, bad3S, c_18, c_18', c_18'', c_49, c_49', c_49'', c_62]) hP hD hS dX1_statement_73
              · skip
                refine lv_iload_n hx hb dX1_statement_65 rfl (lv_at hl 2 rfl) ?_
                refine lv_bipush (v := 6) hx hb dX1_statement_66 (by decide) ?_
                refine lv_icmp_le (tgt := 74) hx hb dX1_statement_68 (by decide) (fun c_68 => ?_) (fun c_68 => ?_)
                · skip
                  have c_68 := t_badO3 c_62 c_68
                  refine lv_aload_n hx hb dX1_statement_74 rfl (lv_at hl 1 rfl) ?_
                  refine gM_size hx hb hts hown hK hP dX1_statement_75 ?_
                  refine lv_iconst (v := 4) hx hb dX1_statement_78 (by decide) ?_
                  refine lv_icmp_ne (tgt := 85) hx hb dX1_statement_79 (by decide) (fun c_79 => ?_) (fun c_79 => ?_)
                  · skip
                    have c_79 : ¬ 4 ≤ N := fun h => c_79 (by rw [show N = 4 by omega]; rfl)
                    refine lv_iconst (v := 0) hx hb dX1_statement_85 (by decide) ?_
                    refine lv_istore (lv' := [(5, .int 0), (0, .ref (a 0)), (1, .int v), (2, .int w), (3, .int b), (4, .int t)]) hx hb dX1_statement_86 hl (by decide) rfl (fun ls hl => ?_)
                    refine lv_iload hx hb dX1_statement_88 (lv_at hl 0 rfl) ?_
                    refine lv_iconst (v := 3) hx hb dX1_statement_90 (by decide) ?_
                    refine lv_icmp_ge (tgt := 147) hx hb dX1_statement_91 (by decide) (fun c_91 => absurd c_91 (by decide)) (fun c_91 => ?_)
                    refine lv_aload_n hx hb dX1_statement_94 rfl (lv_at hl 1 rfl) ?_
                    refine gM_arrays hx hb hts hown hK hP dX1_statement_95 ?_
                    refine lv_aload_n hx hb dX1_statement_98 rfl (lv_at hl 1 rfl) ?_
                    refine gM_size hx hb hts hown hK hP dX1_statement_99 ?_
                    refine lv_iconst (v := 3) hx hb dX1_statement_102 (by decide) ?_
                    refine lv_imul hx hb dX1_statement_103 ?_
                    refine tope (y := (nI (N * 3))) (pk_mul N 3) ?_
                    refine lv_iload hx hb dX1_statement_104 (lv_at hl 0 rfl) ?_
                    refine lv_iadd hx hb dX1_statement_106 ?_
                    refine tope (y := (nI (N * 3 + 0))) (nI_add (N * 3) 0) ?_
                    refine lv_iload_n hx hb dX1_statement_107 rfl (lv_at hl 3 rfl) ?_
                    refine lv_iconst (v := 2) hx hb dX1_statement_108 (by decide) ?_
                    refine lv_iload hx hb dX1_statement_109 (lv_at hl 0 rfl) ?_
                    refine lv_imul hx hb dX1_statement_111 ?_
                    refine lv_ishr hx hb dX1_statement_112 ?_
                    refine lv_iconst (v := 3) hx hb dX1_statement_113 (by decide) ?_
                    refine lv_iand hx hb dX1_statement_114 ?_
                    refine tope (y := (arI w 0)) rfl ?_
                    refine sM_arrays hx hb hK hP hD hS (N * 3 + 0) rfl (by omega) dX1_statement_115 (fun H locs hP hD hS => ?_)
                    refine lv_aload_n hx hb dX1_statement_116 rfl (lv_at hl 1 rfl) ?_
                    refine gM_shifts hx hb hts hown hK hP dX1_statement_117 ?_
                    refine lv_aload_n hx hb dX1_statement_120 rfl (lv_at hl 1 rfl) ?_
                    refine gM_size hx hb hts hown hK hP dX1_statement_121 ?_
                    refine lv_iconst (v := 3) hx hb dX1_statement_124 (by decide) ?_
                    refine lv_imul hx hb dX1_statement_125 ?_
                    refine tope (y := (nI (N * 3))) (pk_mul N 3) ?_
                    refine lv_iload hx hb dX1_statement_126 (lv_at hl 0 rfl) ?_
                    refine lv_iadd hx hb dX1_statement_128 ?_
                    refine tope (y := (nI (N * 3 + 0))) (nI_add (N * 3) 0) ?_
                    refine lv_iload_n hx hb dX1_statement_129 rfl (lv_at hl 4 rfl) ?_
                    refine lv_iconst (v := 4) hx hb dX1_statement_130 (by decide) ?_
                    refine lv_iload hx hb dX1_statement_131 (lv_at hl 0 rfl) ?_
                    refine lv_imul hx hb dX1_statement_133 ?_
                    refine lv_ishr hx hb dX1_statement_134 ?_
                    refine lv_bipush (v := 15) hx hb dX1_statement_135 (by decide) ?_
                    refine lv_iand hx hb dX1_statement_137 ?_
                    refine lv_iconst (v := 4) hx hb dX1_statement_138 (by decide) ?_
                    refine lv_isub hx hb dX1_statement_139 ?_
                    refine tope (y := (shI b 0)) rfl ?_
                    refine sM_shifts hx hb hK hP hD hS (N * 3 + 0) rfl (by omega) dX1_statement_140 (fun H locs hP hD hS => ?_)
                    refine lv_iinc (v := 1) (lv' := [(5, .int 1), (0, .ref (a 0)), (1, .int v), (2, .int w), (3, .int b), (4, .int t)]) hx hb dX1_statement_141 hl (k := 0) rfl (by decide) (by decide) rfl (fun ls hl => ?_)
                    refine lv_goto (tgt := 88) hx hb dX1_statement_144 (by decide) ?_
                    refine lv_iload hx hb dX1_statement_88 (lv_at hl 0 rfl) ?_
                    refine lv_iconst (v := 3) hx hb dX1_statement_90 (by decide) ?_
                    refine lv_icmp_ge (tgt := 147) hx hb dX1_statement_91 (by decide) (fun c_91 => absurd c_91 (by decide)) (fun c_91 => ?_)
                    refine lv_aload_n hx hb dX1_statement_94 rfl (lv_at hl 1 rfl) ?_
                    refine gM_arrays hx hb hts hown hK hP dX1_statement_95 ?_
                    refine lv_aload_n hx hb dX1_statement_98 rfl (lv_at hl 1 rfl) ?_
                    refine gM_size hx hb hts hown hK hP dX1_statement_99 ?_
                    refine lv_iconst (v := 3) hx hb dX1_statement_102 (by decide) ?_
                    refine lv_imul hx hb dX1_statement_103 ?_
                    refine tope (y := (nI (N * 3))) (pk_mul N 3) ?_
                    refine lv_iload hx hb dX1_statement_104 (lv_at hl 0 rfl) ?_
                    refine lv_iadd hx hb dX1_statement_106 ?_
                    refine tope (y := (nI (N * 3 + 1))) (nI_add (N * 3) 1) ?_
                    refine lv_iload_n hx hb dX1_statement_107 rfl (lv_at hl 3 rfl) ?_
                    refine lv_iconst (v := 2) hx hb dX1_statement_108 (by decide) ?_
                    refine lv_iload hx hb dX1_statement_109 (lv_at hl 0 rfl) ?_
                    refine lv_imul hx hb dX1_statement_111 ?_
                    refine lv_ishr hx hb dX1_statement_112 ?_
                    refine lv_iconst (v := 3) hx hb dX1_statement_113 (by decide) ?_
                    refine lv_iand hx hb dX1_statement_114 ?_
                    refine tope (y := (arI w 1)) rfl ?_
                    refine sM_arrays hx hb hK hP hD hS (N * 3 + 1) rfl (by omega) dX1_statement_115 (fun H locs hP hD hS => ?_)
                    refine lv_aload_n hx hb dX1_statement_116 rfl (lv_at hl 1 rfl) ?_
                    refine gM_shifts hx hb hts hown hK hP dX1_statement_117 ?_
                    refine lv_aload_n hx hb dX1_statement_120 rfl (lv_at hl 1 rfl) ?_
                    refine gM_size hx hb hts hown hK hP dX1_statement_121 ?_
                    refine lv_iconst (v := 3) hx hb dX1_statement_124 (by decide) ?_
                    refine lv_imul hx hb dX1_statement_125 ?_
                    refine tope (y := (nI (N * 3))) (pk_mul N 3) ?_
                    refine lv_iload hx hb dX1_statement_126 (lv_at hl 0 rfl) ?_
                    refine lv_iadd hx hb dX1_statement_128 ?_
                    refine tope (y := (nI (N * 3 + 1))) (nI_add (N * 3) 1) ?_
                    refine lv_iload_n hx hb dX1_statement_129 rfl (lv_at hl 4 rfl) ?_
                    refine lv_iconst (v := 4) hx hb dX1_statement_130 (by decide) ?_
                    refine lv_iload hx hb dX1_statement_131 (lv_at hl 0 rfl) ?_
                    refine lv_imul hx hb dX1_statement_133 ?_
                    refine lv_ishr hx hb dX1_statement_134 ?_
                    refine lv_bipush (v := 15) hx hb dX1_statement_135 (by decide) ?_
                    refine lv_iand hx hb dX1_statement_137 ?_
                    refine lv_iconst (v := 4) hx hb dX1_statement_138 (by decide) ?_
                    refine lv_isub hx hb dX1_statement_139 ?_
                    refine tope (y := (shI b 1)) rfl ?_
                    refine sM_shifts hx hb hK hP hD hS (N * 3 + 1) rfl (by omega) dX1_statement_140 (fun H locs hP hD hS => ?_)
                    refine lv_iinc (v := 2) (lv' := [(5, .int 2), (0, .ref (a 0)), (1, .int v), (2, .int w), (3, .int b), (4, .int t)]) hx hb dX1_statement_141 hl (k := 0) rfl (by decide) (by decide) rfl (fun ls hl => ?_)
                    refine lv_goto (tgt := 88) hx hb dX1_statement_144 (by decide) ?_
                    refine lv_iload hx hb dX1_statement_88 (lv_at hl 0 rfl) ?_
                    refine lv_iconst (v := 3) hx hb dX1_statement_90 (by decide) ?_
                    refine lv_icmp_ge (tgt := 147) hx hb dX1_statement_91 (by decide) (fun c_91 => absurd c_91 (by decide)) (fun c_91 => ?_)
                    refine lv_aload_n hx hb dX1_statement_94 rfl (lv_at hl 1 rfl) ?_
                    refine gM_arrays hx hb hts hown hK hP dX1_statement_95 ?_
                    refine lv_aload_n hx hb dX1_statement_98 rfl (lv_at hl 1 rfl) ?_
                    refine gM_size hx hb hts hown hK hP dX1_statement_99 ?_
                    refine lv_iconst (v := 3) hx hb dX1_statement_102 (by decide) ?_
                    refine lv_imul hx hb dX1_statement_103 ?_
                    refine tope (y := (nI (N * 3))) (pk_mul N 3) ?_
                    refine lv_iload hx hb dX1_statement_104 (lv_at hl 0 rfl) ?_
                    refine lv_iadd hx hb dX1_statement_106 ?_
                    refine tope (y := (nI (N * 3 + 2))) (nI_add (N * 3) 2) ?_
                    refine lv_iload_n hx hb dX1_statement_107 rfl (lv_at hl 3 rfl) ?_
                    refine lv_iconst (v := 2) hx hb dX1_statement_108 (by decide) ?_
                    refine lv_iload hx hb dX1_statement_109 (lv_at hl 0 rfl) ?_
                    refine lv_imul hx hb dX1_statement_111 ?_
                    refine lv_ishr hx hb dX1_statement_112 ?_
                    refine lv_iconst (v := 3) hx hb dX1_statement_113 (by decide) ?_
                    refine lv_iand hx hb dX1_statement_114 ?_
                    refine tope (y := (arI w 2)) rfl ?_
                    refine sM_arrays hx hb hK hP hD hS (N * 3 + 2) rfl (by omega) dX1_statement_115 (fun H locs hP hD hS => ?_)
                    refine lv_aload_n hx hb dX1_statement_116 rfl (lv_at hl 1 rfl) ?_
                    refine gM_shifts hx hb hts hown hK hP dX1_statement_117 ?_
                    refine lv_aload_n hx hb dX1_statement_120 rfl (lv_at hl 1 rfl) ?_
                    refine gM_size hx hb hts hown hK hP dX1_statement_121 ?_
                    refine lv_iconst (v := 3) hx hb dX1_statement_124 (by decide) ?_
                    refine lv_imul hx hb dX1_statement_125 ?_
                    refine tope (y := (nI (N * 3))) (pk_mul N 3) ?_
                    refine lv_iload hx hb dX1_statement_126 (lv_at hl 0 rfl) ?_
                    refine lv_iadd hx hb dX1_statement_128 ?_
                    refine tope (y := (nI (N * 3 + 2))) (nI_add (N * 3) 2) ?_
                    refine lv_iload_n hx hb dX1_statement_129 rfl (lv_at hl 4 rfl) ?_
                    refine lv_iconst (v := 4) hx hb dX1_statement_130 (by decide) ?_
                    refine lv_iload hx hb dX1_statement_131 (lv_at hl 0 rfl) ?_
                    refine lv_imul hx hb dX1_statement_133 ?_
                    refine lv_ishr hx hb dX1_statement_134 ?_
                    refine lv_bipush (v := 15) hx hb dX1_statement_135 (by decide) ?_
                    refine lv_iand hx hb dX1_statement_137 ?_
                    refine lv_iconst (v := 4) hx hb dX1_statement_138 (by decide) ?_
                    refine lv_isub hx hb dX1_statement_139 ?_
                    refine tope (y := (shI b 2)) rfl ?_
                    refine sM_shifts hx hb hK hP hD hS (N * 3 + 2) rfl (by omega) dX1_statement_140 (fun H locs hP hD hS => ?_)
                    refine lv_iinc (v := 3) (lv' := [(5, .int 3), (0, .ref (a 0)), (1, .int v), (2, .int w), (3, .int b), (4, .int t)]) hx hb dX1_statement_141 hl (k := 0) rfl (by decide) (by decide) rfl (fun ls hl => ?_)
                    refine lv_goto (tgt := 88) hx hb dX1_statement_144 (by decide) ?_
                    refine lv_iload hx hb dX1_statement_88 (lv_at hl 0 rfl) ?_
                    refine lv_iconst (v := 3) hx hb dX1_statement_90 (by decide) ?_
                    refine lv_icmp_ge (tgt := 147) hx hb dX1_statement_91 (by decide) (fun c_91 => ?_) (fun c_91 => absurd (by decide) c_91)
                    refine lv_aload_n hx hb dX1_statement_147 rfl (lv_at hl 1 rfl) ?_
                    refine gM_ops hx hb hts hown hK hP dX1_statement_148 ?_
                    refine lv_aload_n hx hb dX1_statement_151 rfl (lv_at hl 1 rfl) ?_
                    refine gM_size hx hb hts hown hK hP dX1_statement_152 ?_
                    refine lv_iload_n hx hb dX1_statement_155 rfl (lv_at hl 2 rfl) ?_
                    refine sM_ops hx hb hK hP hD hS N rfl (by omega) dX1_statement_156 (fun H locs hP hD hS => ?_)
                    refine lv_aload_n hx hb dX1_statement_157 rfl (lv_at hl 1 rfl) ?_
                    refine gM_constants hx hb hts hown hK hP dX1_statement_158 ?_
                    refine lv_aload_n hx hb dX1_statement_161 rfl (lv_at hl 1 rfl) ?_
                    refine gM_size hx hb hts hown hK hP dX1_statement_162 ?_
                    refine lv_iload hx hb dX1_statement_165 (lv_at hl 5 rfl) ?_
                    refine sM_constants hx hb hK hP hD hS N rfl (by omega) dX1_statement_167 (fun H locs hP hD hS => ?_)
                    refine lv_aload_n hx hb dX1_statement_168 rfl (lv_at hl 1 rfl) ?_
                    refine lv_aload_n hx hb dX1_statement_169 rfl (lv_at hl 1 rfl) ?_
                    refine gM_size hx hb hts hown hK hP dX1_statement_170 ?_
                    refine lv_iconst (v := 1) hx hb dX1_statement_173 (by decide) ?_
                    refine lv_iadd hx hb dX1_statement_174 ?_
                    refine tope (y := (nI (N + 1))) (nI_add N 1) ?_
                    refine pM_size hx hb hts hown hK hP hD hS dX1_statement_175 (fun H locs hP hD hS => ?_)
                    refine lv_aload_n hx hb dX1_statement_178 rfl (lv_at hl 1 rfl) ?_
                    refine gM_size hx hb hts hown hK hP dX1_statement_179 ?_
                    refine lv_iconst (v := 1) hx hb dX1_statement_182 (by decide) ?_
                    refine lv_isub hx hb dX1_statement_183 ?_
                    refine tope (y := (nI N)) (nI_pred N) ?_
                    exact hret _ (nI (N + 1), upd mo N v, upd mq N t, (upd (upd (upd ma (N * 3 + 0) (arI w 0)) (N * 3 + 1) (arI w 1)) (N * 3 + 2) (arI w 2)), (upd (upd (upd mh (N * 3 + 0) (shI b 0)) (N * 3 + 1) (shI b 1)) (N * 3 + 2) (shI b 2))) _ _ _ _ (by simp only [smtM, upd3, bad3A, bad3S, c_18, c_18', c_18'', c_49, c_49', c_49'', c_62, c_68, c_79]; rfl) hP hD hS dX1_statement_184
                  · skip
                    have c_79 : 4 ≤ N := Nat.le_of_eq ((nI_eq (a := N) (b := 4) (by omega) (by omega)).mp c_79).symm
                    refine lv_bipush (v := (-4)) hx hb dX1_statement_82 (by decide) ?_
                    exact hret _ (nI N, mo, mq, ma, mh) _ _ _ _ (by simp [smtM, bad3A, bad3S, c_18, c_18', c_18'', c_49, c_49', c_49'', c_62, c_68, c_79]) hP hD hS dX1_statement_84
                · skip
                  have c_68 := t_badO2 c_68
                  refine lv_bipush (v := (-3)) hx hb dX1_statement_71 (by decide) ?_
                  exact hret _ (nI N, mo, mq, ma, mh) _ _ _ _ (by simp [smtM, bad3A, bad3S, c_18, c_18', c_18'', c_49, c_49', c_49'', c_62, c_68]) hP hD hS dX1_statement_73
            · skip
              have c_49'' : badS (shI b 2) = true := (and15_badS _).1 (Int32.not_le.mp c_49'')
              refine lv_bipush (v := (-2)) hx hb dX1_statement_52 (by decide) ?_
              exact hret _ (nI N, mo, mq, ma, mh) _ _ _ _ (by simp [smtM, bad3A, bad3S, c_18, c_18', c_18'', c_49, c_49', c_49'']) hP hD hS dX1_statement_54
          · skip
            have c_49' : badS (shI b 1) = true := (and15_badS _).1 (Int32.not_le.mp c_49')
            refine lv_bipush (v := (-2)) hx hb dX1_statement_52 (by decide) ?_
            exact hret _ (nI N, mo, mq, ma, mh) _ _ _ _ (by simp [smtM, bad3A, bad3S, c_18, c_18', c_18'', c_49, c_49']) hP hD hS dX1_statement_54
        · skip
          have c_49 : badS (shI b 0) = true := (and15_badS _).1 (Int32.not_le.mp c_49)
          refine lv_bipush (v := (-2)) hx hb dX1_statement_52 (by decide) ?_
          exact hret _ (nI N, mo, mq, ma, mh) _ _ _ _ (by simp [smtM, bad3A, bad3S, c_18, c_18', c_18'', c_49]) hP hD hS dX1_statement_54
      · skip
        have c_18'' : badA (arI w 2) = true := (and3_badA _).1 c_18''
        refine lv_iconst (v := (-1)) hx hb dX1_statement_21 (by decide) ?_
        exact hret _ (nI N, mo, mq, ma, mh) _ _ _ _ (by simp [smtM, bad3A, bad3S, c_18, c_18', c_18'']) hP hD hS dX1_statement_22
    · skip
      have c_18' : badA (arI w 1) = true := (and3_badA _).1 c_18'
      refine lv_iconst (v := (-1)) hx hb dX1_statement_21 (by decide) ?_
      exact hret _ (nI N, mo, mq, ma, mh) _ _ _ _ (by simp [smtM, bad3A, bad3S, c_18, c_18']) hP hD hS dX1_statement_22
  · skip
    have c_18 : badA (arI w 0) = true := (and3_badA _).1 c_18
    refine lv_iconst (v := (-1)) hx hb dX1_statement_21 (by decide) ?_
    exact hret _ (nI N, mo, mq, ma, mh) _ _ _ _ (by simp [smtM, bad3A, bad3S, c_18]) hP hD hS dX1_statement_22
abbrev rmX1_exchange : Room := { frames := 1, cells := 0, slots := 0, locals := 21 }
set_option maxHeartbeats 4000000 in
set_option maxRecDepth 100000 in
theorem mX1_exchange (l : Launch) {D : va_G} {a : Nat → Nat} {d : Nat → ClassId} {mo mq ma mh mf : Nat → Int32} {N : Nat} (v : Int32) (w : Int32)  (hN4 : N ≤ 4) : MI l yX1_exchange (ws_ yX1_exchange cX1_exchange 8 (some .int)) rmX1_exchange [.ref (a 0), .int v, .int w] D (tyM d) (WM a d (nI N) mo mq ma mh mf) (T := MB) (fun r u => (r, u) = exM N (nI N, mo, mq, ma, mh) v w) (fun u => WM a d u.1 u.2.1 u.2.2.1 u.2.2.2.1 u.2.2.2.2 mf) := by
  refine impI (by decide) (Nat.le_of_ble_eq_true rfl) ?_
  intro p e s m ar below meth c Q A hx hb hml hown hts hK hP hD hS hA hret ls hl
  have hown : s.vm.findClass RX1 = some m.cls := hown
  have hl : lv_has ls 8 [(0, .ref (a 0)), (1, .int v), (2, .int w)] := hl
  refine lv_aload_n hx hb dX1_exchange_0 rfl (lv_at hl 0 rfl) ?_
  refine lv_iload_n hx hb dX1_exchange_1 rfl (lv_at hl 1 rfl) ?_
  refine kX1_noStatement ⟨hx, hb, hml, hown, hts⟩ hK hP v   ⟨by decide, by decide⟩ hl.1 (Nat.le_of_ble_eq_true rfl) dX1_exchange_2 ⟨Nat.zero_le _, Nat.zero_le _⟩ ?_
  refine lv_if_ne (tgt := 16) hx hb dX1_exchange_5 (by decide) (fun c_5 => ?_) (fun c_5 => ?_)
  · skip
    have c_5 := bI_n0.mp c_5
    refine lv_bipush (v := (-3)) hx hb dX1_exchange_16 (by decide) ?_
    exact hret _ (nI N, mo, mq, ma, mh) _ _ _ _ (by simp [exM, c_5]) hP hD hS dX1_exchange_18
  · skip
    have c_5 := bI_0.mp c_5
    refine lv_aload_n hx hb dX1_exchange_8 rfl (lv_at hl 0 rfl) ?_
    refine lv_iload_n hx hb dX1_exchange_9 rfl (lv_at hl 2 rfl) ?_
    refine kX1_noStatement ⟨hx, hb, hml, hown, hts⟩ hK hP w   ⟨by decide, by decide⟩ hl.1 (Nat.le_of_ble_eq_true rfl) dX1_exchange_10 ⟨Nat.zero_le _, Nat.zero_le _⟩ ?_
    refine lv_if_eq (tgt := 19) hx hb dX1_exchange_13 (by decide) (fun c_13 => ?_) (fun c_13 => ?_)
    · skip
      have c_13 := bI_0.mp c_13
      obtain ⟨x, hxN, rfl⟩ := noSt_nat hN4 c_5
      obtain ⟨y, hyN, rfl⟩ := noSt_nat hN4 c_13
      refine lv_aload_n hx hb dX1_exchange_19 rfl (lv_at hl 0 rfl) ?_
      refine gM_ops hx hb hts hown hK hP dX1_exchange_20 ?_
      refine lv_iload_n hx hb dX1_exchange_23 rfl (lv_at hl 1 rfl) ?_
      refine lM_ops hx hb hK hP x rfl (by omega) dX1_exchange_24 ?_
      refine lv_istore_n (lv' := [(3, .int (mo x)), (0, .ref (a 0)), (1, .int (nI x)), (2, .int (nI y))]) hx hb dX1_exchange_25 rfl hl (by decide) rfl (fun ls hl => ?_)
      refine lv_aload_n hx hb dX1_exchange_26 rfl (lv_at hl 1 rfl) ?_
      refine gM_ops hx hb hts hown hK hP dX1_exchange_27 ?_
      refine lv_iload_n hx hb dX1_exchange_30 rfl (lv_at hl 2 rfl) ?_
      refine lv_aload_n hx hb dX1_exchange_31 rfl (lv_at hl 1 rfl) ?_
      refine gM_ops hx hb hts hown hK hP dX1_exchange_32 ?_
      refine lv_iload_n hx hb dX1_exchange_35 rfl (lv_at hl 3 rfl) ?_
      refine lM_ops hx hb hK hP y rfl (by omega) dX1_exchange_36 ?_
      refine sM_ops hx hb hK hP hD hS x rfl (by omega) dX1_exchange_37 (fun H locs hP hD hS => ?_)
      refine lv_aload_n hx hb dX1_exchange_38 rfl (lv_at hl 1 rfl) ?_
      refine gM_ops hx hb hts hown hK hP dX1_exchange_39 ?_
      refine lv_iload_n hx hb dX1_exchange_42 rfl (lv_at hl 3 rfl) ?_
      refine lv_iload_n hx hb dX1_exchange_43 rfl (lv_at hl 0 rfl) ?_
      refine sM_ops hx hb hK hP hD hS y rfl (by omega) dX1_exchange_44 (fun H locs hP hD hS => ?_)
      refine lv_aload_n hx hb dX1_exchange_45 rfl (lv_at hl 1 rfl) ?_
      refine gM_constants hx hb hts hown hK hP dX1_exchange_46 ?_
      refine lv_iload_n hx hb dX1_exchange_49 rfl (lv_at hl 2 rfl) ?_
      refine lM_constants hx hb hK hP x rfl (by omega) dX1_exchange_50 ?_
      refine lv_istore (lv' := [(4, .int (mq x)), (3, .int (mo x)), (0, .ref (a 0)), (1, .int (nI x)), (2, .int (nI y))]) hx hb dX1_exchange_51 hl (by decide) rfl (fun ls hl => ?_)
      refine lv_aload_n hx hb dX1_exchange_53 rfl (lv_at hl 2 rfl) ?_
      refine gM_constants hx hb hts hown hK hP dX1_exchange_54 ?_
      refine lv_iload_n hx hb dX1_exchange_57 rfl (lv_at hl 3 rfl) ?_
      refine lv_aload_n hx hb dX1_exchange_58 rfl (lv_at hl 2 rfl) ?_
      refine gM_constants hx hb hts hown hK hP dX1_exchange_59 ?_
      refine lv_iload_n hx hb dX1_exchange_62 rfl (lv_at hl 4 rfl) ?_
      refine lM_constants hx hb hK hP y rfl (by omega) dX1_exchange_63 ?_
      refine sM_constants hx hb hK hP hD hS x rfl (by omega) dX1_exchange_64 (fun H locs hP hD hS => ?_)
      refine lv_aload_n hx hb dX1_exchange_65 rfl (lv_at hl 2 rfl) ?_
      refine gM_constants hx hb hts hown hK hP dX1_exchange_66 ?_
      refine lv_iload_n hx hb dX1_exchange_69 rfl (lv_at hl 4 rfl) ?_
      refine lv_iload hx hb dX1_exchange_70 (lv_at hl 0 rfl) ?_
      refine sM_constants hx hb hK hP hD hS y rfl (by omega) dX1_exchange_72 (fun H locs hP hD hS => ?_)
      refine lv_iconst (v := 0) hx hb dX1_exchange_73 (by decide) ?_
      refine lv_istore (lv' := [(5, .int 0), (4, .int (mq x)), (3, .int (mo x)), (0, .ref (a 0)), (1, .int (nI x)), (2, .int (nI y))]) hx hb dX1_exchange_74 hl (by decide) rfl (fun ls hl => ?_)
      refine lv_iload hx hb dX1_exchange_76 (lv_at hl 0 rfl) ?_
      refine lv_iconst (v := 3) hx hb dX1_exchange_78 (by decide) ?_
      refine lv_icmp_ge (tgt := 184) hx hb dX1_exchange_79 (by decide) (fun c_79 => absurd c_79 (by decide)) (fun c_79 => ?_)
      refine lv_aload_n hx hb dX1_exchange_82 rfl (lv_at hl 3 rfl) ?_
      refine gM_arrays hx hb hts hown hK hP dX1_exchange_83 ?_
      refine lv_iload_n hx hb dX1_exchange_86 rfl (lv_at hl 4 rfl) ?_
      refine lv_iconst (v := 3) hx hb dX1_exchange_87 (by decide) ?_
      refine lv_imul hx hb dX1_exchange_88 ?_
      refine tope (y := (nI (x * 3))) (pk_mul x 3) ?_
      refine lv_iload hx hb dX1_exchange_89 (lv_at hl 0 rfl) ?_
      refine lv_iadd hx hb dX1_exchange_91 ?_
      refine tope (y := (nI (x * 3 + 0))) (nI_add (x * 3) 0) ?_
      refine lM_arrays hx hb hK hP (x * 3 + 0) rfl (by omega) dX1_exchange_92 ?_
      refine lv_istore (lv' := [(6, .int (ma (x * 3 + 0))), (5, .int 0), (4, .int (mq x)), (3, .int (mo x)), (0, .ref (a 0)), (1, .int (nI x)), (2, .int (nI y))]) hx hb dX1_exchange_93 hl (by decide) rfl (fun ls hl => ?_)
      refine lv_aload_n hx hb dX1_exchange_95 rfl (lv_at hl 4 rfl) ?_
      refine gM_arrays hx hb hts hown hK hP dX1_exchange_96 ?_
      refine lv_iload_n hx hb dX1_exchange_99 rfl (lv_at hl 5 rfl) ?_
      refine lv_iconst (v := 3) hx hb dX1_exchange_100 (by decide) ?_
      refine lv_imul hx hb dX1_exchange_101 ?_
      refine tope (y := (nI (x * 3))) (pk_mul x 3) ?_
      refine lv_iload hx hb dX1_exchange_102 (lv_at hl 1 rfl) ?_
      refine lv_iadd hx hb dX1_exchange_104 ?_
      refine tope (y := (nI (x * 3 + 0))) (nI_add (x * 3) 0) ?_
      refine lv_aload_n hx hb dX1_exchange_105 rfl (lv_at hl 4 rfl) ?_
      refine gM_arrays hx hb hts hown hK hP dX1_exchange_106 ?_
      refine lv_iload_n hx hb dX1_exchange_109 rfl (lv_at hl 6 rfl) ?_
      refine lv_iconst (v := 3) hx hb dX1_exchange_110 (by decide) ?_
      refine lv_imul hx hb dX1_exchange_111 ?_
      refine tope (y := (nI (y * 3))) (pk_mul y 3) ?_
      refine lv_iload hx hb dX1_exchange_112 (lv_at hl 1 rfl) ?_
      refine lv_iadd hx hb dX1_exchange_114 ?_
      refine tope (y := (nI (y * 3 + 0))) (nI_add (y * 3) 0) ?_
      refine lM_arrays hx hb hK hP (y * 3 + 0) rfl (by omega) dX1_exchange_115 ?_
      refine sM_arrays hx hb hK hP hD hS (x * 3 + 0) rfl (by omega) dX1_exchange_116 (fun H locs hP hD hS => ?_)
      refine lv_aload_n hx hb dX1_exchange_117 rfl (lv_at hl 4 rfl) ?_
      refine gM_arrays hx hb hts hown hK hP dX1_exchange_118 ?_
      refine lv_iload_n hx hb dX1_exchange_121 rfl (lv_at hl 6 rfl) ?_
      refine lv_iconst (v := 3) hx hb dX1_exchange_122 (by decide) ?_
      refine lv_imul hx hb dX1_exchange_123 ?_
      refine tope (y := (nI (y * 3))) (pk_mul y 3) ?_
      refine lv_iload hx hb dX1_exchange_124 (lv_at hl 1 rfl) ?_
      refine lv_iadd hx hb dX1_exchange_126 ?_
      refine tope (y := (nI (y * 3 + 0))) (nI_add (y * 3) 0) ?_
      refine lv_iload hx hb dX1_exchange_127 (lv_at hl 0 rfl) ?_
      refine sM_arrays hx hb hK hP hD hS (y * 3 + 0) rfl (by omega) dX1_exchange_129 (fun H locs hP hD hS => ?_)
      refine lv_aload_n hx hb dX1_exchange_130 rfl (lv_at hl 4 rfl) ?_
      refine gM_shifts hx hb hts hown hK hP dX1_exchange_131 ?_
      refine lv_iload_n hx hb dX1_exchange_134 rfl (lv_at hl 5 rfl) ?_
      refine lv_iconst (v := 3) hx hb dX1_exchange_135 (by decide) ?_
      refine lv_imul hx hb dX1_exchange_136 ?_
      refine tope (y := (nI (x * 3))) (pk_mul x 3) ?_
      refine lv_iload hx hb dX1_exchange_137 (lv_at hl 1 rfl) ?_
      refine lv_iadd hx hb dX1_exchange_139 ?_
      refine tope (y := (nI (x * 3 + 0))) (nI_add (x * 3) 0) ?_
      refine lM_shifts hx hb hK hP (x * 3 + 0) rfl (by omega) dX1_exchange_140 ?_
      refine lv_istore (lv' := [(7, .int (mh (x * 3 + 0))), (6, .int (ma (x * 3 + 0))), (5, .int 0), (4, .int (mq x)), (3, .int (mo x)), (0, .ref (a 0)), (1, .int (nI x)), (2, .int (nI y))]) hx hb dX1_exchange_141 hl (by decide) rfl (fun ls hl => ?_)
      refine lv_aload_n hx hb dX1_exchange_143 rfl (lv_at hl 5 rfl) ?_
      refine gM_shifts hx hb hts hown hK hP dX1_exchange_144 ?_
      refine lv_iload_n hx hb dX1_exchange_147 rfl (lv_at hl 6 rfl) ?_
      refine lv_iconst (v := 3) hx hb dX1_exchange_148 (by decide) ?_
      refine lv_imul hx hb dX1_exchange_149 ?_
      refine tope (y := (nI (x * 3))) (pk_mul x 3) ?_
      refine lv_iload hx hb dX1_exchange_150 (lv_at hl 2 rfl) ?_
      refine lv_iadd hx hb dX1_exchange_152 ?_
      refine tope (y := (nI (x * 3 + 0))) (nI_add (x * 3) 0) ?_
      refine lv_aload_n hx hb dX1_exchange_153 rfl (lv_at hl 5 rfl) ?_
      refine gM_shifts hx hb hts hown hK hP dX1_exchange_154 ?_
      refine lv_iload_n hx hb dX1_exchange_157 rfl (lv_at hl 7 rfl) ?_
      refine lv_iconst (v := 3) hx hb dX1_exchange_158 (by decide) ?_
      refine lv_imul hx hb dX1_exchange_159 ?_
      refine tope (y := (nI (y * 3))) (pk_mul y 3) ?_
      refine lv_iload hx hb dX1_exchange_160 (lv_at hl 2 rfl) ?_
      refine lv_iadd hx hb dX1_exchange_162 ?_
      refine tope (y := (nI (y * 3 + 0))) (nI_add (y * 3) 0) ?_
      refine lM_shifts hx hb hK hP (y * 3 + 0) rfl (by omega) dX1_exchange_163 ?_
      refine sM_shifts hx hb hK hP hD hS (x * 3 + 0) rfl (by omega) dX1_exchange_164 (fun H locs hP hD hS => ?_)
      refine lv_aload_n hx hb dX1_exchange_165 rfl (lv_at hl 5 rfl) ?_
      refine gM_shifts hx hb hts hown hK hP dX1_exchange_166 ?_
      refine lv_iload_n hx hb dX1_exchange_169 rfl (lv_at hl 7 rfl) ?_
      refine lv_iconst (v := 3) hx hb dX1_exchange_170 (by decide) ?_
      refine lv_imul hx hb dX1_exchange_171 ?_
      refine tope (y := (nI (y * 3))) (pk_mul y 3) ?_
      refine lv_iload hx hb dX1_exchange_172 (lv_at hl 2 rfl) ?_
      refine lv_iadd hx hb dX1_exchange_174 ?_
      refine tope (y := (nI (y * 3 + 0))) (nI_add (y * 3) 0) ?_
      refine lv_iload hx hb dX1_exchange_175 (lv_at hl 0 rfl) ?_
      refine sM_shifts hx hb hK hP hD hS (y * 3 + 0) rfl (by omega) dX1_exchange_177 (fun H locs hP hD hS => ?_)
      refine lv_iinc (v := 1) (lv' := [(5, .int 1), (7, .int (mh (x * 3 + 0))), (6, .int (ma (x * 3 + 0))), (4, .int (mq x)), (3, .int (mo x)), (0, .ref (a 0)), (1, .int (nI x)), (2, .int (nI y))]) hx hb dX1_exchange_178 hl (k := 2) rfl (by decide) (by decide) rfl (fun ls hl => ?_)
      refine lv_goto (tgt := 76) hx hb dX1_exchange_181 (by decide) ?_
      refine lv_iload hx hb dX1_exchange_76 (lv_at hl 0 rfl) ?_
      refine lv_iconst (v := 3) hx hb dX1_exchange_78 (by decide) ?_
      refine lv_icmp_ge (tgt := 184) hx hb dX1_exchange_79 (by decide) (fun c_79 => absurd c_79 (by decide)) (fun c_79 => ?_)
      refine lv_aload_n hx hb dX1_exchange_82 rfl (lv_at hl 5 rfl) ?_
      refine gM_arrays hx hb hts hown hK hP dX1_exchange_83 ?_
      refine lv_iload_n hx hb dX1_exchange_86 rfl (lv_at hl 6 rfl) ?_
      refine lv_iconst (v := 3) hx hb dX1_exchange_87 (by decide) ?_
      refine lv_imul hx hb dX1_exchange_88 ?_
      refine tope (y := (nI (x * 3))) (pk_mul x 3) ?_
      refine lv_iload hx hb dX1_exchange_89 (lv_at hl 0 rfl) ?_
      refine lv_iadd hx hb dX1_exchange_91 ?_
      refine tope (y := (nI (x * 3 + 1))) (nI_add (x * 3) 1) ?_
      refine lM_arrays hx hb hK hP (x * 3 + 1) rfl (by omega) dX1_exchange_92 ?_
      refine lv_istore (lv' := [(6, .int ((upd (upd ma (x * 3 + 0) (ma (y * 3 + 0))) (y * 3 + 0) (ma (x * 3 + 0))) (x * 3 + 1))), (5, .int 1), (7, .int (mh (x * 3 + 0))), (4, .int (mq x)), (3, .int (mo x)), (0, .ref (a 0)), (1, .int (nI x)), (2, .int (nI y))]) hx hb dX1_exchange_93 hl (by decide) rfl (fun ls hl => ?_)
      refine lv_aload_n hx hb dX1_exchange_95 rfl (lv_at hl 5 rfl) ?_
      refine gM_arrays hx hb hts hown hK hP dX1_exchange_96 ?_
      refine lv_iload_n hx hb dX1_exchange_99 rfl (lv_at hl 6 rfl) ?_
      refine lv_iconst (v := 3) hx hb dX1_exchange_100 (by decide) ?_
      refine lv_imul hx hb dX1_exchange_101 ?_
      refine tope (y := (nI (x * 3))) (pk_mul x 3) ?_
      refine lv_iload hx hb dX1_exchange_102 (lv_at hl 1 rfl) ?_
      refine lv_iadd hx hb dX1_exchange_104 ?_
      refine tope (y := (nI (x * 3 + 1))) (nI_add (x * 3) 1) ?_
      refine lv_aload_n hx hb dX1_exchange_105 rfl (lv_at hl 5 rfl) ?_
      refine gM_arrays hx hb hts hown hK hP dX1_exchange_106 ?_
      refine lv_iload_n hx hb dX1_exchange_109 rfl (lv_at hl 7 rfl) ?_
      refine lv_iconst (v := 3) hx hb dX1_exchange_110 (by decide) ?_
      refine lv_imul hx hb dX1_exchange_111 ?_
      refine tope (y := (nI (y * 3))) (pk_mul y 3) ?_
      refine lv_iload hx hb dX1_exchange_112 (lv_at hl 1 rfl) ?_
      refine lv_iadd hx hb dX1_exchange_114 ?_
      refine tope (y := (nI (y * 3 + 1))) (nI_add (y * 3) 1) ?_
      refine lM_arrays hx hb hK hP (y * 3 + 1) rfl (by omega) dX1_exchange_115 ?_
      refine sM_arrays hx hb hK hP hD hS (x * 3 + 1) rfl (by omega) dX1_exchange_116 (fun H locs hP hD hS => ?_)
      refine lv_aload_n hx hb dX1_exchange_117 rfl (lv_at hl 5 rfl) ?_
      refine gM_arrays hx hb hts hown hK hP dX1_exchange_118 ?_
      refine lv_iload_n hx hb dX1_exchange_121 rfl (lv_at hl 7 rfl) ?_
      refine lv_iconst (v := 3) hx hb dX1_exchange_122 (by decide) ?_
      refine lv_imul hx hb dX1_exchange_123 ?_
      refine tope (y := (nI (y * 3))) (pk_mul y 3) ?_
      refine lv_iload hx hb dX1_exchange_124 (lv_at hl 1 rfl) ?_
      refine lv_iadd hx hb dX1_exchange_126 ?_
      refine tope (y := (nI (y * 3 + 1))) (nI_add (y * 3) 1) ?_
      refine lv_iload hx hb dX1_exchange_127 (lv_at hl 0 rfl) ?_
      refine sM_arrays hx hb hK hP hD hS (y * 3 + 1) rfl (by omega) dX1_exchange_129 (fun H locs hP hD hS => ?_)
      refine lv_aload_n hx hb dX1_exchange_130 rfl (lv_at hl 5 rfl) ?_
      refine gM_shifts hx hb hts hown hK hP dX1_exchange_131 ?_
      refine lv_iload_n hx hb dX1_exchange_134 rfl (lv_at hl 6 rfl) ?_
      refine lv_iconst (v := 3) hx hb dX1_exchange_135 (by decide) ?_
      refine lv_imul hx hb dX1_exchange_136 ?_
      refine tope (y := (nI (x * 3))) (pk_mul x 3) ?_
      refine lv_iload hx hb dX1_exchange_137 (lv_at hl 1 rfl) ?_
      refine lv_iadd hx hb dX1_exchange_139 ?_
      refine tope (y := (nI (x * 3 + 1))) (nI_add (x * 3) 1) ?_
      refine lM_shifts hx hb hK hP (x * 3 + 1) rfl (by omega) dX1_exchange_140 ?_
      refine lv_istore (lv' := [(7, .int ((upd (upd mh (x * 3 + 0) (mh (y * 3 + 0))) (y * 3 + 0) (mh (x * 3 + 0))) (x * 3 + 1))), (6, .int ((upd (upd ma (x * 3 + 0) (ma (y * 3 + 0))) (y * 3 + 0) (ma (x * 3 + 0))) (x * 3 + 1))), (5, .int 1), (4, .int (mq x)), (3, .int (mo x)), (0, .ref (a 0)), (1, .int (nI x)), (2, .int (nI y))]) hx hb dX1_exchange_141 hl (by decide) rfl (fun ls hl => ?_)
      refine lv_aload_n hx hb dX1_exchange_143 rfl (lv_at hl 5 rfl) ?_
      refine gM_shifts hx hb hts hown hK hP dX1_exchange_144 ?_
      refine lv_iload_n hx hb dX1_exchange_147 rfl (lv_at hl 6 rfl) ?_
      refine lv_iconst (v := 3) hx hb dX1_exchange_148 (by decide) ?_
      refine lv_imul hx hb dX1_exchange_149 ?_
      refine tope (y := (nI (x * 3))) (pk_mul x 3) ?_
      refine lv_iload hx hb dX1_exchange_150 (lv_at hl 2 rfl) ?_
      refine lv_iadd hx hb dX1_exchange_152 ?_
      refine tope (y := (nI (x * 3 + 1))) (nI_add (x * 3) 1) ?_
      refine lv_aload_n hx hb dX1_exchange_153 rfl (lv_at hl 5 rfl) ?_
      refine gM_shifts hx hb hts hown hK hP dX1_exchange_154 ?_
      refine lv_iload_n hx hb dX1_exchange_157 rfl (lv_at hl 7 rfl) ?_
      refine lv_iconst (v := 3) hx hb dX1_exchange_158 (by decide) ?_
      refine lv_imul hx hb dX1_exchange_159 ?_
      refine tope (y := (nI (y * 3))) (pk_mul y 3) ?_
      refine lv_iload hx hb dX1_exchange_160 (lv_at hl 2 rfl) ?_
      refine lv_iadd hx hb dX1_exchange_162 ?_
      refine tope (y := (nI (y * 3 + 1))) (nI_add (y * 3) 1) ?_
      refine lM_shifts hx hb hK hP (y * 3 + 1) rfl (by omega) dX1_exchange_163 ?_
      refine sM_shifts hx hb hK hP hD hS (x * 3 + 1) rfl (by omega) dX1_exchange_164 (fun H locs hP hD hS => ?_)
      refine lv_aload_n hx hb dX1_exchange_165 rfl (lv_at hl 5 rfl) ?_
      refine gM_shifts hx hb hts hown hK hP dX1_exchange_166 ?_
      refine lv_iload_n hx hb dX1_exchange_169 rfl (lv_at hl 7 rfl) ?_
      refine lv_iconst (v := 3) hx hb dX1_exchange_170 (by decide) ?_
      refine lv_imul hx hb dX1_exchange_171 ?_
      refine tope (y := (nI (y * 3))) (pk_mul y 3) ?_
      refine lv_iload hx hb dX1_exchange_172 (lv_at hl 2 rfl) ?_
      refine lv_iadd hx hb dX1_exchange_174 ?_
      refine tope (y := (nI (y * 3 + 1))) (nI_add (y * 3) 1) ?_
      refine lv_iload hx hb dX1_exchange_175 (lv_at hl 0 rfl) ?_
      refine sM_shifts hx hb hK hP hD hS (y * 3 + 1) rfl (by omega) dX1_exchange_177 (fun H locs hP hD hS => ?_)
      refine lv_iinc (v := 2) (lv' := [(5, .int 2), (7, .int ((upd (upd mh (x * 3 + 0) (mh (y * 3 + 0))) (y * 3 + 0) (mh (x * 3 + 0))) (x * 3 + 1))), (6, .int ((upd (upd ma (x * 3 + 0) (ma (y * 3 + 0))) (y * 3 + 0) (ma (x * 3 + 0))) (x * 3 + 1))), (4, .int (mq x)), (3, .int (mo x)), (0, .ref (a 0)), (1, .int (nI x)), (2, .int (nI y))]) hx hb dX1_exchange_178 hl (k := 2) rfl (by decide) (by decide) rfl (fun ls hl => ?_)
      refine lv_goto (tgt := 76) hx hb dX1_exchange_181 (by decide) ?_
      refine lv_iload hx hb dX1_exchange_76 (lv_at hl 0 rfl) ?_
      refine lv_iconst (v := 3) hx hb dX1_exchange_78 (by decide) ?_
      refine lv_icmp_ge (tgt := 184) hx hb dX1_exchange_79 (by decide) (fun c_79 => absurd c_79 (by decide)) (fun c_79 => ?_)
      refine lv_aload_n hx hb dX1_exchange_82 rfl (lv_at hl 5 rfl) ?_
      refine gM_arrays hx hb hts hown hK hP dX1_exchange_83 ?_
      refine lv_iload_n hx hb dX1_exchange_86 rfl (lv_at hl 6 rfl) ?_
      refine lv_iconst (v := 3) hx hb dX1_exchange_87 (by decide) ?_
      refine lv_imul hx hb dX1_exchange_88 ?_
      refine tope (y := (nI (x * 3))) (pk_mul x 3) ?_
      refine lv_iload hx hb dX1_exchange_89 (lv_at hl 0 rfl) ?_
      refine lv_iadd hx hb dX1_exchange_91 ?_
      refine tope (y := (nI (x * 3 + 2))) (nI_add (x * 3) 2) ?_
      refine lM_arrays hx hb hK hP (x * 3 + 2) rfl (by omega) dX1_exchange_92 ?_
      refine lv_istore (lv' := [(6, .int ((upd (upd (upd (upd ma (x * 3 + 0) (ma (y * 3 + 0))) (y * 3 + 0) (ma (x * 3 + 0))) (x * 3 + 1) ((upd (upd ma (x * 3 + 0) (ma (y * 3 + 0))) (y * 3 + 0) (ma (x * 3 + 0))) (y * 3 + 1))) (y * 3 + 1) ((upd (upd ma (x * 3 + 0) (ma (y * 3 + 0))) (y * 3 + 0) (ma (x * 3 + 0))) (x * 3 + 1))) (x * 3 + 2))), (5, .int 2), (7, .int ((upd (upd mh (x * 3 + 0) (mh (y * 3 + 0))) (y * 3 + 0) (mh (x * 3 + 0))) (x * 3 + 1))), (4, .int (mq x)), (3, .int (mo x)), (0, .ref (a 0)), (1, .int (nI x)), (2, .int (nI y))]) hx hb dX1_exchange_93 hl (by decide) rfl (fun ls hl => ?_)
      refine lv_aload_n hx hb dX1_exchange_95 rfl (lv_at hl 5 rfl) ?_
      refine gM_arrays hx hb hts hown hK hP dX1_exchange_96 ?_
      refine lv_iload_n hx hb dX1_exchange_99 rfl (lv_at hl 6 rfl) ?_
      refine lv_iconst (v := 3) hx hb dX1_exchange_100 (by decide) ?_
      refine lv_imul hx hb dX1_exchange_101 ?_
      refine tope (y := (nI (x * 3))) (pk_mul x 3) ?_
      refine lv_iload hx hb dX1_exchange_102 (lv_at hl 1 rfl) ?_
      refine lv_iadd hx hb dX1_exchange_104 ?_
      refine tope (y := (nI (x * 3 + 2))) (nI_add (x * 3) 2) ?_
      refine lv_aload_n hx hb dX1_exchange_105 rfl (lv_at hl 5 rfl) ?_
      refine gM_arrays hx hb hts hown hK hP dX1_exchange_106 ?_
      refine lv_iload_n hx hb dX1_exchange_109 rfl (lv_at hl 7 rfl) ?_
      refine lv_iconst (v := 3) hx hb dX1_exchange_110 (by decide) ?_
      refine lv_imul hx hb dX1_exchange_111 ?_
      refine tope (y := (nI (y * 3))) (pk_mul y 3) ?_
      refine lv_iload hx hb dX1_exchange_112 (lv_at hl 1 rfl) ?_
      refine lv_iadd hx hb dX1_exchange_114 ?_
      refine tope (y := (nI (y * 3 + 2))) (nI_add (y * 3) 2) ?_
      refine lM_arrays hx hb hK hP (y * 3 + 2) rfl (by omega) dX1_exchange_115 ?_
      refine sM_arrays hx hb hK hP hD hS (x * 3 + 2) rfl (by omega) dX1_exchange_116 (fun H locs hP hD hS => ?_)
      refine lv_aload_n hx hb dX1_exchange_117 rfl (lv_at hl 5 rfl) ?_
      refine gM_arrays hx hb hts hown hK hP dX1_exchange_118 ?_
      refine lv_iload_n hx hb dX1_exchange_121 rfl (lv_at hl 7 rfl) ?_
      refine lv_iconst (v := 3) hx hb dX1_exchange_122 (by decide) ?_
      refine lv_imul hx hb dX1_exchange_123 ?_
      refine tope (y := (nI (y * 3))) (pk_mul y 3) ?_
      refine lv_iload hx hb dX1_exchange_124 (lv_at hl 1 rfl) ?_
      refine lv_iadd hx hb dX1_exchange_126 ?_
      refine tope (y := (nI (y * 3 + 2))) (nI_add (y * 3) 2) ?_
      refine lv_iload hx hb dX1_exchange_127 (lv_at hl 0 rfl) ?_
      refine sM_arrays hx hb hK hP hD hS (y * 3 + 2) rfl (by omega) dX1_exchange_129 (fun H locs hP hD hS => ?_)
      refine lv_aload_n hx hb dX1_exchange_130 rfl (lv_at hl 5 rfl) ?_
      refine gM_shifts hx hb hts hown hK hP dX1_exchange_131 ?_
      refine lv_iload_n hx hb dX1_exchange_134 rfl (lv_at hl 6 rfl) ?_
      refine lv_iconst (v := 3) hx hb dX1_exchange_135 (by decide) ?_
      refine lv_imul hx hb dX1_exchange_136 ?_
      refine tope (y := (nI (x * 3))) (pk_mul x 3) ?_
      refine lv_iload hx hb dX1_exchange_137 (lv_at hl 1 rfl) ?_
      refine lv_iadd hx hb dX1_exchange_139 ?_
      refine tope (y := (nI (x * 3 + 2))) (nI_add (x * 3) 2) ?_
      refine lM_shifts hx hb hK hP (x * 3 + 2) rfl (by omega) dX1_exchange_140 ?_
      refine lv_istore (lv' := [(7, .int ((upd (upd (upd (upd mh (x * 3 + 0) (mh (y * 3 + 0))) (y * 3 + 0) (mh (x * 3 + 0))) (x * 3 + 1) ((upd (upd mh (x * 3 + 0) (mh (y * 3 + 0))) (y * 3 + 0) (mh (x * 3 + 0))) (y * 3 + 1))) (y * 3 + 1) ((upd (upd mh (x * 3 + 0) (mh (y * 3 + 0))) (y * 3 + 0) (mh (x * 3 + 0))) (x * 3 + 1))) (x * 3 + 2))), (6, .int ((upd (upd (upd (upd ma (x * 3 + 0) (ma (y * 3 + 0))) (y * 3 + 0) (ma (x * 3 + 0))) (x * 3 + 1) ((upd (upd ma (x * 3 + 0) (ma (y * 3 + 0))) (y * 3 + 0) (ma (x * 3 + 0))) (y * 3 + 1))) (y * 3 + 1) ((upd (upd ma (x * 3 + 0) (ma (y * 3 + 0))) (y * 3 + 0) (ma (x * 3 + 0))) (x * 3 + 1))) (x * 3 + 2))), (5, .int 2), (4, .int (mq x)), (3, .int (mo x)), (0, .ref (a 0)), (1, .int (nI x)), (2, .int (nI y))]) hx hb dX1_exchange_141 hl (by decide) rfl (fun ls hl => ?_)
      refine lv_aload_n hx hb dX1_exchange_143 rfl (lv_at hl 5 rfl) ?_
      refine gM_shifts hx hb hts hown hK hP dX1_exchange_144 ?_
      refine lv_iload_n hx hb dX1_exchange_147 rfl (lv_at hl 6 rfl) ?_
      refine lv_iconst (v := 3) hx hb dX1_exchange_148 (by decide) ?_
      refine lv_imul hx hb dX1_exchange_149 ?_
      refine tope (y := (nI (x * 3))) (pk_mul x 3) ?_
      refine lv_iload hx hb dX1_exchange_150 (lv_at hl 2 rfl) ?_
      refine lv_iadd hx hb dX1_exchange_152 ?_
      refine tope (y := (nI (x * 3 + 2))) (nI_add (x * 3) 2) ?_
      refine lv_aload_n hx hb dX1_exchange_153 rfl (lv_at hl 5 rfl) ?_
      refine gM_shifts hx hb hts hown hK hP dX1_exchange_154 ?_
      refine lv_iload_n hx hb dX1_exchange_157 rfl (lv_at hl 7 rfl) ?_
      refine lv_iconst (v := 3) hx hb dX1_exchange_158 (by decide) ?_
      refine lv_imul hx hb dX1_exchange_159 ?_
      refine tope (y := (nI (y * 3))) (pk_mul y 3) ?_
      refine lv_iload hx hb dX1_exchange_160 (lv_at hl 2 rfl) ?_
      refine lv_iadd hx hb dX1_exchange_162 ?_
      refine tope (y := (nI (y * 3 + 2))) (nI_add (y * 3) 2) ?_
      refine lM_shifts hx hb hK hP (y * 3 + 2) rfl (by omega) dX1_exchange_163 ?_
      refine sM_shifts hx hb hK hP hD hS (x * 3 + 2) rfl (by omega) dX1_exchange_164 (fun H locs hP hD hS => ?_)
      refine lv_aload_n hx hb dX1_exchange_165 rfl (lv_at hl 5 rfl) ?_
      refine gM_shifts hx hb hts hown hK hP dX1_exchange_166 ?_
      refine lv_iload_n hx hb dX1_exchange_169 rfl (lv_at hl 7 rfl) ?_
      refine lv_iconst (v := 3) hx hb dX1_exchange_170 (by decide) ?_
      refine lv_imul hx hb dX1_exchange_171 ?_
      refine tope (y := (nI (y * 3))) (pk_mul y 3) ?_
      refine lv_iload hx hb dX1_exchange_172 (lv_at hl 2 rfl) ?_
      refine lv_iadd hx hb dX1_exchange_174 ?_
      refine tope (y := (nI (y * 3 + 2))) (nI_add (y * 3) 2) ?_
      refine lv_iload hx hb dX1_exchange_175 (lv_at hl 0 rfl) ?_
      refine sM_shifts hx hb hK hP hD hS (y * 3 + 2) rfl (by omega) dX1_exchange_177 (fun H locs hP hD hS => ?_)
      refine lv_iinc (v := 3) (lv' := [(5, .int 3), (7, .int ((upd (upd (upd (upd mh (x * 3 + 0) (mh (y * 3 + 0))) (y * 3 + 0) (mh (x * 3 + 0))) (x * 3 + 1) ((upd (upd mh (x * 3 + 0) (mh (y * 3 + 0))) (y * 3 + 0) (mh (x * 3 + 0))) (y * 3 + 1))) (y * 3 + 1) ((upd (upd mh (x * 3 + 0) (mh (y * 3 + 0))) (y * 3 + 0) (mh (x * 3 + 0))) (x * 3 + 1))) (x * 3 + 2))), (6, .int ((upd (upd (upd (upd ma (x * 3 + 0) (ma (y * 3 + 0))) (y * 3 + 0) (ma (x * 3 + 0))) (x * 3 + 1) ((upd (upd ma (x * 3 + 0) (ma (y * 3 + 0))) (y * 3 + 0) (ma (x * 3 + 0))) (y * 3 + 1))) (y * 3 + 1) ((upd (upd ma (x * 3 + 0) (ma (y * 3 + 0))) (y * 3 + 0) (ma (x * 3 + 0))) (x * 3 + 1))) (x * 3 + 2))), (4, .int (mq x)), (3, .int (mo x)), (0, .ref (a 0)), (1, .int (nI x)), (2, .int (nI y))]) hx hb dX1_exchange_178 hl (k := 2) rfl (by decide) (by decide) rfl (fun ls hl => ?_)
      refine lv_goto (tgt := 76) hx hb dX1_exchange_181 (by decide) ?_
      refine lv_iload hx hb dX1_exchange_76 (lv_at hl 0 rfl) ?_
      refine lv_iconst (v := 3) hx hb dX1_exchange_78 (by decide) ?_
      refine lv_icmp_ge (tgt := 184) hx hb dX1_exchange_79 (by decide) (fun c_79 => ?_) (fun c_79 => absurd (by decide) c_79)
      refine lv_iconst (v := 0) hx hb dX1_exchange_184 (by decide) ?_
      exact hret _ (nI N, _, _, _, _) _ _ _ _ (by simp only [exM, sw3, swF, c_5, c_13, nI_clamp (show x < 2 ^ 31 by omega), nI_clamp (show y < 2 ^ 31 by omega)]; rfl) hP hD hS dX1_exchange_185
    · skip
      have c_13 := bI_n0.mp c_13
      refine lv_bipush (v := (-3)) hx hb dX1_exchange_16 (by decide) ?_
      exact hret _ (nI N, mo, mq, ma, mh) _ _ _ _ (by simp [exM, c_5, c_13]) hP hD hS dX1_exchange_18
abbrev rmX1_carryOut : Room := { frames := 0, cells := 0, slots := 0, locals := 0 }
set_option maxHeartbeats 4000000 in
set_option maxRecDepth 100000 in
theorem mX1_carryOut (l : Launch) {D : va_G} {a : Nat → Nat} {d : Nat → ClassId} {mn : Int32} {mo mq ma mh mf : Nat → Int32}  (x : Nat) (i : Nat)  (hx4 : x < 4) (ok : okG (aM ma) (aM mh) x i) : MV l yX1_carryOut (ws_ yX1_carryOut cX1_carryOut 8 none) rmX1_carryOut [.ref (a 0), .int (nI x), .int (nI i)] D (tyM d) (WM a d mn mo mq ma mh mf) (T := Nat → Int32) (fun u => u = stG (aM ma) (aM mh) mo mq x i mf) (fun u => WM a d mn mo mq ma mh u) := by
  refine impV (by decide) (Nat.le_of_ble_eq_true rfl) ?_
  intro p e s m ar below meth c Q A hx hb hml hown hts hK hP hD hS hA hret ls hl
  have hown : s.vm.findClass RX1 = some m.cls := hown
  have hl : lv_has ls 8 [(0, .ref (a 0)), (1, .int (nI x)), (2, .int (nI i))] := hl
  have i0 : ma (x * 3) * 32 + nI i + mh (x * 3) = nI (ixN (aM ma) (aM mh) x 0 i) := (okG_eq (p := 0) ok (by decide)).1
  have j0 : ixN (aM ma) (aM mh) x 0 i < 96 := (okG_eq (p := 0) ok (by decide)).2
  have i1 : ma (x * 3 + 1) * 32 + nI i + mh (x * 3 + 1) = nI (ixN (aM ma) (aM mh) x 1 i) := (okG_eq (p := 1) ok (by decide)).1
  have j1 : ixN (aM ma) (aM mh) x 1 i < 96 := (okG_eq (p := 1) ok (by decide)).2
  have i2 : ma (x * 3 + 2) * 32 + nI i + mh (x * 3 + 2) = nI (ixN (aM ma) (aM mh) x 2 i) := (okG_eq (p := 2) ok (by decide)).1
  have j2 : ixN (aM ma) (aM mh) x 2 i < 96 := (okG_eq (p := 2) ok (by decide)).2
  refine lv_aload_n hx hb dX1_carryOut_0 rfl (lv_at hl 0 rfl) ?_
  refine gM_arrays hx hb hts hown hK hP dX1_carryOut_1 ?_
  refine lv_iload_n hx hb dX1_carryOut_4 rfl (lv_at hl 1 rfl) ?_
  refine lv_iconst (v := 3) hx hb dX1_carryOut_5 (by decide) ?_
  refine lv_imul hx hb dX1_carryOut_6 ?_
  refine tope (y := (nI (x * 3))) (pk_mul x 3) ?_
  refine lM_arrays hx hb hK hP (x * 3) rfl (by omega) dX1_carryOut_7 ?_
  refine lv_bipush (v := 32) hx hb dX1_carryOut_8 (by decide) ?_
  refine lv_imul hx hb dX1_carryOut_10 ?_
  refine lv_iload_n hx hb dX1_carryOut_11 rfl (lv_at hl 2 rfl) ?_
  refine lv_iadd hx hb dX1_carryOut_12 ?_
  refine lv_aload_n hx hb dX1_carryOut_13 rfl (lv_at hl 0 rfl) ?_
  refine gM_shifts hx hb hts hown hK hP dX1_carryOut_14 ?_
  refine lv_iload_n hx hb dX1_carryOut_17 rfl (lv_at hl 1 rfl) ?_
  refine lv_iconst (v := 3) hx hb dX1_carryOut_18 (by decide) ?_
  refine lv_imul hx hb dX1_carryOut_19 ?_
  refine tope (y := (nI (x * 3))) (pk_mul x 3) ?_
  refine lM_shifts hx hb hK hP (x * 3) rfl (by omega) dX1_carryOut_20 ?_
  refine lv_iadd hx hb dX1_carryOut_21 ?_
  refine lv_istore_n (lv' := [(3, .int ((((ma (x * 3)) * 32) + (nI i)) + (mh (x * 3)))), (0, .ref (a 0)), (1, .int (nI x)), (2, .int (nI i))]) hx hb dX1_carryOut_22 rfl hl (by decide) rfl (fun ls hl => ?_)
  refine lv_aload_n hx hb dX1_carryOut_23 rfl (lv_at hl 1 rfl) ?_
  refine gM_cells hx hb hts hown hK hP dX1_carryOut_24 ?_
  refine lv_aload_n hx hb dX1_carryOut_27 rfl (lv_at hl 1 rfl) ?_
  refine gM_arrays hx hb hts hown hK hP dX1_carryOut_28 ?_
  refine lv_iload_n hx hb dX1_carryOut_31 rfl (lv_at hl 2 rfl) ?_
  refine lv_iconst (v := 3) hx hb dX1_carryOut_32 (by decide) ?_
  refine lv_imul hx hb dX1_carryOut_33 ?_
  refine tope (y := (nI (x * 3))) (pk_mul x 3) ?_
  refine lv_iconst (v := 1) hx hb dX1_carryOut_34 (by decide) ?_
  refine lv_iadd hx hb dX1_carryOut_35 ?_
  refine tope (y := (nI (x * 3 + 1))) (nI_add (x * 3) 1) ?_
  refine lM_arrays hx hb hK hP (x * 3 + 1) rfl (by omega) dX1_carryOut_36 ?_
  refine lv_bipush (v := 32) hx hb dX1_carryOut_37 (by decide) ?_
  refine lv_imul hx hb dX1_carryOut_39 ?_
  refine lv_iload_n hx hb dX1_carryOut_40 rfl (lv_at hl 3 rfl) ?_
  refine lv_iadd hx hb dX1_carryOut_41 ?_
  refine lv_aload_n hx hb dX1_carryOut_42 rfl (lv_at hl 1 rfl) ?_
  refine gM_shifts hx hb hts hown hK hP dX1_carryOut_43 ?_
  refine lv_iload_n hx hb dX1_carryOut_46 rfl (lv_at hl 2 rfl) ?_
  refine lv_iconst (v := 3) hx hb dX1_carryOut_47 (by decide) ?_
  refine lv_imul hx hb dX1_carryOut_48 ?_
  refine tope (y := (nI (x * 3))) (pk_mul x 3) ?_
  refine lv_iconst (v := 1) hx hb dX1_carryOut_49 (by decide) ?_
  refine lv_iadd hx hb dX1_carryOut_50 ?_
  refine tope (y := (nI (x * 3 + 1))) (nI_add (x * 3) 1) ?_
  refine lM_shifts hx hb hK hP (x * 3 + 1) rfl (by omega) dX1_carryOut_51 ?_
  refine lv_iadd hx hb dX1_carryOut_52 ?_
  refine lM_cells hx hb hK hP (ixN (aM ma) (aM mh) x 1 i) i1 j1 dX1_carryOut_53 ?_
  refine lv_istore (lv' := [(4, .int (mf (ixN (aM ma) (aM mh) x 1 i))), (3, .int ((((ma (x * 3)) * 32) + (nI i)) + (mh (x * 3)))), (0, .ref (a 0)), (1, .int (nI x)), (2, .int (nI i))]) hx hb dX1_carryOut_54 hl (by decide) rfl (fun ls hl => ?_)
  refine lv_aload_n hx hb dX1_carryOut_56 rfl (lv_at hl 2 rfl) ?_
  refine gM_cells hx hb hts hown hK hP dX1_carryOut_57 ?_
  refine lv_aload_n hx hb dX1_carryOut_60 rfl (lv_at hl 2 rfl) ?_
  refine gM_arrays hx hb hts hown hK hP dX1_carryOut_61 ?_
  refine lv_iload_n hx hb dX1_carryOut_64 rfl (lv_at hl 3 rfl) ?_
  refine lv_iconst (v := 3) hx hb dX1_carryOut_65 (by decide) ?_
  refine lv_imul hx hb dX1_carryOut_66 ?_
  refine tope (y := (nI (x * 3))) (pk_mul x 3) ?_
  refine lv_iconst (v := 2) hx hb dX1_carryOut_67 (by decide) ?_
  refine lv_iadd hx hb dX1_carryOut_68 ?_
  refine tope (y := (nI (x * 3 + 2))) (nI_add (x * 3) 2) ?_
  refine lM_arrays hx hb hK hP (x * 3 + 2) rfl (by omega) dX1_carryOut_69 ?_
  refine lv_bipush (v := 32) hx hb dX1_carryOut_70 (by decide) ?_
  refine lv_imul hx hb dX1_carryOut_72 ?_
  refine lv_iload_n hx hb dX1_carryOut_73 rfl (lv_at hl 4 rfl) ?_
  refine lv_iadd hx hb dX1_carryOut_74 ?_
  refine lv_aload_n hx hb dX1_carryOut_75 rfl (lv_at hl 2 rfl) ?_
  refine gM_shifts hx hb hts hown hK hP dX1_carryOut_76 ?_
  refine lv_iload_n hx hb dX1_carryOut_79 rfl (lv_at hl 3 rfl) ?_
  refine lv_iconst (v := 3) hx hb dX1_carryOut_80 (by decide) ?_
  refine lv_imul hx hb dX1_carryOut_81 ?_
  refine tope (y := (nI (x * 3))) (pk_mul x 3) ?_
  refine lv_iconst (v := 2) hx hb dX1_carryOut_82 (by decide) ?_
  refine lv_iadd hx hb dX1_carryOut_83 ?_
  refine tope (y := (nI (x * 3 + 2))) (nI_add (x * 3) 2) ?_
  refine lM_shifts hx hb hK hP (x * 3 + 2) rfl (by omega) dX1_carryOut_84 ?_
  refine lv_iadd hx hb dX1_carryOut_85 ?_
  refine lM_cells hx hb hK hP (ixN (aM ma) (aM mh) x 2 i) i2 j2 dX1_carryOut_86 ?_
  refine lv_istore (lv' := [(5, .int (mf (ixN (aM ma) (aM mh) x 2 i))), (4, .int (mf (ixN (aM ma) (aM mh) x 1 i))), (3, .int ((((ma (x * 3)) * 32) + (nI i)) + (mh (x * 3)))), (0, .ref (a 0)), (1, .int (nI x)), (2, .int (nI i))]) hx hb dX1_carryOut_87 hl (by decide) rfl (fun ls hl => ?_)
  refine lv_aload_n hx hb dX1_carryOut_89 rfl (lv_at hl 3 rfl) ?_
  refine gM_ops hx hb hts hown hK hP dX1_carryOut_90 ?_
  refine lv_iload_n hx hb dX1_carryOut_93 rfl (lv_at hl 4 rfl) ?_
  refine lM_ops hx hb hK hP x rfl (by omega) dX1_carryOut_94 ?_
  refine lv_istore (lv' := [(6, .int (mo x)), (5, .int (mf (ixN (aM ma) (aM mh) x 2 i))), (4, .int (mf (ixN (aM ma) (aM mh) x 1 i))), (3, .int ((((ma (x * 3)) * 32) + (nI i)) + (mh (x * 3)))), (0, .ref (a 0)), (1, .int (nI x)), (2, .int (nI i))]) hx hb dX1_carryOut_95 hl (by decide) rfl (fun ls hl => ?_)
  refine lv_aload_n hx hb dX1_carryOut_97 rfl (lv_at hl 4 rfl) ?_
  refine gM_constants hx hb hts hown hK hP dX1_carryOut_98 ?_
  refine lv_iload_n hx hb dX1_carryOut_101 rfl (lv_at hl 5 rfl) ?_
  refine lM_constants hx hb hK hP x rfl (by omega) dX1_carryOut_102 ?_
  refine lv_istore (lv' := [(7, .int (mq x)), (6, .int (mo x)), (5, .int (mf (ixN (aM ma) (aM mh) x 2 i))), (4, .int (mf (ixN (aM ma) (aM mh) x 1 i))), (3, .int ((((ma (x * 3)) * 32) + (nI i)) + (mh (x * 3)))), (0, .ref (a 0)), (1, .int (nI x)), (2, .int (nI i))]) hx hb dX1_carryOut_103 hl (by decide) rfl (fun ls hl => ?_)
  refine lv_iload hx hb dX1_carryOut_105 (lv_at hl 1 rfl) ?_
  refine lv_if_ne (tgt := 124) hx hb dX1_carryOut_107 (by decide) (fun c_107 => ?_) (fun c_107 => ?_)
  · skip
    refine lv_iload hx hb dX1_carryOut_124 (lv_at hl 1 rfl) ?_
    refine lv_iconst (v := 1) hx hb dX1_carryOut_126 (by decide) ?_
    refine lv_icmp_ne (tgt := 144) hx hb dX1_carryOut_127 (by decide) (fun c_127 => ?_) (fun c_127 => ?_)
    · skip
      refine lv_iload hx hb dX1_carryOut_144 (lv_at hl 1 rfl) ?_
      refine lv_iconst (v := 2) hx hb dX1_carryOut_146 (by decide) ?_
      refine lv_icmp_ne (tgt := 164) hx hb dX1_carryOut_147 (by decide) (fun c_147 => ?_) (fun c_147 => ?_)
      · skip
        refine lv_iload hx hb dX1_carryOut_164 (lv_at hl 1 rfl) ?_
        refine lv_iconst (v := 3) hx hb dX1_carryOut_166 (by decide) ?_
        refine lv_icmp_ne (tgt := 193) hx hb dX1_carryOut_167 (by decide) (fun c_167 => ?_) (fun c_167 => ?_)
        · skip
          refine lv_iload hx hb dX1_carryOut_193 (lv_at hl 1 rfl) ?_
          refine lv_iconst (v := 4) hx hb dX1_carryOut_195 (by decide) ?_
          refine lv_icmp_ne (tgt := 213) hx hb dX1_carryOut_196 (by decide) (fun c_196 => ?_) (fun c_196 => ?_)
          · skip
            refine lv_iload hx hb dX1_carryOut_213 (lv_at hl 1 rfl) ?_
            refine lv_iconst (v := 5) hx hb dX1_carryOut_215 (by decide) ?_
            refine lv_icmp_ne (tgt := 230) hx hb dX1_carryOut_216 (by decide) (fun c_216 => ?_) (fun c_216 => ?_)
            · skip
              refine lv_aload_n hx hb dX1_carryOut_230 rfl (lv_at hl 5 rfl) ?_
              refine gM_cells hx hb hts hown hK hP dX1_carryOut_231 ?_
              refine lv_iload_n hx hb dX1_carryOut_234 rfl (lv_at hl 4 rfl) ?_
              refine lv_iload hx hb dX1_carryOut_235 (lv_at hl 3 rfl) ?_
              refine lv_iload hx hb dX1_carryOut_237 (lv_at hl 0 rfl) ?_
              refine lv_imul hx hb dX1_carryOut_239 ?_
              refine sM_cells hx hb hK hP hD hS (ixN (aM ma) (aM mh) x 0 i) i0 j0 dX1_carryOut_240 (fun H locs hP hD hS => ?_)
              exact hret _ _ _ _ _ (by simp [stG, reG, rsG, c_107, c_127, c_147, c_167, c_196, c_216]) hP hD hS dX1_carryOut_241
            · skip
              refine lv_aload_n hx hb dX1_carryOut_219 rfl (lv_at hl 5 rfl) ?_
              refine gM_cells hx hb hts hown hK hP dX1_carryOut_220 ?_
              refine lv_iload_n hx hb dX1_carryOut_223 rfl (lv_at hl 4 rfl) ?_
              refine lv_iload hx hb dX1_carryOut_224 (lv_at hl 0 rfl) ?_
              refine sM_cells hx hb hK hP hD hS (ixN (aM ma) (aM mh) x 0 i) i0 j0 dX1_carryOut_226 (fun H locs hP hD hS => ?_)
              refine lv_goto (tgt := 241) hx hb dX1_carryOut_227 (by decide) ?_
              exact hret _ _ _ _ _ (by simp [stG, reG, rsG, c_107, c_127, c_147, c_167, c_196, c_216]) hP hD hS dX1_carryOut_241
          · skip
            refine lv_aload_n hx hb dX1_carryOut_199 rfl (lv_at hl 5 rfl) ?_
            refine gM_cells hx hb hts hown hK hP dX1_carryOut_200 ?_
            refine lv_iload_n hx hb dX1_carryOut_203 rfl (lv_at hl 4 rfl) ?_
            refine lv_iload hx hb dX1_carryOut_204 (lv_at hl 3 rfl) ?_
            refine lv_iload hx hb dX1_carryOut_206 (lv_at hl 0 rfl) ?_
            refine lv_iadd hx hb dX1_carryOut_208 ?_
            refine sM_cells hx hb hK hP hD hS (ixN (aM ma) (aM mh) x 0 i) i0 j0 dX1_carryOut_209 (fun H locs hP hD hS => ?_)
            refine lv_goto (tgt := 241) hx hb dX1_carryOut_210 (by decide) ?_
            exact hret _ _ _ _ _ (by simp [stG, reG, rsG, c_107, c_127, c_147, c_167, c_196]) hP hD hS dX1_carryOut_241
        · skip
          refine lv_aload_n hx hb dX1_carryOut_170 rfl (lv_at hl 5 rfl) ?_
          refine gM_cells hx hb hts hown hK hP dX1_carryOut_171 ?_
          refine lv_iload_n hx hb dX1_carryOut_174 rfl (lv_at hl 4 rfl) ?_
          refine lv_iload hx hb dX1_carryOut_175 (lv_at hl 3 rfl) ?_
          refine lv_iload hx hb dX1_carryOut_177 (lv_at hl 2 rfl) ?_
          refine lv_icmp_ge (tgt := 187) hx hb dX1_carryOut_179 (by decide) (fun c_179 => ?_) (fun c_179 => ?_)
          · skip
            have c_179 := Int32.not_lt.mpr c_179
            refine lv_iload hx hb dX1_carryOut_187 (lv_at hl 2 rfl) ?_
            refine sM_cells hx hb hK hP hD hS (ixN (aM ma) (aM mh) x 0 i) i0 j0 dX1_carryOut_189 (fun H locs hP hD hS => ?_)
            refine lv_goto (tgt := 241) hx hb dX1_carryOut_190 (by decide) ?_
            exact hret _ _ _ _ _ (by simp [stG, reG, rsG, c_107, c_127, c_147, c_167, c_179]) hP hD hS dX1_carryOut_241
          · skip
            have c_179 := Int32.not_le.mp c_179
            refine lv_iload hx hb dX1_carryOut_182 (lv_at hl 3 rfl) ?_
            refine lv_goto (tgt := 189) hx hb dX1_carryOut_184 (by decide) ?_
            refine sM_cells hx hb hK hP hD hS (ixN (aM ma) (aM mh) x 0 i) i0 j0 dX1_carryOut_189 (fun H locs hP hD hS => ?_)
            refine lv_goto (tgt := 241) hx hb dX1_carryOut_190 (by decide) ?_
            exact hret _ _ _ _ _ (by simp [stG, reG, rsG, c_107, c_127, c_147, c_167, c_179]) hP hD hS dX1_carryOut_241
      · skip
        refine lv_aload_n hx hb dX1_carryOut_150 rfl (lv_at hl 5 rfl) ?_
        refine gM_cells hx hb hts hown hK hP dX1_carryOut_151 ?_
        refine lv_iload_n hx hb dX1_carryOut_154 rfl (lv_at hl 4 rfl) ?_
        refine lv_iload hx hb dX1_carryOut_155 (lv_at hl 3 rfl) ?_
        refine lv_iload hx hb dX1_carryOut_157 (lv_at hl 2 rfl) ?_
        refine lv_imul hx hb dX1_carryOut_159 ?_
        refine sM_cells hx hb hK hP hD hS (ixN (aM ma) (aM mh) x 0 i) i0 j0 dX1_carryOut_160 (fun H locs hP hD hS => ?_)
        refine lv_goto (tgt := 241) hx hb dX1_carryOut_161 (by decide) ?_
        exact hret _ _ _ _ _ (by simp [stG, reG, rsG, c_107, c_127, c_147]) hP hD hS dX1_carryOut_241
    · skip
      refine lv_aload_n hx hb dX1_carryOut_130 rfl (lv_at hl 5 rfl) ?_
      refine gM_cells hx hb hts hown hK hP dX1_carryOut_131 ?_
      refine lv_iload_n hx hb dX1_carryOut_134 rfl (lv_at hl 4 rfl) ?_
      refine lv_iload hx hb dX1_carryOut_135 (lv_at hl 3 rfl) ?_
      refine lv_iload hx hb dX1_carryOut_137 (lv_at hl 2 rfl) ?_
      refine lv_isub hx hb dX1_carryOut_139 ?_
      refine sM_cells hx hb hK hP hD hS (ixN (aM ma) (aM mh) x 0 i) i0 j0 dX1_carryOut_140 (fun H locs hP hD hS => ?_)
      refine lv_goto (tgt := 241) hx hb dX1_carryOut_141 (by decide) ?_
      exact hret _ _ _ _ _ (by simp [stG, reG, rsG, c_107, c_127]) hP hD hS dX1_carryOut_241
  · skip
    refine lv_aload_n hx hb dX1_carryOut_110 rfl (lv_at hl 5 rfl) ?_
    refine gM_cells hx hb hts hown hK hP dX1_carryOut_111 ?_
    refine lv_iload_n hx hb dX1_carryOut_114 rfl (lv_at hl 4 rfl) ?_
    refine lv_iload hx hb dX1_carryOut_115 (lv_at hl 3 rfl) ?_
    refine lv_iload hx hb dX1_carryOut_117 (lv_at hl 2 rfl) ?_
    refine lv_iadd hx hb dX1_carryOut_119 ?_
    refine sM_cells hx hb hK hP hD hS (ixN (aM ma) (aM mh) x 0 i) i0 j0 dX1_carryOut_120 (fun H locs hP hD hS => ?_)
    refine lv_goto (tgt := 241) hx hb dX1_carryOut_121 (by decide) ?_
    exact hret _ _ _ _ _ (by simp [stG, reG, rsG, c_107]) hP hD hS dX1_carryOut_241
theorem kX1_carryOut {p : Program} {l : Launch} {e : Env} {R : Room} {s : State} {m : MethodId} {args : Array Value} {below : List Frame} {meth : Method} {c : Code} {H : Heap} {locs : List Loc} {cells slots : Nat} {Q : State → Prop} {cc : ByteArray} {pc nL : Nat} {ls : Array Slot} {rest : List Value} {D : va_G} {A : Nat → Prop} {a : Nat → Nat} {d : Nat → ClassId} {mn : Int32} {mo mq ma mh mf : Nat → Int32}  (S : CallFix p m c cc nL s args lw_all RX1) (hK : va_K D vwCl (tyM d) s) (hP : va_P D vwCl (WM a d mn mo mq ma mh mf) H) (hD : va_D A (WM a d mn mo mq ma mh mf)) (hS : va_S A s.heap H locs) (hA : ∀ q, s.heap.size ≤ q → A q) (x : Nat) (i : Nat)  (hx4 : x < 4) (ok : okG (aM ma) (aM mh) x i) (hR : rmX1_carryOut.frames + 1 ≤ R.frames ∧ 8 + (8 + 11) + rmX1_carryOut.locals ≤ R.locals) (hsz : ls.size = nL) (hroom : (rest.map fun v => v.category).sum ≤ 8) (hdg : decode cc pc = .ok (.invokevirtual 39, 3)) (hf : cells ≤ R.cells ∧ slots ≤ R.slots) (kk : ∀ (u : Nat → Int32) (H1 : Heap) (locs1 : List Loc), (fun u => u = stG (aM ma) (aM mh) mo mq x i mf) u → va_P D vwCl ((fun u => WM a d mn mo mq ma mh u) u) H1 → va_D A ((fun u => WM a d mn mo mq ma mh u) u) → va_S A s.heap H1 locs1 → W p l e R s m args below meth c H1 locs1 cells slots Q (F0 m (pc + 3) ls rest)) : W p l e R s m args below meth c H locs cells slots Q (F0 m pc ls (.int (nI i) :: .int (nI x) :: .ref (a 0) :: rest)) :=
  icallV (wr := []) (q := (RX1, TX1, 6)) (ci := 1) (As := [.int (nI x), .int (nI i)]) S (mX1_carryOut l x i hx4 ok) (cwV 2 S.2.2.2.2 (lw_V q279 q281 qs25 q29 q282) rfl rfl rfl (by decide +kernel) hR) hK hP hD hS hA [0, 1, 2, 3, 4, 5] [] rfl rfl (by decide) (by decide) (by decide) rfl rfl rfl hsz rfl hroom hdg hf kk
abbrev rmX1_run : Room := { frames := 1, cells := 0, slots := 0, locals := 27 }
set_option maxHeartbeats 4000000 in
set_option maxRecDepth 100000 in
theorem mX1_run (l : Launch) {D : va_G} {a : Nat → Nat} {d : Nat → ClassId} {mo mq ma mh mf : Nat → Int32} {N : Nat} (v : Int32) (w : Int32)  (hN4 : N ≤ 4) (hVA : VA (aM ma) N) (hVH : VH (aM mh) N) : MI l yX1_run (ws_ yX1_run cX1_run 6 (some .int)) rmX1_run [.ref (a 0), .int v, .int w] D (tyM d) (WM a d (nI N) mo mq ma mh mf) (T := Nat → Int32) (fun r u => (r, u) = runG (aM ma) (aM mh) mo mq N v w mf) (fun u => WM a d (nI N) mo mq ma mh u) := by
  refine impI (by decide) (Nat.le_of_ble_eq_true rfl) ?_
  intro p e s m ar below meth c Q A hx hb hml hown hts hK hP hD hS hA hret ls hl
  have hown : s.vm.findClass RX1 = some m.cls := hown
  have hl : lv_has ls 6 [(0, .ref (a 0)), (1, .int v), (2, .int w)] := hl
  refine lv_aload_n hx hb dX1_run_0 rfl (lv_at hl 0 rfl) ?_
  refine lv_iload_n hx hb dX1_run_1 rfl (lv_at hl 1 rfl) ?_
  refine kX1_badCell ⟨hx, hb, hml, hown, hts⟩ hK hP v   ⟨by decide, by decide⟩ hl.1 (Nat.le_of_ble_eq_true rfl) dX1_run_2 ⟨Nat.zero_le _, Nat.zero_le _⟩ ?_
  refine lv_if_ne (tgt := 16) hx hb dX1_run_5 (by decide) (fun c_5 => ?_) (fun c_5 => ?_)
  · skip
    have c_5 := bI_n0.mp c_5
    refine lv_bipush (v := (-5)) hx hb dX1_run_16 (by decide) ?_
    exact hret _ mf _ _ _ _ (by simp [runG, c_5]) hP hD hS dX1_run_18
  · skip
    have c_5 := bI_0.mp c_5
    refine lv_aload_n hx hb dX1_run_8 rfl (lv_at hl 0 rfl) ?_
    refine lv_iload_n hx hb dX1_run_9 rfl (lv_at hl 2 rfl) ?_
    refine kX1_badCell ⟨hx, hb, hml, hown, hts⟩ hK hP w   ⟨by decide, by decide⟩ hl.1 (Nat.le_of_ble_eq_true rfl) dX1_run_10 ⟨Nat.zero_le _, Nat.zero_le _⟩ ?_
    refine lv_if_eq (tgt := 19) hx hb dX1_run_13 (by decide) (fun c_13 => ?_) (fun c_13 => ?_)
    · skip
      have c_13 := bI_0.mp c_13
      obtain ⟨lo, hlo32, rfl⟩ := badC_nat c_5
      obtain ⟨up, hup32, rfl⟩ := badC_nat c_13
      refine lv_iconst (v := 0) hx hb dX1_run_19 (by decide) ?_
      refine lv_istore_n (lv' := [(3, .int 0), (0, .ref (a 0)), (1, .int (nI lo)), (2, .int (nI up))]) hx hb dX1_run_20 rfl hl (by decide) rfl (fun ls hl => ?_)
      have L21 : ∀ (n q : Nat) , q + n = N * 3 → (ouM mh (nI lo) (nI up) 0 (N * 3) = ouM mh (nI lo) (nI up) q n) → ∀ ls : Array Slot, lv_has ls 6 [(0, .ref (a 0)), (1, .int (nI lo)), (2, .int (nI up)), (3, .int (nI q))] → W p l e rmX1_run s m ar below meth c s.heap [] 0 0 Q (F0 m 21 ls []) := by
        intro n
        induction n with
        | zero =>
          intro q  hin hq ls hl
          refine lv_iload_n hx hb dX1_run_21 rfl (lv_at hl 3 rfl) ?_
          refine lv_aload_n hx hb dX1_run_22 rfl (lv_at hl 0 rfl) ?_
          refine gM_size hx hb hts hown hK hP dX1_run_23 ?_
          refine lv_iconst (v := 3) hx hb dX1_run_26 (by decide) ?_
          refine lv_imul hx hb dX1_run_27 ?_
          refine tope (y := (nI (N * 3))) (pk_mul N 3) ?_
          refine lv_icmp_ge (tgt := 70) hx hb dX1_run_28 (by decide) (fun c_28 => ?_) (fun c_28 => absurd (nI_le (a := (N * 3)) (b := q) (by omega) (by omega)) c_28)
          have hou : ouA (aM mh) (nI lo) (nI up) 0 N = false := by rw [← ouM_eq N 0]; exact hq
          have hIR := ouA_IR hou
          have hok : ∀ x i, x < N → lo ≤ i → i ≤ up → okG (aM ma) (aM mh) x i := fun x i h1 h2 h3 => ix_ok hVA hVH hIR hup32 h1 h2 h3
          refine lv_iconst (v := 0) hx hb dX1_run_70 (by decide) ?_
          refine lv_istore_n (lv' := [(3, .int 0), (0, .ref (a 0)), (1, .int (nI lo)), (2, .int (nI up))]) hx hb dX1_run_71 rfl hl (by decide) rfl (fun ls hl => ?_)
          refine lv_iload_n hx hb dX1_run_72 rfl (lv_at hl 2 rfl) ?_
          refine lv_istore (lv' := [(4, .int (nI lo)), (3, .int 0), (0, .ref (a 0)), (1, .int (nI lo)), (2, .int (nI up))]) hx hb dX1_run_73 hl (by decide) rfl (fun ls hl => ?_)
          have L75 : ∀ (n5 i : Nat) (w3 : Int32), i + n5 = lo + (up + 1 - lo) → ∀ (fv : Nat → Int32) (H : Heap) (locs : List Loc), (lo ≤ i) → (w3 = nI ((i - lo) * N)) → (rnF (stG (aM ma) (aM mh) mo mq) (fun _ => true) N lo (up + 1 - lo) mf = rnF (stG (aM ma) (aM mh) mo mq) (fun _ => true) N i n5 fv) → va_P D vwCl (WM a d (nI N) mo mq ma mh fv) H → va_D A (WM a d (nI N) mo mq ma mh fv) → va_S A s.heap H locs → ∀ ls : Array Slot, lv_has ls 6 [(0, .ref (a 0)), (1, .int (nI lo)), (2, .int (nI up)), (3, .int w3), (4, .int (nI i))] → W p l e rmX1_run s m ar below meth c H locs 0 0 Q (F0 m 75 ls []) := by
            intro n5
            induction n5 with
            | zero =>
              intro i w3 hin_n5 fv H locs hli hc hv hP hD hS ls hl
              refine lv_iload hx hb dX1_run_75 (lv_at hl 4 rfl) ?_
              refine lv_iload_n hx hb dX1_run_77 rfl (lv_at hl 2 rfl) ?_
              refine lv_icmp_gt (tgt := 116) hx hb dX1_run_78 (by decide) (fun c_78 => ?_) (fun c_78 => absurd (nI_lt (a := up) (b := i) (by omega) (by omega)) c_78)
              refine lv_iload_n hx hb dX1_run_116 rfl (lv_at hl 3 rfl) ?_
              exact hret _ fv _ _ _ _ (runM_end c_5 c_13 hlo32 hup32 hou (by omega) hc hv.symm) hP hD hS dX1_run_117
            | succ n5 ih5 =>
              intro i w3 hin_n5 fv H locs hli hc hv hP hD hS ls hl
              refine lv_iload hx hb dX1_run_75 (lv_at hl 4 rfl) ?_
              refine lv_iload_n hx hb dX1_run_77 rfl (lv_at hl 2 rfl) ?_
              refine lv_icmp_gt (tgt := 116) hx hb dX1_run_78 (by decide) (fun c_78 => absurd c_78 (nI_nlt (a := up) (b := i) (by omega) (by omega))) (fun c_78 => ?_)
              refine lv_iconst (v := 0) hx hb dX1_run_81 (by decide) ?_
              refine lv_istore (lv' := [(5, .int 0), (0, .ref (a 0)), (1, .int (nI lo)), (2, .int (nI up)), (3, .int w3), (4, .int (nI i))]) hx hb dX1_run_82 hl (by decide) rfl (fun ls hl => ?_)
              have L84 : ∀ (n6 x : Nat) (w4 : Int32), x + n6 = N → ∀ (fw : Nat → Int32) (H : Heap) (locs : List Loc), (w4 = nI ((i - lo) * N + x)) → (rnF (stG (aM ma) (aM mh) mo mq) (fun _ => true) N lo (up + 1 - lo) mf = rnF (stG (aM ma) (aM mh) mo mq) (fun _ => true) N (i + 1) n5 (rwF (stG (aM ma) (aM mh) mo mq) (fun _ => true) i x n6 fw)) → va_P D vwCl (WM a d (nI N) mo mq ma mh fw) H → va_D A (WM a d (nI N) mo mq ma mh fw) → va_S A s.heap H locs → ∀ ls : Array Slot, lv_has ls 6 [(0, .ref (a 0)), (1, .int (nI lo)), (2, .int (nI up)), (3, .int w4), (4, .int (nI i)), (5, .int (nI x))] → W p l e rmX1_run s m ar below meth c H locs 0 0 Q (F0 m 84 ls []) := by
                intro n6
                induction n6 with
                | zero =>
                  intro x w4 hin_n6 fw H locs hc2 hv2 hP hD hS ls hl
                  refine lv_iload hx hb dX1_run_84 (lv_at hl 5 rfl) ?_
                  refine lv_aload_n hx hb dX1_run_86 rfl (lv_at hl 0 rfl) ?_
                  refine gM_size hx hb hts hown hK hP dX1_run_87 ?_
                  refine lv_icmp_ge (tgt := 110) hx hb dX1_run_90 (by decide) (fun c_90 => ?_) (fun c_90 => absurd (nI_le (a := N) (b := x) (by omega) (by omega)) c_90)
                  refine lv_iinc (v := (nI (i + 1))) (lv' := [(4, .int (nI (i + 1))), (0, .ref (a 0)), (1, .int (nI lo)), (2, .int (nI up)), (3, .int w4), (5, .int (nI x))]) hx hb dX1_run_110 hl (k := 4) rfl (nI_inc _) (by decide) rfl (fun ls hl => ?_)
                  refine lv_goto (tgt := 75) hx hb dX1_run_113 (by decide) ?_
                  exact ih5 (i + 1) w4 (by omega) _ _ _ (by omega) (by rw [hc2, show x = N by omega, show i + 1 - lo = (i - lo) + 1 by omega, Nat.add_mul, Nat.one_mul]) hv2 hP hD hS ls (lv_sub hl [1, 2, 3, 4, 0] rfl)
                | succ n6 ih6 =>
                  intro x w4 hin_n6 fw H locs hc2 hv2 hP hD hS ls hl
                  refine lv_iload hx hb dX1_run_84 (lv_at hl 5 rfl) ?_
                  refine lv_aload_n hx hb dX1_run_86 rfl (lv_at hl 0 rfl) ?_
                  refine gM_size hx hb hts hown hK hP dX1_run_87 ?_
                  refine lv_icmp_ge (tgt := 110) hx hb dX1_run_90 (by decide) (fun c_90 => absurd c_90 (nI_ge (a := x) (b := N) (by omega) (by omega))) (fun c_90 => ?_)
                  refine lv_aload_n hx hb dX1_run_93 rfl (lv_at hl 0 rfl) ?_
                  refine lv_iload hx hb dX1_run_94 (lv_at hl 5 rfl) ?_
                  refine lv_iload hx hb dX1_run_96 (lv_at hl 4 rfl) ?_
                  refine kX1_carryOut ⟨hx, hb, hml, hown, hts⟩ hK hP hD hS hA x i  (by omega) (hok x i (by omega) hli (by omega)) ⟨by decide, by decide⟩ hl.1 (Nat.le_of_ble_eq_true rfl) dX1_run_98 ⟨Nat.zero_le _, Nat.zero_le _⟩ (fun fw2 H locs hu hP hD hS => ?_)
                  subst hu
                  refine lv_iinc (v := (w4 + 1)) (lv' := [(3, .int (w4 + 1)), (0, .ref (a 0)), (1, .int (nI lo)), (2, .int (nI up)), (4, .int (nI i)), (5, .int (nI x))]) hx hb dX1_run_101 hl (k := 3) rfl rfl (by decide) rfl (fun ls hl => ?_)
                  refine lv_iinc (v := (nI (x + 1))) (lv' := [(5, .int (nI (x + 1))), (3, .int (w4 + 1)), (0, .ref (a 0)), (1, .int (nI lo)), (2, .int (nI up)), (4, .int (nI i))]) hx hb dX1_run_104 hl (k := 5) rfl (nI_inc _) (by decide) rfl (fun ls hl => ?_)
                  refine lv_goto (tgt := 84) hx hb dX1_run_107 (by decide) ?_
                  exact ih6 (x + 1) (w4 + 1) (by omega) _ _ _ (by rw [hc2]; exact nI_1 _) (by rw [hv2, rwF_t rfl]) hP hD hS ls (lv_sub hl [2, 3, 4, 1, 5, 0] rfl)
              exact L84 (N - 0) 0 w3 (by omega) fv _ _ hc (hv.trans rfl) hP hD hS ls (lv_sub hl [1, 2, 3, 4, 5, 0] rfl)
          exact L75 (up + 1 - lo) lo 0 (by omega) mf _ _ (Nat.le_refl _) (by rw [Nat.sub_self, Nat.zero_mul]; rfl) rfl hP hD hS ls (lv_sub hl [2, 3, 4, 1, 0] rfl)
        | succ n ih =>
          intro q  hin hq ls hl
          refine lv_iload_n hx hb dX1_run_21 rfl (lv_at hl 3 rfl) ?_
          refine lv_aload_n hx hb dX1_run_22 rfl (lv_at hl 0 rfl) ?_
          refine gM_size hx hb hts hown hK hP dX1_run_23 ?_
          refine lv_iconst (v := 3) hx hb dX1_run_26 (by decide) ?_
          refine lv_imul hx hb dX1_run_27 ?_
          refine tope (y := (nI (N * 3))) (pk_mul N 3) ?_
          refine lv_icmp_ge (tgt := 70) hx hb dX1_run_28 (by decide) (fun c_28 => absurd c_28 (nI_ge (a := q) (b := (N * 3)) (by omega) (by omega))) (fun c_28 => ?_)
          refine lv_aload_n hx hb dX1_run_31 rfl (lv_at hl 0 rfl) ?_
          refine lv_iload_n hx hb dX1_run_32 rfl (lv_at hl 1 rfl) ?_
          refine lv_aload_n hx hb dX1_run_33 rfl (lv_at hl 0 rfl) ?_
          refine gM_shifts hx hb hts hown hK hP dX1_run_34 ?_
          refine lv_iload_n hx hb dX1_run_37 rfl (lv_at hl 3 rfl) ?_
          refine lM_shifts hx hb hK hP q rfl (by omega) dX1_run_38 ?_
          refine lv_iadd hx hb dX1_run_39 ?_
          refine kX1_badCell ⟨hx, hb, hml, hown, hts⟩ hK hP ((nI lo) + (mh q))   ⟨by decide, by decide⟩ hl.1 (Nat.le_of_ble_eq_true rfl) dX1_run_40 ⟨Nat.zero_le _, Nat.zero_le _⟩ ?_
          refine lv_if_ne (tgt := 61) hx hb dX1_run_43 (by decide) (fun c_43 => ?_) (fun c_43 => ?_)
          · skip
            have c_43 := bI_n0.mp c_43
            refine lv_bipush (v := (-2)) hx hb dX1_run_61 (by decide) ?_
            exact hret _ mf _ _ _ _ (by have h9 : ouA (aM mh) (nI lo) (nI up) 0 N = true := (by rw [← ouM_eq N 0]; exact hq.trans (by simp [ouM, c_43])); simp [runG, c_5, c_13, h9]) hP hD hS dX1_run_63
          · skip
            have c_43 := bI_0.mp c_43
            refine lv_aload_n hx hb dX1_run_46 rfl (lv_at hl 0 rfl) ?_
            refine lv_iload_n hx hb dX1_run_47 rfl (lv_at hl 2 rfl) ?_
            refine lv_aload_n hx hb dX1_run_48 rfl (lv_at hl 0 rfl) ?_
            refine gM_shifts hx hb hts hown hK hP dX1_run_49 ?_
            refine lv_iload_n hx hb dX1_run_52 rfl (lv_at hl 3 rfl) ?_
            refine lM_shifts hx hb hK hP q rfl (by omega) dX1_run_53 ?_
            refine lv_iadd hx hb dX1_run_54 ?_
            refine kX1_badCell ⟨hx, hb, hml, hown, hts⟩ hK hP ((nI up) + (mh q))   ⟨by decide, by decide⟩ hl.1 (Nat.le_of_ble_eq_true rfl) dX1_run_55 ⟨Nat.zero_le _, Nat.zero_le _⟩ ?_
            refine lv_if_eq (tgt := 64) hx hb dX1_run_58 (by decide) (fun c_58 => ?_) (fun c_58 => ?_)
            · skip
              have c_58 := bI_0.mp c_58
              refine lv_iinc (v := (nI (q + 1))) (lv' := [(3, .int (nI (q + 1))), (0, .ref (a 0)), (1, .int (nI lo)), (2, .int (nI up))]) hx hb dX1_run_64 hl (k := 3) rfl (nI_inc _) (by decide) rfl (fun ls hl => ?_)
              refine lv_goto (tgt := 21) hx hb dX1_run_67 (by decide) ?_
              exact ih (q + 1)  (by omega) (by rw [hq]; simp [ouM, c_43, c_58]) ls (lv_sub hl [1, 2, 3, 0] rfl)
            · skip
              have c_58 := bI_n0.mp c_58
              refine lv_bipush (v := (-2)) hx hb dX1_run_61 (by decide) ?_
              exact hret _ mf _ _ _ _ (by have h9 : ouA (aM mh) (nI lo) (nI up) 0 N = true := (by rw [← ouM_eq N 0]; exact hq.trans (by simp [ouM, c_43, c_58])); simp [runG, c_5, c_13, h9]) hP hD hS dX1_run_63
      exact L21 (N * 3 - 0) 0  (by omega) rfl ls (lv_sub hl [1, 2, 3, 0] rfl)
    · skip
      have c_13 := bI_n0.mp c_13
      refine lv_bipush (v := (-5)) hx hb dX1_run_16 (by decide) ?_
      exact hret _ mf _ _ _ _ (by simp [runG, c_5, c_13]) hP hD hS dX1_run_18
end
section
/-! how the two systems stand to each other, and that every call keeps it and answers alike -/
def RelW (N : Nat) (fc po ra sf oc : Nat → Int32) (rd gs : Int32) (gr fi mo mq ma mh mf : Nat → Int32) : Prop :=
  N ≤ 4 ∧ (∀ j, j < 96 → fc j = mf j) ∧ (∀ s, s < N → mo s = po s ∧ mq s = oc s ∧ ∀ p, p < 3 → aM ma s p = aX ra s p ∧ aM mh s p = hX sf s p) ∧ VA (aX ra) N ∧ VH (hX sf) N ∧ (rd = 0 ∨ (rd = 1 ∧ PlanOK (aX ra) (hX sf) po N gs gr fi))
section RelRows
variable {N : Nat} {fc po ra sf oc : Nat → Int32} {rd gs : Int32} {gr fi mo mq ma mh mf : Nat → Int32}
theorem rel_VAM (h : RelW N fc po ra sf oc rd gs gr fi mo mq ma mh mf) : VA (aM ma) N ∧ VH (aM mh) N := by
  obtain ⟨-, -, h1, h2, h3, -⟩ := h
  refine ⟨fun x p hx hp => ?_, fun x p hx hp => ?_⟩
  · rw [((h1 x hx).2.2 p hp).1]; exact h2 x p hx hp
  · rw [((h1 x hx).2.2 p hp).2]; exact h3 x p hx hp
theorem rel_get (h : ∀ j, j < 96 → fc j = mf j) (v w : Int32) : gtG fc v w = gtG mf v w := by
  unfold gtG
  cases e1 : badA v
  · cases e2 : badC w
    · obtain ⟨j, hj, ej⟩ := ix_nat2 e1 e2
      rw [ej, nI_clamp (by omega), h j hj]
    · simp
  · simp
theorem rel_smF (h : ∀ j, j < 96 → fc j = mf j) {v : Int32} (hv : badA v = false) : ∀ k, k ≤ 32 → smF fc v k = smF mf v k
  | 0, _ => rfl
  | k + 1, hk => by
    obtain ⟨j, hj, ej⟩ := ix_nat (i := k) hv (by omega)
    simp only [smF]
    rw [ej, nI_clamp (by omega), h j hj, rel_smF h hv k (by omega)]
theorem rel_sum (h : ∀ j, j < 96 → fc j = mf j) (v : Int32) : smG fc v = smG mf v := by
  unfold smG
  cases e1 : badA v
  · simp only [Bool.false_eq_true, if_false]; exact rel_smF h e1 32 (by omega)
  · simp
theorem rel_dfF (h : ∀ j, j < 96 → fc j = mf j) {v w : Int32} (hv : badA v = false) (hw : badA w = false) : ∀ k, k ≤ 32 → dfF fc v w k = dfF mf v w k
  | 0, _ => rfl
  | k + 1, hk => by
    obtain ⟨j, hj, ej⟩ := ix_nat (i := k) hv (by omega)
    obtain ⟨j2, hj2, ej2⟩ := ix_nat (i := k) hw (by omega)
    simp only [dfF]
    rw [ej, ej2, nI_clamp (by omega), nI_clamp (by omega), h j hj, h j2 hj2, rel_dfF h hv hw k (by omega)]
theorem rel_differ (h : ∀ j, j < 96 → fc j = mf j) (v w : Int32) : dfG fc v w = dfG mf v w := by
  unfold dfG
  cases e1 : badA v
  · cases e2 : badA w
    · simp only [Bool.or_self, Bool.false_eq_true, if_false]; exact rel_dfF h e1 e2 32 (by omega)
    · simp
  · simp
theorem upd_ap (h : ∀ j, j < 96 → fc j = mf j) (k : Nat) (v : Int32) : ∀ j, j < 96 → upd fc k v j = upd mf k v j := by
  intro j hj
  unfold upd
  split
  · rfl
  · exact h j hj
theorem rel_set (h : ∀ j, j < 96 → fc j = mf j) {v w t r1 r2 : Int32} {u1 u2 : Nat → Int32} (e1 : (r1, u1) = setG fc v w t) (e2 : (r2, u2) = setG mf v w t) : r1 = r2 ∧ ∀ j, j < 96 → u1 j = u2 j := by
  unfold setG at e1 e2
  cases c1 : badA v
  · rw [c1] at e1 e2
    cases c2 : badC w
    · rw [c2] at e1 e2
      obtain ⟨j, hj, ej⟩ := ix_nat2 c1 c2
      rw [ej, nI_clamp (by omega)] at e1 e2
      obtain ⟨rfl, rfl⟩ := Prod.mk.inj e1
      obtain ⟨rfl, rfl⟩ := Prod.mk.inj e2
      exact ⟨h j hj, upd_ap h j t⟩
    · rw [c2] at e1 e2
      obtain ⟨rfl, rfl⟩ := Prod.mk.inj e1
      obtain ⟨rfl, rfl⟩ := Prod.mk.inj e2
      exact ⟨rfl, h⟩
  · rw [c1] at e1 e2
    obtain ⟨rfl, rfl⟩ := Prod.mk.inj e1
    obtain ⟨rfl, rfl⟩ := Prod.mk.inj e2
    exact ⟨rfl, h⟩
theorem rel_rpF (h : ∀ j, j < 96 → fc j = mf j) (v b t : Int32) : ∀ k, ∀ j, j < 96 → rpF fc v b t k j = rpF mf v b t k j
  | 0 => h
  | k + 1 => by
    simp only [rpF]
    exact upd_ap (rel_rpF h v b t k) _ _
theorem rel_ramp (h : ∀ j, j < 96 → fc j = mf j) {v b t r1 r2 : Int32} {u1 u2 : Nat → Int32} (e1 : (r1, u1) = rpG fc v b t) (e2 : (r2, u2) = rpG mf v b t) : r1 = r2 ∧ ∀ j, j < 96 → u1 j = u2 j := by
  unfold rpG at e1 e2
  cases c1 : badA v
  · rw [c1] at e1 e2
    obtain ⟨rfl, rfl⟩ := Prod.mk.inj e1
    obtain ⟨rfl, rfl⟩ := Prod.mk.inj e2
    exact ⟨rfl, rel_rpF h v b t 32⟩
  · rw [c1] at e1 e2
    obtain ⟨rfl, rfl⟩ := Prod.mk.inj e1
    obtain ⟨rfl, rfl⟩ := Prod.mk.inj e2
    exact ⟨rfl, h⟩
theorem mt_eq {a h a2 h2 : Nat → Nat → Int32} (hb : ∀ s, s < N → ∀ p, p < 3 → a2 s p = a s p ∧ h2 s p = h s p) {x y p q : Nat} {t : Int32} (hx : x < N) (hy : y < N) (hp : p < 3) (hq : q < 3) : mtG a2 h2 x p y q t = mtG a h x p y q t := by
  unfold mtG
  rw [(hb x hx p hp).1, (hb x hx p hp).2, (hb y hy q hq).1, (hb y hy q hq).2]
theorem pr_eq {a h a2 h2 : Nat → Nat → Int32} {po2 : Nat → Int32} (hb : ∀ s, s < N → ∀ p, p < 3 → a2 s p = a s p ∧ h2 s p = h s p) (ho : ∀ s, s < N → po2 s = po s) {x y : Nat} {t : Int32} (hx : x < N) (hy : y < N) : prG a2 h2 po2 x y t = prG a h po x y t := by
  unfold prG fdG spG rdG
  rw [mt_eq hb hx hy (by omega) (by omega), mt_eq hb hx hy (by omega) (by omega), mt_eq hb hx hy (by omega) (by omega), mt_eq hb hx hy (by omega) (by omega), mt_eq hb hx hy (by omega) (by omega), ho x hx, ho y hy]
theorem rel_must (h : RelW N fc po ra sf oc rd gs gr fi mo mq ma mh mf) (v w t : Int32) : mpG (aX ra) (hX sf) po (nI N) v w t = mpG (aM ma) (aM mh) mo (nI N) v w t := by
  obtain ⟨hN, -, h1, -⟩ := h
  unfold mpG
  cases c1 : noSt (nI N) v
  · cases c2 : noSt (nI N) w
    · obtain ⟨x, hx, rfl⟩ := noSt_nat hN c1
      obtain ⟨y, hy, rfl⟩ := noSt_nat hN c2
      rw [nI_clamp (by omega), nI_clamp (by omega)]
      rw [pr_eq (a := aX ra) (h := hX sf) (po := po) (a2 := aM ma) (h2 := aM mh) (po2 := mo) (fun s hs p hp => (h1 s hs).2.2 p hp) (fun s hs => (h1 s hs).1) hx hy]
    · simp
  · simp
theorem ou_eq {h h2 : Nat → Nat → Int32} {v w : Int32} : ∀ (n x : Nat), (∀ s, x ≤ s → s < x + n → ∀ p, p < 3 → h2 s p = h s p) → ouA h2 v w x n = ouA h v w x n
  | 0, _, _ => rfl
  | n + 1, x, hb => by
    simp only [ouA, ouG]
    rw [hb x (by omega) (by omega) 0 (by omega), hb x (by omega) (by omega) 1 (by omega), hb x (by omega) (by omega) 2 (by omega), ou_eq n (x + 1) (fun s h1 h2 => hb s (by omega) (by omega))]
theorem st_eq {a h a2 h2 : Nat → Nat → Int32} {po2 oc2 : Nat → Int32} {x : Nat} (hb : ∀ p, p < 3 → a2 x p = a x p ∧ h2 x p = h x p) (ho : po2 x = po x) (hc : oc2 x = oc x) (i : Nat) (f : Nat → Int32) : stG a2 h2 po2 oc2 x i f = stG a h po oc x i f := by
  unfold stG reG ixN ixG
  rw [(hb 0 (by omega)).1, (hb 0 (by omega)).2, (hb 1 (by omega)).1, (hb 1 (by omega)).2, (hb 2 (by omega)).1, (hb 2 (by omega)).2, ho, hc]
theorem st_ap {a h : Nat → Nat → Int32} {x i : Nat} (ok : okG a h x i) {f g : Nat → Int32} (hf : ∀ j, j < 96 → f j = g j) : ∀ j, j < 96 → stG a h po oc x i f j = stG a h po oc x i g j := by
  unfold stG reG
  rw [hf _ (okG_eq (p := 1) ok (by omega)).2, hf _ (okG_eq (p := 2) ok (by omega)).2]
  exact upd_ap hf _ _
theorem rw_ap {st : Nat → Nat → (Nat → Int32) → (Nat → Int32)} {P : Nat → Bool} {i : Nat} : ∀ (n x : Nat) (f g : Nat → Int32), (∀ t, x ≤ t → t < x + n → ∀ f g : Nat → Int32, (∀ j, j < 96 → f j = g j) → ∀ j, j < 96 → st t i f j = st t i g j) → (∀ j, j < 96 → f j = g j) → ∀ j, j < 96 → rwF st P i x n f j = rwF st P i x n g j
  | 0, _, _, _, _, hf => hf
  | n + 1, x, f, g, hs, hf => by
    simp only [rwF]
    refine rw_ap n (x + 1) _ _ (fun t h1 h2 => hs t (by omega) (by omega)) ?_
    split
    · exact hs x (by omega) (by omega) f g hf
    · exact hf
theorem rn_ap {st : Nat → Nat → (Nat → Int32) → (Nat → Int32)} {P : Nat → Bool} {M : Nat} : ∀ (n i : Nat) (f g : Nat → Int32), (∀ t k, t < M → i ≤ k → k < i + n → ∀ f g : Nat → Int32, (∀ j, j < 96 → f j = g j) → ∀ j, j < 96 → st t k f j = st t k g j) → (∀ j, j < 96 → f j = g j) → ∀ j, j < 96 → rnF st P M i n f j = rnF st P M i n g j
  | 0, _, _, _, _, hf => hf
  | n + 1, i, f, g, hs, hf => by
    simp only [rnF]
    exact rn_ap n (i + 1) _ _ (fun t k h1 h2 h3 => hs t k h1 (by omega) (by omega)) (rw_ap M 0 f g (fun t h1 h2 => hs t i (by omega) (by omega) (by omega)) hf)
theorem rel_run (h : RelW N fc po ra sf oc rd gs gr fi mo mq ma mh mf) {v w r1 r2 : Int32} {u1 u2 : Nat → Int32} (e1 : (r1, u1) = runG (aX ra) (hX sf) po oc N v w fc) (e2 : (r2, u2) = runG (aM ma) (aM mh) mo mq N v w mf) : r1 = r2 ∧ ∀ j, j < 96 → u1 j = u2 j := by
  obtain ⟨hN, hf, h1, hA, hH, -⟩ := h
  unfold runG at e1 e2
  rw [ou_eq (h := hX sf) (h2 := aM mh) N 0 (fun s _ h3 p hp => ((h1 s (by omega)).2.2 p hp).2)] at e2
  cases c1 : badC v
  · cases c2 : badC w
    · obtain ⟨lo, hlo, rfl⟩ := badC_nat c1
      obtain ⟨up, hup, rfl⟩ := badC_nat c2
      rw [c1, c2, nI_clamp (show lo < 2 ^ 31 by omega), nI_clamp (show up < 2 ^ 31 by omega)] at e1 e2
      cases c3 : ouA (hX sf) (nI lo) (nI up) 0 N
      · rw [c3] at e1 e2
        by_cases c4 : nI up < nI lo
        · rw [if_neg (by decide), if_neg (by decide), if_pos c4] at e1 e2
          obtain ⟨rfl, rfl⟩ := Prod.mk.inj e1
          obtain ⟨rfl, rfl⟩ := Prod.mk.inj e2
          exact ⟨rfl, hf⟩
        · rw [if_neg (by decide), if_neg (by decide), if_neg c4] at e1 e2
          obtain ⟨rfl, rfl⟩ := Prod.mk.inj e1
          obtain ⟨rfl, rfl⟩ := Prod.mk.inj e2
          refine ⟨rfl, ?_⟩
          have hI := ouA_IR c3
          have hle : lo ≤ up := by
            rcases Nat.lt_or_ge up lo with q | q
            · exact absurd (nI_lt q (by omega)) c4
            · exact q
          rw [rnF_congr (st := stG (aM ma) (aM mh) mo mq) (st2 := stG (aX ra) (hX sf) po oc) (P := fun _ => true) (Q := fun _ => true) (N := N) _ _ _ (fun t j ht _ _ => ⟨rfl, fun g => st_eq (fun p hp => (h1 t ht).2.2 p hp) (h1 t ht).1 (h1 t ht).2.1 j g⟩)]
          exact rn_ap _ _ _ _ (fun t k ht h2 h3 f g hfg => st_ap (ix_ok hA hH hI hup ht h2 (by omega)) hfg) hf
      · rw [c3] at e1 e2
        obtain ⟨rfl, rfl⟩ := Prod.mk.inj e1
        obtain ⟨rfl, rfl⟩ := Prod.mk.inj e2
        exact ⟨rfl, hf⟩
    · rw [c1, c2] at e1 e2
      obtain ⟨rfl, rfl⟩ := Prod.mk.inj e1
      obtain ⟨rfl, rfl⟩ := Prod.mk.inj e2
      exact ⟨rfl, hf⟩
  · rw [c1] at e1 e2
    obtain ⟨rfl, rfl⟩ := Prod.mk.inj e1
    obtain ⟨rfl, rfl⟩ := Prod.mk.inj e2
    exact ⟨rfl, hf⟩
theorem badS_nat {y : Int32} (h : badS ((y &&& 15) - 4) = false) : ∃ j, j ≤ 8 ∧ (y &&& 15) - 4 = nI j - 4 := by
  obtain ⟨j, hj, e⟩ := pk_andE y (m := 15) 4 (by decide)
  rw [e] at h ⊢
  have h2 : ∀ j, j < 16 → badS (nI j - 4) = false → j ≤ 8 := by decide +kernel
  exact ⟨j, h2 j hj h, rfl⟩
theorem upd3_lt {f : Nat → Int32} {M : Nat} {x y z : Int32} {k : Nat} (hk : k < M * 3) : upd3 f M x y z k = f k := by
  unfold upd3
  rw [pk_un (by omega), pk_un (by omega), pk_un (by omega)]
theorem upd3_at {f : Nat → Int32} {M : Nat} {x y z : Int32} : upd3 f M x y z (M * 3 + 0) = x ∧ upd3 f M x y z (M * 3 + 1) = y ∧ upd3 f M x y z (M * 3 + 2) = z := by
  unfold upd3
  refine ⟨?_, ?_, ?_⟩
  · rw [pk_un (by omega), pk_un (by omega), pk_us]
  · rw [pk_un (by omega), pk_us]
  · rw [pk_us]
theorem rel_smt (h : RelW N fc po ra sf oc rd gs gr fi mo mq ma mh mf) {v w b t r1 r2 : Int32} {u1 : XB} {u2 : MB} (e1 : (r1, u1) = smtG N (nI N, rd, po, ra, sf, oc) v w b t) (e2 : (r2, u2) = smtM N (nI N, mo, mq, ma, mh) v w b t) :
    r1 = r2 ∧ ∃ M, u1.1 = nI M ∧ u2.1 = nI M ∧ RelW M fc u1.2.2.1 u1.2.2.2.1 u1.2.2.2.2.1 u1.2.2.2.2.2 u1.2.1 gs gr fi u2.2.1 u2.2.2.1 u2.2.2.2.1 u2.2.2.2.2 mf := by
  have h0 := h
  obtain ⟨hN, hf, h1, hA, hH, hp⟩ := h
  unfold smtG at e1
  unfold smtM at e2
  cases c1 : bad3A w
  · rw [c1] at e1 e2
    cases c2 : bad3S b
    · rw [c2] at e1 e2
      cases c3 : badO v
      · rw [c3] at e1 e2
        by_cases c4 : 4 ≤ N
        · rw [if_neg (by decide), if_neg (by decide), if_neg (by decide), if_pos c4] at e1 e2
          obtain ⟨rfl, rfl⟩ := Prod.mk.inj e1
          obtain ⟨rfl, rfl⟩ := Prod.mk.inj e2
          exact ⟨rfl, N, rfl, rfl, h0⟩
        · rw [if_neg (by decide), if_neg (by decide), if_neg (by decide), if_neg c4] at e1 e2
          obtain ⟨rfl, rfl⟩ := Prod.mk.inj e1
          obtain ⟨rfl, rfl⟩ := Prod.mk.inj e2
          refine ⟨rfl, N + 1, rfl, rfl, by omega, hf, ?_, ?_, ?_, Or.inl rfl⟩
          · intro s hs
            by_cases es : s = N
            · subst es
              refine ⟨by dsimp only; rw [pk_us, pk_us], by dsimp only; rw [pk_us, pk_us], fun p hp => ?_⟩
              obtain ⟨g0, g1, g2⟩ := upd3_at (f := ma) (M := s) (x := arI w 0) (y := arI w 1) (z := arI w 2)
              obtain ⟨k0, k1, k2⟩ := upd3_at (f := mh) (M := s) (x := shI b 0) (y := shI b 1) (z := shI b 2)
              unfold aM aX hX
              dsimp only
              rw [pk_us, pk_us]
              rcases (show p = 0 ∨ p = 1 ∨ p = 2 by omega) with rfl | rfl | rfl
              · exact ⟨g0, k0⟩
              · exact ⟨g1, k1⟩
              · exact ⟨g2, k2⟩
            · obtain ⟨g1, g2, g3⟩ := h1 s (by omega)
              refine ⟨by dsimp only; rw [pk_un es, pk_un es]; exact g1, by dsimp only; rw [pk_un es, pk_un es]; exact g2, fun p hp => ?_⟩
              have g4 := g3 p hp
              unfold aM aX hX at g4 ⊢
              dsimp only
              rw [upd3_lt (by omega), upd3_lt (by omega), pk_un es, pk_un es]
              exact g4
          · intro x p hx hp
            by_cases es : x = N
            · subst es
              unfold aX
              dsimp only
              rw [pk_us]
              unfold bad3A at c1
              simp only [Bool.or_eq_false_iff] at c1
              rcases (show p = 0 ∨ p = 1 ∨ p = 2 by omega) with rfl | rfl | rfl
              · exact badA_nat c1.1
              · exact badA_nat c1.2.1
              · exact badA_nat c1.2.2
            · have g := hA x p (by omega) hp
              unfold aX at g ⊢
              dsimp only
              rw [pk_un es]
              exact g
          · intro x p hx hp
            by_cases es : x = N
            · subst es
              unfold hX
              dsimp only
              rw [pk_us]
              unfold bad3S at c2
              simp only [Bool.or_eq_false_iff] at c2
              rcases (show p = 0 ∨ p = 1 ∨ p = 2 by omega) with rfl | rfl | rfl
              · exact badS_nat c2.1
              · exact badS_nat c2.2.1
              · exact badS_nat c2.2.2
            · have g := hH x p (by omega) hp
              unfold hX at g ⊢
              dsimp only
              rw [pk_un es]
              exact g
      · rw [c3] at e1 e2
        obtain ⟨rfl, rfl⟩ := Prod.mk.inj e1
        obtain ⟨rfl, rfl⟩ := Prod.mk.inj e2
        exact ⟨rfl, N, rfl, rfl, h0⟩
    · rw [c2] at e1 e2
      obtain ⟨rfl, rfl⟩ := Prod.mk.inj e1
      obtain ⟨rfl, rfl⟩ := Prod.mk.inj e2
      exact ⟨rfl, N, rfl, rfl, h0⟩
  · rw [c1] at e1 e2
    obtain ⟨rfl, rfl⟩ := Prod.mk.inj e1
    obtain ⟨rfl, rfl⟩ := Prod.mk.inj e2
    exact ⟨rfl, N, rfl, rfl, h0⟩
def piN (x y s : Nat) : Nat := if s = y then x else if s = x then y else s
theorem swF_pi {f : Nat → Int32} {x y s : Nat} : swF f x y s = f (piN x y s) := by
  unfold swF piN
  by_cases e1 : s = y
  · subst e1; rw [pk_us, if_pos rfl]
  · rw [pk_un e1, if_neg e1]
    by_cases e2 : s = x
    · subst e2; rw [pk_us, if_pos rfl]
    · rw [pk_un e2, if_neg e2]
theorem sw3_pi {f : Nat → Int32} {x y s p : Nat} (hp : p < 3) : sw3 f x y (s * 3 + p) = f (piN x y s * 3 + p) := by
  unfold sw3
  rw [swF_pi, swF_pi, swF_pi]
  congr 1
  unfold piN
  by_cases e1 : s = y
  · subst e1
    rcases (show p = 0 ∨ p = 1 ∨ p = 2 by omega) with rfl | rfl | rfl <;> (repeat' split) <;> omega
  · by_cases e2 : s = x
    · subst e2
      rcases (show p = 0 ∨ p = 1 ∨ p = 2 by omega) with rfl | rfl | rfl <;> (repeat' split) <;> omega
    · rcases (show p = 0 ∨ p = 1 ∨ p = 2 by omega) with rfl | rfl | rfl <;> (repeat' split) <;> omega
theorem rel_ex (h : RelW N fc po ra sf oc rd gs gr fi mo mq ma mh mf) {v w r1 r2 : Int32} {u1 : XB} {u2 : MB} (e1 : (r1, u1) = exG N (nI N, rd, po, ra, sf, oc) v w) (e2 : (r2, u2) = exM N (nI N, mo, mq, ma, mh) v w) :
    r1 = r2 ∧ ∃ M, u1.1 = nI M ∧ u2.1 = nI M ∧ RelW M fc u1.2.2.1 u1.2.2.2.1 u1.2.2.2.2.1 u1.2.2.2.2.2 u1.2.1 gs gr fi u2.2.1 u2.2.2.1 u2.2.2.2.1 u2.2.2.2.2 mf := by
  have h0 := h
  obtain ⟨hN, hf, h1, hA, hH, hp⟩ := h
  unfold exG at e1
  unfold exM at e2
  cases c1 : noSt (nI N) v
  · cases c2 : noSt (nI N) w
    · rw [c1, c2] at e1 e2
      obtain ⟨x, hx, rfl⟩ := noSt_nat hN c1
      obtain ⟨y, hy, rfl⟩ := noSt_nat hN c2
      rw [nI_clamp (show x < 2 ^ 31 by omega), nI_clamp (show y < 2 ^ 31 by omega)] at e1 e2
      obtain ⟨rfl, rfl⟩ := Prod.mk.inj e1
      obtain ⟨rfl, rfl⟩ := Prod.mk.inj e2
      have hpi : ∀ s, s < N → piN x y s < N := by
        intro s hs
        unfold piN
        split
        · exact hx
        · split
          · exact hy
          · exact hs
      refine ⟨rfl, N, rfl, rfl, hN, hf, ?_, ?_, ?_, Or.inl rfl⟩
      · intro s hs
        obtain ⟨g1, g2, g3⟩ := h1 (piN x y s) (hpi s hs)
        refine ⟨by dsimp only; rw [swF_pi, swF_pi]; exact g1, by dsimp only; rw [swF_pi, swF_pi]; exact g2, fun p hp => ?_⟩
        have g4 := g3 p hp
        unfold aM aX hX at g4 ⊢
        dsimp only
        rw [sw3_pi hp, sw3_pi hp, swF_pi, swF_pi]
        exact g4
      · intro s p hs hp
        have g := hA (piN x y s) p (hpi s hs) hp
        unfold aX at g ⊢
        dsimp only
        rw [swF_pi]
        exact g
      · intro s p hs hp
        have g := hH (piN x y s) p (hpi s hs) hp
        unfold hX at g ⊢
        dsimp only
        rw [swF_pi]
        exact g
    · rw [c1, c2] at e1 e2
      obtain ⟨rfl, rfl⟩ := Prod.mk.inj e1
      obtain ⟨rfl, rfl⟩ := Prod.mk.inj e2
      exact ⟨rfl, N, rfl, rfl, h0⟩
  · rw [c1] at e1 e2
    obtain ⟨rfl, rfl⟩ := Prod.mk.inj e1
    obtain ⟨rfl, rfl⟩ := Prod.mk.inj e2
    exact ⟨rfl, N, rfl, rfl, h0⟩
end RelRows
end
section
/-! the constructors (printed by gen/p24.py) -/
abbrev rmX0_init : Room := { frames := 1, cells := 9, slots := 128, locals := 12 }
set_option maxHeartbeats 4000000 in
set_option maxRecDepth 100000 in
theorem mX0_init (l : Launch) (D : va_G) (h0 sz : Nat) : Met l yX0_init (ws_ yX0_init cX0_init 1 none) rmX0_init (va_Pc [.ref h0] (iB D [] [(h0, .inr (0, [.null, .int 0, .null, .null, .null, .null, .int 0, .null, .int 0, .null, .null, .null]))] sz)) (va_Qv (fun u : (Nat → Nat) × (Nat → ClassId) => u.1 0 = h0) (fun u t => va_P D vwCl (WX u.1 u.2 (fun _ => 0) 0 (fun _ => 0) (fun _ => 0) (fun _ => 0) (fun _ => 0) 0 (fun _ => 0) 0 (fun _ => 0) (fun _ => 0) (fun _ => 0)) t.heap ∧ va_K D vwCl (tyX u.2) t ∧ va_D (va_A [(h0, .inr (0, [.null, .int 0, .null, .null, .null, .null, .int 0, .null, .int 0, .null, .null, .null]))] sz) (WX u.1 u.2 (fun _ => 0) 0 (fun _ => 0) (fun _ => 0) (fun _ => 0) (fun _ => 0) 0 (fun _ => 0) 0 (fun _ => 0) (fun _ => 0) (fun _ => 0))) (va_A [(h0, .inr (0, [.null, .int 0, .null, .null, .null, .null, .int 0, .null, .int 0, .null, .null, .null]))] sz)) 9 128 (va_A [(h0, .inr (0, [.null, .int 0, .null, .null, .null, .null, .int 0, .null, .int 0, .null, .null, .null]))] sz) := by
  refine metM (by decide) (Nat.le_of_ble_eq_true rfl) ?_
  intro p e s m below meth c hx hb hr hml hown hts hlk hin hB ls hl
  obtain ⟨hsz, hP, hK, hD0⟩ := hB
  have hin : meth.name = "<init>" := hin
  have hown : s.vm.findClass RX0 = some m.cls := hown
  subst hsz
  have hD := hD0.self (sz := s.heap.size)
  generalize hAe : va_A [(h0, .inr (0, [.null, .int 0, .null, .null, .null, .null, .int 0, .null, .int 0, .null, .null, .null]))] s.heap.size = A at hD ⊢
  have hA : ∀ q : Nat, s.heap.size ≤ q → A q := fun q h => by rw [← hAe]; exact Or.inr h
  have hS : va_S A s.heap s.heap [] := va_S.rf
  have hl : lv_has ls 1 [(0, .ref h0)] := hl
  refine lv_aload_n hx hb dX0_init_0 rfl (lv_at hl 0 rfl) ?_
  refine W.objInit hx hb hown (hts _ q35) (hts _ q36) (hts _ q37) rfl (by rw [hml]; exact hl.1) rfl dX0_init_1 (Nat.le_of_ble_eq_true rfl) (Nat.le_of_ble_eq_true rfl) ?_
  refine W.eq (g2 := F0 m 4 ls []) rfl ?_
  refine lv_aload_n hx hb dX0_init_4 rfl (lv_at hl 0 rfl) ?_
  refine lv_bipush (v := 96) hx hb dX0_init_5 (by decide) ?_
  refine va_newa (atype := .int) (ty := .int) (N' := 96) (a0 := (96, .inl (fun _ => 0))) hx hb (hts _ q75) rfl hK hP hD hS hA (fun _ => rfl) (by decide) (by decide) (by decide) (Nat.le_of_ble_eq_true rfl) (Nat.le_of_ble_eq_true rfl) dX0_init_7 (fun q1 c1 H hK hP hD hS => ?_)
  have hP : va_P D vwCl [(h0, .inr (0, [.null, .int 0, .null, .null, .null, .null, .int 0, .null, .int 0, .null, .null, .null])), (q1, .inl (c1, 96, .inl (fun _ => 0)))] H := hP
  have hD : va_D A [(h0, .inr (0, [.null, .int 0, .null, .null, .null, .null, .int 0, .null, .int 0, .null, .null, .null])), (q1, .inl (c1, 96, .inl (fun _ => 0)))] := hD
  refine va_putF (D := D) (ci := 0) (v := .ref q1) (ty := .array .int) (C := RX0) (T := TX0) (N := 12) hx hb hts in_X0 tyX0 tyX0_ok nmX0 hown hK hP hD hS 0 rfl rfl 0 (by decide) (hts _ q38) (fun _ h9 => h9) rfl hin rfl (by decide +kernel) rfl rfl (Nat.le_of_ble_eq_true rfl) dX0_init_9 (fun H locs hP hD hS => ?_)
  have hP : va_P D vwCl [(h0, .inr (0, [.ref q1, .int 0, .null, .null, .null, .null, .int 0, .null, .int 0, .null, .null, .null])), (q1, .inl (c1, 96, .inl (fun _ => 0)))] H := hP
  have hD : va_D A [(h0, .inr (0, [.ref q1, .int 0, .null, .null, .null, .null, .int 0, .null, .int 0, .null, .null, .null])), (q1, .inl (c1, 96, .inl (fun _ => 0)))] := hD
  refine lv_aload_n hx hb dX0_init_12 rfl (lv_at hl 0 rfl) ?_
  refine lv_iconst (v := 4) hx hb dX0_init_13 (by decide) ?_
  refine va_newa (atype := .int) (ty := .int) (N' := 4) (a0 := (4, .inl (fun _ => 0))) hx hb (hts _ q75) rfl hK hP hD hS hA (fun _ => rfl) (by decide) (by decide) (by decide) (Nat.le_of_ble_eq_true rfl) (Nat.le_of_ble_eq_true rfl) dX0_init_14 (fun q2 c2 H hK hP hD hS => ?_)
  have hP : va_P D vwCl [(h0, .inr (0, [.ref q1, .int 0, .null, .null, .null, .null, .int 0, .null, .int 0, .null, .null, .null])), (q1, .inl (c1, 96, .inl (fun _ => 0))), (q2, .inl (c2, 4, .inl (fun _ => 0)))] H := hP
  have hD : va_D A [(h0, .inr (0, [.ref q1, .int 0, .null, .null, .null, .null, .int 0, .null, .int 0, .null, .null, .null])), (q1, .inl (c1, 96, .inl (fun _ => 0))), (q2, .inl (c2, 4, .inl (fun _ => 0)))] := hD
  refine va_putF (D := D) (ci := 0) (v := .ref q2) (ty := .array .int) (C := RX0) (T := TX0) (N := 12) hx hb hts in_X0 tyX0 tyX0_ok nmX0 hown hK hP hD hS 0 rfl rfl 2 (by decide) (hts _ q40) (fun _ h9 => h9) rfl hin rfl (by decide +kernel) rfl rfl (Nat.le_of_ble_eq_true rfl) dX0_init_16 (fun H locs hP hD hS => ?_)
  have hP : va_P D vwCl [(h0, .inr (0, [.ref q1, .int 0, .ref q2, .null, .null, .null, .int 0, .null, .int 0, .null, .null, .null])), (q1, .inl (c1, 96, .inl (fun _ => 0))), (q2, .inl (c2, 4, .inl (fun _ => 0)))] H := hP
  have hD : va_D A [(h0, .inr (0, [.ref q1, .int 0, .ref q2, .null, .null, .null, .int 0, .null, .int 0, .null, .null, .null])), (q1, .inl (c1, 96, .inl (fun _ => 0))), (q2, .inl (c2, 4, .inl (fun _ => 0)))] := hD
  refine lv_aload_n hx hb dX0_init_19 rfl (lv_at hl 0 rfl) ?_
  refine lv_iconst (v := 4) hx hb dX0_init_20 (by decide) ?_
  refine va_newa (atype := .int) (ty := .int) (N' := 4) (a0 := (4, .inl (fun _ => 0))) hx hb (hts _ q75) rfl hK hP hD hS hA (fun _ => rfl) (by decide) (by decide) (by decide) (Nat.le_of_ble_eq_true rfl) (Nat.le_of_ble_eq_true rfl) dX0_init_21 (fun q3 c3 H hK hP hD hS => ?_)
  have hP : va_P D vwCl [(h0, .inr (0, [.ref q1, .int 0, .ref q2, .null, .null, .null, .int 0, .null, .int 0, .null, .null, .null])), (q1, .inl (c1, 96, .inl (fun _ => 0))), (q2, .inl (c2, 4, .inl (fun _ => 0))), (q3, .inl (c3, 4, .inl (fun _ => 0)))] H := hP
  have hD : va_D A [(h0, .inr (0, [.ref q1, .int 0, .ref q2, .null, .null, .null, .int 0, .null, .int 0, .null, .null, .null])), (q1, .inl (c1, 96, .inl (fun _ => 0))), (q2, .inl (c2, 4, .inl (fun _ => 0))), (q3, .inl (c3, 4, .inl (fun _ => 0)))] := hD
  refine va_putF (D := D) (ci := 0) (v := .ref q3) (ty := .array .int) (C := RX0) (T := TX0) (N := 12) hx hb hts in_X0 tyX0 tyX0_ok nmX0 hown hK hP hD hS 0 rfl rfl 3 (by decide) (hts _ q41) (fun _ h9 => h9) rfl hin rfl (by decide +kernel) rfl rfl (Nat.le_of_ble_eq_true rfl) dX0_init_23 (fun H locs hP hD hS => ?_)
  have hP : va_P D vwCl [(h0, .inr (0, [.ref q1, .int 0, .ref q2, .ref q3, .null, .null, .int 0, .null, .int 0, .null, .null, .null])), (q1, .inl (c1, 96, .inl (fun _ => 0))), (q2, .inl (c2, 4, .inl (fun _ => 0))), (q3, .inl (c3, 4, .inl (fun _ => 0)))] H := hP
  have hD : va_D A [(h0, .inr (0, [.ref q1, .int 0, .ref q2, .ref q3, .null, .null, .int 0, .null, .int 0, .null, .null, .null])), (q1, .inl (c1, 96, .inl (fun _ => 0))), (q2, .inl (c2, 4, .inl (fun _ => 0))), (q3, .inl (c3, 4, .inl (fun _ => 0)))] := hD
  refine lv_aload_n hx hb dX0_init_26 rfl (lv_at hl 0 rfl) ?_
  refine lv_iconst (v := 4) hx hb dX0_init_27 (by decide) ?_
  refine va_newa (atype := .int) (ty := .int) (N' := 4) (a0 := (4, .inl (fun _ => 0))) hx hb (hts _ q75) rfl hK hP hD hS hA (fun _ => rfl) (by decide) (by decide) (by decide) (Nat.le_of_ble_eq_true rfl) (Nat.le_of_ble_eq_true rfl) dX0_init_28 (fun q4 c4 H hK hP hD hS => ?_)
  have hP : va_P D vwCl [(h0, .inr (0, [.ref q1, .int 0, .ref q2, .ref q3, .null, .null, .int 0, .null, .int 0, .null, .null, .null])), (q1, .inl (c1, 96, .inl (fun _ => 0))), (q2, .inl (c2, 4, .inl (fun _ => 0))), (q3, .inl (c3, 4, .inl (fun _ => 0))), (q4, .inl (c4, 4, .inl (fun _ => 0)))] H := hP
  have hD : va_D A [(h0, .inr (0, [.ref q1, .int 0, .ref q2, .ref q3, .null, .null, .int 0, .null, .int 0, .null, .null, .null])), (q1, .inl (c1, 96, .inl (fun _ => 0))), (q2, .inl (c2, 4, .inl (fun _ => 0))), (q3, .inl (c3, 4, .inl (fun _ => 0))), (q4, .inl (c4, 4, .inl (fun _ => 0)))] := hD
  refine va_putF (D := D) (ci := 0) (v := .ref q4) (ty := .array .int) (C := RX0) (T := TX0) (N := 12) hx hb hts in_X0 tyX0 tyX0_ok nmX0 hown hK hP hD hS 0 rfl rfl 4 (by decide) (hts _ q42) (fun _ h9 => h9) rfl hin rfl (by decide +kernel) rfl rfl (Nat.le_of_ble_eq_true rfl) dX0_init_30 (fun H locs hP hD hS => ?_)
  have hP : va_P D vwCl [(h0, .inr (0, [.ref q1, .int 0, .ref q2, .ref q3, .ref q4, .null, .int 0, .null, .int 0, .null, .null, .null])), (q1, .inl (c1, 96, .inl (fun _ => 0))), (q2, .inl (c2, 4, .inl (fun _ => 0))), (q3, .inl (c3, 4, .inl (fun _ => 0))), (q4, .inl (c4, 4, .inl (fun _ => 0)))] H := hP
  have hD : va_D A [(h0, .inr (0, [.ref q1, .int 0, .ref q2, .ref q3, .ref q4, .null, .int 0, .null, .int 0, .null, .null, .null])), (q1, .inl (c1, 96, .inl (fun _ => 0))), (q2, .inl (c2, 4, .inl (fun _ => 0))), (q3, .inl (c3, 4, .inl (fun _ => 0))), (q4, .inl (c4, 4, .inl (fun _ => 0)))] := hD
  refine lv_aload_n hx hb dX0_init_33 rfl (lv_at hl 0 rfl) ?_
  refine lv_iconst (v := 4) hx hb dX0_init_34 (by decide) ?_
  refine va_newa (atype := .int) (ty := .int) (N' := 4) (a0 := (4, .inl (fun _ => 0))) hx hb (hts _ q75) rfl hK hP hD hS hA (fun _ => rfl) (by decide) (by decide) (by decide) (Nat.le_of_ble_eq_true rfl) (Nat.le_of_ble_eq_true rfl) dX0_init_35 (fun q5 c5 H hK hP hD hS => ?_)
  have hP : va_P D vwCl [(h0, .inr (0, [.ref q1, .int 0, .ref q2, .ref q3, .ref q4, .null, .int 0, .null, .int 0, .null, .null, .null])), (q1, .inl (c1, 96, .inl (fun _ => 0))), (q2, .inl (c2, 4, .inl (fun _ => 0))), (q3, .inl (c3, 4, .inl (fun _ => 0))), (q4, .inl (c4, 4, .inl (fun _ => 0))), (q5, .inl (c5, 4, .inl (fun _ => 0)))] H := hP
  have hD : va_D A [(h0, .inr (0, [.ref q1, .int 0, .ref q2, .ref q3, .ref q4, .null, .int 0, .null, .int 0, .null, .null, .null])), (q1, .inl (c1, 96, .inl (fun _ => 0))), (q2, .inl (c2, 4, .inl (fun _ => 0))), (q3, .inl (c3, 4, .inl (fun _ => 0))), (q4, .inl (c4, 4, .inl (fun _ => 0))), (q5, .inl (c5, 4, .inl (fun _ => 0)))] := hD
  refine va_putF (D := D) (ci := 0) (v := .ref q5) (ty := .array .int) (C := RX0) (T := TX0) (N := 12) hx hb hts in_X0 tyX0 tyX0_ok nmX0 hown hK hP hD hS 0 rfl rfl 5 (by decide) (hts _ q43) (fun _ h9 => h9) rfl hin rfl (by decide +kernel) rfl rfl (Nat.le_of_ble_eq_true rfl) dX0_init_37 (fun H locs hP hD hS => ?_)
  have hP : va_P D vwCl [(h0, .inr (0, [.ref q1, .int 0, .ref q2, .ref q3, .ref q4, .ref q5, .int 0, .null, .int 0, .null, .null, .null])), (q1, .inl (c1, 96, .inl (fun _ => 0))), (q2, .inl (c2, 4, .inl (fun _ => 0))), (q3, .inl (c3, 4, .inl (fun _ => 0))), (q4, .inl (c4, 4, .inl (fun _ => 0))), (q5, .inl (c5, 4, .inl (fun _ => 0)))] H := hP
  have hD : va_D A [(h0, .inr (0, [.ref q1, .int 0, .ref q2, .ref q3, .ref q4, .ref q5, .int 0, .null, .int 0, .null, .null, .null])), (q1, .inl (c1, 96, .inl (fun _ => 0))), (q2, .inl (c2, 4, .inl (fun _ => 0))), (q3, .inl (c3, 4, .inl (fun _ => 0))), (q4, .inl (c4, 4, .inl (fun _ => 0))), (q5, .inl (c5, 4, .inl (fun _ => 0)))] := hD
  refine lv_aload_n hx hb dX0_init_40 rfl (lv_at hl 0 rfl) ?_
  refine lv_iconst (v := 4) hx hb dX0_init_41 (by decide) ?_
  refine va_newa (atype := .int) (ty := .int) (N' := 4) (a0 := (4, .inl (fun _ => 0))) hx hb (hts _ q75) rfl hK hP hD hS hA (fun _ => rfl) (by decide) (by decide) (by decide) (Nat.le_of_ble_eq_true rfl) (Nat.le_of_ble_eq_true rfl) dX0_init_42 (fun q6 c6 H hK hP hD hS => ?_)
  have hP : va_P D vwCl [(h0, .inr (0, [.ref q1, .int 0, .ref q2, .ref q3, .ref q4, .ref q5, .int 0, .null, .int 0, .null, .null, .null])), (q1, .inl (c1, 96, .inl (fun _ => 0))), (q2, .inl (c2, 4, .inl (fun _ => 0))), (q3, .inl (c3, 4, .inl (fun _ => 0))), (q4, .inl (c4, 4, .inl (fun _ => 0))), (q5, .inl (c5, 4, .inl (fun _ => 0))), (q6, .inl (c6, 4, .inl (fun _ => 0)))] H := hP
  have hD : va_D A [(h0, .inr (0, [.ref q1, .int 0, .ref q2, .ref q3, .ref q4, .ref q5, .int 0, .null, .int 0, .null, .null, .null])), (q1, .inl (c1, 96, .inl (fun _ => 0))), (q2, .inl (c2, 4, .inl (fun _ => 0))), (q3, .inl (c3, 4, .inl (fun _ => 0))), (q4, .inl (c4, 4, .inl (fun _ => 0))), (q5, .inl (c5, 4, .inl (fun _ => 0))), (q6, .inl (c6, 4, .inl (fun _ => 0)))] := hD
  refine va_putF (D := D) (ci := 0) (v := .ref q6) (ty := .array .int) (C := RX0) (T := TX0) (N := 12) hx hb hts in_X0 tyX0 tyX0_ok nmX0 hown hK hP hD hS 0 rfl rfl 7 (by decide) (hts _ q45) (fun _ h9 => h9) rfl hin rfl (by decide +kernel) rfl rfl (Nat.le_of_ble_eq_true rfl) dX0_init_44 (fun H locs hP hD hS => ?_)
  have hP : va_P D vwCl [(h0, .inr (0, [.ref q1, .int 0, .ref q2, .ref q3, .ref q4, .ref q5, .int 0, .ref q6, .int 0, .null, .null, .null])), (q1, .inl (c1, 96, .inl (fun _ => 0))), (q2, .inl (c2, 4, .inl (fun _ => 0))), (q3, .inl (c3, 4, .inl (fun _ => 0))), (q4, .inl (c4, 4, .inl (fun _ => 0))), (q5, .inl (c5, 4, .inl (fun _ => 0))), (q6, .inl (c6, 4, .inl (fun _ => 0)))] H := hP
  have hD : va_D A [(h0, .inr (0, [.ref q1, .int 0, .ref q2, .ref q3, .ref q4, .ref q5, .int 0, .ref q6, .int 0, .null, .null, .null])), (q1, .inl (c1, 96, .inl (fun _ => 0))), (q2, .inl (c2, 4, .inl (fun _ => 0))), (q3, .inl (c3, 4, .inl (fun _ => 0))), (q4, .inl (c4, 4, .inl (fun _ => 0))), (q5, .inl (c5, 4, .inl (fun _ => 0))), (q6, .inl (c6, 4, .inl (fun _ => 0)))] := hD
  refine lv_aload_n hx hb dX0_init_47 rfl (lv_at hl 0 rfl) ?_
  refine lv_iconst (v := 4) hx hb dX0_init_48 (by decide) ?_
  refine va_newa (atype := .int) (ty := .int) (N' := 4) (a0 := (4, .inl (fun _ => 0))) hx hb (hts _ q75) rfl hK hP hD hS hA (fun _ => rfl) (by decide) (by decide) (by decide) (Nat.le_of_ble_eq_true rfl) (Nat.le_of_ble_eq_true rfl) dX0_init_49 (fun q7 c7 H hK hP hD hS => ?_)
  have hP : va_P D vwCl [(h0, .inr (0, [.ref q1, .int 0, .ref q2, .ref q3, .ref q4, .ref q5, .int 0, .ref q6, .int 0, .null, .null, .null])), (q1, .inl (c1, 96, .inl (fun _ => 0))), (q2, .inl (c2, 4, .inl (fun _ => 0))), (q3, .inl (c3, 4, .inl (fun _ => 0))), (q4, .inl (c4, 4, .inl (fun _ => 0))), (q5, .inl (c5, 4, .inl (fun _ => 0))), (q6, .inl (c6, 4, .inl (fun _ => 0))), (q7, .inl (c7, 4, .inl (fun _ => 0)))] H := hP
  have hD : va_D A [(h0, .inr (0, [.ref q1, .int 0, .ref q2, .ref q3, .ref q4, .ref q5, .int 0, .ref q6, .int 0, .null, .null, .null])), (q1, .inl (c1, 96, .inl (fun _ => 0))), (q2, .inl (c2, 4, .inl (fun _ => 0))), (q3, .inl (c3, 4, .inl (fun _ => 0))), (q4, .inl (c4, 4, .inl (fun _ => 0))), (q5, .inl (c5, 4, .inl (fun _ => 0))), (q6, .inl (c6, 4, .inl (fun _ => 0))), (q7, .inl (c7, 4, .inl (fun _ => 0)))] := hD
  refine va_putF (D := D) (ci := 0) (v := .ref q7) (ty := .array .int) (C := RX0) (T := TX0) (N := 12) hx hb hts in_X0 tyX0 tyX0_ok nmX0 hown hK hP hD hS 0 rfl rfl 9 (by decide) (hts _ q47) (fun _ h9 => h9) rfl hin rfl (by decide +kernel) rfl rfl (Nat.le_of_ble_eq_true rfl) dX0_init_51 (fun H locs hP hD hS => ?_)
  have hP : va_P D vwCl [(h0, .inr (0, [.ref q1, .int 0, .ref q2, .ref q3, .ref q4, .ref q5, .int 0, .ref q6, .int 0, .ref q7, .null, .null])), (q1, .inl (c1, 96, .inl (fun _ => 0))), (q2, .inl (c2, 4, .inl (fun _ => 0))), (q3, .inl (c3, 4, .inl (fun _ => 0))), (q4, .inl (c4, 4, .inl (fun _ => 0))), (q5, .inl (c5, 4, .inl (fun _ => 0))), (q6, .inl (c6, 4, .inl (fun _ => 0))), (q7, .inl (c7, 4, .inl (fun _ => 0)))] H := hP
  have hD : va_D A [(h0, .inr (0, [.ref q1, .int 0, .ref q2, .ref q3, .ref q4, .ref q5, .int 0, .ref q6, .int 0, .ref q7, .null, .null])), (q1, .inl (c1, 96, .inl (fun _ => 0))), (q2, .inl (c2, 4, .inl (fun _ => 0))), (q3, .inl (c3, 4, .inl (fun _ => 0))), (q4, .inl (c4, 4, .inl (fun _ => 0))), (q5, .inl (c5, 4, .inl (fun _ => 0))), (q6, .inl (c6, 4, .inl (fun _ => 0))), (q7, .inl (c7, 4, .inl (fun _ => 0)))] := hD
  refine lv_aload_n hx hb dX0_init_54 rfl (lv_at hl 0 rfl) ?_
  refine lv_iconst (v := 4) hx hb dX0_init_55 (by decide) ?_
  refine va_newa (atype := .boolean) (ty := .boolean) (N' := 4) (a0 := (4, .inl (fun _ => 0))) hx hb (hts _ q76) rfl hK hP hD hS hA (fun _ => rfl) (by decide) (by decide) (by decide) (Nat.le_of_ble_eq_true rfl) (Nat.le_of_ble_eq_true rfl) dX0_init_56 (fun q8 c8 H hK hP hD hS => ?_)
  have hP : va_P D vwCl [(h0, .inr (0, [.ref q1, .int 0, .ref q2, .ref q3, .ref q4, .ref q5, .int 0, .ref q6, .int 0, .ref q7, .null, .null])), (q1, .inl (c1, 96, .inl (fun _ => 0))), (q2, .inl (c2, 4, .inl (fun _ => 0))), (q3, .inl (c3, 4, .inl (fun _ => 0))), (q4, .inl (c4, 4, .inl (fun _ => 0))), (q5, .inl (c5, 4, .inl (fun _ => 0))), (q6, .inl (c6, 4, .inl (fun _ => 0))), (q7, .inl (c7, 4, .inl (fun _ => 0))), (q8, .inl (c8, 4, .inl (fun _ => 0)))] H := hP
  have hD : va_D A [(h0, .inr (0, [.ref q1, .int 0, .ref q2, .ref q3, .ref q4, .ref q5, .int 0, .ref q6, .int 0, .ref q7, .null, .null])), (q1, .inl (c1, 96, .inl (fun _ => 0))), (q2, .inl (c2, 4, .inl (fun _ => 0))), (q3, .inl (c3, 4, .inl (fun _ => 0))), (q4, .inl (c4, 4, .inl (fun _ => 0))), (q5, .inl (c5, 4, .inl (fun _ => 0))), (q6, .inl (c6, 4, .inl (fun _ => 0))), (q7, .inl (c7, 4, .inl (fun _ => 0))), (q8, .inl (c8, 4, .inl (fun _ => 0)))] := hD
  refine va_putF (D := D) (ci := 0) (v := .ref q8) (ty := .array .boolean) (C := RX0) (T := TX0) (N := 12) hx hb hts in_X0 tyX0 tyX0_ok nmX0 hown hK hP hD hS 0 rfl rfl 10 (by decide) (hts _ q48) (fun _ h9 => h9) rfl hin rfl (by decide +kernel) rfl rfl (Nat.le_of_ble_eq_true rfl) dX0_init_58 (fun H locs hP hD hS => ?_)
  have hP : va_P D vwCl [(h0, .inr (0, [.ref q1, .int 0, .ref q2, .ref q3, .ref q4, .ref q5, .int 0, .ref q6, .int 0, .ref q7, .ref q8, .null])), (q1, .inl (c1, 96, .inl (fun _ => 0))), (q2, .inl (c2, 4, .inl (fun _ => 0))), (q3, .inl (c3, 4, .inl (fun _ => 0))), (q4, .inl (c4, 4, .inl (fun _ => 0))), (q5, .inl (c5, 4, .inl (fun _ => 0))), (q6, .inl (c6, 4, .inl (fun _ => 0))), (q7, .inl (c7, 4, .inl (fun _ => 0))), (q8, .inl (c8, 4, .inl (fun _ => 0)))] H := hP
  have hD : va_D A [(h0, .inr (0, [.ref q1, .int 0, .ref q2, .ref q3, .ref q4, .ref q5, .int 0, .ref q6, .int 0, .ref q7, .ref q8, .null])), (q1, .inl (c1, 96, .inl (fun _ => 0))), (q2, .inl (c2, 4, .inl (fun _ => 0))), (q3, .inl (c3, 4, .inl (fun _ => 0))), (q4, .inl (c4, 4, .inl (fun _ => 0))), (q5, .inl (c5, 4, .inl (fun _ => 0))), (q6, .inl (c6, 4, .inl (fun _ => 0))), (q7, .inl (c7, 4, .inl (fun _ => 0))), (q8, .inl (c8, 4, .inl (fun _ => 0)))] := hD
  refine lv_aload_n hx hb dX0_init_61 rfl (lv_at hl 0 rfl) ?_
  refine lv_iconst (v := 4) hx hb dX0_init_62 (by decide) ?_
  refine va_newa (atype := .int) (ty := .int) (N' := 4) (a0 := (4, .inl (fun _ => 0))) hx hb (hts _ q75) rfl hK hP hD hS hA (fun _ => rfl) (by decide) (by decide) (by decide) (Nat.le_of_ble_eq_true rfl) (Nat.le_of_ble_eq_true rfl) dX0_init_63 (fun q9 c9 H hK hP hD hS => ?_)
  have hP : va_P D vwCl [(h0, .inr (0, [.ref q1, .int 0, .ref q2, .ref q3, .ref q4, .ref q5, .int 0, .ref q6, .int 0, .ref q7, .ref q8, .null])), (q1, .inl (c1, 96, .inl (fun _ => 0))), (q2, .inl (c2, 4, .inl (fun _ => 0))), (q3, .inl (c3, 4, .inl (fun _ => 0))), (q4, .inl (c4, 4, .inl (fun _ => 0))), (q5, .inl (c5, 4, .inl (fun _ => 0))), (q6, .inl (c6, 4, .inl (fun _ => 0))), (q7, .inl (c7, 4, .inl (fun _ => 0))), (q8, .inl (c8, 4, .inl (fun _ => 0))), (q9, .inl (c9, 4, .inl (fun _ => 0)))] H := hP
  have hD : va_D A [(h0, .inr (0, [.ref q1, .int 0, .ref q2, .ref q3, .ref q4, .ref q5, .int 0, .ref q6, .int 0, .ref q7, .ref q8, .null])), (q1, .inl (c1, 96, .inl (fun _ => 0))), (q2, .inl (c2, 4, .inl (fun _ => 0))), (q3, .inl (c3, 4, .inl (fun _ => 0))), (q4, .inl (c4, 4, .inl (fun _ => 0))), (q5, .inl (c5, 4, .inl (fun _ => 0))), (q6, .inl (c6, 4, .inl (fun _ => 0))), (q7, .inl (c7, 4, .inl (fun _ => 0))), (q8, .inl (c8, 4, .inl (fun _ => 0))), (q9, .inl (c9, 4, .inl (fun _ => 0)))] := hD
  refine va_putF (D := D) (ci := 0) (v := .ref q9) (ty := .array .int) (C := RX0) (T := TX0) (N := 12) hx hb hts in_X0 tyX0 tyX0_ok nmX0 hown hK hP hD hS 0 rfl rfl 11 (by decide) (hts _ q49) (fun _ h9 => h9) rfl hin rfl (by decide +kernel) rfl rfl (Nat.le_of_ble_eq_true rfl) dX0_init_65 (fun H locs hP hD hS => ?_)
  have hP : va_P D vwCl [(h0, .inr (0, [.ref q1, .int 0, .ref q2, .ref q3, .ref q4, .ref q5, .int 0, .ref q6, .int 0, .ref q7, .ref q8, .ref q9])), (q1, .inl (c1, 96, .inl (fun _ => 0))), (q2, .inl (c2, 4, .inl (fun _ => 0))), (q3, .inl (c3, 4, .inl (fun _ => 0))), (q4, .inl (c4, 4, .inl (fun _ => 0))), (q5, .inl (c5, 4, .inl (fun _ => 0))), (q6, .inl (c6, 4, .inl (fun _ => 0))), (q7, .inl (c7, 4, .inl (fun _ => 0))), (q8, .inl (c8, 4, .inl (fun _ => 0))), (q9, .inl (c9, 4, .inl (fun _ => 0)))] H := hP
  have hD : va_D A [(h0, .inr (0, [.ref q1, .int 0, .ref q2, .ref q3, .ref q4, .ref q5, .int 0, .ref q6, .int 0, .ref q7, .ref q8, .ref q9])), (q1, .inl (c1, 96, .inl (fun _ => 0))), (q2, .inl (c2, 4, .inl (fun _ => 0))), (q3, .inl (c3, 4, .inl (fun _ => 0))), (q4, .inl (c4, 4, .inl (fun _ => 0))), (q5, .inl (c5, 4, .inl (fun _ => 0))), (q6, .inl (c6, 4, .inl (fun _ => 0))), (q7, .inl (c7, 4, .inl (fun _ => 0))), (q8, .inl (c8, 4, .inl (fun _ => 0))), (q9, .inl (c9, 4, .inl (fun _ => 0)))] := hD
  refine lv_aload_n hx hb dX0_init_68 rfl (lv_at hl 0 rfl) ?_
  refine lv_iconst (v := 0) hx hb dX0_init_69 (by decide) ?_
  refine va_put (D := D) (ci := 0) (v := .int 0) (ty := .int) (C := RX0) (T := TX0) (N := 12) hx hb hts in_X0 tyX0 tyX0_ok nmX0 hown hK hP hD hS 0 rfl rfl 1 (by decide) (hts _ q39) (fun _ h9 => h9) rfl (by decide +kernel) rfl rfl (Nat.le_of_ble_eq_true rfl) dX0_init_70 (fun H locs hP hD hS => ?_)
  refine W.widen (k := 9) (n := 128) (Nat.le_of_ble_eq_true rfl) (Nat.le_of_ble_eq_true rfl) ?_
  exact W.vret hx hb hr (fun t ht hW => ⟨⟨(fun k => match k with | 0 => h0 | 1 => q1 | 2 => q2 | 3 => q3 | 4 => q4 | 5 => q5 | 6 => q6 | 7 => q7 | 8 => q8 | _ => q9, fun k => match k with | 0 => c1 | 1 => c1 | 2 => c2 | 3 => c3 | 4 => c4 | 5 => c5 | 6 => c6 | 7 => c7 | 8 => c8 | _ => c9), rfl, rfl, by rw [ht]; exact hP, va_K.moved hW.alike hK, hD⟩, hS.F ht⟩) hS.2.2 dX0_init_73 hlk
abbrev rmX1_init : Room := { frames := 1, cells := 5, slots := 128, locals := 12 }
set_option maxHeartbeats 4000000 in
set_option maxRecDepth 100000 in
theorem mX1_init (l : Launch) (D : va_G) (h0 sz : Nat) : Met l yX1_init (ws_ yX1_init cX1_init 1 none) rmX1_init (va_Pc [.ref h0] (iB D [] [(h0, .inr (1, [.int 0, .null, .null, .null, .null, .null]))] sz)) (va_Qv (fun u : (Nat → Nat) × (Nat → ClassId) => u.1 0 = h0) (fun u t => va_P D vwCl (WM u.1 u.2 0 (fun _ => 0) (fun _ => 0) (fun _ => 0) (fun _ => 0) (fun _ => 0)) t.heap ∧ va_K D vwCl (tyM u.2) t ∧ va_D (va_A [(h0, .inr (1, [.int 0, .null, .null, .null, .null, .null]))] sz) (WM u.1 u.2 0 (fun _ => 0) (fun _ => 0) (fun _ => 0) (fun _ => 0) (fun _ => 0))) (va_A [(h0, .inr (1, [.int 0, .null, .null, .null, .null, .null]))] sz)) 5 128 (va_A [(h0, .inr (1, [.int 0, .null, .null, .null, .null, .null]))] sz) := by
  refine metM (by decide) (Nat.le_of_ble_eq_true rfl) ?_
  intro p e s m below meth c hx hb hr hml hown hts hlk hin hB ls hl
  obtain ⟨hsz, hP, hK, hD0⟩ := hB
  have hin : meth.name = "<init>" := hin
  have hown : s.vm.findClass RX1 = some m.cls := hown
  subst hsz
  have hD := hD0.self (sz := s.heap.size)
  generalize hAe : va_A [(h0, .inr (1, [.int 0, .null, .null, .null, .null, .null]))] s.heap.size = A at hD ⊢
  have hA : ∀ q : Nat, s.heap.size ≤ q → A q := fun q h => by rw [← hAe]; exact Or.inr h
  have hS : va_S A s.heap s.heap [] := va_S.rf
  have hl : lv_has ls 1 [(0, .ref h0)] := hl
  refine lv_aload_n hx hb dX1_init_0 rfl (lv_at hl 0 rfl) ?_
  refine W.objInit hx hb hown (hts _ q223) (hts _ q36) (hts _ q37) rfl (by rw [hml]; exact hl.1) rfl dX1_init_1 (Nat.le_of_ble_eq_true rfl) (Nat.le_of_ble_eq_true rfl) ?_
  refine W.eq (g2 := F0 m 4 ls []) rfl ?_
  refine lv_aload_n hx hb dX1_init_4 rfl (lv_at hl 0 rfl) ?_
  refine lv_iconst (v := 4) hx hb dX1_init_5 (by decide) ?_
  refine va_newa (atype := .int) (ty := .int) (N' := 4) (a0 := (4, .inl (fun _ => 0))) hx hb (hts _ q75) rfl hK hP hD hS hA (fun _ => rfl) (by decide) (by decide) (by decide) (Nat.le_of_ble_eq_true rfl) (Nat.le_of_ble_eq_true rfl) dX1_init_6 (fun q1 c1 H hK hP hD hS => ?_)
  have hP : va_P D vwCl [(h0, .inr (1, [.int 0, .null, .null, .null, .null, .null])), (q1, .inl (c1, 4, .inl (fun _ => 0)))] H := hP
  have hD : va_D A [(h0, .inr (1, [.int 0, .null, .null, .null, .null, .null])), (q1, .inl (c1, 4, .inl (fun _ => 0)))] := hD
  refine va_putF (D := D) (ci := 1) (v := .ref q1) (ty := .array .int) (C := RX1) (T := TX1) (N := 6) hx hb hts in_X1 tyX1 tyX1_ok nmX1 hown hK hP hD hS 0 rfl rfl 1 (by decide) (hts _ q225) (fun _ h9 => h9) rfl hin rfl (by decide +kernel) rfl rfl (Nat.le_of_ble_eq_true rfl) dX1_init_8 (fun H locs hP hD hS => ?_)
  have hP : va_P D vwCl [(h0, .inr (1, [.int 0, .ref q1, .null, .null, .null, .null])), (q1, .inl (c1, 4, .inl (fun _ => 0)))] H := hP
  have hD : va_D A [(h0, .inr (1, [.int 0, .ref q1, .null, .null, .null, .null])), (q1, .inl (c1, 4, .inl (fun _ => 0)))] := hD
  refine lv_aload_n hx hb dX1_init_11 rfl (lv_at hl 0 rfl) ?_
  refine lv_iconst (v := 4) hx hb dX1_init_12 (by decide) ?_
  refine va_newa (atype := .int) (ty := .int) (N' := 4) (a0 := (4, .inl (fun _ => 0))) hx hb (hts _ q75) rfl hK hP hD hS hA (fun _ => rfl) (by decide) (by decide) (by decide) (Nat.le_of_ble_eq_true rfl) (Nat.le_of_ble_eq_true rfl) dX1_init_13 (fun q2 c2 H hK hP hD hS => ?_)
  have hP : va_P D vwCl [(h0, .inr (1, [.int 0, .ref q1, .null, .null, .null, .null])), (q1, .inl (c1, 4, .inl (fun _ => 0))), (q2, .inl (c2, 4, .inl (fun _ => 0)))] H := hP
  have hD : va_D A [(h0, .inr (1, [.int 0, .ref q1, .null, .null, .null, .null])), (q1, .inl (c1, 4, .inl (fun _ => 0))), (q2, .inl (c2, 4, .inl (fun _ => 0)))] := hD
  refine va_putF (D := D) (ci := 1) (v := .ref q2) (ty := .array .int) (C := RX1) (T := TX1) (N := 6) hx hb hts in_X1 tyX1 tyX1_ok nmX1 hown hK hP hD hS 0 rfl rfl 2 (by decide) (hts _ q226) (fun _ h9 => h9) rfl hin rfl (by decide +kernel) rfl rfl (Nat.le_of_ble_eq_true rfl) dX1_init_15 (fun H locs hP hD hS => ?_)
  have hP : va_P D vwCl [(h0, .inr (1, [.int 0, .ref q1, .ref q2, .null, .null, .null])), (q1, .inl (c1, 4, .inl (fun _ => 0))), (q2, .inl (c2, 4, .inl (fun _ => 0)))] H := hP
  have hD : va_D A [(h0, .inr (1, [.int 0, .ref q1, .ref q2, .null, .null, .null])), (q1, .inl (c1, 4, .inl (fun _ => 0))), (q2, .inl (c2, 4, .inl (fun _ => 0)))] := hD
  refine lv_aload_n hx hb dX1_init_18 rfl (lv_at hl 0 rfl) ?_
  refine lv_bipush (v := 12) hx hb dX1_init_19 (by decide) ?_
  refine va_newa (atype := .int) (ty := .int) (N' := 12) (a0 := (12, .inl (fun _ => 0))) hx hb (hts _ q75) rfl hK hP hD hS hA (fun _ => rfl) (by decide) (by decide) (by decide) (Nat.le_of_ble_eq_true rfl) (Nat.le_of_ble_eq_true rfl) dX1_init_21 (fun q3 c3 H hK hP hD hS => ?_)
  have hP : va_P D vwCl [(h0, .inr (1, [.int 0, .ref q1, .ref q2, .null, .null, .null])), (q1, .inl (c1, 4, .inl (fun _ => 0))), (q2, .inl (c2, 4, .inl (fun _ => 0))), (q3, .inl (c3, 12, .inl (fun _ => 0)))] H := hP
  have hD : va_D A [(h0, .inr (1, [.int 0, .ref q1, .ref q2, .null, .null, .null])), (q1, .inl (c1, 4, .inl (fun _ => 0))), (q2, .inl (c2, 4, .inl (fun _ => 0))), (q3, .inl (c3, 12, .inl (fun _ => 0)))] := hD
  refine va_putF (D := D) (ci := 1) (v := .ref q3) (ty := .array .int) (C := RX1) (T := TX1) (N := 6) hx hb hts in_X1 tyX1 tyX1_ok nmX1 hown hK hP hD hS 0 rfl rfl 3 (by decide) (hts _ q227) (fun _ h9 => h9) rfl hin rfl (by decide +kernel) rfl rfl (Nat.le_of_ble_eq_true rfl) dX1_init_23 (fun H locs hP hD hS => ?_)
  have hP : va_P D vwCl [(h0, .inr (1, [.int 0, .ref q1, .ref q2, .ref q3, .null, .null])), (q1, .inl (c1, 4, .inl (fun _ => 0))), (q2, .inl (c2, 4, .inl (fun _ => 0))), (q3, .inl (c3, 12, .inl (fun _ => 0)))] H := hP
  have hD : va_D A [(h0, .inr (1, [.int 0, .ref q1, .ref q2, .ref q3, .null, .null])), (q1, .inl (c1, 4, .inl (fun _ => 0))), (q2, .inl (c2, 4, .inl (fun _ => 0))), (q3, .inl (c3, 12, .inl (fun _ => 0)))] := hD
  refine lv_aload_n hx hb dX1_init_26 rfl (lv_at hl 0 rfl) ?_
  refine lv_bipush (v := 12) hx hb dX1_init_27 (by decide) ?_
  refine va_newa (atype := .int) (ty := .int) (N' := 12) (a0 := (12, .inl (fun _ => 0))) hx hb (hts _ q75) rfl hK hP hD hS hA (fun _ => rfl) (by decide) (by decide) (by decide) (Nat.le_of_ble_eq_true rfl) (Nat.le_of_ble_eq_true rfl) dX1_init_29 (fun q4 c4 H hK hP hD hS => ?_)
  have hP : va_P D vwCl [(h0, .inr (1, [.int 0, .ref q1, .ref q2, .ref q3, .null, .null])), (q1, .inl (c1, 4, .inl (fun _ => 0))), (q2, .inl (c2, 4, .inl (fun _ => 0))), (q3, .inl (c3, 12, .inl (fun _ => 0))), (q4, .inl (c4, 12, .inl (fun _ => 0)))] H := hP
  have hD : va_D A [(h0, .inr (1, [.int 0, .ref q1, .ref q2, .ref q3, .null, .null])), (q1, .inl (c1, 4, .inl (fun _ => 0))), (q2, .inl (c2, 4, .inl (fun _ => 0))), (q3, .inl (c3, 12, .inl (fun _ => 0))), (q4, .inl (c4, 12, .inl (fun _ => 0)))] := hD
  refine va_putF (D := D) (ci := 1) (v := .ref q4) (ty := .array .int) (C := RX1) (T := TX1) (N := 6) hx hb hts in_X1 tyX1 tyX1_ok nmX1 hown hK hP hD hS 0 rfl rfl 4 (by decide) (hts _ q228) (fun _ h9 => h9) rfl hin rfl (by decide +kernel) rfl rfl (Nat.le_of_ble_eq_true rfl) dX1_init_31 (fun H locs hP hD hS => ?_)
  have hP : va_P D vwCl [(h0, .inr (1, [.int 0, .ref q1, .ref q2, .ref q3, .ref q4, .null])), (q1, .inl (c1, 4, .inl (fun _ => 0))), (q2, .inl (c2, 4, .inl (fun _ => 0))), (q3, .inl (c3, 12, .inl (fun _ => 0))), (q4, .inl (c4, 12, .inl (fun _ => 0)))] H := hP
  have hD : va_D A [(h0, .inr (1, [.int 0, .ref q1, .ref q2, .ref q3, .ref q4, .null])), (q1, .inl (c1, 4, .inl (fun _ => 0))), (q2, .inl (c2, 4, .inl (fun _ => 0))), (q3, .inl (c3, 12, .inl (fun _ => 0))), (q4, .inl (c4, 12, .inl (fun _ => 0)))] := hD
  refine lv_aload_n hx hb dX1_init_34 rfl (lv_at hl 0 rfl) ?_
  refine lv_bipush (v := 96) hx hb dX1_init_35 (by decide) ?_
  refine va_newa (atype := .int) (ty := .int) (N' := 96) (a0 := (96, .inl (fun _ => 0))) hx hb (hts _ q75) rfl hK hP hD hS hA (fun _ => rfl) (by decide) (by decide) (by decide) (Nat.le_of_ble_eq_true rfl) (Nat.le_of_ble_eq_true rfl) dX1_init_37 (fun q5 c5 H hK hP hD hS => ?_)
  have hP : va_P D vwCl [(h0, .inr (1, [.int 0, .ref q1, .ref q2, .ref q3, .ref q4, .null])), (q1, .inl (c1, 4, .inl (fun _ => 0))), (q2, .inl (c2, 4, .inl (fun _ => 0))), (q3, .inl (c3, 12, .inl (fun _ => 0))), (q4, .inl (c4, 12, .inl (fun _ => 0))), (q5, .inl (c5, 96, .inl (fun _ => 0)))] H := hP
  have hD : va_D A [(h0, .inr (1, [.int 0, .ref q1, .ref q2, .ref q3, .ref q4, .null])), (q1, .inl (c1, 4, .inl (fun _ => 0))), (q2, .inl (c2, 4, .inl (fun _ => 0))), (q3, .inl (c3, 12, .inl (fun _ => 0))), (q4, .inl (c4, 12, .inl (fun _ => 0))), (q5, .inl (c5, 96, .inl (fun _ => 0)))] := hD
  refine va_putF (D := D) (ci := 1) (v := .ref q5) (ty := .array .int) (C := RX1) (T := TX1) (N := 6) hx hb hts in_X1 tyX1 tyX1_ok nmX1 hown hK hP hD hS 0 rfl rfl 5 (by decide) (hts _ q229) (fun _ h9 => h9) rfl hin rfl (by decide +kernel) rfl rfl (Nat.le_of_ble_eq_true rfl) dX1_init_39 (fun H locs hP hD hS => ?_)
  have hP : va_P D vwCl [(h0, .inr (1, [.int 0, .ref q1, .ref q2, .ref q3, .ref q4, .ref q5])), (q1, .inl (c1, 4, .inl (fun _ => 0))), (q2, .inl (c2, 4, .inl (fun _ => 0))), (q3, .inl (c3, 12, .inl (fun _ => 0))), (q4, .inl (c4, 12, .inl (fun _ => 0))), (q5, .inl (c5, 96, .inl (fun _ => 0)))] H := hP
  have hD : va_D A [(h0, .inr (1, [.int 0, .ref q1, .ref q2, .ref q3, .ref q4, .ref q5])), (q1, .inl (c1, 4, .inl (fun _ => 0))), (q2, .inl (c2, 4, .inl (fun _ => 0))), (q3, .inl (c3, 12, .inl (fun _ => 0))), (q4, .inl (c4, 12, .inl (fun _ => 0))), (q5, .inl (c5, 96, .inl (fun _ => 0)))] := hD
  refine W.widen (k := 5) (n := 128) (Nat.le_of_ble_eq_true rfl) (Nat.le_of_ble_eq_true rfl) ?_
  exact W.vret hx hb hr (fun t ht hW => ⟨⟨(fun k => match k with | 0 => h0 | 1 => q1 | 2 => q2 | 3 => q3 | 4 => q4 | _ => q5, fun k => match k with | 0 => c1 | 1 => c1 | 2 => c2 | 3 => c3 | 4 => c4 | _ => c5), rfl, rfl, by rw [ht]; exact hP, va_K.moved hW.alike hK, hD⟩, hS.F ht⟩) hS.2.2 dX1_init_42 hlk
end
section
/-! THE CLAIM OUT OF ONE WALK OF THE LAW'S BODY. Your part is whole_start (and what it stands on); all else here is the same for every law, but numbers. -/
def R_law : String := "LaneLoopsLaw"
def lw_P (b : Addr) (xs : List Int32) (args : Array Value) (s : State) : Prop := args = #[.ref b] ∧ s.IntsAt b xs ∧ xs.length ≤ 320 ∧ (Jvm.Cond.and given_1 narrow_1).before args s = true
def lw_Q (_ : Array Value) (s : State) (o : Outcome) (t : State) : Prop := o = .returned (some (.int 1)) ∧ Framed s o t [] 600000 7290000
def lw_Z (below : List Frame) (a : Array Value) (s : State) : State → Prop := fun t => ∃ o, t.status = .running ∧ Ended t below o ∧ lw_Q a s o t
/-- the law's own end, with 1 on the stack, nothing written that was there before, its room as the claim has it -/
theorem lw_ret {p : Program} {l : Launch} {e : Env} {s : State} {m : MethodId} {below : List Frame} {meth : Method} {c : Code} {b : Nat} (hx : p.tables.exec = Jvm.exec) (hb : c.code = code) (hr : meth.sig.returnType = ret) (hlocks : meth.locks = false) {pc : Nat} {H : Heap} {ls : Array Slot} (hdg : decode code pc = .ok (.ireturn, 1)) : W p l e room_1 s m #[Value.ref b] below meth c H [] 600000 7290000 (lw_Z below #[Value.ref b] s) (F0 m pc ls [.int 1]) := by
  intro T hT X
  obtain ⟨fs, hret, hrun, hended, hW, hframe⟩ := X.leave (v := some (.int 1)) (hlocks := hlocks) (fun h => by rw [hr] at h; cases h)
  have hmeth' : T.vm.method? m = some meth := X.method'
  refine ⟨T.setFrames fs, ?_, .returned (some (.int 1)), hrun, hended, rfl, ⟨_, rfl⟩, hW, hframe⟩
  jvm_step X.here [X.here.top, hx, hb, hdg, hmeth', hr, ret, narrow_b1]
  (try refine ⟨rfl, ?_⟩); (try refine ⟨rfl, ?_⟩)
  first | (intro acts; rw [hret _ acts rfl rfl rfl]) | rw [hret _ _ rfl rfl rfl]
  exact Steps.refl _
/-- what holds at the law's entry: the machine, the code, the tables' words (any of lw_tbl by 'hts w (by decide +kernel)'), the script of L ints xs at the cell b, what the Statement gives of the start (any of its parts by flat_of_before) -/
def lw_At (p : Program) (s : State) (m : MethodId) (meth : Method) (c : Code) (b L : Nat) (xs : Nat → Int32) : Prop :=
  p.tables.exec = Jvm.exec ∧ c.code = code ∧ meth.sig.returnType = ret ∧ c.maxLocals = 4 ∧ s.vm.findClass R_law = some m.cls ∧ (∀ w ∈ lw_tbl, w.before #[Value.ref b] s = true) ∧ va_X b L xs s s.heap ∧ b < s.heap.size ∧ meth.locks = false ∧ (Jvm.Cond.and given_1 narrow_1).before #[Value.ref b] s = true
theorem kLX0_statement {p : Program} {l : Launch} {e : Env} {R : Room} {s : State} {m : MethodId} {args : Array Value} {below : List Frame} {meth : Method} {c : Code} {H : Heap} {locs : List Loc} {cells slots : Nat} {Q : State → Prop} {cc : ByteArray} {pc nL : Nat} {ls : Array Slot} {rest : List Value} {D : va_G} {A : Nat → Prop} {a : Nat → Nat} {d : Nat → ClassId} {fc : Nat → Int32} {po ra sf oc : Nat → Int32} {rd : Int32} {be : Nat → Int32} {gs : Int32} {gr fi la : Nat → Int32} {N : Nat} {a2 : Nat → Nat} {d2 : Nat → ClassId} {nn : Int32} {o1 o2 o3 o4 o5 : Nat → Int32} (S : CallFix p m c cc nL s args lw_all R_law) (hK : va_K D vwCl (tyX d) s) (hP : va_P D vwCl (WX a d fc (nI N) po ra sf oc rd be gs gr fi la ++ WM a2 d2 nn o1 o2 o3 o4 o5) H) (hD : va_D A (WX a d fc (nI N) po ra sf oc rd be gs gr fi la ++ WM a2 d2 nn o1 o2 o3 o4 o5)) (hS : va_S A s.heap H locs) (hA : ∀ q, s.heap.size ≤ q → A q) (v : Int32) (w : Int32) (b : Int32) (t : Int32)  (hN4 : N ≤ 4) (hR : rmX0_statement.frames + 1 ≤ R.frames ∧ 8 + (6 + 11) + rmX0_statement.locals ≤ R.locals) (hsz : ls.size = nL) (hroom : (rest.map fun v => v.category).sum ≤ 8) (hdg : decode cc pc = .ok (.invokevirtual 13, 3)) (hf : cells ≤ R.cells ∧ slots ≤ R.slots) (kk : ∀ (r : Int32) (u : XB) (H1 : Heap) (locs1 : List Loc), (fun r u => (r, u) = smtG N (nI N, rd, po, ra, sf, oc) v w b t) r u → va_P D vwCl (WM a2 d2 nn o1 o2 o3 o4 o5 ++ (fun u => WX a d fc u.1 u.2.2.1 u.2.2.2.1 u.2.2.2.2.1 u.2.2.2.2.2 u.2.1 be gs gr fi la) u) H1 → va_D A (WM a2 d2 nn o1 o2 o3 o4 o5 ++ (fun u => WX a d fc u.1 u.2.2.1 u.2.2.2.1 u.2.2.2.2.1 u.2.2.2.2.2 u.2.1 be gs gr fi la) u) → va_S A s.heap H1 locs1 → W p l e R s m args below meth c H1 locs1 cells slots Q (F0 m (pc + 3) ls (.int r :: rest))) : W p l e R s m args below meth c H locs cells slots Q (F0 m pc ls (.int t :: .int b :: .int w :: .int v :: .ref (a 0) :: rest)) :=
  icallI (tys' := []) (wr := WM a2 d2 nn o1 o2 o3 o4 o5) (q := (RX0, TX0, 12)) (ci := 0) (As := [.int v, .int w, .int b, .int t]) S (mX0_statement l v w b t hN4) (cwV 4 S.2.2.2.2 (lw_V q77 q78 q79 q28 q80) rfl rfl rfl (by decide +kernel) hR) hK hP hD hS hA [0, 1, 2, 3, 4, 5, 6, 7, 8, 9] [10, 11, 12, 13, 14, 15] rfl rfl (by decide) (by decide) (by decide) rfl rfl rfl hsz rfl hroom hdg hf kk
theorem kLX1_statement {p : Program} {l : Launch} {e : Env} {R : Room} {s : State} {m : MethodId} {args : Array Value} {below : List Frame} {meth : Method} {c : Code} {H : Heap} {locs : List Loc} {cells slots : Nat} {Q : State → Prop} {cc : ByteArray} {pc nL : Nat} {ls : Array Slot} {rest : List Value} {D : va_G} {A : Nat → Prop} {a : Nat → Nat} {d : Nat → ClassId} {mo mq ma mh mf : Nat → Int32} {N : Nat} {a2 : Nat → Nat} {d2 : Nat → ClassId} {n1 n2 n3 : Int32} {o1 o2 o3 o4 o5 o6 o7 o8 o9 : Nat → Int32} (S : CallFix p m c cc nL s args lw_all R_law) (hK : va_K D vwCl (tyM d) s) (hP : va_P D vwCl (WM a d (nI N) mo mq ma mh mf ++ WX a2 d2 o1 n1 o2 o3 o4 o5 n2 o6 n3 o7 o8 o9) H) (hD : va_D A (WM a d (nI N) mo mq ma mh mf ++ WX a2 d2 o1 n1 o2 o3 o4 o5 n2 o6 n3 o7 o8 o9)) (hS : va_S A s.heap H locs) (hA : ∀ q, s.heap.size ≤ q → A q) (v : Int32) (w : Int32) (b : Int32) (t : Int32)  (hN4 : N ≤ 4) (hR : rmX1_statement.frames + 1 ≤ R.frames ∧ 8 + (6 + 11) + rmX1_statement.locals ≤ R.locals) (hsz : ls.size = nL) (hroom : (rest.map fun v => v.category).sum ≤ 8) (hdg : decode cc pc = .ok (.invokevirtual 17, 3)) (hf : cells ≤ R.cells ∧ slots ≤ R.slots) (kk : ∀ (r : Int32) (u : MB) (H1 : Heap) (locs1 : List Loc), (fun r u => (r, u) = smtM N (nI N, mo, mq, ma, mh) v w b t) r u → va_P D vwCl (WX a2 d2 o1 n1 o2 o3 o4 o5 n2 o6 n3 o7 o8 o9 ++ (fun u => WM a d u.1 u.2.1 u.2.2.1 u.2.2.2.1 u.2.2.2.2 mf) u) H1 → va_D A (WX a2 d2 o1 n1 o2 o3 o4 o5 n2 o6 n3 o7 o8 o9 ++ (fun u => WM a d u.1 u.2.1 u.2.2.1 u.2.2.2.1 u.2.2.2.2 mf) u) → va_S A s.heap H1 locs1 → W p l e R s m args below meth c H1 locs1 cells slots Q (F0 m (pc + 3) ls (.int r :: rest))) : W p l e R s m args below meth c H locs cells slots Q (F0 m pc ls (.int t :: .int b :: .int w :: .int v :: .ref (a 0) :: rest)) :=
  icallI (tys' := []) (wr := WX a2 d2 o1 n1 o2 o3 o4 o5 n2 o6 n3 o7 o8 o9) (q := (RX1, TX1, 6)) (ci := 1) (As := [.int v, .int w, .int b, .int t]) S (mX1_statement l v w b t hN4) (cwV 4 S.2.2.2.2 (lw_V q243 q244 q245 q29 q246) rfl rfl rfl (by decide +kernel) hR) hK hP hD hS hA [0, 1, 2, 3, 4, 5] [6, 7, 8, 9, 10, 11, 12, 13, 14, 15] rfl rfl (by decide) (by decide) (by decide) rfl rfl rfl hsz rfl hroom hdg hf kk
theorem kLX0_clear {p : Program} {l : Launch} {e : Env} {R : Room} {s : State} {m : MethodId} {args : Array Value} {below : List Frame} {meth : Method} {c : Code} {H : Heap} {locs : List Loc} {cells slots : Nat} {Q : State → Prop} {cc : ByteArray} {pc nL : Nat} {ls : Array Slot} {rest : List Value} {D : va_G} {A : Nat → Prop} {a : Nat → Nat} {d : Nat → ClassId} {fc : Nat → Int32} {ct : Int32} {po ra sf oc : Nat → Int32} {rd : Int32} {be : Nat → Int32} {gs : Int32} {gr fi la : Nat → Int32}  {a2 : Nat → Nat} {d2 : Nat → ClassId} {nn : Int32} {o1 o2 o3 o4 o5 : Nat → Int32} (S : CallFix p m c cc nL s args lw_all R_law) (hK : va_K D vwCl (tyX d) s) (hP : va_P D vwCl (WX a d fc ct po ra sf oc rd be gs gr fi la ++ WM a2 d2 nn o1 o2 o3 o4 o5) H) (hD : va_D A (WX a d fc ct po ra sf oc rd be gs gr fi la ++ WM a2 d2 nn o1 o2 o3 o4 o5)) (hS : va_S A s.heap H locs) (hA : ∀ q, s.heap.size ≤ q → A q)  (hR : rmX0_clear.frames + 1 ≤ R.frames ∧ 8 + (1 + 11) + rmX0_clear.locals ≤ R.locals) (hsz : ls.size = nL) (hroom : (rest.map fun v => v.category).sum ≤ 8) (hdg : decode cc pc = .ok (.invokevirtual 18, 3)) (hf : cells ≤ R.cells ∧ slots ≤ R.slots) (kk : ∀ (u : Unit) (H1 : Heap) (locs1 : List Loc), (fun _ => True) u → va_P D vwCl (WM a2 d2 nn o1 o2 o3 o4 o5 ++ (fun _ => WX a d fc 0 po ra sf oc 0 be gs gr fi la) u) H1 → va_D A (WM a2 d2 nn o1 o2 o3 o4 o5 ++ (fun _ => WX a d fc 0 po ra sf oc 0 be gs gr fi la) u) → va_S A s.heap H1 locs1 → W p l e R s m args below meth c H1 locs1 cells slots Q (F0 m (pc + 3) ls rest)) : W p l e R s m args below meth c H locs cells slots Q (F0 m pc ls (.ref (a 0) :: rest)) :=
  icallV (wr := WM a2 d2 nn o1 o2 o3 o4 o5) (q := (RX0, TX0, 12)) (ci := 0) (As := []) S (mX0_clear l ) (cwV 0 S.2.2.2.2 (lw_V q87 q88 q89 q28 q90) rfl rfl rfl (by decide +kernel) hR) hK hP hD hS hA [0, 1, 2, 3, 4, 5, 6, 7, 8, 9] [10, 11, 12, 13, 14, 15] rfl rfl (by decide) (by decide) (by decide) rfl rfl rfl hsz rfl hroom hdg hf kk
theorem kLX1_clear {p : Program} {l : Launch} {e : Env} {R : Room} {s : State} {m : MethodId} {args : Array Value} {below : List Frame} {meth : Method} {c : Code} {H : Heap} {locs : List Loc} {cells slots : Nat} {Q : State → Prop} {cc : ByteArray} {pc nL : Nat} {ls : Array Slot} {rest : List Value} {D : va_G} {A : Nat → Prop} {a : Nat → Nat} {d : Nat → ClassId} {mn : Int32} {mo mq ma mh mf : Nat → Int32}  {a2 : Nat → Nat} {d2 : Nat → ClassId} {n1 n2 n3 : Int32} {o1 o2 o3 o4 o5 o6 o7 o8 o9 : Nat → Int32} (S : CallFix p m c cc nL s args lw_all R_law) (hK : va_K D vwCl (tyM d) s) (hP : va_P D vwCl (WM a d mn mo mq ma mh mf ++ WX a2 d2 o1 n1 o2 o3 o4 o5 n2 o6 n3 o7 o8 o9) H) (hD : va_D A (WM a d mn mo mq ma mh mf ++ WX a2 d2 o1 n1 o2 o3 o4 o5 n2 o6 n3 o7 o8 o9)) (hS : va_S A s.heap H locs) (hA : ∀ q, s.heap.size ≤ q → A q)  (hR : rmX1_clear.frames + 1 ≤ R.frames ∧ 8 + (1 + 11) + rmX1_clear.locals ≤ R.locals) (hsz : ls.size = nL) (hroom : (rest.map fun v => v.category).sum ≤ 8) (hdg : decode cc pc = .ok (.invokevirtual 21, 3)) (hf : cells ≤ R.cells ∧ slots ≤ R.slots) (kk : ∀ (u : Unit) (H1 : Heap) (locs1 : List Loc), (fun _ => True) u → va_P D vwCl (WX a2 d2 o1 n1 o2 o3 o4 o5 n2 o6 n3 o7 o8 o9 ++ (fun _ => WM a d 0 mo mq ma mh mf) u) H1 → va_D A (WX a2 d2 o1 n1 o2 o3 o4 o5 n2 o6 n3 o7 o8 o9 ++ (fun _ => WM a d 0 mo mq ma mh mf) u) → va_S A s.heap H1 locs1 → W p l e R s m args below meth c H1 locs1 cells slots Q (F0 m (pc + 3) ls rest)) : W p l e R s m args below meth c H locs cells slots Q (F0 m pc ls (.ref (a 0) :: rest)) :=
  icallV (wr := WX a2 d2 o1 n1 o2 o3 o4 o5 n2 o6 n3 o7 o8 o9) (q := (RX1, TX1, 6)) (ci := 1) (As := []) S (mX1_clear l ) (cwV 0 S.2.2.2.2 (lw_V q247 q248 q249 q29 q250) rfl rfl rfl (by decide +kernel) hR) hK hP hD hS hA [0, 1, 2, 3, 4, 5] [6, 7, 8, 9, 10, 11, 12, 13, 14, 15] rfl rfl (by decide) (by decide) (by decide) rfl rfl rfl hsz rfl hroom hdg hf kk
theorem kLX0_exchange {p : Program} {l : Launch} {e : Env} {R : Room} {s : State} {m : MethodId} {args : Array Value} {below : List Frame} {meth : Method} {c : Code} {H : Heap} {locs : List Loc} {cells slots : Nat} {Q : State → Prop} {cc : ByteArray} {pc nL : Nat} {ls : Array Slot} {rest : List Value} {D : va_G} {A : Nat → Prop} {a : Nat → Nat} {d : Nat → ClassId} {fc : Nat → Int32} {po ra sf oc : Nat → Int32} {rd : Int32} {be : Nat → Int32} {gs : Int32} {gr fi la : Nat → Int32} {N : Nat} {a2 : Nat → Nat} {d2 : Nat → ClassId} {nn : Int32} {o1 o2 o3 o4 o5 : Nat → Int32} (S : CallFix p m c cc nL s args lw_all R_law) (hK : va_K D vwCl (tyX d) s) (hP : va_P D vwCl (WX a d fc (nI N) po ra sf oc rd be gs gr fi la ++ WM a2 d2 nn o1 o2 o3 o4 o5) H) (hD : va_D A (WX a d fc (nI N) po ra sf oc rd be gs gr fi la ++ WM a2 d2 nn o1 o2 o3 o4 o5)) (hS : va_S A s.heap H locs) (hA : ∀ q, s.heap.size ≤ q → A q) (v : Int32) (w : Int32)  (hN4 : N ≤ 4) (hR : rmX0_exchange.frames + 1 ≤ R.frames ∧ 8 + (7 + 11) + rmX0_exchange.locals ≤ R.locals) (hsz : ls.size = nL) (hroom : (rest.map fun v => v.category).sum ≤ 8) (hdg : decode cc pc = .ok (.invokevirtual 22, 3)) (hf : cells ≤ R.cells ∧ slots ≤ R.slots) (kk : ∀ (r : Int32) (u : XB) (H1 : Heap) (locs1 : List Loc), (fun r u => (r, u) = exG N (nI N, rd, po, ra, sf, oc) v w) r u → va_P D vwCl (WM a2 d2 nn o1 o2 o3 o4 o5 ++ (fun u => WX a d fc u.1 u.2.2.1 u.2.2.2.1 u.2.2.2.2.1 u.2.2.2.2.2 u.2.1 be gs gr fi la) u) H1 → va_D A (WM a2 d2 nn o1 o2 o3 o4 o5 ++ (fun u => WX a d fc u.1 u.2.2.1 u.2.2.2.1 u.2.2.2.2.1 u.2.2.2.2.2 u.2.1 be gs gr fi la) u) → va_S A s.heap H1 locs1 → W p l e R s m args below meth c H1 locs1 cells slots Q (F0 m (pc + 3) ls (.int r :: rest))) : W p l e R s m args below meth c H locs cells slots Q (F0 m pc ls (.int w :: .int v :: .ref (a 0) :: rest)) :=
  icallI (tys' := []) (wr := WM a2 d2 nn o1 o2 o3 o4 o5) (q := (RX0, TX0, 12)) (ci := 0) (As := [.int v, .int w]) S (mX0_exchange l v w hN4) (cwV 2 S.2.2.2.2 (lw_V q91 q92 q93 q28 q94) rfl rfl rfl (by decide +kernel) hR) hK hP hD hS hA [0, 1, 2, 3, 4, 5, 6, 7, 8, 9] [10, 11, 12, 13, 14, 15] rfl rfl (by decide) (by decide) (by decide) rfl rfl rfl hsz rfl hroom hdg hf kk
theorem kLX1_exchange {p : Program} {l : Launch} {e : Env} {R : Room} {s : State} {m : MethodId} {args : Array Value} {below : List Frame} {meth : Method} {c : Code} {H : Heap} {locs : List Loc} {cells slots : Nat} {Q : State → Prop} {cc : ByteArray} {pc nL : Nat} {ls : Array Slot} {rest : List Value} {D : va_G} {A : Nat → Prop} {a : Nat → Nat} {d : Nat → ClassId} {mo mq ma mh mf : Nat → Int32} {N : Nat} {a2 : Nat → Nat} {d2 : Nat → ClassId} {n1 n2 n3 : Int32} {o1 o2 o3 o4 o5 o6 o7 o8 o9 : Nat → Int32} (S : CallFix p m c cc nL s args lw_all R_law) (hK : va_K D vwCl (tyM d) s) (hP : va_P D vwCl (WM a d (nI N) mo mq ma mh mf ++ WX a2 d2 o1 n1 o2 o3 o4 o5 n2 o6 n3 o7 o8 o9) H) (hD : va_D A (WM a d (nI N) mo mq ma mh mf ++ WX a2 d2 o1 n1 o2 o3 o4 o5 n2 o6 n3 o7 o8 o9)) (hS : va_S A s.heap H locs) (hA : ∀ q, s.heap.size ≤ q → A q) (v : Int32) (w : Int32)  (hN4 : N ≤ 4) (hR : rmX1_exchange.frames + 1 ≤ R.frames ∧ 8 + (8 + 11) + rmX1_exchange.locals ≤ R.locals) (hsz : ls.size = nL) (hroom : (rest.map fun v => v.category).sum ≤ 8) (hdg : decode cc pc = .ok (.invokevirtual 26, 3)) (hf : cells ≤ R.cells ∧ slots ≤ R.slots) (kk : ∀ (r : Int32) (u : MB) (H1 : Heap) (locs1 : List Loc), (fun r u => (r, u) = exM N (nI N, mo, mq, ma, mh) v w) r u → va_P D vwCl (WX a2 d2 o1 n1 o2 o3 o4 o5 n2 o6 n3 o7 o8 o9 ++ (fun u => WM a d u.1 u.2.1 u.2.2.1 u.2.2.2.1 u.2.2.2.2 mf) u) H1 → va_D A (WX a2 d2 o1 n1 o2 o3 o4 o5 n2 o6 n3 o7 o8 o9 ++ (fun u => WM a d u.1 u.2.1 u.2.2.1 u.2.2.2.1 u.2.2.2.2 mf) u) → va_S A s.heap H1 locs1 → W p l e R s m args below meth c H1 locs1 cells slots Q (F0 m (pc + 3) ls (.int r :: rest))) : W p l e R s m args below meth c H locs cells slots Q (F0 m pc ls (.int w :: .int v :: .ref (a 0) :: rest)) :=
  icallI (tys' := []) (wr := WX a2 d2 o1 n1 o2 o3 o4 o5 n2 o6 n3 o7 o8 o9) (q := (RX1, TX1, 6)) (ci := 1) (As := [.int v, .int w]) S (mX1_exchange l v w hN4) (cwV 2 S.2.2.2.2 (lw_V q251 q252 q253 q29 q254) rfl rfl rfl (by decide +kernel) hR) hK hP hD hS hA [0, 1, 2, 3, 4, 5] [6, 7, 8, 9, 10, 11, 12, 13, 14, 15] rfl rfl (by decide) (by decide) (by decide) rfl rfl rfl hsz rfl hroom hdg hf kk
theorem kLX0_set {p : Program} {l : Launch} {e : Env} {R : Room} {s : State} {m : MethodId} {args : Array Value} {below : List Frame} {meth : Method} {c : Code} {H : Heap} {locs : List Loc} {cells slots : Nat} {Q : State → Prop} {cc : ByteArray} {pc nL : Nat} {ls : Array Slot} {rest : List Value} {D : va_G} {A : Nat → Prop} {a : Nat → Nat} {d : Nat → ClassId} {fc : Nat → Int32} {ct : Int32} {po ra sf oc : Nat → Int32} {rd : Int32} {be : Nat → Int32} {gs : Int32} {gr fi la : Nat → Int32}  {a2 : Nat → Nat} {d2 : Nat → ClassId} {nn : Int32} {o1 o2 o3 o4 o5 : Nat → Int32} (S : CallFix p m c cc nL s args lw_all R_law) (hK : va_K D vwCl (tyX d) s) (hP : va_P D vwCl (WX a d fc ct po ra sf oc rd be gs gr fi la ++ WM a2 d2 nn o1 o2 o3 o4 o5) H) (hD : va_D A (WX a d fc ct po ra sf oc rd be gs gr fi la ++ WM a2 d2 nn o1 o2 o3 o4 o5)) (hS : va_S A s.heap H locs) (hA : ∀ q, s.heap.size ≤ q → A q) (v : Int32) (w : Int32) (t : Int32)  (hR : rmX0_set.frames + 1 ≤ R.frames ∧ 8 + (5 + 11) + rmX0_set.locals ≤ R.locals) (hsz : ls.size = nL) (hroom : (rest.map fun v => v.category).sum ≤ 8) (hdg : decode cc pc = .ok (.invokevirtual 27, 3)) (hf : cells ≤ R.cells ∧ slots ≤ R.slots) (kk : ∀ (r : Int32) (u : Nat → Int32) (H1 : Heap) (locs1 : List Loc), (fun r u => (r, u) = setG fc v w t) r u → va_P D vwCl (WM a2 d2 nn o1 o2 o3 o4 o5 ++ (fun u => WX a d u ct po ra sf oc rd be gs gr fi la) u) H1 → va_D A (WM a2 d2 nn o1 o2 o3 o4 o5 ++ (fun u => WX a d u ct po ra sf oc rd be gs gr fi la) u) → va_S A s.heap H1 locs1 → W p l e R s m args below meth c H1 locs1 cells slots Q (F0 m (pc + 3) ls (.int r :: rest))) : W p l e R s m args below meth c H locs cells slots Q (F0 m pc ls (.int t :: .int w :: .int v :: .ref (a 0) :: rest)) :=
  icallI (tys' := []) (wr := WM a2 d2 nn o1 o2 o3 o4 o5) (q := (RX0, TX0, 12)) (ci := 0) (As := [.int v, .int w, .int t]) S (mX0_set l v w t) (cwV 3 S.2.2.2.2 (lw_V q99 q100 q101 q28 q102) rfl rfl rfl (by decide +kernel) hR) hK hP hD hS hA [0, 1, 2, 3, 4, 5, 6, 7, 8, 9] [10, 11, 12, 13, 14, 15] rfl rfl (by decide) (by decide) (by decide) rfl rfl rfl hsz rfl hroom hdg hf kk
theorem kLX1_set {p : Program} {l : Launch} {e : Env} {R : Room} {s : State} {m : MethodId} {args : Array Value} {below : List Frame} {meth : Method} {c : Code} {H : Heap} {locs : List Loc} {cells slots : Nat} {Q : State → Prop} {cc : ByteArray} {pc nL : Nat} {ls : Array Slot} {rest : List Value} {D : va_G} {A : Nat → Prop} {a : Nat → Nat} {d : Nat → ClassId} {mn : Int32} {mo mq ma mh mf : Nat → Int32}  {a2 : Nat → Nat} {d2 : Nat → ClassId} {n1 n2 n3 : Int32} {o1 o2 o3 o4 o5 o6 o7 o8 o9 : Nat → Int32} (S : CallFix p m c cc nL s args lw_all R_law) (hK : va_K D vwCl (tyM d) s) (hP : va_P D vwCl (WM a d mn mo mq ma mh mf ++ WX a2 d2 o1 n1 o2 o3 o4 o5 n2 o6 n3 o7 o8 o9) H) (hD : va_D A (WM a d mn mo mq ma mh mf ++ WX a2 d2 o1 n1 o2 o3 o4 o5 n2 o6 n3 o7 o8 o9)) (hS : va_S A s.heap H locs) (hA : ∀ q, s.heap.size ≤ q → A q) (v : Int32) (w : Int32) (t : Int32)  (hR : rmX1_set.frames + 1 ≤ R.frames ∧ 8 + (5 + 11) + rmX1_set.locals ≤ R.locals) (hsz : ls.size = nL) (hroom : (rest.map fun v => v.category).sum ≤ 8) (hdg : decode cc pc = .ok (.invokevirtual 31, 3)) (hf : cells ≤ R.cells ∧ slots ≤ R.slots) (kk : ∀ (r : Int32) (u : Nat → Int32) (H1 : Heap) (locs1 : List Loc), (fun r u => (r, u) = setG mf v w t) r u → va_P D vwCl (WX a2 d2 o1 n1 o2 o3 o4 o5 n2 o6 n3 o7 o8 o9 ++ (fun u => WM a d mn mo mq ma mh u) u) H1 → va_D A (WX a2 d2 o1 n1 o2 o3 o4 o5 n2 o6 n3 o7 o8 o9 ++ (fun u => WM a d mn mo mq ma mh u) u) → va_S A s.heap H1 locs1 → W p l e R s m args below meth c H1 locs1 cells slots Q (F0 m (pc + 3) ls (.int r :: rest))) : W p l e R s m args below meth c H locs cells slots Q (F0 m pc ls (.int t :: .int w :: .int v :: .ref (a 0) :: rest)) :=
  icallI (tys' := []) (wr := WX a2 d2 o1 n1 o2 o3 o4 o5 n2 o6 n3 o7 o8 o9) (q := (RX1, TX1, 6)) (ci := 1) (As := [.int v, .int w, .int t]) S (mX1_set l v w t) (cwV 3 S.2.2.2.2 (lw_V q259 q260 q261 q29 q262) rfl rfl rfl (by decide +kernel) hR) hK hP hD hS hA [0, 1, 2, 3, 4, 5] [6, 7, 8, 9, 10, 11, 12, 13, 14, 15] rfl rfl (by decide) (by decide) (by decide) rfl rfl rfl hsz rfl hroom hdg hf kk
theorem kLX0_ramp {p : Program} {l : Launch} {e : Env} {R : Room} {s : State} {m : MethodId} {args : Array Value} {below : List Frame} {meth : Method} {c : Code} {H : Heap} {locs : List Loc} {cells slots : Nat} {Q : State → Prop} {cc : ByteArray} {pc nL : Nat} {ls : Array Slot} {rest : List Value} {D : va_G} {A : Nat → Prop} {a : Nat → Nat} {d : Nat → ClassId} {fc : Nat → Int32} {ct : Int32} {po ra sf oc : Nat → Int32} {rd : Int32} {be : Nat → Int32} {gs : Int32} {gr fi la : Nat → Int32}  {a2 : Nat → Nat} {d2 : Nat → ClassId} {nn : Int32} {o1 o2 o3 o4 o5 : Nat → Int32} (S : CallFix p m c cc nL s args lw_all R_law) (hK : va_K D vwCl (tyX d) s) (hP : va_P D vwCl (WX a d fc ct po ra sf oc rd be gs gr fi la ++ WM a2 d2 nn o1 o2 o3 o4 o5) H) (hD : va_D A (WX a d fc ct po ra sf oc rd be gs gr fi la ++ WM a2 d2 nn o1 o2 o3 o4 o5)) (hS : va_S A s.heap H locs) (hA : ∀ q, s.heap.size ≤ q → A q) (v : Int32) (b : Int32) (t : Int32)  (hR : rmX0_ramp.frames + 1 ≤ R.frames ∧ 8 + (5 + 11) + rmX0_ramp.locals ≤ R.locals) (hsz : ls.size = nL) (hroom : (rest.map fun v => v.category).sum ≤ 8) (hdg : decode cc pc = .ok (.invokevirtual 32, 3)) (hf : cells ≤ R.cells ∧ slots ≤ R.slots) (kk : ∀ (r : Int32) (u : Nat → Int32) (H1 : Heap) (locs1 : List Loc), (fun r u => (r, u) = rpG fc v b t) r u → va_P D vwCl (WM a2 d2 nn o1 o2 o3 o4 o5 ++ (fun u => WX a d u ct po ra sf oc rd be gs gr fi la) u) H1 → va_D A (WM a2 d2 nn o1 o2 o3 o4 o5 ++ (fun u => WX a d u ct po ra sf oc rd be gs gr fi la) u) → va_S A s.heap H1 locs1 → W p l e R s m args below meth c H1 locs1 cells slots Q (F0 m (pc + 3) ls (.int r :: rest))) : W p l e R s m args below meth c H locs cells slots Q (F0 m pc ls (.int t :: .int b :: .int v :: .ref (a 0) :: rest)) :=
  icallI (tys' := []) (wr := WM a2 d2 nn o1 o2 o3 o4 o5) (q := (RX0, TX0, 12)) (ci := 0) (As := [.int v, .int b, .int t]) S (mX0_ramp l v b t) (cwV 3 S.2.2.2.2 (lw_V q103 q104 q105 q28 q106) rfl rfl rfl (by decide +kernel) hR) hK hP hD hS hA [0, 1, 2, 3, 4, 5, 6, 7, 8, 9] [10, 11, 12, 13, 14, 15] rfl rfl (by decide) (by decide) (by decide) rfl rfl rfl hsz rfl hroom hdg hf kk
theorem kLX1_ramp {p : Program} {l : Launch} {e : Env} {R : Room} {s : State} {m : MethodId} {args : Array Value} {below : List Frame} {meth : Method} {c : Code} {H : Heap} {locs : List Loc} {cells slots : Nat} {Q : State → Prop} {cc : ByteArray} {pc nL : Nat} {ls : Array Slot} {rest : List Value} {D : va_G} {A : Nat → Prop} {a : Nat → Nat} {d : Nat → ClassId} {mn : Int32} {mo mq ma mh mf : Nat → Int32}  {a2 : Nat → Nat} {d2 : Nat → ClassId} {n1 n2 n3 : Int32} {o1 o2 o3 o4 o5 o6 o7 o8 o9 : Nat → Int32} (S : CallFix p m c cc nL s args lw_all R_law) (hK : va_K D vwCl (tyM d) s) (hP : va_P D vwCl (WM a d mn mo mq ma mh mf ++ WX a2 d2 o1 n1 o2 o3 o4 o5 n2 o6 n3 o7 o8 o9) H) (hD : va_D A (WM a d mn mo mq ma mh mf ++ WX a2 d2 o1 n1 o2 o3 o4 o5 n2 o6 n3 o7 o8 o9)) (hS : va_S A s.heap H locs) (hA : ∀ q, s.heap.size ≤ q → A q) (v : Int32) (b : Int32) (t : Int32)  (hR : rmX1_ramp.frames + 1 ≤ R.frames ∧ 8 + (5 + 11) + rmX1_ramp.locals ≤ R.locals) (hsz : ls.size = nL) (hroom : (rest.map fun v => v.category).sum ≤ 8) (hdg : decode cc pc = .ok (.invokevirtual 35, 3)) (hf : cells ≤ R.cells ∧ slots ≤ R.slots) (kk : ∀ (r : Int32) (u : Nat → Int32) (H1 : Heap) (locs1 : List Loc), (fun r u => (r, u) = rpG mf v b t) r u → va_P D vwCl (WX a2 d2 o1 n1 o2 o3 o4 o5 n2 o6 n3 o7 o8 o9 ++ (fun u => WM a d mn mo mq ma mh u) u) H1 → va_D A (WX a2 d2 o1 n1 o2 o3 o4 o5 n2 o6 n3 o7 o8 o9 ++ (fun u => WM a d mn mo mq ma mh u) u) → va_S A s.heap H1 locs1 → W p l e R s m args below meth c H1 locs1 cells slots Q (F0 m (pc + 3) ls (.int r :: rest))) : W p l e R s m args below meth c H locs cells slots Q (F0 m pc ls (.int t :: .int b :: .int v :: .ref (a 0) :: rest)) :=
  icallI (tys' := []) (wr := WX a2 d2 o1 n1 o2 o3 o4 o5 n2 o6 n3 o7 o8 o9) (q := (RX1, TX1, 6)) (ci := 1) (As := [.int v, .int b, .int t]) S (mX1_ramp l v b t) (cwV 3 S.2.2.2.2 (lw_V q271 q272 q273 q29 q274) rfl rfl rfl (by decide +kernel) hR) hK hP hD hS hA [0, 1, 2, 3, 4, 5] [6, 7, 8, 9, 10, 11, 12, 13, 14, 15] rfl rfl (by decide) (by decide) (by decide) rfl rfl rfl hsz rfl hroom hdg hf kk
theorem kLX0_run {p : Program} {l : Launch} {e : Env} {R : Room} {s : State} {m : MethodId} {args : Array Value} {below : List Frame} {meth : Method} {c : Code} {H : Heap} {locs : List Loc} {cells slots : Nat} {Q : State → Prop} {cc : ByteArray} {pc nL : Nat} {ls : Array Slot} {rest : List Value} {D : va_G} {A : Nat → Prop} {a : Nat → Nat} {d : Nat → ClassId} {fc : Nat → Int32} {po ra sf oc : Nat → Int32} {rd : Int32} {be : Nat → Int32} {gs : Int32} {gr fi la : Nat → Int32} {N : Nat} {a2 : Nat → Nat} {d2 : Nat → ClassId} {nn : Int32} {o1 o2 o3 o4 o5 : Nat → Int32} (S : CallFix p m c cc nL s args lw_all R_law) (hK : va_K D vwCl (tyX d) s) (hP : va_P D vwCl (WX a d fc (nI N) po ra sf oc rd be gs gr fi la ++ WM a2 d2 nn o1 o2 o3 o4 o5) H) (hD : va_D A (WX a d fc (nI N) po ra sf oc rd be gs gr fi la ++ WM a2 d2 nn o1 o2 o3 o4 o5)) (hS : va_S A s.heap H locs) (hA : ∀ q, s.heap.size ≤ q → A q) (v : Int32) (w : Int32)  (hN4 : N ≤ 4) (hVA : VA (aX ra) N) (hVH : VH (hX sf) N) (hpl : rd = 0 ∨ (rd = 1 ∧ PlanOK (aX ra) (hX sf) po N gs gr fi)) (hR : rmX0_run.frames + 1 ≤ R.frames ∧ 8 + (5 + 11) + rmX0_run.locals ≤ R.locals) (hsz : ls.size = nL) (hroom : (rest.map fun v => v.category).sum ≤ 8) (hdg : decode cc pc = .ok (.invokevirtual 36, 3)) (hf : cells ≤ R.cells ∧ slots ≤ R.slots) (kk : ∀ (r : Int32) (u : (Nat → Int32) × Int32 × (Nat → Int32) × Int32 × (Nat → Int32) × (Nat → Int32) × (Nat → Int32)) (H1 : Heap) (locs1 : List Loc), (fun r u => (r, u.1) = runG (aX ra) (hX sf) po oc N v w fc ∧ (u.2.1 = 0 ∨ (u.2.1 = 1 ∧ PlanOK (aX ra) (hX sf) po N u.2.2.2.1 u.2.2.2.2.1 u.2.2.2.2.2.1))) r u → va_P D vwCl (WM a2 d2 nn o1 o2 o3 o4 o5 ++ (fun u => WX a d u.1 (nI N) po ra sf oc u.2.1 u.2.2.1 u.2.2.2.1 u.2.2.2.2.1 u.2.2.2.2.2.1 u.2.2.2.2.2.2) u) H1 → va_D A (WM a2 d2 nn o1 o2 o3 o4 o5 ++ (fun u => WX a d u.1 (nI N) po ra sf oc u.2.1 u.2.2.1 u.2.2.2.1 u.2.2.2.2.1 u.2.2.2.2.2.1 u.2.2.2.2.2.2) u) → va_S A s.heap H1 locs1 → W p l e R s m args below meth c H1 locs1 cells slots Q (F0 m (pc + 3) ls (.int r :: rest))) : W p l e R s m args below meth c H locs cells slots Q (F0 m pc ls (.int w :: .int v :: .ref (a 0) :: rest)) :=
  icallI (tys' := []) (wr := WM a2 d2 nn o1 o2 o3 o4 o5) (q := (RX0, TX0, 12)) (ci := 0) (As := [.int v, .int w]) S (mX0_run l v w hN4 hVA hVH hpl) (cwV 2 S.2.2.2.2 (lw_V q107 q108 q109 q28 q110) rfl rfl rfl (by decide +kernel) hR) hK hP hD hS hA [0, 1, 2, 3, 4, 5, 6, 7, 8, 9] [10, 11, 12, 13, 14, 15] rfl rfl (by decide) (by decide) (by decide) rfl rfl rfl hsz rfl hroom hdg hf kk
theorem kLX1_run {p : Program} {l : Launch} {e : Env} {R : Room} {s : State} {m : MethodId} {args : Array Value} {below : List Frame} {meth : Method} {c : Code} {H : Heap} {locs : List Loc} {cells slots : Nat} {Q : State → Prop} {cc : ByteArray} {pc nL : Nat} {ls : Array Slot} {rest : List Value} {D : va_G} {A : Nat → Prop} {a : Nat → Nat} {d : Nat → ClassId} {mo mq ma mh mf : Nat → Int32} {N : Nat} {a2 : Nat → Nat} {d2 : Nat → ClassId} {n1 n2 n3 : Int32} {o1 o2 o3 o4 o5 o6 o7 o8 o9 : Nat → Int32} (S : CallFix p m c cc nL s args lw_all R_law) (hK : va_K D vwCl (tyM d) s) (hP : va_P D vwCl (WM a d (nI N) mo mq ma mh mf ++ WX a2 d2 o1 n1 o2 o3 o4 o5 n2 o6 n3 o7 o8 o9) H) (hD : va_D A (WM a d (nI N) mo mq ma mh mf ++ WX a2 d2 o1 n1 o2 o3 o4 o5 n2 o6 n3 o7 o8 o9)) (hS : va_S A s.heap H locs) (hA : ∀ q, s.heap.size ≤ q → A q) (v : Int32) (w : Int32)  (hN4 : N ≤ 4) (hVA : VA (aM ma) N) (hVH : VH (aM mh) N) (hR : rmX1_run.frames + 1 ≤ R.frames ∧ 8 + (6 + 11) + rmX1_run.locals ≤ R.locals) (hsz : ls.size = nL) (hroom : (rest.map fun v => v.category).sum ≤ 8) (hdg : decode cc pc = .ok (.invokevirtual 39, 3)) (hf : cells ≤ R.cells ∧ slots ≤ R.slots) (kk : ∀ (r : Int32) (u : Nat → Int32) (H1 : Heap) (locs1 : List Loc), (fun r u => (r, u) = runG (aM ma) (aM mh) mo mq N v w mf) r u → va_P D vwCl (WX a2 d2 o1 n1 o2 o3 o4 o5 n2 o6 n3 o7 o8 o9 ++ (fun u => WM a d (nI N) mo mq ma mh u) u) H1 → va_D A (WX a2 d2 o1 n1 o2 o3 o4 o5 n2 o6 n3 o7 o8 o9 ++ (fun u => WM a d (nI N) mo mq ma mh u) u) → va_S A s.heap H1 locs1 → W p l e R s m args below meth c H1 locs1 cells slots Q (F0 m (pc + 3) ls (.int r :: rest))) : W p l e R s m args below meth c H locs cells slots Q (F0 m pc ls (.int w :: .int v :: .ref (a 0) :: rest)) :=
  icallI (tys' := []) (wr := WX a2 d2 o1 n1 o2 o3 o4 o5 n2 o6 n3 o7 o8 o9) (q := (RX1, TX1, 6)) (ci := 1) (As := [.int v, .int w]) S (mX1_run l v w hN4 hVA hVH) (cwV 2 S.2.2.2.2 (lw_V q275 q276 q277 q29 q278) rfl rfl rfl (by decide +kernel) hR) hK hP hD hS hA [0, 1, 2, 3, 4, 5] [6, 7, 8, 9, 10, 11, 12, 13, 14, 15] rfl rfl (by decide) (by decide) (by decide) rfl rfl rfl hsz rfl hroom hdg hf kk
theorem kLX0_get {p : Program} {l : Launch} {e : Env} {R : Room} {s : State} {m : MethodId} {args : Array Value} {below : List Frame} {meth : Method} {c : Code} {H : Heap} {locs : List Loc} {cells slots : Nat} {Q : State → Prop} {cc : ByteArray} {pc nL : Nat} {ls : Array Slot} {rest : List Value} {D : va_G} {a : Nat → Nat} {d : Nat → ClassId} {fc : Nat → Int32} {ct : Int32} {po ra sf oc : Nat → Int32} {rd : Int32} {be : Nat → Int32} {gs : Int32} {gr fi la : Nat → Int32}  (S : CallFix p m c cc nL s args lw_all R_law) (hK : va_K D vwCl (tyX d) s) (hP : va_P D vwCl (WX a d fc ct po ra sf oc rd be gs gr fi la) H) (v : Int32) (w : Int32)  (hR : rmX0_get.frames + 1 ≤ R.frames ∧ 8 + (3 + 11) + rmX0_get.locals ≤ R.locals) (hsz : ls.size = nL) (hroom : (rest.map fun v => v.category).sum ≤ 8) (hdg : decode cc pc = .ok (.invokevirtual 40, 3)) (hf : cells ≤ R.cells ∧ slots ≤ R.slots) (kk : W p l e R s m args below meth c H locs cells slots Q (F0 m (pc + 3) ls (.int (gtG fc v w) :: rest))) : W p l e R s m args below meth c H locs cells slots Q (F0 m pc ls (.int w :: .int v :: .ref (a 0) :: rest)) :=
  pcallV (q := (RX0, TX0, 12)) (ci := 0) (As := [.int v, .int w]) S (mX0_get l v w) (cwV 2 S.2.2.2.2 (lw_V q198 q199 q200 q28 q201) rfl rfl rfl (by decide +kernel) hR) hK hP rfl rfl rfl hsz rfl hroom hdg hf kk
theorem kLX1_get {p : Program} {l : Launch} {e : Env} {R : Room} {s : State} {m : MethodId} {args : Array Value} {below : List Frame} {meth : Method} {c : Code} {H : Heap} {locs : List Loc} {cells slots : Nat} {Q : State → Prop} {cc : ByteArray} {pc nL : Nat} {ls : Array Slot} {rest : List Value} {D : va_G} {a : Nat → Nat} {d : Nat → ClassId} {mn : Int32} {mo mq ma mh mf : Nat → Int32}  (S : CallFix p m c cc nL s args lw_all R_law) (hK : va_K D vwCl (tyM d) s) (hP : va_P D vwCl (WM a d mn mo mq ma mh mf) H) (v : Int32) (w : Int32)  (hR : rmX1_get.frames + 1 ≤ R.frames ∧ 8 + (3 + 11) + rmX1_get.locals ≤ R.locals) (hsz : ls.size = nL) (hroom : (rest.map fun v => v.category).sum ≤ 8) (hdg : decode cc pc = .ok (.invokevirtual 43, 3)) (hf : cells ≤ R.cells ∧ slots ≤ R.slots) (kk : W p l e R s m args below meth c H locs cells slots Q (F0 m (pc + 3) ls (.int (gtG mf v w) :: rest))) : W p l e R s m args below meth c H locs cells slots Q (F0 m pc ls (.int w :: .int v :: .ref (a 0) :: rest)) :=
  pcallV (q := (RX1, TX1, 6)) (ci := 1) (As := [.int v, .int w]) S (mX1_get l v w) (cwV 2 S.2.2.2.2 (lw_V q283 q284 q285 q29 q286) rfl rfl rfl (by decide +kernel) hR) hK hP rfl rfl rfl hsz rfl hroom hdg hf kk
theorem kLX0_sum {p : Program} {l : Launch} {e : Env} {R : Room} {s : State} {m : MethodId} {args : Array Value} {below : List Frame} {meth : Method} {c : Code} {H : Heap} {locs : List Loc} {cells slots : Nat} {Q : State → Prop} {cc : ByteArray} {pc nL : Nat} {ls : Array Slot} {rest : List Value} {D : va_G} {a : Nat → Nat} {d : Nat → ClassId} {fc : Nat → Int32} {ct : Int32} {po ra sf oc : Nat → Int32} {rd : Int32} {be : Nat → Int32} {gs : Int32} {gr fi la : Nat → Int32}  (S : CallFix p m c cc nL s args lw_all R_law) (hK : va_K D vwCl (tyX d) s) (hP : va_P D vwCl (WX a d fc ct po ra sf oc rd be gs gr fi la) H) (v : Int32)  (hR : rmX0_sum.frames + 1 ≤ R.frames ∧ 8 + (4 + 11) + rmX0_sum.locals ≤ R.locals) (hsz : ls.size = nL) (hroom : (rest.map fun v => v.category).sum ≤ 8) (hdg : decode cc pc = .ok (.invokevirtual 44, 3)) (hf : cells ≤ R.cells ∧ slots ≤ R.slots) (kk : W p l e R s m args below meth c H locs cells slots Q (F0 m (pc + 3) ls (.int (smG fc v) :: rest))) : W p l e R s m args below meth c H locs cells slots Q (F0 m pc ls (.int v :: .ref (a 0) :: rest)) :=
  pcallV (q := (RX0, TX0, 12)) (ci := 0) (As := [.int v]) S (mX0_sum l v) (cwV 1 S.2.2.2.2 (lw_V q202 q203 q204 q28 q205) rfl rfl rfl (by decide +kernel) hR) hK hP rfl rfl rfl hsz rfl hroom hdg hf kk
theorem kLX1_sum {p : Program} {l : Launch} {e : Env} {R : Room} {s : State} {m : MethodId} {args : Array Value} {below : List Frame} {meth : Method} {c : Code} {H : Heap} {locs : List Loc} {cells slots : Nat} {Q : State → Prop} {cc : ByteArray} {pc nL : Nat} {ls : Array Slot} {rest : List Value} {D : va_G} {a : Nat → Nat} {d : Nat → ClassId} {mn : Int32} {mo mq ma mh mf : Nat → Int32}  (S : CallFix p m c cc nL s args lw_all R_law) (hK : va_K D vwCl (tyM d) s) (hP : va_P D vwCl (WM a d mn mo mq ma mh mf) H) (v : Int32)  (hR : rmX1_sum.frames + 1 ≤ R.frames ∧ 8 + (4 + 11) + rmX1_sum.locals ≤ R.locals) (hsz : ls.size = nL) (hroom : (rest.map fun v => v.category).sum ≤ 8) (hdg : decode cc pc = .ok (.invokevirtual 48, 3)) (hf : cells ≤ R.cells ∧ slots ≤ R.slots) (kk : W p l e R s m args below meth c H locs cells slots Q (F0 m (pc + 3) ls (.int (smG mf v) :: rest))) : W p l e R s m args below meth c H locs cells slots Q (F0 m pc ls (.int v :: .ref (a 0) :: rest)) :=
  pcallV (q := (RX1, TX1, 6)) (ci := 1) (As := [.int v]) S (mX1_sum l v) (cwV 1 S.2.2.2.2 (lw_V q287 q288 q289 q29 q290) rfl rfl rfl (by decide +kernel) hR) hK hP rfl rfl rfl hsz rfl hroom hdg hf kk
theorem kLX0_differ {p : Program} {l : Launch} {e : Env} {R : Room} {s : State} {m : MethodId} {args : Array Value} {below : List Frame} {meth : Method} {c : Code} {H : Heap} {locs : List Loc} {cells slots : Nat} {Q : State → Prop} {cc : ByteArray} {pc nL : Nat} {ls : Array Slot} {rest : List Value} {D : va_G} {a : Nat → Nat} {d : Nat → ClassId} {fc : Nat → Int32} {ct : Int32} {po ra sf oc : Nat → Int32} {rd : Int32} {be : Nat → Int32} {gs : Int32} {gr fi la : Nat → Int32}  (S : CallFix p m c cc nL s args lw_all R_law) (hK : va_K D vwCl (tyX d) s) (hP : va_P D vwCl (WX a d fc ct po ra sf oc rd be gs gr fi la) H) (v : Int32) (w : Int32)  (hR : rmX0_differ.frames + 1 ≤ R.frames ∧ 8 + (5 + 11) + rmX0_differ.locals ≤ R.locals) (hsz : ls.size = nL) (hroom : (rest.map fun v => v.category).sum ≤ 8) (hdg : decode cc pc = .ok (.invokevirtual 49, 3)) (hf : cells ≤ R.cells ∧ slots ≤ R.slots) (kk : W p l e R s m args below meth c H locs cells slots Q (F0 m (pc + 3) ls (.int (dfG fc v w) :: rest))) : W p l e R s m args below meth c H locs cells slots Q (F0 m pc ls (.int w :: .int v :: .ref (a 0) :: rest)) :=
  pcallV (q := (RX0, TX0, 12)) (ci := 0) (As := [.int v, .int w]) S (mX0_differ l v w) (cwV 2 S.2.2.2.2 (lw_V q206 q207 q208 q28 q209) rfl rfl rfl (by decide +kernel) hR) hK hP rfl rfl rfl hsz rfl hroom hdg hf kk
theorem kLX1_differ {p : Program} {l : Launch} {e : Env} {R : Room} {s : State} {m : MethodId} {args : Array Value} {below : List Frame} {meth : Method} {c : Code} {H : Heap} {locs : List Loc} {cells slots : Nat} {Q : State → Prop} {cc : ByteArray} {pc nL : Nat} {ls : Array Slot} {rest : List Value} {D : va_G} {a : Nat → Nat} {d : Nat → ClassId} {mn : Int32} {mo mq ma mh mf : Nat → Int32}  (S : CallFix p m c cc nL s args lw_all R_law) (hK : va_K D vwCl (tyM d) s) (hP : va_P D vwCl (WM a d mn mo mq ma mh mf) H) (v : Int32) (w : Int32)  (hR : rmX1_differ.frames + 1 ≤ R.frames ∧ 8 + (5 + 11) + rmX1_differ.locals ≤ R.locals) (hsz : ls.size = nL) (hroom : (rest.map fun v => v.category).sum ≤ 8) (hdg : decode cc pc = .ok (.invokevirtual 52, 3)) (hf : cells ≤ R.cells ∧ slots ≤ R.slots) (kk : W p l e R s m args below meth c H locs cells slots Q (F0 m (pc + 3) ls (.int (dfG mf v w) :: rest))) : W p l e R s m args below meth c H locs cells slots Q (F0 m pc ls (.int w :: .int v :: .ref (a 0) :: rest)) :=
  pcallV (q := (RX1, TX1, 6)) (ci := 1) (As := [.int v, .int w]) S (mX1_differ l v w) (cwV 2 S.2.2.2.2 (lw_V q291 q292 q293 q29 q294) rfl rfl rfl (by decide +kernel) hR) hK hP rfl rfl rfl hsz rfl hroom hdg hf kk
theorem kLX0_size {p : Program} {l : Launch} {e : Env} {R : Room} {s : State} {m : MethodId} {args : Array Value} {below : List Frame} {meth : Method} {c : Code} {H : Heap} {locs : List Loc} {cells slots : Nat} {Q : State → Prop} {cc : ByteArray} {pc nL : Nat} {ls : Array Slot} {rest : List Value} {D : va_G} {a : Nat → Nat} {d : Nat → ClassId} {fc : Nat → Int32} {ct : Int32} {po ra sf oc : Nat → Int32} {rd : Int32} {be : Nat → Int32} {gs : Int32} {gr fi la : Nat → Int32}  (S : CallFix p m c cc nL s args lw_all R_law) (hK : va_K D vwCl (tyX d) s) (hP : va_P D vwCl (WX a d fc ct po ra sf oc rd be gs gr fi la) H)  (hR : rmX0_size.frames + 1 ≤ R.frames ∧ 8 + (1 + 11) + rmX0_size.locals ≤ R.locals) (hsz : ls.size = nL) (hroom : (rest.map fun v => v.category).sum ≤ 8) (hdg : decode cc pc = .ok (.invokevirtual 53, 3)) (hf : cells ≤ R.cells ∧ slots ≤ R.slots) (kk : W p l e R s m args below meth c H locs cells slots Q (F0 m (pc + 3) ls (.int (ct) :: rest))) : W p l e R s m args below meth c H locs cells slots Q (F0 m pc ls (.ref (a 0) :: rest)) :=
  pcallV (q := (RX0, TX0, 12)) (ci := 0) (As := []) S (mX0_size l ) (cwV 0 S.2.2.2.2 (lw_V q210 q211 q212 q28 q213) rfl rfl rfl (by decide +kernel) hR) hK hP rfl rfl rfl hsz rfl hroom hdg hf kk
theorem kLX1_size {p : Program} {l : Launch} {e : Env} {R : Room} {s : State} {m : MethodId} {args : Array Value} {below : List Frame} {meth : Method} {c : Code} {H : Heap} {locs : List Loc} {cells slots : Nat} {Q : State → Prop} {cc : ByteArray} {pc nL : Nat} {ls : Array Slot} {rest : List Value} {D : va_G} {a : Nat → Nat} {d : Nat → ClassId} {mn : Int32} {mo mq ma mh mf : Nat → Int32}  (S : CallFix p m c cc nL s args lw_all R_law) (hK : va_K D vwCl (tyM d) s) (hP : va_P D vwCl (WM a d mn mo mq ma mh mf) H)  (hR : rmX1_size.frames + 1 ≤ R.frames ∧ 8 + (1 + 11) + rmX1_size.locals ≤ R.locals) (hsz : ls.size = nL) (hroom : (rest.map fun v => v.category).sum ≤ 8) (hdg : decode cc pc = .ok (.invokevirtual 57, 3)) (hf : cells ≤ R.cells ∧ slots ≤ R.slots) (kk : W p l e R s m args below meth c H locs cells slots Q (F0 m (pc + 3) ls (.int (mn) :: rest))) : W p l e R s m args below meth c H locs cells slots Q (F0 m pc ls (.ref (a 0) :: rest)) :=
  pcallV (q := (RX1, TX1, 6)) (ci := 1) (As := []) S (mX1_size l ) (cwV 0 S.2.2.2.2 (lw_V q295 q296 q297 q29 q298) rfl rfl rfl (by decide +kernel) hR) hK hP rfl rfl rfl hsz rfl hroom hdg hf kk
theorem kLX0_mustPrecede {p : Program} {l : Launch} {e : Env} {R : Room} {s : State} {m : MethodId} {args : Array Value} {below : List Frame} {meth : Method} {c : Code} {H : Heap} {locs : List Loc} {cells slots : Nat} {Q : State → Prop} {cc : ByteArray} {pc nL : Nat} {ls : Array Slot} {rest : List Value} {D : va_G} {a : Nat → Nat} {d : Nat → ClassId} {fc : Nat → Int32} {po ra sf oc : Nat → Int32} {rd : Int32} {be : Nat → Int32} {gs : Int32} {gr fi la : Nat → Int32} {N : Nat} (S : CallFix p m c cc nL s args lw_all R_law) (hK : va_K D vwCl (tyX d) s) (hP : va_P D vwCl (WX a d fc (nI N) po ra sf oc rd be gs gr fi la) H) (v : Int32) (w : Int32) (t : Int32)  (hN4 : N ≤ 4) (hR : rmX0_mustPrecede.frames + 1 ≤ R.frames ∧ 8 + (4 + 11) + rmX0_mustPrecede.locals ≤ R.locals) (hsz : ls.size = nL) (hroom : (rest.map fun v => v.category).sum ≤ 8) (hdg : decode cc pc = .ok (.invokevirtual 58, 3)) (hf : cells ≤ R.cells ∧ slots ≤ R.slots) (kk : W p l e R s m args below meth c H locs cells slots Q (F0 m (pc + 3) ls (.int (bI (mpG (aX ra) (hX sf) po (nI N) v w t)) :: rest))) : W p l e R s m args below meth c H locs cells slots Q (F0 m pc ls (.int t :: .int w :: .int v :: .ref (a 0) :: rest)) :=
  pcallV (q := (RX0, TX0, 12)) (ci := 0) (As := [.int v, .int w, .int t]) S (mX0_mustPrecede l v w t hN4) (cwV 3 S.2.2.2.2 (lw_V q214 q215 q216 q28 q217) rfl rfl rfl (by decide +kernel) hR) hK hP rfl rfl rfl hsz rfl hroom hdg hf kk
theorem kLX1_mustPrecede {p : Program} {l : Launch} {e : Env} {R : Room} {s : State} {m : MethodId} {args : Array Value} {below : List Frame} {meth : Method} {c : Code} {H : Heap} {locs : List Loc} {cells slots : Nat} {Q : State → Prop} {cc : ByteArray} {pc nL : Nat} {ls : Array Slot} {rest : List Value} {D : va_G} {a : Nat → Nat} {d : Nat → ClassId} {mo mq ma mh mf : Nat → Int32} {N : Nat} (S : CallFix p m c cc nL s args lw_all R_law) (hK : va_K D vwCl (tyM d) s) (hP : va_P D vwCl (WM a d (nI N) mo mq ma mh mf) H) (v : Int32) (w : Int32) (t : Int32)  (hN4 : N ≤ 4) (hR : rmX1_mustPrecede.frames + 1 ≤ R.frames ∧ 8 + (7 + 11) + rmX1_mustPrecede.locals ≤ R.locals) (hsz : ls.size = nL) (hroom : (rest.map fun v => v.category).sum ≤ 8) (hdg : decode cc pc = .ok (.invokevirtual 62, 3)) (hf : cells ≤ R.cells ∧ slots ≤ R.slots) (kk : W p l e R s m args below meth c H locs cells slots Q (F0 m (pc + 3) ls (.int (bI (mpG (aM ma) (aM mh) mo (nI N) v w t)) :: rest))) : W p l e R s m args below meth c H locs cells slots Q (F0 m pc ls (.int t :: .int w :: .int v :: .ref (a 0) :: rest)) :=
  pcallV (q := (RX1, TX1, 6)) (ci := 1) (As := [.int v, .int w, .int t]) S (mX1_mustPrecede l v w t hN4) (cwV 3 S.2.2.2.2 (lw_V q299 q300 q301 q29 q302) rfl rfl rfl (by decide +kernel) hR) hK hP rfl rfl rfl hsz rfl hroom hdg hf kk
theorem va_Pl {D : va_G} {w1 w2 : va_W} {H : Heap} (h : va_P D vwCl (w1 ++ w2) H) : va_P D vwCl w1 H := by
  intro k q hk
  refine h k q ?_
  rw [List.getElem?_append_left (List.getElem?_eq_some_iff.mp hk).1]
  exact hk
theorem va_Pr {D : va_G} {w1 w2 : va_W} {H : Heap} (h : va_P D vwCl (w1 ++ w2) H) : va_P D vwCl w2 H := by
  intro k q hk
  refine h (w1.length + k) q ?_
  rw [List.getElem?_append_right (by omega), Nat.add_sub_cancel_left]
  exact hk
theorem sldN {p : Program} {l : Launch} {e : Env} {R : Room} {s : State} {m : MethodId} {args : Array Value} {below : List Frame} {meth : Method} {c : Code} {H : Heap} {locs : List Loc} {cells slots : Nat} {Q : State → Prop} {cc : ByteArray} {pc : Nat} {ls : Array Slot} {rest : List Value} {A : Nat → Prop} {H0 : Heap} (hexec : p.tables.exec = Jvm.exec) (hb : c.code = cc) {b L : Nat} {xs : Nat → Int32} (hX : va_X b L xs s H0) (hbl : b < H0.size) (hbA : ¬ A b) (hS : va_S A H0 H locs) {i : Int32} (k : Nat) (hi : i = nI k) (hk : k < L) (hL : L < 2 ^ 31) (hdg : decode cc pc = .ok (.iaload, 1))
    (kk : W p l e R s m args below meth c H locs cells slots Q (F0 m (pc + 1) ls (.int (xs k) :: rest))) : W p l e R s m args below meth c H locs cells slots Q (F0 m pc ls (.int i :: .ref b :: rest)) := by
  subst hi
  refine va_sld hexec hb hX hbl hbA hS (vp_in_nI hk hL) hdg ?_
  rw [nI_clamp (Nat.lt_trans hk hL)]
  exact kk
theorem law_test {L i : Nat} (hL : L ≤ 320) (hi : i ≤ L) : nI L - 5 < nI i ↔ L < i + 5 := by
  rw [Int32.lt_iff_toInt_lt]
  have e : (nI L - 5).toInt = (L : Int) - 5 := pk_sub_toInt (a := L) (b := 5) (by omega) (by omega)
  rw [e, nI_toInt (by omega)]
  omega
section LawRel
variable {N : Nat} {fc po ra sf oc : Nat → Int32} {rd gs : Int32} {gr fi mo mq ma mh mf : Nat → Int32}
theorem rel_cells (h : RelW N fc po ra sf oc rd gs gr fi mo mq ma mh mf) {u1 u2 : Nat → Int32} (hu : ∀ j, j < 96 → u1 j = u2 j) : RelW N u1 po ra sf oc rd gs gr fi mo mq ma mh u2 :=
  ⟨h.1, hu, h.2.2⟩
theorem rel_plan (h : RelW N fc po ra sf oc rd gs gr fi mo mq ma mh mf) {u1 u2 : Nat → Int32} (hu : ∀ j, j < 96 → u1 j = u2 j) {rd1 gs1 : Int32} {gr1 fi1 : Nat → Int32} (hp : rd1 = 0 ∨ (rd1 = 1 ∧ PlanOK (aX ra) (hX sf) po N gs1 gr1 fi1)) : RelW N u1 po ra sf oc rd1 gs1 gr1 fi1 mo mq ma mh u2 :=
  ⟨h.1, hu, h.2.2.1, h.2.2.2.1, h.2.2.2.2.1, hp⟩
theorem rel_clear (h : ∀ j, j < 96 → fc j = mf j) : RelW 0 fc po ra sf oc 0 gs gr fi mo mq ma mh mf :=
  ⟨by omega, h, fun s hs => absurd hs (by omega), fun x p hx => absurd hx (by omega), fun x p hx => absurd hx (by omega), Or.inl rfl⟩
end LawRel
end
section
/-! the law: its loop (printed by gen/p26.py) -/
set_option maxHeartbeats 8000000 in
set_option maxRecDepth 100000 in
theorem law_loop {p : Program} {l : Launch} {e : Env} {s : State} {m : MethodId} {below : List Frame} {meth : Method} {c : Code} {b L : Nat} {xs : Nat → Int32} {D : va_G} {a a2 : Nat → Nat} {d d2 : Nat → ClassId} {A : Nat → Prop} (hL : L ≤ 320) (hx : p.tables.exec = Jvm.exec) (hb : c.code = code) (hr : meth.sig.returnType = ret) (hlk : meth.locks = false) (hml : c.maxLocals = 4) (hown : s.vm.findClass R_law = some m.cls) (hts : ∀ w ∈ lw_all, w.before #[Value.ref b] s = true) (hX : va_X b L xs s s.heap) (hbl : b < s.heap.size) (hAe : ∀ q, A q ↔ s.heap.size ≤ q) (hK : va_K D vwCl (tyX d ++ tyM d2) s) :
    ∀ (n i : Nat), L ≤ i + 5 * n + 4 → i ≤ L → ∀ (N : Nat) (fc po ra sf oc : Nat → Int32) (rd : Int32) (be : Nat → Int32) (gs : Int32) (gr fi la mo mq ma mh mf : Nat → Int32), RelW N fc po ra sf oc rd gs gr fi mo mq ma mh mf → ∀ (H : Heap) (locs : List Loc), va_P D vwCl (WX a d fc (nI N) po ra sf oc rd be gs gr fi la ++ WM a2 d2 (nI N) mo mq ma mh mf) H → va_D A (WX a d fc (nI N) po ra sf oc rd be gs gr fi la ++ WM a2 d2 (nI N) mo mq ma mh mf) → va_S A s.heap H locs → ∀ ls : Array Slot, lv_has ls 4 [(0, .ref b), (1, .ref (a 0)), (2, .ref (a2 0)), (3, .int (nI i))] → W p l e room_1 s m #[Value.ref b] below meth c H locs 16 274 (lw_Z below #[Value.ref b] s) (F0 m 18 ls []) := by
  have hA : ∀ q, s.heap.size ≤ q → A q := fun q h => (hAe q).mpr h
  have hbA : ¬ A b := fun h => by have h2 := (hAe b).mp h; omega
  have hKx : va_K D vwCl (tyX d) s := hK.sub [0, 1, 2, 3, 4, 5, 6, 7, 8] rfl
  have hKm : va_K D vwCl (tyM d2) s := hK.sub [9, 10, 11, 12, 13] rfl
  have hCF : CallFix p m c code 4 s #[Value.ref b] lw_all R_law := ⟨hx, hb, hml, hown, hts⟩
  have hXI : p.tables.exec = Jvm.exec := hx
  intro n
  induction n with
  | zero =>
    intro i hin hiL N fc po ra sf oc rd be gs gr fi la mo mq ma mh mf hR H locs hP hD hS ls hl
    refine lv_iload_n hx hb dL_law_18 rfl (lv_at hl 3 rfl) ?_
    refine lv_aload_n hx hb dL_law_19 rfl (lv_at hl 0 rfl) ?_
    refine va_slen hx hb hX hbl hbA hS dL_law_20 ?_
    refine tope (y := nI L) rfl ?_
    refine lv_iconst (v := 5) hx hb dL_law_21 (by decide) ?_
    refine lv_isub hx hb dL_law_22 ?_
    refine lv_icmp_gt (tgt := 459) hx hb dL_law_23 (by decide) (fun c_23 => ?_) (fun c_23 => absurd ((law_test hL hiL).mpr (by omega)) c_23)
    refine lv_iconst (v := 1) hx hb dL_law_459 (by decide) ?_
    refine va_forget (fun q hq => (hAe _).mp (hS.2.2 q hq)) ?_
    refine W.widen (k := 600000) (n := 7290000) (by decide) (by decide) ?_
    exact lw_ret hx hb hr hlk dL_law_460
  | succ n ih =>
    intro i hin hiL N fc po ra sf oc rd be gs gr fi la mo mq ma mh mf hR H locs hP hD hS ls hl
    refine lv_iload_n hx hb dL_law_18 rfl (lv_at hl 3 rfl) ?_
    refine lv_aload_n hx hb dL_law_19 rfl (lv_at hl 0 rfl) ?_
    refine va_slen hx hb hX hbl hbA hS dL_law_20 ?_
    refine tope (y := nI L) rfl ?_
    refine lv_iconst (v := 5) hx hb dL_law_21 (by decide) ?_
    refine lv_isub hx hb dL_law_22 ?_
    refine lv_icmp_gt (tgt := 459) hx hb dL_law_23 (by decide) (fun c_23 => ?_) (fun c_23 => ?_)
    · skip
      refine lv_iconst (v := 1) hx hb dL_law_459 (by decide) ?_
      refine va_forget (fun q hq => (hAe _).mp (hS.2.2 q hq)) ?_
      refine W.widen (k := 600000) (n := 7290000) (by decide) (by decide) ?_
      exact lw_ret hx hb hr hlk dL_law_460
    have hi5 : i + 5 ≤ L := by have h9 : ¬ L < i + 5 := fun h => c_23 ((law_test hL hiL).mpr h); omega
    have nxt : ∀ (N : Nat) (fc po ra sf oc : Nat → Int32) (rd : Int32) (be : Nat → Int32) (gs : Int32) (gr fi la mo mq ma mh mf : Nat → Int32), RelW N fc po ra sf oc rd gs gr fi mo mq ma mh mf → ∀ (H : Heap) (locs : List Loc), va_P D vwCl (WX a d fc (nI N) po ra sf oc rd be gs gr fi la ++ WM a2 d2 (nI N) mo mq ma mh mf) H → va_D A (WX a d fc (nI N) po ra sf oc rd be gs gr fi la ++ WM a2 d2 (nI N) mo mq ma mh mf) → va_S A s.heap H locs → ∀ ls : Array Slot, lv_has ls 4 [(0, .ref b), (1, .ref (a 0)), (2, .ref (a2 0)), (3, .int (nI i))] → W p l e room_1 s m #[Value.ref b] below meth c H locs 16 274 (lw_Z below #[Value.ref b] s) (F0 m 453 ls []) := by
      intro N fc po ra sf oc rd be gs gr fi la mo mq ma mh mf hR H locs hP hD hS ls hl
      refine lv_iinc (v := nI (i + 5)) (lv' := [(3, .int (nI (i + 5))), (0, .ref b), (1, .ref (a 0)), (2, .ref (a2 0))]) hx hb dL_law_453 hl (k := 3) rfl (nI_add i 5) (by decide) rfl (fun ls hl => ?_)
      refine lv_goto (tgt := 18) hx hb dL_law_456 (by decide) ?_
      exact ih (i + 5) (by omega) hi5 N fc po ra sf oc rd be gs gr fi la mo mq ma mh mf hR _ _ hP hD hS ls (lv_sub hl [1, 2, 3, 0] rfl)
    refine lv_aload_n hx hb dL_law_26 rfl (lv_at hl 0 rfl) ?_
    refine lv_iload_n hx hb dL_law_27 rfl (lv_at hl 3 rfl) ?_
    refine sldN hx hb hX hbl hbA hS i rfl (by omega) (by omega) dL_law_28 ?_
    refine lv_bipush (v := 15) hx hb dL_law_29 (by decide) ?_
    refine lv_iand hx hb dL_law_31 ?_
    obtain ⟨j, hj, ej⟩ := pk_andE (xs i) (m := 15) 4 (by decide)
    refine tope (y := nI j) ej ?_
    by_cases hj0 : j = 0
    · subst hj0
      refine lv_tableIn (tgt := 92) (off := 60) hx hb dL_law_32 (by decide) (by decide) rfl (by decide) ?_
      refine lv_aload_n hx hb dL_law_92 rfl (lv_at hl 1 rfl) ?_
      refine lv_aload_n hx hb dL_law_93 rfl (lv_at hl 0 rfl) ?_
      refine lv_iload_n hx hb dL_law_94 rfl (lv_at hl 3 rfl) ?_
      refine lv_iconst (v := 1) hx hb dL_law_95 (by decide) ?_
      refine lv_iadd hx hb dL_law_96 ?_
      refine tope (y := nI (i + 1)) (nI_add i 1) ?_
      refine sldN hx hb hX hbl hbA hS (i + 1) rfl (by omega) (by omega) dL_law_97 ?_
      refine lv_aload_n hx hb dL_law_98 rfl (lv_at hl 0 rfl) ?_
      refine lv_iload_n hx hb dL_law_99 rfl (lv_at hl 3 rfl) ?_
      refine lv_iconst (v := 2) hx hb dL_law_100 (by decide) ?_
      refine lv_iadd hx hb dL_law_101 ?_
      refine tope (y := nI (i + 2)) (nI_add i 2) ?_
      refine sldN hx hb hX hbl hbA hS (i + 2) rfl (by omega) (by omega) dL_law_102 ?_
      refine lv_aload_n hx hb dL_law_103 rfl (lv_at hl 0 rfl) ?_
      refine lv_iload_n hx hb dL_law_104 rfl (lv_at hl 3 rfl) ?_
      refine lv_iconst (v := 3) hx hb dL_law_105 (by decide) ?_
      refine lv_iadd hx hb dL_law_106 ?_
      refine tope (y := nI (i + 3)) (nI_add i 3) ?_
      refine sldN hx hb hX hbl hbA hS (i + 3) rfl (by omega) (by omega) dL_law_107 ?_
      refine lv_aload_n hx hb dL_law_108 rfl (lv_at hl 0 rfl) ?_
      refine lv_iload_n hx hb dL_law_109 rfl (lv_at hl 3 rfl) ?_
      refine lv_iconst (v := 4) hx hb dL_law_110 (by decide) ?_
      refine lv_iadd hx hb dL_law_111 ?_
      refine tope (y := nI (i + 4)) (nI_add i 4) ?_
      refine sldN hx hb hX hbl hbA hS (i + 4) rfl (by omega) (by omega) dL_law_112 ?_
      refine kLX0_statement hCF hKx hP hD hS hA (xs (i + 1)) (xs (i + 2)) (xs (i + 3)) (xs (i + 4)) hR.1 ⟨by decide, by decide⟩ hl.1 (Nat.le_of_ble_eq_true rfl) dL_law_113 ⟨by decide, by decide⟩ (fun r1 u1 H locs e1 hP hD hS => ?_)
      refine lv_aload_n hx hb dL_law_116 rfl (lv_at hl 2 rfl) ?_
      refine lv_aload_n hx hb dL_law_117 rfl (lv_at hl 0 rfl) ?_
      refine lv_iload_n hx hb dL_law_118 rfl (lv_at hl 3 rfl) ?_
      refine lv_iconst (v := 1) hx hb dL_law_119 (by decide) ?_
      refine lv_iadd hx hb dL_law_120 ?_
      refine tope (y := nI (i + 1)) (nI_add i 1) ?_
      refine sldN hx hb hX hbl hbA hS (i + 1) rfl (by omega) (by omega) dL_law_121 ?_
      refine lv_aload_n hx hb dL_law_122 rfl (lv_at hl 0 rfl) ?_
      refine lv_iload_n hx hb dL_law_123 rfl (lv_at hl 3 rfl) ?_
      refine lv_iconst (v := 2) hx hb dL_law_124 (by decide) ?_
      refine lv_iadd hx hb dL_law_125 ?_
      refine tope (y := nI (i + 2)) (nI_add i 2) ?_
      refine sldN hx hb hX hbl hbA hS (i + 2) rfl (by omega) (by omega) dL_law_126 ?_
      refine lv_aload_n hx hb dL_law_127 rfl (lv_at hl 0 rfl) ?_
      refine lv_iload_n hx hb dL_law_128 rfl (lv_at hl 3 rfl) ?_
      refine lv_iconst (v := 3) hx hb dL_law_129 (by decide) ?_
      refine lv_iadd hx hb dL_law_130 ?_
      refine tope (y := nI (i + 3)) (nI_add i 3) ?_
      refine sldN hx hb hX hbl hbA hS (i + 3) rfl (by omega) (by omega) dL_law_131 ?_
      refine lv_aload_n hx hb dL_law_132 rfl (lv_at hl 0 rfl) ?_
      refine lv_iload_n hx hb dL_law_133 rfl (lv_at hl 3 rfl) ?_
      refine lv_iconst (v := 4) hx hb dL_law_134 (by decide) ?_
      refine lv_iadd hx hb dL_law_135 ?_
      refine tope (y := nI (i + 4)) (nI_add i 4) ?_
      refine sldN hx hb hX hbl hbA hS (i + 4) rfl (by omega) (by omega) dL_law_136 ?_
      refine kLX1_statement hCF hKm hP hD hS hA (xs (i + 1)) (xs (i + 2)) (xs (i + 3)) (xs (i + 4)) hR.1 ⟨by decide, by decide⟩ hl.1 (Nat.le_of_ble_eq_true rfl) dL_law_137 ⟨by decide, by decide⟩ (fun r2 u2 H locs e2 hP hD hS => ?_)
      obtain ⟨er, M, f1, f2, hR2⟩ := rel_smt hR e1 e2
      obtain ⟨ct1, rd1, po1, ra1, sf1, oc1⟩ := u1
      obtain ⟨mn2, mo2, mq2, ma2, mh2⟩ := u2
      have f1 : ct1 = nI M := f1
      have f2 : mn2 = nI M := f2
      subst f1
      subst f2
      refine lv_icmp_eq (tgt := 453) hx hb dL_law_140 (by decide) (fun _ => ?_) (fun c_9 => absurd er c_9)
      exact nxt M fc po1 ra1 sf1 oc1 rd1 be gs gr fi la mo2 mq2 ma2 mh2 mf hR2 _ _ hP hD hS ls hl
    by_cases hj1 : j = 1
    · subst hj1
      refine lv_tableIn (tgt := 145) (off := 113) hx hb dL_law_32 (by decide) (by decide) rfl (by decide) ?_
      refine lv_aload_n hx hb dL_law_145 rfl (lv_at hl 1 rfl) ?_
      refine kLX0_clear hCF hKx hP hD hS hA   ⟨by decide, by decide⟩ hl.1 (Nat.le_of_ble_eq_true rfl) dL_law_146 ⟨by decide, by decide⟩ (fun u1 H locs e1 hP hD hS => ?_)
      refine lv_aload_n hx hb dL_law_149 rfl (lv_at hl 2 rfl) ?_
      refine kLX1_clear hCF hKm hP hD hS hA   ⟨by decide, by decide⟩ hl.1 (Nat.le_of_ble_eq_true rfl) dL_law_150 ⟨by decide, by decide⟩ (fun u2 H locs e2 hP hD hS => ?_)
      refine lv_goto (tgt := 453) hx hb dL_law_153 (by decide) ?_
      exact nxt 0 fc po ra sf oc 0 be gs gr fi la mo mq ma mh mf (rel_clear hR.2.1) _ _ hP hD hS ls hl
    by_cases hj2 : j = 2
    · subst hj2
      refine lv_tableIn (tgt := 156) (off := 124) hx hb dL_law_32 (by decide) (by decide) rfl (by decide) ?_
      refine lv_aload_n hx hb dL_law_156 rfl (lv_at hl 1 rfl) ?_
      refine lv_aload_n hx hb dL_law_157 rfl (lv_at hl 0 rfl) ?_
      refine lv_iload_n hx hb dL_law_158 rfl (lv_at hl 3 rfl) ?_
      refine lv_iconst (v := 1) hx hb dL_law_159 (by decide) ?_
      refine lv_iadd hx hb dL_law_160 ?_
      refine tope (y := nI (i + 1)) (nI_add i 1) ?_
      refine sldN hx hb hX hbl hbA hS (i + 1) rfl (by omega) (by omega) dL_law_161 ?_
      refine lv_aload_n hx hb dL_law_162 rfl (lv_at hl 0 rfl) ?_
      refine lv_iload_n hx hb dL_law_163 rfl (lv_at hl 3 rfl) ?_
      refine lv_iconst (v := 2) hx hb dL_law_164 (by decide) ?_
      refine lv_iadd hx hb dL_law_165 ?_
      refine tope (y := nI (i + 2)) (nI_add i 2) ?_
      refine sldN hx hb hX hbl hbA hS (i + 2) rfl (by omega) (by omega) dL_law_166 ?_
      refine kLX0_exchange hCF hKx hP hD hS hA (xs (i + 1)) (xs (i + 2)) hR.1 ⟨by decide, by decide⟩ hl.1 (Nat.le_of_ble_eq_true rfl) dL_law_167 ⟨by decide, by decide⟩ (fun r1 u1 H locs e1 hP hD hS => ?_)
      refine lv_aload_n hx hb dL_law_170 rfl (lv_at hl 2 rfl) ?_
      refine lv_aload_n hx hb dL_law_171 rfl (lv_at hl 0 rfl) ?_
      refine lv_iload_n hx hb dL_law_172 rfl (lv_at hl 3 rfl) ?_
      refine lv_iconst (v := 1) hx hb dL_law_173 (by decide) ?_
      refine lv_iadd hx hb dL_law_174 ?_
      refine tope (y := nI (i + 1)) (nI_add i 1) ?_
      refine sldN hx hb hX hbl hbA hS (i + 1) rfl (by omega) (by omega) dL_law_175 ?_
      refine lv_aload_n hx hb dL_law_176 rfl (lv_at hl 0 rfl) ?_
      refine lv_iload_n hx hb dL_law_177 rfl (lv_at hl 3 rfl) ?_
      refine lv_iconst (v := 2) hx hb dL_law_178 (by decide) ?_
      refine lv_iadd hx hb dL_law_179 ?_
      refine tope (y := nI (i + 2)) (nI_add i 2) ?_
      refine sldN hx hb hX hbl hbA hS (i + 2) rfl (by omega) (by omega) dL_law_180 ?_
      refine kLX1_exchange hCF hKm hP hD hS hA (xs (i + 1)) (xs (i + 2)) hR.1 ⟨by decide, by decide⟩ hl.1 (Nat.le_of_ble_eq_true rfl) dL_law_181 ⟨by decide, by decide⟩ (fun r2 u2 H locs e2 hP hD hS => ?_)
      obtain ⟨er, M, f1, f2, hR2⟩ := rel_ex hR e1 e2
      obtain ⟨ct1, rd1, po1, ra1, sf1, oc1⟩ := u1
      obtain ⟨mn2, mo2, mq2, ma2, mh2⟩ := u2
      have f1 : ct1 = nI M := f1
      have f2 : mn2 = nI M := f2
      subst f1
      subst f2
      refine lv_icmp_eq (tgt := 453) hx hb dL_law_184 (by decide) (fun _ => ?_) (fun c_9 => absurd er c_9)
      exact nxt M fc po1 ra1 sf1 oc1 rd1 be gs gr fi la mo2 mq2 ma2 mh2 mf hR2 _ _ hP hD hS ls hl
    by_cases hj3 : j = 3
    · subst hj3
      refine lv_tableIn (tgt := 189) (off := 157) hx hb dL_law_32 (by decide) (by decide) rfl (by decide) ?_
      refine lv_aload_n hx hb dL_law_189 rfl (lv_at hl 1 rfl) ?_
      refine lv_aload_n hx hb dL_law_190 rfl (lv_at hl 0 rfl) ?_
      refine lv_iload_n hx hb dL_law_191 rfl (lv_at hl 3 rfl) ?_
      refine lv_iconst (v := 1) hx hb dL_law_192 (by decide) ?_
      refine lv_iadd hx hb dL_law_193 ?_
      refine tope (y := nI (i + 1)) (nI_add i 1) ?_
      refine sldN hx hb hX hbl hbA hS (i + 1) rfl (by omega) (by omega) dL_law_194 ?_
      refine lv_aload_n hx hb dL_law_195 rfl (lv_at hl 0 rfl) ?_
      refine lv_iload_n hx hb dL_law_196 rfl (lv_at hl 3 rfl) ?_
      refine lv_iconst (v := 2) hx hb dL_law_197 (by decide) ?_
      refine lv_iadd hx hb dL_law_198 ?_
      refine tope (y := nI (i + 2)) (nI_add i 2) ?_
      refine sldN hx hb hX hbl hbA hS (i + 2) rfl (by omega) (by omega) dL_law_199 ?_
      refine lv_aload_n hx hb dL_law_200 rfl (lv_at hl 0 rfl) ?_
      refine lv_iload_n hx hb dL_law_201 rfl (lv_at hl 3 rfl) ?_
      refine lv_iconst (v := 3) hx hb dL_law_202 (by decide) ?_
      refine lv_iadd hx hb dL_law_203 ?_
      refine tope (y := nI (i + 3)) (nI_add i 3) ?_
      refine sldN hx hb hX hbl hbA hS (i + 3) rfl (by omega) (by omega) dL_law_204 ?_
      refine kLX0_set hCF hKx hP hD hS hA (xs (i + 1)) (xs (i + 2)) (xs (i + 3))  ⟨by decide, by decide⟩ hl.1 (Nat.le_of_ble_eq_true rfl) dL_law_205 ⟨by decide, by decide⟩ (fun r1 u1 H locs e1 hP hD hS => ?_)
      refine lv_aload_n hx hb dL_law_208 rfl (lv_at hl 2 rfl) ?_
      refine lv_aload_n hx hb dL_law_209 rfl (lv_at hl 0 rfl) ?_
      refine lv_iload_n hx hb dL_law_210 rfl (lv_at hl 3 rfl) ?_
      refine lv_iconst (v := 1) hx hb dL_law_211 (by decide) ?_
      refine lv_iadd hx hb dL_law_212 ?_
      refine tope (y := nI (i + 1)) (nI_add i 1) ?_
      refine sldN hx hb hX hbl hbA hS (i + 1) rfl (by omega) (by omega) dL_law_213 ?_
      refine lv_aload_n hx hb dL_law_214 rfl (lv_at hl 0 rfl) ?_
      refine lv_iload_n hx hb dL_law_215 rfl (lv_at hl 3 rfl) ?_
      refine lv_iconst (v := 2) hx hb dL_law_216 (by decide) ?_
      refine lv_iadd hx hb dL_law_217 ?_
      refine tope (y := nI (i + 2)) (nI_add i 2) ?_
      refine sldN hx hb hX hbl hbA hS (i + 2) rfl (by omega) (by omega) dL_law_218 ?_
      refine lv_aload_n hx hb dL_law_219 rfl (lv_at hl 0 rfl) ?_
      refine lv_iload_n hx hb dL_law_220 rfl (lv_at hl 3 rfl) ?_
      refine lv_iconst (v := 3) hx hb dL_law_221 (by decide) ?_
      refine lv_iadd hx hb dL_law_222 ?_
      refine tope (y := nI (i + 3)) (nI_add i 3) ?_
      refine sldN hx hb hX hbl hbA hS (i + 3) rfl (by omega) (by omega) dL_law_223 ?_
      refine kLX1_set hCF hKm hP hD hS hA (xs (i + 1)) (xs (i + 2)) (xs (i + 3))  ⟨by decide, by decide⟩ hl.1 (Nat.le_of_ble_eq_true rfl) dL_law_224 ⟨by decide, by decide⟩ (fun r2 u2 H locs e2 hP hD hS => ?_)
      obtain ⟨er, hu⟩ := rel_set hR.2.1 e1 e2
      refine lv_icmp_eq (tgt := 453) hx hb dL_law_227 (by decide) (fun _ => ?_) (fun c_9 => absurd er c_9)
      exact nxt N u1 po ra sf oc rd be gs gr fi la mo mq ma mh u2 (rel_cells hR hu) _ _ hP hD hS ls hl
    by_cases hj4 : j = 4
    · subst hj4
      refine lv_tableIn (tgt := 232) (off := 200) hx hb dL_law_32 (by decide) (by decide) rfl (by decide) ?_
      refine lv_aload_n hx hb dL_law_232 rfl (lv_at hl 1 rfl) ?_
      refine lv_aload_n hx hb dL_law_233 rfl (lv_at hl 0 rfl) ?_
      refine lv_iload_n hx hb dL_law_234 rfl (lv_at hl 3 rfl) ?_
      refine lv_iconst (v := 1) hx hb dL_law_235 (by decide) ?_
      refine lv_iadd hx hb dL_law_236 ?_
      refine tope (y := nI (i + 1)) (nI_add i 1) ?_
      refine sldN hx hb hX hbl hbA hS (i + 1) rfl (by omega) (by omega) dL_law_237 ?_
      refine lv_aload_n hx hb dL_law_238 rfl (lv_at hl 0 rfl) ?_
      refine lv_iload_n hx hb dL_law_239 rfl (lv_at hl 3 rfl) ?_
      refine lv_iconst (v := 2) hx hb dL_law_240 (by decide) ?_
      refine lv_iadd hx hb dL_law_241 ?_
      refine tope (y := nI (i + 2)) (nI_add i 2) ?_
      refine sldN hx hb hX hbl hbA hS (i + 2) rfl (by omega) (by omega) dL_law_242 ?_
      refine lv_aload_n hx hb dL_law_243 rfl (lv_at hl 0 rfl) ?_
      refine lv_iload_n hx hb dL_law_244 rfl (lv_at hl 3 rfl) ?_
      refine lv_iconst (v := 3) hx hb dL_law_245 (by decide) ?_
      refine lv_iadd hx hb dL_law_246 ?_
      refine tope (y := nI (i + 3)) (nI_add i 3) ?_
      refine sldN hx hb hX hbl hbA hS (i + 3) rfl (by omega) (by omega) dL_law_247 ?_
      refine kLX0_ramp hCF hKx hP hD hS hA (xs (i + 1)) (xs (i + 2)) (xs (i + 3))  ⟨by decide, by decide⟩ hl.1 (Nat.le_of_ble_eq_true rfl) dL_law_248 ⟨by decide, by decide⟩ (fun r1 u1 H locs e1 hP hD hS => ?_)
      refine lv_aload_n hx hb dL_law_251 rfl (lv_at hl 2 rfl) ?_
      refine lv_aload_n hx hb dL_law_252 rfl (lv_at hl 0 rfl) ?_
      refine lv_iload_n hx hb dL_law_253 rfl (lv_at hl 3 rfl) ?_
      refine lv_iconst (v := 1) hx hb dL_law_254 (by decide) ?_
      refine lv_iadd hx hb dL_law_255 ?_
      refine tope (y := nI (i + 1)) (nI_add i 1) ?_
      refine sldN hx hb hX hbl hbA hS (i + 1) rfl (by omega) (by omega) dL_law_256 ?_
      refine lv_aload_n hx hb dL_law_257 rfl (lv_at hl 0 rfl) ?_
      refine lv_iload_n hx hb dL_law_258 rfl (lv_at hl 3 rfl) ?_
      refine lv_iconst (v := 2) hx hb dL_law_259 (by decide) ?_
      refine lv_iadd hx hb dL_law_260 ?_
      refine tope (y := nI (i + 2)) (nI_add i 2) ?_
      refine sldN hx hb hX hbl hbA hS (i + 2) rfl (by omega) (by omega) dL_law_261 ?_
      refine lv_aload_n hx hb dL_law_262 rfl (lv_at hl 0 rfl) ?_
      refine lv_iload_n hx hb dL_law_263 rfl (lv_at hl 3 rfl) ?_
      refine lv_iconst (v := 3) hx hb dL_law_264 (by decide) ?_
      refine lv_iadd hx hb dL_law_265 ?_
      refine tope (y := nI (i + 3)) (nI_add i 3) ?_
      refine sldN hx hb hX hbl hbA hS (i + 3) rfl (by omega) (by omega) dL_law_266 ?_
      refine kLX1_ramp hCF hKm hP hD hS hA (xs (i + 1)) (xs (i + 2)) (xs (i + 3))  ⟨by decide, by decide⟩ hl.1 (Nat.le_of_ble_eq_true rfl) dL_law_267 ⟨by decide, by decide⟩ (fun r2 u2 H locs e2 hP hD hS => ?_)
      obtain ⟨er, hu⟩ := rel_ramp hR.2.1 e1 e2
      refine lv_icmp_eq (tgt := 453) hx hb dL_law_270 (by decide) (fun _ => ?_) (fun c_9 => absurd er c_9)
      exact nxt N u1 po ra sf oc rd be gs gr fi la mo mq ma mh u2 (rel_cells hR hu) _ _ hP hD hS ls hl
    by_cases hj5 : j = 5
    · subst hj5
      refine lv_tableIn (tgt := 275) (off := 243) hx hb dL_law_32 (by decide) (by decide) rfl (by decide) ?_
      refine lv_aload_n hx hb dL_law_275 rfl (lv_at hl 1 rfl) ?_
      refine lv_aload_n hx hb dL_law_276 rfl (lv_at hl 0 rfl) ?_
      refine lv_iload_n hx hb dL_law_277 rfl (lv_at hl 3 rfl) ?_
      refine lv_iconst (v := 1) hx hb dL_law_278 (by decide) ?_
      refine lv_iadd hx hb dL_law_279 ?_
      refine tope (y := nI (i + 1)) (nI_add i 1) ?_
      refine sldN hx hb hX hbl hbA hS (i + 1) rfl (by omega) (by omega) dL_law_280 ?_
      refine lv_aload_n hx hb dL_law_281 rfl (lv_at hl 0 rfl) ?_
      refine lv_iload_n hx hb dL_law_282 rfl (lv_at hl 3 rfl) ?_
      refine lv_iconst (v := 2) hx hb dL_law_283 (by decide) ?_
      refine lv_iadd hx hb dL_law_284 ?_
      refine tope (y := nI (i + 2)) (nI_add i 2) ?_
      refine sldN hx hb hX hbl hbA hS (i + 2) rfl (by omega) (by omega) dL_law_285 ?_
      refine kLX0_run hCF hKx hP hD hS hA (xs (i + 1)) (xs (i + 2)) hR.1 hR.2.2.2.1 hR.2.2.2.2.1 hR.2.2.2.2.2 ⟨by decide, by decide⟩ hl.1 (Nat.le_of_ble_eq_true rfl) dL_law_286 ⟨by decide, by decide⟩ (fun r1 u1 H locs e1 hP hD hS => ?_)
      refine lv_aload_n hx hb dL_law_289 rfl (lv_at hl 2 rfl) ?_
      refine lv_aload_n hx hb dL_law_290 rfl (lv_at hl 0 rfl) ?_
      refine lv_iload_n hx hb dL_law_291 rfl (lv_at hl 3 rfl) ?_
      refine lv_iconst (v := 1) hx hb dL_law_292 (by decide) ?_
      refine lv_iadd hx hb dL_law_293 ?_
      refine tope (y := nI (i + 1)) (nI_add i 1) ?_
      refine sldN hx hb hX hbl hbA hS (i + 1) rfl (by omega) (by omega) dL_law_294 ?_
      refine lv_aload_n hx hb dL_law_295 rfl (lv_at hl 0 rfl) ?_
      refine lv_iload_n hx hb dL_law_296 rfl (lv_at hl 3 rfl) ?_
      refine lv_iconst (v := 2) hx hb dL_law_297 (by decide) ?_
      refine lv_iadd hx hb dL_law_298 ?_
      refine tope (y := nI (i + 2)) (nI_add i 2) ?_
      refine sldN hx hb hX hbl hbA hS (i + 2) rfl (by omega) (by omega) dL_law_299 ?_
      refine kLX1_run hCF hKm hP hD hS hA (xs (i + 1)) (xs (i + 2)) hR.1 (rel_VAM hR).1 (rel_VAM hR).2 ⟨by decide, by decide⟩ hl.1 (Nat.le_of_ble_eq_true rfl) dL_law_300 ⟨by decide, by decide⟩ (fun r2 u2 H locs e2 hP hD hS => ?_)
      obtain ⟨fc1, rd1, be1, gs1, gr1, fi1, la1⟩ := u1
      obtain ⟨e1, hpl⟩ := e1
      obtain ⟨er, hu⟩ := rel_run hR e1 e2
      refine lv_icmp_eq (tgt := 453) hx hb dL_law_303 (by decide) (fun _ => ?_) (fun c_9 => absurd er c_9)
      exact nxt N fc1 po ra sf oc rd1 be1 gs1 gr1 fi1 la1 mo mq ma mh u2 (rel_plan hR hu hpl) _ _ hP hD hS ls hl
    by_cases hj6 : j = 6
    · subst hj6
      refine lv_tableIn (tgt := 308) (off := 276) hx hb dL_law_32 (by decide) (by decide) rfl (by decide) ?_
      refine lv_aload_n hx hb dL_law_308 rfl (lv_at hl 1 rfl) ?_
      refine lv_aload_n hx hb dL_law_309 rfl (lv_at hl 0 rfl) ?_
      refine lv_iload_n hx hb dL_law_310 rfl (lv_at hl 3 rfl) ?_
      refine lv_iconst (v := 1) hx hb dL_law_311 (by decide) ?_
      refine lv_iadd hx hb dL_law_312 ?_
      refine tope (y := nI (i + 1)) (nI_add i 1) ?_
      refine sldN hx hb hX hbl hbA hS (i + 1) rfl (by omega) (by omega) dL_law_313 ?_
      refine lv_aload_n hx hb dL_law_314 rfl (lv_at hl 0 rfl) ?_
      refine lv_iload_n hx hb dL_law_315 rfl (lv_at hl 3 rfl) ?_
      refine lv_iconst (v := 2) hx hb dL_law_316 (by decide) ?_
      refine lv_iadd hx hb dL_law_317 ?_
      refine tope (y := nI (i + 2)) (nI_add i 2) ?_
      refine sldN hx hb hX hbl hbA hS (i + 2) rfl (by omega) (by omega) dL_law_318 ?_
      refine kLX0_get hCF hKx (va_Pl hP) (xs (i + 1)) (xs (i + 2))  ⟨by decide, by decide⟩ hl.1 (Nat.le_of_ble_eq_true rfl) dL_law_319 ⟨by decide, by decide⟩ ?_
      refine lv_aload_n hx hb dL_law_322 rfl (lv_at hl 2 rfl) ?_
      refine lv_aload_n hx hb dL_law_323 rfl (lv_at hl 0 rfl) ?_
      refine lv_iload_n hx hb dL_law_324 rfl (lv_at hl 3 rfl) ?_
      refine lv_iconst (v := 1) hx hb dL_law_325 (by decide) ?_
      refine lv_iadd hx hb dL_law_326 ?_
      refine tope (y := nI (i + 1)) (nI_add i 1) ?_
      refine sldN hx hb hX hbl hbA hS (i + 1) rfl (by omega) (by omega) dL_law_327 ?_
      refine lv_aload_n hx hb dL_law_328 rfl (lv_at hl 0 rfl) ?_
      refine lv_iload_n hx hb dL_law_329 rfl (lv_at hl 3 rfl) ?_
      refine lv_iconst (v := 2) hx hb dL_law_330 (by decide) ?_
      refine lv_iadd hx hb dL_law_331 ?_
      refine tope (y := nI (i + 2)) (nI_add i 2) ?_
      refine sldN hx hb hX hbl hbA hS (i + 2) rfl (by omega) (by omega) dL_law_332 ?_
      refine kLX1_get hCF hKm (va_Pr hP) (xs (i + 1)) (xs (i + 2))  ⟨by decide, by decide⟩ hl.1 (Nat.le_of_ble_eq_true rfl) dL_law_333 ⟨by decide, by decide⟩ ?_
      refine lv_icmp_eq (tgt := 453) hx hb dL_law_336 (by decide) (fun _ => ?_) (fun c_9 => absurd (rel_get hR.2.1 _ _) c_9)
      exact nxt N fc po ra sf oc rd be gs gr fi la mo mq ma mh mf hR _ _ hP hD hS ls hl
    by_cases hj7 : j = 7
    · subst hj7
      refine lv_tableIn (tgt := 341) (off := 309) hx hb dL_law_32 (by decide) (by decide) rfl (by decide) ?_
      refine lv_aload_n hx hb dL_law_341 rfl (lv_at hl 1 rfl) ?_
      refine lv_aload_n hx hb dL_law_342 rfl (lv_at hl 0 rfl) ?_
      refine lv_iload_n hx hb dL_law_343 rfl (lv_at hl 3 rfl) ?_
      refine lv_iconst (v := 1) hx hb dL_law_344 (by decide) ?_
      refine lv_iadd hx hb dL_law_345 ?_
      refine tope (y := nI (i + 1)) (nI_add i 1) ?_
      refine sldN hx hb hX hbl hbA hS (i + 1) rfl (by omega) (by omega) dL_law_346 ?_
      refine kLX0_sum hCF hKx (va_Pl hP) (xs (i + 1))  ⟨by decide, by decide⟩ hl.1 (Nat.le_of_ble_eq_true rfl) dL_law_347 ⟨by decide, by decide⟩ ?_
      refine lv_aload_n hx hb dL_law_350 rfl (lv_at hl 2 rfl) ?_
      refine lv_aload_n hx hb dL_law_351 rfl (lv_at hl 0 rfl) ?_
      refine lv_iload_n hx hb dL_law_352 rfl (lv_at hl 3 rfl) ?_
      refine lv_iconst (v := 1) hx hb dL_law_353 (by decide) ?_
      refine lv_iadd hx hb dL_law_354 ?_
      refine tope (y := nI (i + 1)) (nI_add i 1) ?_
      refine sldN hx hb hX hbl hbA hS (i + 1) rfl (by omega) (by omega) dL_law_355 ?_
      refine kLX1_sum hCF hKm (va_Pr hP) (xs (i + 1))  ⟨by decide, by decide⟩ hl.1 (Nat.le_of_ble_eq_true rfl) dL_law_356 ⟨by decide, by decide⟩ ?_
      refine lv_icmp_eq (tgt := 453) hx hb dL_law_359 (by decide) (fun _ => ?_) (fun c_9 => absurd (rel_sum hR.2.1 _) c_9)
      exact nxt N fc po ra sf oc rd be gs gr fi la mo mq ma mh mf hR _ _ hP hD hS ls hl
    by_cases hj8 : j = 8
    · subst hj8
      refine lv_tableIn (tgt := 364) (off := 332) hx hb dL_law_32 (by decide) (by decide) rfl (by decide) ?_
      refine lv_aload_n hx hb dL_law_364 rfl (lv_at hl 1 rfl) ?_
      refine lv_aload_n hx hb dL_law_365 rfl (lv_at hl 0 rfl) ?_
      refine lv_iload_n hx hb dL_law_366 rfl (lv_at hl 3 rfl) ?_
      refine lv_iconst (v := 1) hx hb dL_law_367 (by decide) ?_
      refine lv_iadd hx hb dL_law_368 ?_
      refine tope (y := nI (i + 1)) (nI_add i 1) ?_
      refine sldN hx hb hX hbl hbA hS (i + 1) rfl (by omega) (by omega) dL_law_369 ?_
      refine lv_aload_n hx hb dL_law_370 rfl (lv_at hl 0 rfl) ?_
      refine lv_iload_n hx hb dL_law_371 rfl (lv_at hl 3 rfl) ?_
      refine lv_iconst (v := 2) hx hb dL_law_372 (by decide) ?_
      refine lv_iadd hx hb dL_law_373 ?_
      refine tope (y := nI (i + 2)) (nI_add i 2) ?_
      refine sldN hx hb hX hbl hbA hS (i + 2) rfl (by omega) (by omega) dL_law_374 ?_
      refine kLX0_differ hCF hKx (va_Pl hP) (xs (i + 1)) (xs (i + 2))  ⟨by decide, by decide⟩ hl.1 (Nat.le_of_ble_eq_true rfl) dL_law_375 ⟨by decide, by decide⟩ ?_
      refine lv_aload_n hx hb dL_law_378 rfl (lv_at hl 2 rfl) ?_
      refine lv_aload_n hx hb dL_law_379 rfl (lv_at hl 0 rfl) ?_
      refine lv_iload_n hx hb dL_law_380 rfl (lv_at hl 3 rfl) ?_
      refine lv_iconst (v := 1) hx hb dL_law_381 (by decide) ?_
      refine lv_iadd hx hb dL_law_382 ?_
      refine tope (y := nI (i + 1)) (nI_add i 1) ?_
      refine sldN hx hb hX hbl hbA hS (i + 1) rfl (by omega) (by omega) dL_law_383 ?_
      refine lv_aload_n hx hb dL_law_384 rfl (lv_at hl 0 rfl) ?_
      refine lv_iload_n hx hb dL_law_385 rfl (lv_at hl 3 rfl) ?_
      refine lv_iconst (v := 2) hx hb dL_law_386 (by decide) ?_
      refine lv_iadd hx hb dL_law_387 ?_
      refine tope (y := nI (i + 2)) (nI_add i 2) ?_
      refine sldN hx hb hX hbl hbA hS (i + 2) rfl (by omega) (by omega) dL_law_388 ?_
      refine kLX1_differ hCF hKm (va_Pr hP) (xs (i + 1)) (xs (i + 2))  ⟨by decide, by decide⟩ hl.1 (Nat.le_of_ble_eq_true rfl) dL_law_389 ⟨by decide, by decide⟩ ?_
      refine lv_icmp_eq (tgt := 453) hx hb dL_law_392 (by decide) (fun _ => ?_) (fun c_9 => absurd (rel_differ hR.2.1 _ _) c_9)
      exact nxt N fc po ra sf oc rd be gs gr fi la mo mq ma mh mf hR _ _ hP hD hS ls hl
    by_cases hj9 : j = 9
    · subst hj9
      refine lv_tableIn (tgt := 397) (off := 365) hx hb dL_law_32 (by decide) (by decide) rfl (by decide) ?_
      refine lv_aload_n hx hb dL_law_397 rfl (lv_at hl 1 rfl) ?_
      refine kLX0_size hCF hKx (va_Pl hP)   ⟨by decide, by decide⟩ hl.1 (Nat.le_of_ble_eq_true rfl) dL_law_398 ⟨by decide, by decide⟩ ?_
      refine lv_aload_n hx hb dL_law_401 rfl (lv_at hl 2 rfl) ?_
      refine kLX1_size hCF hKm (va_Pr hP)   ⟨by decide, by decide⟩ hl.1 (Nat.le_of_ble_eq_true rfl) dL_law_402 ⟨by decide, by decide⟩ ?_
      refine lv_icmp_eq (tgt := 453) hx hb dL_law_405 (by decide) (fun _ => ?_) (fun c_9 => absurd rfl c_9)
      exact nxt N fc po ra sf oc rd be gs gr fi la mo mq ma mh mf hR _ _ hP hD hS ls hl
    by_cases hj10 : j = 10
    · subst hj10
      refine lv_tableIn (tgt := 410) (off := 378) hx hb dL_law_32 (by decide) (by decide) rfl (by decide) ?_
      refine lv_aload_n hx hb dL_law_410 rfl (lv_at hl 1 rfl) ?_
      refine lv_aload_n hx hb dL_law_411 rfl (lv_at hl 0 rfl) ?_
      refine lv_iload_n hx hb dL_law_412 rfl (lv_at hl 3 rfl) ?_
      refine lv_iconst (v := 1) hx hb dL_law_413 (by decide) ?_
      refine lv_iadd hx hb dL_law_414 ?_
      refine tope (y := nI (i + 1)) (nI_add i 1) ?_
      refine sldN hx hb hX hbl hbA hS (i + 1) rfl (by omega) (by omega) dL_law_415 ?_
      refine lv_aload_n hx hb dL_law_416 rfl (lv_at hl 0 rfl) ?_
      refine lv_iload_n hx hb dL_law_417 rfl (lv_at hl 3 rfl) ?_
      refine lv_iconst (v := 2) hx hb dL_law_418 (by decide) ?_
      refine lv_iadd hx hb dL_law_419 ?_
      refine tope (y := nI (i + 2)) (nI_add i 2) ?_
      refine sldN hx hb hX hbl hbA hS (i + 2) rfl (by omega) (by omega) dL_law_420 ?_
      refine lv_aload_n hx hb dL_law_421 rfl (lv_at hl 0 rfl) ?_
      refine lv_iload_n hx hb dL_law_422 rfl (lv_at hl 3 rfl) ?_
      refine lv_iconst (v := 3) hx hb dL_law_423 (by decide) ?_
      refine lv_iadd hx hb dL_law_424 ?_
      refine tope (y := nI (i + 3)) (nI_add i 3) ?_
      refine sldN hx hb hX hbl hbA hS (i + 3) rfl (by omega) (by omega) dL_law_425 ?_
      refine kLX0_mustPrecede hCF hKx (va_Pl hP) (xs (i + 1)) (xs (i + 2)) (xs (i + 3)) hR.1 ⟨by decide, by decide⟩ hl.1 (Nat.le_of_ble_eq_true rfl) dL_law_426 ⟨by decide, by decide⟩ ?_
      refine lv_aload_n hx hb dL_law_429 rfl (lv_at hl 2 rfl) ?_
      refine lv_aload_n hx hb dL_law_430 rfl (lv_at hl 0 rfl) ?_
      refine lv_iload_n hx hb dL_law_431 rfl (lv_at hl 3 rfl) ?_
      refine lv_iconst (v := 1) hx hb dL_law_432 (by decide) ?_
      refine lv_iadd hx hb dL_law_433 ?_
      refine tope (y := nI (i + 1)) (nI_add i 1) ?_
      refine sldN hx hb hX hbl hbA hS (i + 1) rfl (by omega) (by omega) dL_law_434 ?_
      refine lv_aload_n hx hb dL_law_435 rfl (lv_at hl 0 rfl) ?_
      refine lv_iload_n hx hb dL_law_436 rfl (lv_at hl 3 rfl) ?_
      refine lv_iconst (v := 2) hx hb dL_law_437 (by decide) ?_
      refine lv_iadd hx hb dL_law_438 ?_
      refine tope (y := nI (i + 2)) (nI_add i 2) ?_
      refine sldN hx hb hX hbl hbA hS (i + 2) rfl (by omega) (by omega) dL_law_439 ?_
      refine lv_aload_n hx hb dL_law_440 rfl (lv_at hl 0 rfl) ?_
      refine lv_iload_n hx hb dL_law_441 rfl (lv_at hl 3 rfl) ?_
      refine lv_iconst (v := 3) hx hb dL_law_442 (by decide) ?_
      refine lv_iadd hx hb dL_law_443 ?_
      refine tope (y := nI (i + 3)) (nI_add i 3) ?_
      refine sldN hx hb hX hbl hbA hS (i + 3) rfl (by omega) (by omega) dL_law_444 ?_
      refine kLX1_mustPrecede hCF hKm (va_Pr hP) (xs (i + 1)) (xs (i + 2)) (xs (i + 3)) hR.1 ⟨by decide, by decide⟩ hl.1 (Nat.le_of_ble_eq_true rfl) dL_law_445 ⟨by decide, by decide⟩ ?_
      refine lv_icmp_eq (tgt := 453) hx hb dL_law_448 (by decide) (fun _ => ?_) (fun c_9 => absurd (congrArg bI (rel_must hR _ _ _)) c_9)
      exact nxt N fc po ra sf oc rd be gs gr fi la mo mq ma mh mf hR _ _ hP hD hS ls hl
    refine lv_tableOut (tgt := 453) hx hb dL_law_32 (Or.inr (by rw [nI_toInt (by omega)]; omega)) (by decide) ?_
    exact nxt N fc po ra sf oc rd be gs gr fi la mo mq ma mh mf hR _ _ hP hD hS ls hl
end
section
/-! whole_start: the law from its entry (printed by gen/p27.py), then the claim out of it (the skeleton's end) -/
set_option maxHeartbeats 4000000 in
set_option maxRecDepth 100000 in
theorem whole_start {p : Program} {e : Env} {s : State} {m : MethodId} {below : List Frame} {meth : Method} {c : Code} (l : Launch) {b L : Nat} {xs : Nat → Int32} (hL : L ≤ 320) (C0 : lw_At p s m meth c b L xs) : W p l e room_1 s m #[Value.ref b] below meth c s.heap [] 0 0 (lw_Z below #[Value.ref b] s) (entryFrame m ([Value.ref b] : List Value).toArray 4) := by
  obtain ⟨hx, hb, hr, hml, hown, hts0, hX, hbl, hlk, hgv⟩ := C0
  have hts : ∀ w ∈ lw_all, w.before #[Value.ref b] s = true := fun w h => hts0 w (lw_all_tbl h)
  obtain ⟨c0_, iS0, hKn0⟩ := u_known (C := RX0) (T := TX0) (N := 12) (n := 12) hts0 (fun w h => lw_all_tbl (in_X0 w h)) (hts0 _ (lw_all_tbl q31))
  obtain ⟨c1_, iS1, hKn1⟩ := u_known (C := RX1) (T := TX1) (N := 6) (n := 6) hts0 (fun w h => lw_all_tbl (in_X1 w h)) (hts0 _ (lw_all_tbl q219))
  obtain ⟨D, hD1, hD2⟩ : ∃ D : va_G, u_Kn s RX0 TX0 12 (D.1 0) (D.2 0) ∧ u_Kn s RX1 TX1 6 (D.1 1) (D.2 1) := ⟨(fun k => if k = 0 then c0_ else c1_, fun k => if k = 0 then iS0 else iS1), hKn0, hKn1⟩
  have hK : va_K D vwCl [] s := by
    refine ⟨fun k q hq => ?_, fun k q hk => by simp at hk⟩
    match k, hq with
    | 0, hq => cases hq; exact hD1
    | 1, hq => cases hq; exact hD2
    | k + 2, hq => simp [vwCl] at hq
  obtain ⟨A, hAe⟩ : ∃ A : Nat → Prop, ∀ q, A q ↔ s.heap.size ≤ q := ⟨fun q => s.heap.size ≤ q, fun _ => Iff.rfl⟩
  have hA : ∀ q, s.heap.size ≤ q → A q := fun q h => (hAe q).mpr h
  have hP : va_P D vwCl [] s.heap := fun k q hk => by simp at hk
  have hD : va_D A [] := ⟨fun i j x y hx => by simp at hx, fun k q hk => by simp at hk⟩
  have hS : va_S A s.heap s.heap [] := va_S.rf
  have hl := lv_entry ([.ref b]) (n := 4) (Nat.le_of_ble_eq_true rfl)
  rw [lg_entry_eq]
  generalize (lg_sl ([.ref b]) ++ List.replicate (4 - (lg_sl ([.ref b])).length) Slot.unset).toArray = ls at hl ⊢
  have hl : lv_has ls 4 [(0, .ref b)] := hl
  refine va_new (ci := 0) (fs := [.null, .int 0, .null, .null, .null, .null, .int 0, .null, .int 0, .null, .null, .null]) (C := RX0) (T := TX0) (N := 12) hx hb hts in_X0 tyX0 tyX0_ok hown (hts _ q30) (hts _ q31) (hts _ q28) hK hP hD hS hA rfl (fun j hj => by rcases (show j = 0 ∨ j = 1 ∨ j = 2 ∨ j = 3 ∨ j = 4 ∨ j = 5 ∨ j = 6 ∨ j = 7 ∨ j = 8 ∨ j = 9 ∨ j = 10 ∨ j = 11 by omega) with rfl | rfl | rfl | rfl | rfl | rfl | rfl | rfl | rfl | rfl | rfl | rfl <;> rfl) (Nat.le_of_ble_eq_true rfl) (Nat.le_of_ble_eq_true rfl) dL_law_0 (fun qx H hP hD hS => ?_)
  refine lv_dup hx hb dL_law_3 rfl ?_
  have hPc : va_P D vwCl [(qx, .inr (0, [.null, .int 0, .null, .null, .null, .null, .int 0, .null, .int 0, .null, .null, .null]))] H := hP.sub [0] rfl
  have hDc : va_D A [(qx, .inr (0, [.null, .int 0, .null, .null, .null, .null, .int 0, .null, .int 0, .null, .null, .null]))] := hD.sub [0] (by decide) rfl
  have hKc : va_K D vwCl [] s := hK.sub [] rfl
  have hFc := va_free (wc := [(qx, .inr (0, [.null, .int 0, .null, .null, .null, .null, .int 0, .null, .int 0, .null, .null, .null]))]) hD hS hA [0] rfl
  refine va_callv (va_runI (As := []) (rest := [.ref qx]) ⟨hx, hb, hml, hown, hts⟩ (mX0_init l D qx H.size) (cwI 0 hts (lw_meth q34) rfl rfl rfl (hts _ q28) (hts _ q32) (hts _ q33) rfl (by decide +kernel) ⟨(Nat.le_of_ble_eq_true rfl), (Nat.le_of_ble_eq_true rfl)⟩) ⟨iB_blind, fun U hU hW => ⟨rfl, by rw [hU], by rw [hU]; exact hPc, va_K.moved hW.alike hKc, hDc.weaken (fun _ _ _ _ => trivial)⟩⟩ rfl rfl hl.1 rfl (lv_room (Nat.le_of_ble_eq_true rfl)) dL_law_4 ⟨(Nat.le_of_ble_eq_true rfl), (Nat.le_of_ble_eq_true rfl)⟩) hS (fun q _ h => hFc q h) hFc (fun u t H1 locs ht hvm hw hB hz1 hk1 hS => ?_)
  obtain ⟨a, d⟩ := u
  obtain ⟨hP1, hK1, hD1⟩ := hB
  rw [ht] at hP1
  have hK1 : va_K D vwCl (tyX d) s := va_K.moved hvm.symm hK1
  obtain ⟨hPn, hDn⟩ := va_join (wr := []) (w1 := WX a d (fun _ => 0) 0 (fun _ => 0) (fun _ => 0) (fun _ => 0) (fun _ => 0) 0 (fun _ => 0) 0 (fun _ => 0) (fun _ => 0) (fun _ => 0)) hP hD [0] [] rfl rfl (by decide) (by decide) hk1 hFc hP1 hD1
  have hw : a 0 = qx := hw
  subst hw
  generalize H1 = H at hPn hS ⊢
  have hP : va_P D vwCl (WX a d (fun _ => 0) 0 (fun _ => 0) (fun _ => 0) (fun _ => 0) (fun _ => 0) 0 (fun _ => 0) 0 (fun _ => 0) (fun _ => 0) (fun _ => 0)) H := hPn
  have hD : va_D A (WX a d (fun _ => 0) 0 (fun _ => 0) (fun _ => 0) (fun _ => 0) (fun _ => 0) 0 (fun _ => 0) 0 (fun _ => 0) (fun _ => 0) (fun _ => 0)) := hDn
  have hK : va_K D vwCl (tyX d) s := hK1
  refine lv_astore_n (lv' := [(1, .ref (a 0)), (0, .ref b)]) hx hb dL_law_7 rfl hl (by decide) rfl (fun ls hl => ?_)
  refine va_new (ci := 1) (fs := [.int 0, .null, .null, .null, .null, .null]) (C := RX1) (T := TX1) (N := 6) hx hb hts in_X1 tyX1 tyX1_ok hown (hts _ q218) (hts _ q219) (hts _ q29) hK hP hD hS hA rfl (fun j hj => by rcases (show j = 0 ∨ j = 1 ∨ j = 2 ∨ j = 3 ∨ j = 4 ∨ j = 5 by omega) with rfl | rfl | rfl | rfl | rfl | rfl <;> rfl) (Nat.le_of_ble_eq_true rfl) (Nat.le_of_ble_eq_true rfl) dL_law_8 (fun qm H hP hD hS => ?_)
  refine lv_dup hx hb dL_law_11 rfl ?_
  have hPc : va_P D vwCl [(qm, .inr (1, [.int 0, .null, .null, .null, .null, .null]))] H := hP.sub [10] rfl
  have hDc : va_D A [(qm, .inr (1, [.int 0, .null, .null, .null, .null, .null]))] := hD.sub [10] (by decide) rfl
  have hKc : va_K D vwCl [] s := hK.sub [] rfl
  have hFc := va_free (wc := [(qm, .inr (1, [.int 0, .null, .null, .null, .null, .null]))]) hD hS hA [10] rfl
  refine va_callv (va_runI (As := []) (rest := [.ref qm]) ⟨hx, hb, hml, hown, hts⟩ (mX1_init l D qm H.size) (cwI 0 hts (lw_meth q222) rfl rfl rfl (hts _ q29) (hts _ q220) (hts _ q221) rfl (by decide +kernel) ⟨(Nat.le_of_ble_eq_true rfl), (Nat.le_of_ble_eq_true rfl)⟩) ⟨iB_blind, fun U hU hW => ⟨rfl, by rw [hU], by rw [hU]; exact hPc, va_K.moved hW.alike hKc, hDc.weaken (fun _ _ _ _ => trivial)⟩⟩ rfl rfl hl.1 rfl (lv_room (Nat.le_of_ble_eq_true rfl)) dL_law_12 ⟨(Nat.le_of_ble_eq_true rfl), (Nat.le_of_ble_eq_true rfl)⟩) hS (fun q _ h => hFc q h) hFc (fun u t H1 locs ht hvm hw hB hz1 hk1 hS => ?_)
  obtain ⟨a2, d2⟩ := u
  obtain ⟨hP1, hK1, hD1⟩ := hB
  rw [ht] at hP1
  have hK1 : va_K D vwCl (tyM d2) s := va_K.moved hvm.symm hK1
  obtain ⟨hPn, hDn⟩ := va_join (wr := WX a d (fun _ => 0) 0 (fun _ => 0) (fun _ => 0) (fun _ => 0) (fun _ => 0) 0 (fun _ => 0) 0 (fun _ => 0) (fun _ => 0) (fun _ => 0)) (w1 := WM a2 d2 0 (fun _ => 0) (fun _ => 0) (fun _ => 0) (fun _ => 0) (fun _ => 0)) hP hD [10] [0, 1, 2, 3, 4, 5, 6, 7, 8, 9] rfl rfl (by decide) (by decide) hk1 hFc hP1 hD1
  have hw : a2 0 = qm := hw
  subst hw
  generalize H1 = H at hPn hS ⊢
  have hP : va_P D vwCl (WX a d (fun _ => 0) 0 (fun _ => 0) (fun _ => 0) (fun _ => 0) (fun _ => 0) 0 (fun _ => 0) 0 (fun _ => 0) (fun _ => 0) (fun _ => 0) ++ WM a2 d2 0 (fun _ => 0) (fun _ => 0) (fun _ => 0) (fun _ => 0) (fun _ => 0)) H := hPn
  have hD : va_D A (WX a d (fun _ => 0) 0 (fun _ => 0) (fun _ => 0) (fun _ => 0) (fun _ => 0) 0 (fun _ => 0) 0 (fun _ => 0) (fun _ => 0) (fun _ => 0) ++ WM a2 d2 0 (fun _ => 0) (fun _ => 0) (fun _ => 0) (fun _ => 0) (fun _ => 0)) := hDn
  have hK : va_K D vwCl (tyX d ++ tyM d2) s := hK.app hK1
  refine lv_astore_n (lv' := [(2, .ref (a2 0)), (1, .ref (a 0)), (0, .ref b)]) hx hb dL_law_15 rfl hl (by decide) rfl (fun ls hl => ?_)
  refine lv_iconst (v := 0) hx hb dL_law_16 (by decide) ?_
  refine lv_istore_n (lv' := [(3, .int 0), (2, .ref (a2 0)), (1, .ref (a 0)), (0, .ref b)]) hx hb dL_law_17 rfl hl (by decide) rfl (fun ls hl => ?_)
  refine W.widen (k := 16) (n := 274) (Nat.le_of_ble_eq_true rfl) (Nat.le_of_ble_eq_true rfl) ?_
  exact law_loop hL hx hb hr hlk hml hown hts hX hbl hAe hK L 0 (by omega) (Nat.zero_le _) 0 (fun _ => 0) (fun _ => 0) (fun _ => 0) (fun _ => 0) (fun _ => 0) 0 (fun _ => 0) 0 (fun _ => 0) (fun _ => 0) (fun _ => 0) (fun _ => 0) (fun _ => 0) (fun _ => 0) (fun _ => 0) (fun _ => 0) (rel_clear (fun _ _ => rfl)) _ _ hP hD hS ls (lv_sub hl [3, 2, 1, 0] rfl)
set_option maxHeartbeats 4000000 in
theorem lw_walk (l : Launch) (b : Addr) (xs : List Int32) : MetFree l x (headSpec (Jvm.Cond.code x code maxLocals ret :: tables_1) room_1) (lw_P b xs) (fun _ _ _ _ _ => True) lw_Q := by
  refine MetFree.of_bodyS (code := code) (maxLocals := maxLocals) (ret := ret) (by decide) ?_ ?_
  · intro args s m h hn
    obtain ⟨meth, c, h1, h2, h3, h4, h5, h6, -, -⟩ := Cond.code_spec hn (atoms_spec (ws := Jvm.Cond.code x code maxLocals ret :: tables_1) h _ List.mem_cons_self)
    exact ⟨meth, c, h1, h2, h3, h4, h5, h6⟩
  · intro p e s m args below meth c s₁ B hml0 hP _
    obtain ⟨rfl, hx, hbd, hgv⟩ := hP
    obtain ⟨scr, harrAt, hlist, hof, hsmall⟩ := hx
    obtain ⟨hcb, hkn, -, -⟩ := State.arrayAt?_spec harrAt
    have hown : s.vm.findClass R_law = some m.cls := findClass_of_methodNamed B.named
    have hts0 : ∀ c ∈ (Jvm.Cond.code x code maxLocals ret :: tables_1), c.before #[Value.ref b] s = true := atoms_spec (ws := Jvm.Cond.code x code maxLocals ret :: tables_1) B.pre
    have hts : ∀ w ∈ lw_tbl, w.before #[Value.ref b] s = true := k2_hts_sels lw_privs (fun w hw => hts0 w (List.mem_cons_of_mem _ hw)) lw_privs_ok
    have hml : c.maxLocals = 4 := B.maxLocals_eq (hts0 _ List.mem_cons_self)
    have X₀ : Stand p l e room_1 s m #[Value.ref b] below meth c s₁ [] 0 0 := Stand.of_body B
    have hh0 : s₁.heap = s.heap := by rw [B.state]; rfl
    have hsz : scr.slots.size = xs.length := by rw [← Array.length_toList, hlist, List.length_map]
    have hval : ∀ j : Nat, j < xs.length → scr.slots[j]? = some (.int (xs.getD j 0)) := fun j hj => by
      rw [← Array.getElem?_toList, hlist]
      simp [hj]
    have hbl : b < s.heap.size := (Array.getElem?_eq_some_iff.mp hcb).1
    have hX : va_X b xs.length (fun j => xs.getD j 0) s s.heap := ⟨scr, hcb, hof, hkn, hsz, hval⟩
    have K : W p l e room_1 s m #[Value.ref b] below meth c s₁.heap [] 0 0 (lw_Z below #[Value.ref b] s) (entryFrame m ([Value.ref b] : List Value).toArray 4) := by
      rw [hh0]
      exact whole_start l hbd ⟨B.exec, B.bytes, B.returns, hml, hown, hts, hX, hbl, B.notSynchronized, hgv⟩
    obtain ⟨t, a1, o, b1, b2, b3⟩ := K s₁ rfl X₀
    exact ⟨t, o, a1, b1, b2, b3⟩
theorem lw_pre_spec {args : Array Value} {s : State} (h : (Jvm.Cond.and given_1 narrow_1).before args s = true) (hr : rest_1_c.before args s = true) : ∃ (b : Addr) (xs : List Int32), lw_P b xs args s := by
  have hs := flat_of_before _ h
  have hq := flat_of_before _ hr
  have hc : (Cond.count 1).before args s = true := hs _ (by decide +kernel)
  have harr : (Cond.arrayOf (.arg 0) .int).before args s = true := hs _ (by decide +kernel)
  have hle : (Cond.le (.length (.arg 0)) (.int 320)).before args s = true := hs _ (by decide +kernel)
  have hlen : (Cond.isInt (.length (.arg 0))).before args s = true := hq _ (by decide +kernel)
  have hall : (Cond.all (.arg 0) (.isInt (.elem (.arg 0) (.index 0)))).before args s = true := hq _ (by decide +kernel)
  obtain ⟨b, xs, hb, hx⟩ := State.ints_of_pre rfl harr hlen hall
  have hsm : xs.length < 2 ^ 31 := hx.choose_spec.2.2.2
  have hev : (Term.length (.arg 0)).eval args s none [] s = some (.int xs.length.toInt32) := hx.length_eval hb
  have hv := Cond.le_ints hev (show (Term.int 320).eval args s none [] s = some (.int 320) from rfl)
  have hd : xs.length.toInt32 ≤ 320 := by
    simpa [Cond.before, Cond.holds, hv] using hle
  have hN : xs.length ≤ 320 := (Int32.ofNat_le_ofNat hsm (by decide)).mp (show Int32.ofNat xs.length ≤ Int32.ofNat 320 from hd)
  exact ⟨b, xs, Cond.one_arg hc (show args[0]? = some (.ref b) from hb), hx, hN, h⟩
theorem lw_comes (l : Launch) : Comes l x (Jvm.Cond.code x code maxLocals ret :: tables_1) room_1 (fun tb e args s => Calls_1 tb e args s ∧ rest_1 tb e args s ∧ Pre_1 tb e args s)
    (fun _ _ args s o t => lw_Q args s o t) := by
  intro p e ha hc hk s m args below hf hfit hheap happ hpre
  obtain ⟨b, xs, hP⟩ := lw_pre_spec hpre.2.2 hpre.2.1
  obtain ⟨k, o, h1, h2, h3, hQ⟩ := lw_walk l b xs p e ha hc hk s m args below hf ((Spec.applies_iff_loose hf).mp happ).1 hP trivial
  exact ⟨k, o, h1, h2, h3, hQ⟩
theorem lw_frame {s t : State} {o : Outcome} {args : Array Value} (h : Framed s o t [] 600000 7290000) :
    Framed s o t (fieldLocs frame_1_writes args s ++ arrayLocs frame_1_arrays args s ++ staticLocs frame_1_statics s) 600000 7290000 := h
theorem lw_limb (L : Cond) (hL : ∀ (args : Array Value) (s t : State), L.after args s (.returned (some (.int 1))) t = true) :
    ArmFor flags0 classFile x code maxLocals ret World_1 tables_1 room_1 Calls_1 rest_1 Pre_1
      (fun tb e a s o t => postC L tb e a s o t ∧ Framed s o t (fieldLocs frame_1_writes a s ++ arrayLocs frame_1_arrays a s ++ staticLocs frame_1_statics s) 600000 7290000) := by
  intro l _ _ _ p e ha hc hk s m args below hf hfit hheap happ hpre
  obtain ⟨k, o, h1, h2, h3, rfl, hF⟩ := lw_comes l p e ha hc hk s m args below hf hfit hheap happ hpre
  exact ⟨k, _, h1, h2, h3, hL args s _, lw_frame hF⟩
theorem i_vc : Claimed_1_1 ∧ Claimed_1_2 := ⟨lw_limb limb_1_1 (fun args s t => by simp [limb_1_1, Cond.after, Cond.holds, Cond.value]), lw_limb limb_1_2 (fun args s t => Cond.after_iff.mpr (by
  first | (rw [show limb_1_2 = Cond.eq .result (.int 1) from rfl, Cond.eq_ints (x := 1) (y := 1) rfl rfl]; simp; done) | (simp [limb_1_2, Cond.value, Term.eval]; done)))⟩
end
