section
-- ===== PART A: goes FIRST, ahead of the names: the tables' words, and 'selects' of the private methods out of them =====
/-- a private method of a class that the tables say can be made, by its rows of tables_1 -/
def lw_okq (q : MethodName × Nat) : Prop := (q.1.cls ≠ "java/lang/invoke/MethodHandle" ∧ q.1.cls ≠ "java/lang/invoke/VarHandle") ∧ Cond.instantiable q.1.cls q.2 ∈ tables_1 ∧ Cond.privateMethod q.1 ∈ tables_1 ∧ Cond.instanceMethod q.1 ∈ tables_1
set_option maxRecDepth 100000
theorem lw_t1 {w : Cond} (h : w ∈ tables_1_1) : w ∈ tables_1 := List.mem_append_left _ h
theorem lw_t2 {w : Cond} (h : w ∈ tables_1_2) : w ∈ tables_1 := List.mem_append_right _ h
theorem lw_p0 : lw_okq (⟨"RankMetricCode", "outside", "(I)Z"⟩, 10) := ⟨⟨by decide +kernel, by decide +kernel⟩, lw_t1 (List.mem_of_getElem? (i := 4) rfl), lw_t1 (List.mem_of_getElem? (i := 52) rfl), lw_t1 (List.mem_of_getElem? (i := 53) rfl)⟩
theorem lw_p1 : lw_okq (⟨"RankMetricCode", "mul", "(II)I"⟩, 10) := ⟨⟨by decide +kernel, by decide +kernel⟩, lw_t1 (List.mem_of_getElem? (i := 4) rfl), lw_t1 (List.mem_of_getElem? (i := 56) rfl), lw_t1 (List.mem_of_getElem? (i := 57) rfl)⟩
theorem lw_p2 : lw_okq (⟨"RankMetricCode", "div", "(II)I"⟩, 10) := ⟨⟨by decide +kernel, by decide +kernel⟩, lw_t1 (List.mem_of_getElem? (i := 4) rfl), lw_t1 (List.mem_of_getElem? (i := 64) rfl), lw_t1 (List.mem_of_getElem? (i := 65) rfl)⟩
theorem lw_p3 : lw_okq (⟨"RankMetricCode", "badMessage", "(II)Z"⟩, 10) := ⟨⟨by decide +kernel, by decide +kernel⟩, lw_t1 (List.mem_of_getElem? (i := 4) rfl), lw_t1 (List.mem_of_getElem? (i := 72) rfl), lw_t1 (List.mem_of_getElem? (i := 73) rfl)⟩
theorem lw_p4 : lw_okq (⟨"RankMetricCode", "value", "(III)I"⟩, 10) := ⟨⟨by decide +kernel, by decide +kernel⟩, lw_t1 (List.mem_of_getElem? (i := 4) rfl), lw_t1 (List.mem_of_getElem? (i := 76) rfl), lw_t1 (List.mem_of_getElem? (i := 77) rfl)⟩
theorem lw_p5 : lw_okq (⟨"RankMetricCode", "clearBit", "(II)Z"⟩, 10) := ⟨⟨by decide +kernel, by decide +kernel⟩, lw_t1 (List.mem_of_getElem? (i := 4) rfl), lw_t1 (List.mem_of_getElem? (i := 100) rfl), lw_t1 (List.mem_of_getElem? (i := 101) rfl)⟩
theorem lw_p6 : lw_okq (⟨"RankMetricCode", "decode", "()Z"⟩, 10) := ⟨⟨by decide +kernel, by decide +kernel⟩, lw_t1 (List.mem_of_getElem? (i := 4) rfl), lw_t1 (List.mem_of_getElem? (i := 110) rfl), lw_t1 (List.mem_of_getElem? (i := 111) rfl)⟩
theorem lw_p7 : lw_okq (⟨"RankMetricCode", "equation", "(I)V"⟩, 10) := ⟨⟨by decide +kernel, by decide +kernel⟩, lw_t1 (List.mem_of_getElem? (i := 4) rfl), lw_t1 (List.mem_of_getElem? (i := 114) rfl), lw_t1 (List.mem_of_getElem? (i := 115) rfl)⟩
theorem lw_p8 : lw_okq (⟨"RankMetricCode", "frobenius", "(II)I"⟩, 10) := ⟨⟨by decide +kernel, by decide +kernel⟩, lw_t1 (List.mem_of_getElem? (i := 4) rfl), lw_t1 (List.mem_of_getElem? (i := 118) rfl), lw_t1 (List.mem_of_getElem? (i := 119) rfl)⟩
theorem lw_p9 : lw_okq (⟨"RankMetricCode", "solve", "()Z"⟩, 10) := ⟨⟨by decide +kernel, by decide +kernel⟩, lw_t1 (List.mem_of_getElem? (i := 4) rfl), lw_t1 (List.mem_of_getElem? (i := 122) rfl), lw_t1 (List.mem_of_getElem? (i := 123) rfl)⟩
theorem lw_p10 : lw_okq (⟨"RankMetricCode", "swapRows", "(II)V"⟩, 10) := ⟨⟨by decide +kernel, by decide +kernel⟩, lw_t1 (List.mem_of_getElem? (i := 4) rfl), lw_t1 (List.mem_of_getElem? (i := 126) rfl), lw_t1 (List.mem_of_getElem? (i := 127) rfl)⟩
theorem lw_p11 : lw_okq (⟨"RankMetricCode", "reduce", "(II)V"⟩, 10) := ⟨⟨by decide +kernel, by decide +kernel⟩, lw_t1 (List.mem_of_getElem? (i := 4) rfl), lw_t1 (List.mem_of_getElem? (i := 130) rfl), lw_t1 (List.mem_of_getElem? (i := 131) rfl)⟩
theorem lw_p12 : lw_okq (⟨"RankMetricCode", "divideRow", "(II)V"⟩, 10) := ⟨⟨by decide +kernel, by decide +kernel⟩, lw_t1 (List.mem_of_getElem? (i := 4) rfl), lw_t1 (List.mem_of_getElem? (i := 134) rfl), lw_t1 (List.mem_of_getElem? (i := 135) rfl)⟩
theorem lw_p13 : lw_okq (⟨"RankMetricCode", "addRow", "(III)V"⟩, 10) := ⟨⟨by decide +kernel, by decide +kernel⟩, lw_t1 (List.mem_of_getElem? (i := 4) rfl), lw_t1 (List.mem_of_getElem? (i := 138) rfl), lw_t1 (List.mem_of_getElem? (i := 139) rfl)⟩
theorem lw_p14 : lw_okq (⟨"RankMetricCode", "divide", "()Z"⟩, 10) := ⟨⟨by decide +kernel, by decide +kernel⟩, lw_t1 (List.mem_of_getElem? (i := 4) rfl), lw_t1 (List.mem_of_getElem? (i := 142) rfl), lw_t1 (List.mem_of_getElem? (i := 143) rfl)⟩
theorem lw_p15 : lw_okq (⟨"RankMetricCode", "agrees", "(I)Z"⟩, 10) := ⟨⟨by decide +kernel, by decide +kernel⟩, lw_t1 (List.mem_of_getElem? (i := 4) rfl), lw_t1 (List.mem_of_getElem? (i := 160) rfl), lw_t1 (List.mem_of_getElem? (i := 161) rfl)⟩
def lw_privs_1 : List (MethodName × Nat) := [(⟨"RankMetricCode", "outside", "(I)Z"⟩, 10), (⟨"RankMetricCode", "mul", "(II)I"⟩, 10), (⟨"RankMetricCode", "div", "(II)I"⟩, 10), (⟨"RankMetricCode", "badMessage", "(II)Z"⟩, 10), (⟨"RankMetricCode", "value", "(III)I"⟩, 10), (⟨"RankMetricCode", "clearBit", "(II)Z"⟩, 10), (⟨"RankMetricCode", "decode", "()Z"⟩, 10), (⟨"RankMetricCode", "equation", "(I)V"⟩, 10), (⟨"RankMetricCode", "frobenius", "(II)I"⟩, 10), (⟨"RankMetricCode", "solve", "()Z"⟩, 10), (⟨"RankMetricCode", "swapRows", "(II)V"⟩, 10), (⟨"RankMetricCode", "reduce", "(II)V"⟩, 10), (⟨"RankMetricCode", "divideRow", "(II)V"⟩, 10), (⟨"RankMetricCode", "addRow", "(III)V"⟩, 10), (⟨"RankMetricCode", "divide", "()Z"⟩, 10), (⟨"RankMetricCode", "agrees", "(I)Z"⟩, 10)]
theorem lw_r1 : ∀ q ∈ lw_privs_1, lw_okq q := List.forall_mem_cons.mpr ⟨lw_p0, List.forall_mem_cons.mpr ⟨lw_p1, List.forall_mem_cons.mpr ⟨lw_p2, List.forall_mem_cons.mpr ⟨lw_p3, List.forall_mem_cons.mpr ⟨lw_p4, List.forall_mem_cons.mpr ⟨lw_p5, List.forall_mem_cons.mpr ⟨lw_p6, List.forall_mem_cons.mpr ⟨lw_p7, List.forall_mem_cons.mpr ⟨lw_p8, List.forall_mem_cons.mpr ⟨lw_p9, List.forall_mem_cons.mpr ⟨lw_p10, List.forall_mem_cons.mpr ⟨lw_p11, List.forall_mem_cons.mpr ⟨lw_p12, List.forall_mem_cons.mpr ⟨lw_p13, List.forall_mem_cons.mpr ⟨lw_p14, List.forall_mem_cons.mpr ⟨lw_p15, fun _ h => absurd h List.not_mem_nil⟩⟩⟩⟩⟩⟩⟩⟩⟩⟩⟩⟩⟩⟩⟩⟩
theorem lw_p16 : lw_okq (⟨"RankMetricCode", "lowestOf", "(I)I"⟩, 10) := ⟨⟨by decide +kernel, by decide +kernel⟩, lw_t1 (List.mem_of_getElem? (i := 4) rfl), lw_t1 (List.mem_of_getElem? (i := 164) rfl), lw_t1 (List.mem_of_getElem? (i := 165) rfl)⟩
theorem lw_p17 : lw_okq (⟨"RankMetricCode", "matches", "(III)Z"⟩, 10) := ⟨⟨by decide +kernel, by decide +kernel⟩, lw_t1 (List.mem_of_getElem? (i := 4) rfl), lw_t1 (List.mem_of_getElem? (i := 168) rfl), lw_t1 (List.mem_of_getElem? (i := 169) rfl)⟩
theorem lw_p18 : lw_okq (⟨"RankMetricCode", "subspaces", "(II)I"⟩, 10) := ⟨⟨by decide +kernel, by decide +kernel⟩, lw_t1 (List.mem_of_getElem? (i := 4) rfl), lw_t1 (List.mem_of_getElem? (i := 180) rfl), lw_t1 (List.mem_of_getElem? (i := 181) rfl)⟩
theorem lw_p19 : lw_okq (⟨"RankMetricCodeModel", "isElement", "(I)Z"⟩, 5) := ⟨⟨by decide +kernel, by decide +kernel⟩, lw_t1 (List.mem_of_getElem? (i := 187) rfl), lw_t1 (List.mem_of_getElem? (i := 218) rfl), lw_t1 (List.mem_of_getElem? (i := 219) rfl)⟩
theorem lw_p20 : lw_okq (⟨"RankMetricCodeModel", "product", "(II)I"⟩, 5) := ⟨⟨by decide +kernel, by decide +kernel⟩, lw_t1 (List.mem_of_getElem? (i := 187) rfl), lw_t1 (List.mem_of_getElem? (i := 222) rfl), lw_t1 (List.mem_of_getElem? (i := 223) rfl)⟩
theorem lw_p21 : lw_okq (⟨"RankMetricCodeModel", "isMessage", "(II)Z"⟩, 5) := ⟨⟨by decide +kernel, by decide +kernel⟩, lw_t1 (List.mem_of_getElem? (i := 187) rfl), lw_t1 (List.mem_of_getElem? (i := 234) rfl), lw_t1 (List.mem_of_getElem? (i := 235) rfl)⟩
theorem lw_p22 : lw_okq (⟨"RankMetricCodeModel", "codeWord", "(II)V"⟩, 5) := ⟨⟨by decide +kernel, by decide +kernel⟩, lw_t1 (List.mem_of_getElem? (i := 187) rfl), lw_t1 (List.mem_of_getElem? (i := 238) rfl), lw_t1 (List.mem_of_getElem? (i := 239) rfl)⟩
theorem lw_p23 : lw_okq (⟨"RankMetricCodeModel", "distanceTo", "(III)I"⟩, 5) := ⟨⟨by decide +kernel, by decide +kernel⟩, lw_t1 (List.mem_of_getElem? (i := 187) rfl), lw_t2 (List.mem_of_getElem? (i := 18) rfl), lw_t2 (List.mem_of_getElem? (i := 19) rfl)⟩
theorem lw_p24 : lw_okq (⟨"RankMetricCodeModel", "rankOfSum", "(I)I"⟩, 5) := ⟨⟨by decide +kernel, by decide +kernel⟩, lw_t1 (List.mem_of_getElem? (i := 187) rfl), lw_t2 (List.mem_of_getElem? (i := 22) rfl), lw_t2 (List.mem_of_getElem? (i := 23) rfl)⟩
theorem lw_p25 : lw_okq (⟨"RankMetricCodeModel", "nearMessage", "()I"⟩, 5) := ⟨⟨by decide +kernel, by decide +kernel⟩, lw_t1 (List.mem_of_getElem? (i := 187) rfl), lw_t2 (List.mem_of_getElem? (i := 35) rfl), lw_t2 (List.mem_of_getElem? (i := 36) rfl)⟩
theorem lw_p26 : lw_okq (⟨"RankMetricCodeModel", "placesChanged", "(II)I"⟩, 5) := ⟨⟨by decide +kernel, by decide +kernel⟩, lw_t1 (List.mem_of_getElem? (i := 187) rfl), lw_t2 (List.mem_of_getElem? (i := 57) rfl), lw_t2 (List.mem_of_getElem? (i := 58) rfl)⟩
def lw_privs_2 : List (MethodName × Nat) := [(⟨"RankMetricCode", "lowestOf", "(I)I"⟩, 10), (⟨"RankMetricCode", "matches", "(III)Z"⟩, 10), (⟨"RankMetricCode", "subspaces", "(II)I"⟩, 10), (⟨"RankMetricCodeModel", "isElement", "(I)Z"⟩, 5), (⟨"RankMetricCodeModel", "product", "(II)I"⟩, 5), (⟨"RankMetricCodeModel", "isMessage", "(II)Z"⟩, 5), (⟨"RankMetricCodeModel", "codeWord", "(II)V"⟩, 5), (⟨"RankMetricCodeModel", "distanceTo", "(III)I"⟩, 5), (⟨"RankMetricCodeModel", "rankOfSum", "(I)I"⟩, 5), (⟨"RankMetricCodeModel", "nearMessage", "()I"⟩, 5), (⟨"RankMetricCodeModel", "placesChanged", "(II)I"⟩, 5)]
theorem lw_r2 : ∀ q ∈ lw_privs_2, lw_okq q := List.forall_mem_cons.mpr ⟨lw_p16, List.forall_mem_cons.mpr ⟨lw_p17, List.forall_mem_cons.mpr ⟨lw_p18, List.forall_mem_cons.mpr ⟨lw_p19, List.forall_mem_cons.mpr ⟨lw_p20, List.forall_mem_cons.mpr ⟨lw_p21, List.forall_mem_cons.mpr ⟨lw_p22, List.forall_mem_cons.mpr ⟨lw_p23, List.forall_mem_cons.mpr ⟨lw_p24, List.forall_mem_cons.mpr ⟨lw_p25, List.forall_mem_cons.mpr ⟨lw_p26, fun _ h => absurd h List.not_mem_nil⟩⟩⟩⟩⟩⟩⟩⟩⟩⟩⟩
def lw_privs : List (MethodName × Nat) := lw_privs_1 ++ (lw_privs_2)
def lw_tbl : List Cond := k2_sels lw_privs ++ tables_1
theorem lw_privs_ok : ∀ q ∈ lw_privs, lw_okq q := by
  show ∀ q ∈ lw_privs_1 ++ (lw_privs_2), lw_okq q
  exact List.forall_mem_append.mpr ⟨lw_r1, lw_r2⟩
-- ===== ONE list of words for every method: the tables' words that hold all through a run =====
def lw_all : List Cond := lw_tbl.filter goodWord
/-- a word of the tables by its place: claim/WORDS.tsv -/
theorem lw_w {w : Cond} (i : Nat) (h : lw_tbl[i]? = some w) (g : goodWord w = true) : w ∈ lw_all := List.mem_filter.mpr ⟨List.mem_of_getElem? h, g⟩
theorem lw_all_tbl {w : Cond} (h : w ∈ lw_all) : w ∈ lw_tbl := (List.mem_filter.mp h).1
theorem lw_self : GoodIn lw_all lw_all := fun w h => ⟨h, good_of_word (List.mem_filter.mp h).2⟩
/-- a class's field words, by their places -/
theorem lw_in (ws : List Cond) (ps : List Nat) (hp : ws = ps.filterMap (fun i => lw_tbl[i]?)) (hg : ws.all goodWord = true) : ∀ w ∈ ws, w ∈ lw_all := by
  intro w h
  have h1 := List.all_eq_true.mp hg w h
  rw [hp] at h
  obtain ⟨i, -, hi⟩ := List.mem_filterMap.mp h
  exact lw_w i hi h1
/-- the words of a contract for the method y with code b, L locals, answer r -/
abbrev ws_ (y : MethodName) (b : ByteArray) (L : Nat) (r : Option FieldType) : List Cond := Cond.code y b L r :: lw_all
theorem lw_meth {y : MethodName} {b : ByteArray} {L : Nat} {r : Option FieldType} (h : Cond.code y b L r ∈ lw_all) : GoodIn lw_all (ws_ y b L r) := by
  intro w hw
  rcases List.mem_cons.mp hw with e | e
  · rw [e]
    exact lw_self _ h
  · exact lw_self _ e
theorem lw_app {a c : List Cond} (ha : ∀ w ∈ a, w ∈ lw_all) (hc : GoodIn lw_all c) : GoodIn lw_all (a ++ c) := by
  intro w hw
  rcases List.mem_append.mp hw with e | e
  · exact lw_self w (ha w e)
  · exact hc w e
/-- what a call through an object asks: cwV n hts (lw_V ..) -/
theorem lw_V {own : String} {idx : Nat} {C : String} {y : MethodName} {b : ByteArray} {L : Nat} {r : Option FieldType} (h1 : Cond.methodLink own idx y ∈ lw_all) (h2 : Cond.instanceMethod y ∈ lw_all) (h3 : Cond.selects C y y ∈ lw_all) (h4 : Cond.initialized C ∈ lw_all) (h5 : Cond.code y b L r ∈ lw_all) : GoodIn lw_all (wsV own idx C y (ws_ y b L r)) := by
  refine lw_app ?_ (lw_meth h5)
  intro w hw
  simp only [List.mem_cons, List.not_mem_nil, or_false] at hw
  rcases hw with e | e | e | e
  · rw [e]; exact h1
  · rw [e]; exact h2
  · rw [e]; exact h3
  · rw [e]; exact h4
/-- what a static call asks: va_cwS n hts (lw_S ..) -/
theorem lw_S {own : String} {idx : Nat} {y : MethodName} {b : ByteArray} {L : Nat} {r : Option FieldType} (h1 : Cond.methodLink own idx y ∈ lw_all) (h2 : Cond.static y ∈ lw_all) (h3 : Cond.initialized y.cls ∈ lw_all) (h4 : Cond.code y b L r ∈ lw_all) : GoodIn lw_all (va_wsS own idx y (ws_ y b L r)) := by
  refine lw_app ?_ (lw_meth h4)
  intro w hw
  simp only [List.mem_cons, List.not_mem_nil, or_false] at hw
  rcases hw with e | e | e
  · rw [e]; exact h1
  · rw [e]; exact h2
  · rw [e]; exact h3
/-- the words of a contract for a method WITH HANDLERS (hh: its table) -/
abbrev wsW_ (y : MethodName) (b : ByteArray) (L : Nat) (r : Option FieldType) (hh : List (Nat × Nat × Nat × Nat)) : List Cond := Cond.codeWith y b L r hh :: lw_all
theorem lw_methW {y : MethodName} {b : ByteArray} {L : Nat} {r : Option FieldType} {hh : List (Nat × Nat × Nat × Nat)} (h : Cond.codeWith y b L r hh ∈ lw_all) : GoodIn lw_all (wsW_ y b L r hh) := by
  intro w hw
  rcases List.mem_cons.mp hw with e | e
  · rw [e]
    exact lw_self _ h
  · exact lw_self _ e
/-- any list of words by their places (lw_in), good -/
theorem lw_good {ws : List Cond} (h : ∀ w ∈ ws, w ∈ lw_all) : GoodIn lw_all ws := fun w hw => lw_self w (h w hw)
/-- what a call of a method with handlers asks: vx_cwVW n hts (lw_VW ..), vx_cwSW n hts (lw_SW ..) -/
theorem lw_VW {own : String} {idx : Nat} {C : String} {y : MethodName} {b : ByteArray} {L : Nat} {r : Option FieldType} {hh : List (Nat × Nat × Nat × Nat)} (h1 : Cond.methodLink own idx y ∈ lw_all) (h2 : Cond.instanceMethod y ∈ lw_all) (h3 : Cond.selects C y y ∈ lw_all) (h4 : Cond.initialized C ∈ lw_all) (h5 : Cond.codeWith y b L r hh ∈ lw_all) : GoodIn lw_all (wsV own idx C y (wsW_ y b L r hh)) := by
  refine lw_app ?_ (lw_methW h5)
  intro w hw
  simp only [List.mem_cons, List.not_mem_nil, or_false] at hw
  rcases hw with e | e | e | e
  · rw [e]; exact h1
  · rw [e]; exact h2
  · rw [e]; exact h3
  · rw [e]; exact h4
theorem lw_SW {own : String} {idx : Nat} {y : MethodName} {b : ByteArray} {L : Nat} {r : Option FieldType} {hh : List (Nat × Nat × Nat × Nat)} (h1 : Cond.methodLink own idx y ∈ lw_all) (h2 : Cond.static y ∈ lw_all) (h3 : Cond.initialized y.cls ∈ lw_all) (h4 : Cond.codeWith y b L r hh ∈ lw_all) : GoodIn lw_all (va_wsS own idx y (wsW_ y b L r hh)) := by
  refine lw_app ?_ (lw_methW h4)
  intro w hw
  simp only [List.mem_cons, List.not_mem_nil, or_false] at hw
  rcases hw with e | e | e
  · rw [e]; exact h1
  · rw [e]; exact h2
  · rw [e]; exact h3
/-- a word by its place in its run of the tables -/
theorem lw_at {r : List Cond} (hr : ∀ w ∈ r, w ∈ lw_tbl) {w : Cond} (i : Nat) (h : r[i]? = some w) : w ∈ lw_tbl := hr w (List.mem_of_getElem? h)
theorem lw_g {w : Cond} (h : w ∈ lw_tbl) (g : goodWord w = true) : w ∈ lw_all := List.mem_filter.mpr ⟨h, g⟩
theorem lw_ms : ∀ w ∈ k2_sels lw_privs, w ∈ lw_tbl := fun w h => show w ∈ k2_sels lw_privs ++ tables_1 from List.mem_append_left _ h
theorem lw_m1 : ∀ w ∈ tables_1_1, w ∈ lw_tbl := fun w h => show w ∈ k2_sels lw_privs ++ tables_1 from List.mem_append_right (k2_sels lw_privs) (show w ∈ tables_1 from List.mem_append_left _ h)
theorem lw_m2 : ∀ w ∈ tables_1_2, w ∈ lw_tbl := fun w h => show w ∈ k2_sels lw_privs ++ tables_1 from List.mem_append_right (k2_sels lw_privs) (show w ∈ tables_1 from List.mem_append_right _ h)
theorem qs0 : (Cond.selects "RankMetricCode" ⟨"RankMetricCode", "outside", "(I)Z"⟩ ⟨"RankMetricCode", "outside", "(I)Z"⟩) ∈ lw_all := lw_g (lw_at lw_ms 0 rfl) rfl
theorem qs1 : (Cond.selects "RankMetricCode" ⟨"RankMetricCode", "mul", "(II)I"⟩ ⟨"RankMetricCode", "mul", "(II)I"⟩) ∈ lw_all := lw_g (lw_at lw_ms 1 rfl) rfl
theorem qs2 : (Cond.selects "RankMetricCode" ⟨"RankMetricCode", "div", "(II)I"⟩ ⟨"RankMetricCode", "div", "(II)I"⟩) ∈ lw_all := lw_g (lw_at lw_ms 2 rfl) rfl
theorem qs3 : (Cond.selects "RankMetricCode" ⟨"RankMetricCode", "badMessage", "(II)Z"⟩ ⟨"RankMetricCode", "badMessage", "(II)Z"⟩) ∈ lw_all := lw_g (lw_at lw_ms 3 rfl) rfl
theorem qs4 : (Cond.selects "RankMetricCode" ⟨"RankMetricCode", "value", "(III)I"⟩ ⟨"RankMetricCode", "value", "(III)I"⟩) ∈ lw_all := lw_g (lw_at lw_ms 4 rfl) rfl
theorem qs5 : (Cond.selects "RankMetricCode" ⟨"RankMetricCode", "clearBit", "(II)Z"⟩ ⟨"RankMetricCode", "clearBit", "(II)Z"⟩) ∈ lw_all := lw_g (lw_at lw_ms 5 rfl) rfl
theorem qs6 : (Cond.selects "RankMetricCode" ⟨"RankMetricCode", "decode", "()Z"⟩ ⟨"RankMetricCode", "decode", "()Z"⟩) ∈ lw_all := lw_g (lw_at lw_ms 6 rfl) rfl
theorem qs7 : (Cond.selects "RankMetricCode" ⟨"RankMetricCode", "equation", "(I)V"⟩ ⟨"RankMetricCode", "equation", "(I)V"⟩) ∈ lw_all := lw_g (lw_at lw_ms 7 rfl) rfl
theorem qs8 : (Cond.selects "RankMetricCode" ⟨"RankMetricCode", "frobenius", "(II)I"⟩ ⟨"RankMetricCode", "frobenius", "(II)I"⟩) ∈ lw_all := lw_g (lw_at lw_ms 8 rfl) rfl
theorem qs9 : (Cond.selects "RankMetricCode" ⟨"RankMetricCode", "solve", "()Z"⟩ ⟨"RankMetricCode", "solve", "()Z"⟩) ∈ lw_all := lw_g (lw_at lw_ms 9 rfl) rfl
theorem qs10 : (Cond.selects "RankMetricCode" ⟨"RankMetricCode", "swapRows", "(II)V"⟩ ⟨"RankMetricCode", "swapRows", "(II)V"⟩) ∈ lw_all := lw_g (lw_at lw_ms 10 rfl) rfl
theorem qs11 : (Cond.selects "RankMetricCode" ⟨"RankMetricCode", "reduce", "(II)V"⟩ ⟨"RankMetricCode", "reduce", "(II)V"⟩) ∈ lw_all := lw_g (lw_at lw_ms 11 rfl) rfl
theorem qs12 : (Cond.selects "RankMetricCode" ⟨"RankMetricCode", "divideRow", "(II)V"⟩ ⟨"RankMetricCode", "divideRow", "(II)V"⟩) ∈ lw_all := lw_g (lw_at lw_ms 12 rfl) rfl
theorem qs13 : (Cond.selects "RankMetricCode" ⟨"RankMetricCode", "addRow", "(III)V"⟩ ⟨"RankMetricCode", "addRow", "(III)V"⟩) ∈ lw_all := lw_g (lw_at lw_ms 13 rfl) rfl
theorem qs14 : (Cond.selects "RankMetricCode" ⟨"RankMetricCode", "divide", "()Z"⟩ ⟨"RankMetricCode", "divide", "()Z"⟩) ∈ lw_all := lw_g (lw_at lw_ms 14 rfl) rfl
theorem qs15 : (Cond.selects "RankMetricCode" ⟨"RankMetricCode", "agrees", "(I)Z"⟩ ⟨"RankMetricCode", "agrees", "(I)Z"⟩) ∈ lw_all := lw_g (lw_at lw_ms 15 rfl) rfl
theorem qs16 : (Cond.selects "RankMetricCode" ⟨"RankMetricCode", "lowestOf", "(I)I"⟩ ⟨"RankMetricCode", "lowestOf", "(I)I"⟩) ∈ lw_all := lw_g (lw_at lw_ms 16 rfl) rfl
theorem qs17 : (Cond.selects "RankMetricCode" ⟨"RankMetricCode", "matches", "(III)Z"⟩ ⟨"RankMetricCode", "matches", "(III)Z"⟩) ∈ lw_all := lw_g (lw_at lw_ms 17 rfl) rfl
theorem qs18 : (Cond.selects "RankMetricCode" ⟨"RankMetricCode", "subspaces", "(II)I"⟩ ⟨"RankMetricCode", "subspaces", "(II)I"⟩) ∈ lw_all := lw_g (lw_at lw_ms 18 rfl) rfl
theorem qs19 : (Cond.selects "RankMetricCodeModel" ⟨"RankMetricCodeModel", "isElement", "(I)Z"⟩ ⟨"RankMetricCodeModel", "isElement", "(I)Z"⟩) ∈ lw_all := lw_g (lw_at lw_ms 19 rfl) rfl
theorem qs20 : (Cond.selects "RankMetricCodeModel" ⟨"RankMetricCodeModel", "product", "(II)I"⟩ ⟨"RankMetricCodeModel", "product", "(II)I"⟩) ∈ lw_all := lw_g (lw_at lw_ms 20 rfl) rfl
theorem qs21 : (Cond.selects "RankMetricCodeModel" ⟨"RankMetricCodeModel", "isMessage", "(II)Z"⟩ ⟨"RankMetricCodeModel", "isMessage", "(II)Z"⟩) ∈ lw_all := lw_g (lw_at lw_ms 21 rfl) rfl
theorem qs22 : (Cond.selects "RankMetricCodeModel" ⟨"RankMetricCodeModel", "codeWord", "(II)V"⟩ ⟨"RankMetricCodeModel", "codeWord", "(II)V"⟩) ∈ lw_all := lw_g (lw_at lw_ms 22 rfl) rfl
theorem qs23 : (Cond.selects "RankMetricCodeModel" ⟨"RankMetricCodeModel", "distanceTo", "(III)I"⟩ ⟨"RankMetricCodeModel", "distanceTo", "(III)I"⟩) ∈ lw_all := lw_g (lw_at lw_ms 23 rfl) rfl
theorem qs24 : (Cond.selects "RankMetricCodeModel" ⟨"RankMetricCodeModel", "rankOfSum", "(I)I"⟩ ⟨"RankMetricCodeModel", "rankOfSum", "(I)I"⟩) ∈ lw_all := lw_g (lw_at lw_ms 24 rfl) rfl
theorem qs25 : (Cond.selects "RankMetricCodeModel" ⟨"RankMetricCodeModel", "nearMessage", "()I"⟩ ⟨"RankMetricCodeModel", "nearMessage", "()I"⟩) ∈ lw_all := lw_g (lw_at lw_ms 25 rfl) rfl
theorem qs26 : (Cond.selects "RankMetricCodeModel" ⟨"RankMetricCodeModel", "placesChanged", "(II)I"⟩ ⟨"RankMetricCodeModel", "placesChanged", "(II)I"⟩) ∈ lw_all := lw_g (lw_at lw_ms 26 rfl) rfl
end
section
/-! RankMetricCode -/
set_option maxRecDepth 100000
def RX1 : String := "RankMetricCode"
def TX1 : u_T := fun k => match k with
  | 0 => ("RankMetricCode", "k", "I", true)
  | 1 => ("RankMetricCode", "t", "I", true)
  | 2 => ("RankMetricCode", "power", "[I", true)
  | 3 => ("RankMetricCode", "log", "[I", true)
  | 4 => ("RankMetricCode", "word", "[I", true)
  | 5 => ("RankMetricCode", "diff", "[I", true)
  | 6 => ("RankMetricCode", "cell", "[I", true)
  | 7 => ("RankMetricCode", "pivotOf", "[I", true)
  | 8 => ("RankMetricCode", "root", "[I", true)
  | _ => ("RankMetricCode", "found", "[I", true)
def tyX1 : Nat → FieldType := fun k => match k with
  | 0 => .int
  | 1 => .int
  | 2 => .array .int
  | 3 => .array .int
  | 4 => .array .int
  | 5 => .array .int
  | 6 => .array .int
  | 7 => .array .int
  | 8 => .array .int
  | _ => .array .int
abbrev wsX10 : List Cond := u_ws RX1 TX1 10
theorem nmX1 : ∀ a, a < 10 → ∀ b, b < 10 → a ≠ b → (TX1 a).2.1 ≠ (TX1 b).2.1 := by decide +kernel
theorem tyX1_ok : ∀ k, k < 10 → parseFieldDescriptor (TX1 k).2.2.1 = some (tyX1 k) := by decide +kernel
abbrev cX1_init : ByteArray := prog_1_method_1_code
def yX1_init : MethodName := ⟨RX1, "<init>", "(I)V"⟩
theorem dX1_init_0 : decode cX1_init 0 = .ok (.aload_n 0, 1) := by decide +kernel
theorem dX1_init_1 : decode cX1_init 1 = .ok (.invokespecial 1, 3) := by decide +kernel
theorem dX1_init_4 : decode cX1_init 4 = .ok (.aload_n 0, 1) := by decide +kernel
theorem dX1_init_5 : decode cX1_init 5 = .ok (.bipush 64, 2) := by decide +kernel
theorem dX1_init_7 : decode cX1_init 7 = .ok (.newarray .int, 2) := by decide +kernel
theorem dX1_init_9 : decode cX1_init 9 = .ok (.putfield 7, 3) := by decide +kernel
theorem dX1_init_12 : decode cX1_init 12 = .ok (.aload_n 0, 1) := by decide +kernel
theorem dX1_init_13 : decode cX1_init 13 = .ok (.bipush 32, 2) := by decide +kernel
theorem dX1_init_15 : decode cX1_init 15 = .ok (.newarray .int, 2) := by decide +kernel
theorem dX1_init_17 : decode cX1_init 17 = .ok (.putfield 13, 3) := by decide +kernel
theorem dX1_init_20 : decode cX1_init 20 = .ok (.aload_n 0, 1) := by decide +kernel
theorem dX1_init_21 : decode cX1_init 21 = .ok (.iconst 5, 1) := by decide +kernel
theorem dX1_init_22 : decode cX1_init 22 = .ok (.newarray .int, 2) := by decide +kernel
theorem dX1_init_24 : decode cX1_init 24 = .ok (.putfield 16, 3) := by decide +kernel
theorem dX1_init_27 : decode cX1_init 27 = .ok (.aload_n 0, 1) := by decide +kernel
theorem dX1_init_28 : decode cX1_init 28 = .ok (.iconst 5, 1) := by decide +kernel
theorem dX1_init_29 : decode cX1_init 29 = .ok (.newarray .int, 2) := by decide +kernel
theorem dX1_init_31 : decode cX1_init 31 = .ok (.putfield 19, 3) := by decide +kernel
theorem dX1_init_34 : decode cX1_init 34 = .ok (.aload_n 0, 1) := by decide +kernel
theorem dX1_init_35 : decode cX1_init 35 = .ok (.bipush 30, 2) := by decide +kernel
theorem dX1_init_37 : decode cX1_init 37 = .ok (.newarray .int, 2) := by decide +kernel
theorem dX1_init_39 : decode cX1_init 39 = .ok (.putfield 22, 3) := by decide +kernel
theorem dX1_init_42 : decode cX1_init 42 = .ok (.aload_n 0, 1) := by decide +kernel
theorem dX1_init_43 : decode cX1_init 43 = .ok (.bipush 6, 2) := by decide +kernel
theorem dX1_init_45 : decode cX1_init 45 = .ok (.newarray .int, 2) := by decide +kernel
theorem dX1_init_47 : decode cX1_init 47 = .ok (.putfield 25, 3) := by decide +kernel
theorem dX1_init_50 : decode cX1_init 50 = .ok (.aload_n 0, 1) := by decide +kernel
theorem dX1_init_51 : decode cX1_init 51 = .ok (.bipush 6, 2) := by decide +kernel
theorem dX1_init_53 : decode cX1_init 53 = .ok (.newarray .int, 2) := by decide +kernel
theorem dX1_init_55 : decode cX1_init 55 = .ok (.putfield 28, 3) := by decide +kernel
theorem dX1_init_58 : decode cX1_init 58 = .ok (.aload_n 0, 1) := by decide +kernel
theorem dX1_init_59 : decode cX1_init 59 = .ok (.iconst 2, 1) := by decide +kernel
theorem dX1_init_60 : decode cX1_init 60 = .ok (.newarray .int, 2) := by decide +kernel
theorem dX1_init_62 : decode cX1_init 62 = .ok (.putfield 31, 3) := by decide +kernel
theorem dX1_init_65 : decode cX1_init 65 = .ok (.iload_n 1, 1) := by decide +kernel
theorem dX1_init_66 : decode cX1_init 66 = .ok (.istore_n 2, 1) := by decide +kernel
theorem dX1_init_67 : decode cX1_init 67 = .ok (.iload_n 2, 1) := by decide +kernel
theorem dX1_init_68 : decode cX1_init 68 = .ok (.iconst 1, 1) := by decide +kernel
theorem dX1_init_69 : decode cX1_init 69 = .ok (.if_icmp .ge 5, 3) := by decide +kernel
theorem dX1_init_72 : decode cX1_init 72 = .ok (.iconst 1, 1) := by decide +kernel
theorem dX1_init_73 : decode cX1_init 73 = .ok (.istore_n 2, 1) := by decide +kernel
theorem dX1_init_74 : decode cX1_init 74 = .ok (.iload_n 2, 1) := by decide +kernel
theorem dX1_init_75 : decode cX1_init 75 = .ok (.iconst 2, 1) := by decide +kernel
theorem dX1_init_76 : decode cX1_init 76 = .ok (.if_icmp .le 5, 3) := by decide +kernel
theorem dX1_init_79 : decode cX1_init 79 = .ok (.iconst 2, 1) := by decide +kernel
theorem dX1_init_80 : decode cX1_init 80 = .ok (.istore_n 2, 1) := by decide +kernel
theorem dX1_init_81 : decode cX1_init 81 = .ok (.aload_n 0, 1) := by decide +kernel
theorem dX1_init_82 : decode cX1_init 82 = .ok (.iload_n 2, 1) := by decide +kernel
theorem dX1_init_83 : decode cX1_init 83 = .ok (.putfield 34, 3) := by decide +kernel
theorem dX1_init_86 : decode cX1_init 86 = .ok (.aload_n 0, 1) := by decide +kernel
theorem dX1_init_87 : decode cX1_init 87 = .ok (.iconst 3, 1) := by decide +kernel
theorem dX1_init_88 : decode cX1_init 88 = .ok (.iload_n 2, 1) := by decide +kernel
theorem dX1_init_89 : decode cX1_init 89 = .ok (.isub, 1) := by decide +kernel
theorem dX1_init_90 : decode cX1_init 90 = .ok (.putfield 38, 3) := by decide +kernel
theorem dX1_init_93 : decode cX1_init 93 = .ok (.iconst 1, 1) := by decide +kernel
theorem dX1_init_94 : decode cX1_init 94 = .ok (.istore_n 3, 1) := by decide +kernel
theorem dX1_init_95 : decode cX1_init 95 = .ok (.iconst 0, 1) := by decide +kernel
theorem dX1_init_96 : decode cX1_init 96 = .ok (.istore 4, 2) := by decide +kernel
theorem dX1_init_98 : decode cX1_init 98 = .ok (.iload 4, 2) := by decide +kernel
theorem dX1_init_100 : decode cX1_init 100 = .ok (.bipush 31, 2) := by decide +kernel
theorem dX1_init_102 : decode cX1_init 102 = .ok (.if_icmp .ge 51, 3) := by decide +kernel
theorem dX1_init_105 : decode cX1_init 105 = .ok (.aload_n 0, 1) := by decide +kernel
theorem dX1_init_106 : decode cX1_init 106 = .ok (.getfield 7, 3) := by decide +kernel
theorem dX1_init_109 : decode cX1_init 109 = .ok (.iload 4, 2) := by decide +kernel
theorem dX1_init_111 : decode cX1_init 111 = .ok (.iload_n 3, 1) := by decide +kernel
theorem dX1_init_112 : decode cX1_init 112 = .ok (.iastore, 1) := by decide +kernel
theorem dX1_init_113 : decode cX1_init 113 = .ok (.aload_n 0, 1) := by decide +kernel
theorem dX1_init_114 : decode cX1_init 114 = .ok (.getfield 7, 3) := by decide +kernel
theorem dX1_init_117 : decode cX1_init 117 = .ok (.iload 4, 2) := by decide +kernel
theorem dX1_init_119 : decode cX1_init 119 = .ok (.bipush 31, 2) := by decide +kernel
theorem dX1_init_121 : decode cX1_init 121 = .ok (.iadd, 1) := by decide +kernel
theorem dX1_init_122 : decode cX1_init 122 = .ok (.iload_n 3, 1) := by decide +kernel
theorem dX1_init_123 : decode cX1_init 123 = .ok (.iastore, 1) := by decide +kernel
theorem dX1_init_124 : decode cX1_init 124 = .ok (.aload_n 0, 1) := by decide +kernel
theorem dX1_init_125 : decode cX1_init 125 = .ok (.getfield 13, 3) := by decide +kernel
theorem dX1_init_128 : decode cX1_init 128 = .ok (.iload_n 3, 1) := by decide +kernel
theorem dX1_init_129 : decode cX1_init 129 = .ok (.iload 4, 2) := by decide +kernel
theorem dX1_init_131 : decode cX1_init 131 = .ok (.iastore, 1) := by decide +kernel
theorem dX1_init_132 : decode cX1_init 132 = .ok (.iload_n 3, 1) := by decide +kernel
theorem dX1_init_133 : decode cX1_init 133 = .ok (.iconst 1, 1) := by decide +kernel
theorem dX1_init_134 : decode cX1_init 134 = .ok (.ishl, 1) := by decide +kernel
theorem dX1_init_135 : decode cX1_init 135 = .ok (.istore_n 3, 1) := by decide +kernel
theorem dX1_init_136 : decode cX1_init 136 = .ok (.iload_n 3, 1) := by decide +kernel
theorem dX1_init_137 : decode cX1_init 137 = .ok (.bipush 31, 2) := by decide +kernel
theorem dX1_init_139 : decode cX1_init 139 = .ok (.if_icmp .le 8, 3) := by decide +kernel
theorem dX1_init_142 : decode cX1_init 142 = .ok (.iload_n 3, 1) := by decide +kernel
theorem dX1_init_143 : decode cX1_init 143 = .ok (.bipush 37, 2) := by decide +kernel
theorem dX1_init_145 : decode cX1_init 145 = .ok (.ixor, 1) := by decide +kernel
theorem dX1_init_146 : decode cX1_init 146 = .ok (.istore_n 3, 1) := by decide +kernel
theorem dX1_init_147 : decode cX1_init 147 = .ok (.iinc 4 1, 3) := by decide +kernel
theorem dX1_init_150 : decode cX1_init 150 = .ok (.goto (-52), 3) := by decide +kernel
theorem dX1_init_153 : decode cX1_init 153 = .ok (.return_, 1) := by decide +kernel
abbrev cX1_size : ByteArray := prog_1_method_6_code
def yX1_size : MethodName := ⟨RX1, "size", "()I"⟩
theorem dX1_size_0 : decode cX1_size 0 = .ok (.aload_n 0, 1) := by decide +kernel
theorem dX1_size_1 : decode cX1_size 1 = .ok (.getfield 34, 3) := by decide +kernel
theorem dX1_size_4 : decode cX1_size 4 = .ok (.ireturn, 1) := by decide +kernel
abbrev cX1_times : ByteArray := prog_1_method_7_code
def yX1_times : MethodName := ⟨RX1, "times", "(II)I"⟩
theorem dX1_times_0 : decode cX1_times 0 = .ok (.aload_n 0, 1) := by decide +kernel
theorem dX1_times_1 : decode cX1_times 1 = .ok (.iload_n 1, 1) := by decide +kernel
theorem dX1_times_2 : decode cX1_times 2 = .ok (.invokevirtual 45, 3) := by decide +kernel
theorem dX1_times_5 : decode cX1_times 5 = .ok (.ifCond .ne 11, 3) := by decide +kernel
theorem dX1_times_8 : decode cX1_times 8 = .ok (.aload_n 0, 1) := by decide +kernel
theorem dX1_times_9 : decode cX1_times 9 = .ok (.iload_n 2, 1) := by decide +kernel
theorem dX1_times_10 : decode cX1_times 10 = .ok (.invokevirtual 45, 3) := by decide +kernel
theorem dX1_times_13 : decode cX1_times 13 = .ok (.ifCond .eq 5, 3) := by decide +kernel
theorem dX1_times_16 : decode cX1_times 16 = .ok (.iconst (-1), 1) := by decide +kernel
theorem dX1_times_17 : decode cX1_times 17 = .ok (.ireturn, 1) := by decide +kernel
theorem dX1_times_18 : decode cX1_times 18 = .ok (.aload_n 0, 1) := by decide +kernel
theorem dX1_times_19 : decode cX1_times 19 = .ok (.iload_n 1, 1) := by decide +kernel
theorem dX1_times_20 : decode cX1_times 20 = .ok (.iload_n 2, 1) := by decide +kernel
theorem dX1_times_21 : decode cX1_times 21 = .ok (.invokevirtual 41, 3) := by decide +kernel
theorem dX1_times_24 : decode cX1_times 24 = .ok (.ireturn, 1) := by decide +kernel
abbrev cX1_outside : ByteArray := prog_1_method_5_code
def yX1_outside : MethodName := ⟨RX1, "outside", "(I)Z"⟩
theorem dX1_outside_0 : decode cX1_outside 0 = .ok (.iload_n 1, 1) := by decide +kernel
theorem dX1_outside_1 : decode cX1_outside 1 = .ok (.ifCond .lt 9, 3) := by decide +kernel
theorem dX1_outside_4 : decode cX1_outside 4 = .ok (.iload_n 1, 1) := by decide +kernel
theorem dX1_outside_5 : decode cX1_outside 5 = .ok (.bipush 31, 2) := by decide +kernel
theorem dX1_outside_7 : decode cX1_outside 7 = .ok (.if_icmp .le 7, 3) := by decide +kernel
theorem dX1_outside_10 : decode cX1_outside 10 = .ok (.iconst 1, 1) := by decide +kernel
theorem dX1_outside_11 : decode cX1_outside 11 = .ok (.goto 4, 3) := by decide +kernel
theorem dX1_outside_14 : decode cX1_outside 14 = .ok (.iconst 0, 1) := by decide +kernel
theorem dX1_outside_15 : decode cX1_outside 15 = .ok (.ireturn, 1) := by decide +kernel
abbrev cX1_mul : ByteArray := prog_1_method_2_code
def yX1_mul : MethodName := ⟨RX1, "mul", "(II)I"⟩
theorem dX1_mul_0 : decode cX1_mul 0 = .ok (.iload_n 1, 1) := by decide +kernel
theorem dX1_mul_1 : decode cX1_mul 1 = .ok (.ifCond .eq 7, 3) := by decide +kernel
theorem dX1_mul_4 : decode cX1_mul 4 = .ok (.iload_n 2, 1) := by decide +kernel
theorem dX1_mul_5 : decode cX1_mul 5 = .ok (.ifCond .ne 5, 3) := by decide +kernel
theorem dX1_mul_8 : decode cX1_mul 8 = .ok (.iconst 0, 1) := by decide +kernel
theorem dX1_mul_9 : decode cX1_mul 9 = .ok (.ireturn, 1) := by decide +kernel
theorem dX1_mul_10 : decode cX1_mul 10 = .ok (.aload_n 0, 1) := by decide +kernel
theorem dX1_mul_11 : decode cX1_mul 11 = .ok (.getfield 7, 3) := by decide +kernel
theorem dX1_mul_14 : decode cX1_mul 14 = .ok (.aload_n 0, 1) := by decide +kernel
theorem dX1_mul_15 : decode cX1_mul 15 = .ok (.getfield 13, 3) := by decide +kernel
theorem dX1_mul_18 : decode cX1_mul 18 = .ok (.iload_n 1, 1) := by decide +kernel
theorem dX1_mul_19 : decode cX1_mul 19 = .ok (.iaload, 1) := by decide +kernel
theorem dX1_mul_20 : decode cX1_mul 20 = .ok (.aload_n 0, 1) := by decide +kernel
theorem dX1_mul_21 : decode cX1_mul 21 = .ok (.getfield 13, 3) := by decide +kernel
theorem dX1_mul_24 : decode cX1_mul 24 = .ok (.iload_n 2, 1) := by decide +kernel
theorem dX1_mul_25 : decode cX1_mul 25 = .ok (.iaload, 1) := by decide +kernel
theorem dX1_mul_26 : decode cX1_mul 26 = .ok (.iadd, 1) := by decide +kernel
theorem dX1_mul_27 : decode cX1_mul 27 = .ok (.iaload, 1) := by decide +kernel
theorem dX1_mul_28 : decode cX1_mul 28 = .ok (.ireturn, 1) := by decide +kernel
abbrev cX1_over : ByteArray := prog_1_method_8_code
def yX1_over : MethodName := ⟨RX1, "over", "(II)I"⟩
theorem dX1_over_0 : decode cX1_over 0 = .ok (.aload_n 0, 1) := by decide +kernel
theorem dX1_over_1 : decode cX1_over 1 = .ok (.iload_n 1, 1) := by decide +kernel
theorem dX1_over_2 : decode cX1_over 2 = .ok (.invokevirtual 45, 3) := by decide +kernel
theorem dX1_over_5 : decode cX1_over 5 = .ok (.ifCond .ne 15, 3) := by decide +kernel
theorem dX1_over_8 : decode cX1_over 8 = .ok (.aload_n 0, 1) := by decide +kernel
theorem dX1_over_9 : decode cX1_over 9 = .ok (.iload_n 2, 1) := by decide +kernel
theorem dX1_over_10 : decode cX1_over 10 = .ok (.invokevirtual 45, 3) := by decide +kernel
theorem dX1_over_13 : decode cX1_over 13 = .ok (.ifCond .ne 7, 3) := by decide +kernel
theorem dX1_over_16 : decode cX1_over 16 = .ok (.iload_n 2, 1) := by decide +kernel
theorem dX1_over_17 : decode cX1_over 17 = .ok (.ifCond .ne 5, 3) := by decide +kernel
theorem dX1_over_20 : decode cX1_over 20 = .ok (.iconst (-1), 1) := by decide +kernel
theorem dX1_over_21 : decode cX1_over 21 = .ok (.ireturn, 1) := by decide +kernel
theorem dX1_over_22 : decode cX1_over 22 = .ok (.aload_n 0, 1) := by decide +kernel
theorem dX1_over_23 : decode cX1_over 23 = .ok (.iload_n 1, 1) := by decide +kernel
theorem dX1_over_24 : decode cX1_over 24 = .ok (.iload_n 2, 1) := by decide +kernel
theorem dX1_over_25 : decode cX1_over 25 = .ok (.invokevirtual 49, 3) := by decide +kernel
theorem dX1_over_28 : decode cX1_over 28 = .ok (.ireturn, 1) := by decide +kernel
abbrev cX1_div : ByteArray := prog_1_method_3_code
def yX1_div : MethodName := ⟨RX1, "div", "(II)I"⟩
theorem dX1_div_0 : decode cX1_div 0 = .ok (.iload_n 1, 1) := by decide +kernel
theorem dX1_div_1 : decode cX1_div 1 = .ok (.ifCond .ne 5, 3) := by decide +kernel
theorem dX1_div_4 : decode cX1_div 4 = .ok (.iconst 0, 1) := by decide +kernel
theorem dX1_div_5 : decode cX1_div 5 = .ok (.ireturn, 1) := by decide +kernel
theorem dX1_div_6 : decode cX1_div 6 = .ok (.aload_n 0, 1) := by decide +kernel
theorem dX1_div_7 : decode cX1_div 7 = .ok (.getfield 7, 3) := by decide +kernel
theorem dX1_div_10 : decode cX1_div 10 = .ok (.aload_n 0, 1) := by decide +kernel
theorem dX1_div_11 : decode cX1_div 11 = .ok (.getfield 13, 3) := by decide +kernel
theorem dX1_div_14 : decode cX1_div 14 = .ok (.iload_n 1, 1) := by decide +kernel
theorem dX1_div_15 : decode cX1_div 15 = .ok (.iaload, 1) := by decide +kernel
theorem dX1_div_16 : decode cX1_div 16 = .ok (.bipush 31, 2) := by decide +kernel
theorem dX1_div_18 : decode cX1_div 18 = .ok (.iadd, 1) := by decide +kernel
theorem dX1_div_19 : decode cX1_div 19 = .ok (.aload_n 0, 1) := by decide +kernel
theorem dX1_div_20 : decode cX1_div 20 = .ok (.getfield 13, 3) := by decide +kernel
theorem dX1_div_23 : decode cX1_div 23 = .ok (.iload_n 2, 1) := by decide +kernel
theorem dX1_div_24 : decode cX1_div 24 = .ok (.iaload, 1) := by decide +kernel
theorem dX1_div_25 : decode cX1_div 25 = .ok (.isub, 1) := by decide +kernel
theorem dX1_div_26 : decode cX1_div 26 = .ok (.iaload, 1) := by decide +kernel
theorem dX1_div_27 : decode cX1_div 27 = .ok (.ireturn, 1) := by decide +kernel
abbrev cX1_encode : ByteArray := prog_1_method_11_code
def yX1_encode : MethodName := ⟨RX1, "encode", "(II)I"⟩
theorem dX1_encode_0 : decode cX1_encode 0 = .ok (.aload_n 0, 1) := by decide +kernel
theorem dX1_encode_1 : decode cX1_encode 1 = .ok (.iload_n 1, 1) := by decide +kernel
theorem dX1_encode_2 : decode cX1_encode 2 = .ok (.iload_n 2, 1) := by decide +kernel
theorem dX1_encode_3 : decode cX1_encode 3 = .ok (.invokevirtual 52, 3) := by decide +kernel
theorem dX1_encode_6 : decode cX1_encode 6 = .ok (.ifCond .eq 5, 3) := by decide +kernel
theorem dX1_encode_9 : decode cX1_encode 9 = .ok (.iconst (-1), 1) := by decide +kernel
theorem dX1_encode_10 : decode cX1_encode 10 = .ok (.ireturn, 1) := by decide +kernel
theorem dX1_encode_11 : decode cX1_encode 11 = .ok (.iconst 0, 1) := by decide +kernel
theorem dX1_encode_12 : decode cX1_encode 12 = .ok (.istore_n 3, 1) := by decide +kernel
theorem dX1_encode_13 : decode cX1_encode 13 = .ok (.iload_n 3, 1) := by decide +kernel
theorem dX1_encode_14 : decode cX1_encode 14 = .ok (.iconst 5, 1) := by decide +kernel
theorem dX1_encode_15 : decode cX1_encode 15 = .ok (.if_icmp .ge 22, 3) := by decide +kernel
theorem dX1_encode_18 : decode cX1_encode 18 = .ok (.aload_n 0, 1) := by decide +kernel
theorem dX1_encode_19 : decode cX1_encode 19 = .ok (.getfield 16, 3) := by decide +kernel
theorem dX1_encode_22 : decode cX1_encode 22 = .ok (.iload_n 3, 1) := by decide +kernel
theorem dX1_encode_23 : decode cX1_encode 23 = .ok (.aload_n 0, 1) := by decide +kernel
theorem dX1_encode_24 : decode cX1_encode 24 = .ok (.iload_n 1, 1) := by decide +kernel
theorem dX1_encode_25 : decode cX1_encode 25 = .ok (.iload_n 2, 1) := by decide +kernel
theorem dX1_encode_26 : decode cX1_encode 26 = .ok (.iload_n 3, 1) := by decide +kernel
theorem dX1_encode_27 : decode cX1_encode 27 = .ok (.invokevirtual 56, 3) := by decide +kernel
theorem dX1_encode_30 : decode cX1_encode 30 = .ok (.iastore, 1) := by decide +kernel
theorem dX1_encode_31 : decode cX1_encode 31 = .ok (.iinc 3 1, 3) := by decide +kernel
theorem dX1_encode_34 : decode cX1_encode 34 = .ok (.goto (-21), 3) := by decide +kernel
theorem dX1_encode_37 : decode cX1_encode 37 = .ok (.iconst 0, 1) := by decide +kernel
theorem dX1_encode_38 : decode cX1_encode 38 = .ok (.ireturn, 1) := by decide +kernel
abbrev cX1_badMessage : ByteArray := prog_1_method_9_code
def yX1_badMessage : MethodName := ⟨RX1, "badMessage", "(II)Z"⟩
theorem dX1_badMessage_0 : decode cX1_badMessage 0 = .ok (.aload_n 0, 1) := by decide +kernel
theorem dX1_badMessage_1 : decode cX1_badMessage 1 = .ok (.iload_n 1, 1) := by decide +kernel
theorem dX1_badMessage_2 : decode cX1_badMessage 2 = .ok (.invokevirtual 45, 3) := by decide +kernel
theorem dX1_badMessage_5 : decode cX1_badMessage 5 = .ok (.ifCond .ne 23, 3) := by decide +kernel
theorem dX1_badMessage_8 : decode cX1_badMessage 8 = .ok (.aload_n 0, 1) := by decide +kernel
theorem dX1_badMessage_9 : decode cX1_badMessage 9 = .ok (.iload_n 2, 1) := by decide +kernel
theorem dX1_badMessage_10 : decode cX1_badMessage 10 = .ok (.invokevirtual 45, 3) := by decide +kernel
theorem dX1_badMessage_13 : decode cX1_badMessage 13 = .ok (.ifCond .ne 15, 3) := by decide +kernel
theorem dX1_badMessage_16 : decode cX1_badMessage 16 = .ok (.aload_n 0, 1) := by decide +kernel
theorem dX1_badMessage_17 : decode cX1_badMessage 17 = .ok (.getfield 34, 3) := by decide +kernel
theorem dX1_badMessage_20 : decode cX1_badMessage 20 = .ok (.iconst 1, 1) := by decide +kernel
theorem dX1_badMessage_21 : decode cX1_badMessage 21 = .ok (.if_icmp .ne 11, 3) := by decide +kernel
theorem dX1_badMessage_24 : decode cX1_badMessage 24 = .ok (.iload_n 2, 1) := by decide +kernel
theorem dX1_badMessage_25 : decode cX1_badMessage 25 = .ok (.ifCond .eq 7, 3) := by decide +kernel
theorem dX1_badMessage_28 : decode cX1_badMessage 28 = .ok (.iconst 1, 1) := by decide +kernel
theorem dX1_badMessage_29 : decode cX1_badMessage 29 = .ok (.goto 4, 3) := by decide +kernel
theorem dX1_badMessage_32 : decode cX1_badMessage 32 = .ok (.iconst 0, 1) := by decide +kernel
theorem dX1_badMessage_33 : decode cX1_badMessage 33 = .ok (.ireturn, 1) := by decide +kernel
abbrev cX1_value : ByteArray := prog_1_method_10_code
def yX1_value : MethodName := ⟨RX1, "value", "(III)I"⟩
theorem dX1_value_0 : decode cX1_value 0 = .ok (.iconst 1, 1) := by decide +kernel
theorem dX1_value_1 : decode cX1_value 1 = .ok (.iload_n 3, 1) := by decide +kernel
theorem dX1_value_2 : decode cX1_value 2 = .ok (.ishl, 1) := by decide +kernel
theorem dX1_value_3 : decode cX1_value 3 = .ok (.istore 4, 2) := by decide +kernel
theorem dX1_value_5 : decode cX1_value 5 = .ok (.aload_n 0, 1) := by decide +kernel
theorem dX1_value_6 : decode cX1_value 6 = .ok (.iload 4, 2) := by decide +kernel
theorem dX1_value_8 : decode cX1_value 8 = .ok (.iload 4, 2) := by decide +kernel
theorem dX1_value_10 : decode cX1_value 10 = .ok (.invokevirtual 41, 3) := by decide +kernel
theorem dX1_value_13 : decode cX1_value 13 = .ok (.istore 5, 2) := by decide +kernel
theorem dX1_value_15 : decode cX1_value 15 = .ok (.aload_n 0, 1) := by decide +kernel
theorem dX1_value_16 : decode cX1_value 16 = .ok (.iload_n 1, 1) := by decide +kernel
theorem dX1_value_17 : decode cX1_value 17 = .ok (.iload 4, 2) := by decide +kernel
theorem dX1_value_19 : decode cX1_value 19 = .ok (.invokevirtual 41, 3) := by decide +kernel
theorem dX1_value_22 : decode cX1_value 22 = .ok (.istore 6, 2) := by decide +kernel
theorem dX1_value_24 : decode cX1_value 24 = .ok (.aload_n 0, 1) := by decide +kernel
theorem dX1_value_25 : decode cX1_value 25 = .ok (.iload_n 2, 1) := by decide +kernel
theorem dX1_value_26 : decode cX1_value 26 = .ok (.iload 5, 2) := by decide +kernel
theorem dX1_value_28 : decode cX1_value 28 = .ok (.invokevirtual 41, 3) := by decide +kernel
theorem dX1_value_31 : decode cX1_value 31 = .ok (.istore 7, 2) := by decide +kernel
theorem dX1_value_33 : decode cX1_value 33 = .ok (.iload 6, 2) := by decide +kernel
theorem dX1_value_35 : decode cX1_value 35 = .ok (.iload 7, 2) := by decide +kernel
theorem dX1_value_37 : decode cX1_value 37 = .ok (.ixor, 1) := by decide +kernel
theorem dX1_value_38 : decode cX1_value 38 = .ok (.ireturn, 1) := by decide +kernel
abbrev cX1_put : ByteArray := prog_1_method_12_code
def yX1_put : MethodName := ⟨RX1, "put", "(II)I"⟩
theorem dX1_put_0 : decode cX1_put 0 = .ok (.iload_n 1, 1) := by decide +kernel
theorem dX1_put_1 : decode cX1_put 1 = .ok (.ifCond .lt 16, 3) := by decide +kernel
theorem dX1_put_4 : decode cX1_put 4 = .ok (.iload_n 1, 1) := by decide +kernel
theorem dX1_put_5 : decode cX1_put 5 = .ok (.iconst 4, 1) := by decide +kernel
theorem dX1_put_6 : decode cX1_put 6 = .ok (.if_icmp .gt 11, 3) := by decide +kernel
theorem dX1_put_9 : decode cX1_put 9 = .ok (.aload_n 0, 1) := by decide +kernel
theorem dX1_put_10 : decode cX1_put 10 = .ok (.iload_n 2, 1) := by decide +kernel
theorem dX1_put_11 : decode cX1_put 11 = .ok (.invokevirtual 45, 3) := by decide +kernel
theorem dX1_put_14 : decode cX1_put 14 = .ok (.ifCond .eq 5, 3) := by decide +kernel
theorem dX1_put_17 : decode cX1_put 17 = .ok (.iconst (-1), 1) := by decide +kernel
theorem dX1_put_18 : decode cX1_put 18 = .ok (.ireturn, 1) := by decide +kernel
theorem dX1_put_19 : decode cX1_put 19 = .ok (.aload_n 0, 1) := by decide +kernel
theorem dX1_put_20 : decode cX1_put 20 = .ok (.getfield 16, 3) := by decide +kernel
theorem dX1_put_23 : decode cX1_put 23 = .ok (.iload_n 1, 1) := by decide +kernel
theorem dX1_put_24 : decode cX1_put 24 = .ok (.iaload, 1) := by decide +kernel
theorem dX1_put_25 : decode cX1_put 25 = .ok (.istore_n 3, 1) := by decide +kernel
theorem dX1_put_26 : decode cX1_put 26 = .ok (.aload_n 0, 1) := by decide +kernel
theorem dX1_put_27 : decode cX1_put 27 = .ok (.getfield 16, 3) := by decide +kernel
theorem dX1_put_30 : decode cX1_put 30 = .ok (.iload_n 1, 1) := by decide +kernel
theorem dX1_put_31 : decode cX1_put 31 = .ok (.iload_n 2, 1) := by decide +kernel
theorem dX1_put_32 : decode cX1_put 32 = .ok (.iastore, 1) := by decide +kernel
theorem dX1_put_33 : decode cX1_put 33 = .ok (.iload_n 3, 1) := by decide +kernel
theorem dX1_put_34 : decode cX1_put 34 = .ok (.ireturn, 1) := by decide +kernel
abbrev cX1_symbol : ByteArray := prog_1_method_13_code
def yX1_symbol : MethodName := ⟨RX1, "symbol", "(I)I"⟩
theorem dX1_symbol_0 : decode cX1_symbol 0 = .ok (.iload_n 1, 1) := by decide +kernel
theorem dX1_symbol_1 : decode cX1_symbol 1 = .ok (.ifCond .lt 8, 3) := by decide +kernel
theorem dX1_symbol_4 : decode cX1_symbol 4 = .ok (.iload_n 1, 1) := by decide +kernel
theorem dX1_symbol_5 : decode cX1_symbol 5 = .ok (.iconst 4, 1) := by decide +kernel
theorem dX1_symbol_6 : decode cX1_symbol 6 = .ok (.if_icmp .le 5, 3) := by decide +kernel
theorem dX1_symbol_9 : decode cX1_symbol 9 = .ok (.iconst (-1), 1) := by decide +kernel
theorem dX1_symbol_10 : decode cX1_symbol 10 = .ok (.ireturn, 1) := by decide +kernel
theorem dX1_symbol_11 : decode cX1_symbol 11 = .ok (.aload_n 0, 1) := by decide +kernel
theorem dX1_symbol_12 : decode cX1_symbol 12 = .ok (.getfield 16, 3) := by decide +kernel
theorem dX1_symbol_15 : decode cX1_symbol 15 = .ok (.iload_n 1, 1) := by decide +kernel
theorem dX1_symbol_16 : decode cX1_symbol 16 = .ok (.iaload, 1) := by decide +kernel
theorem dX1_symbol_17 : decode cX1_symbol 17 = .ok (.ireturn, 1) := by decide +kernel
abbrev cX1_disturb : ByteArray := prog_1_method_14_code
def yX1_disturb : MethodName := ⟨RX1, "disturb", "(II)I"⟩
theorem dX1_disturb_0 : decode cX1_disturb 0 = .ok (.aload_n 0, 1) := by decide +kernel
theorem dX1_disturb_1 : decode cX1_disturb 1 = .ok (.iload_n 1, 1) := by decide +kernel
theorem dX1_disturb_2 : decode cX1_disturb 2 = .ok (.invokevirtual 45, 3) := by decide +kernel
theorem dX1_disturb_5 : decode cX1_disturb 5 = .ok (.ifCond .ne 11, 3) := by decide +kernel
theorem dX1_disturb_8 : decode cX1_disturb 8 = .ok (.aload_n 0, 1) := by decide +kernel
theorem dX1_disturb_9 : decode cX1_disturb 9 = .ok (.iload_n 2, 1) := by decide +kernel
theorem dX1_disturb_10 : decode cX1_disturb 10 = .ok (.invokevirtual 45, 3) := by decide +kernel
theorem dX1_disturb_13 : decode cX1_disturb 13 = .ok (.ifCond .eq 5, 3) := by decide +kernel
theorem dX1_disturb_16 : decode cX1_disturb 16 = .ok (.iconst (-1), 1) := by decide +kernel
theorem dX1_disturb_17 : decode cX1_disturb 17 = .ok (.ireturn, 1) := by decide +kernel
theorem dX1_disturb_18 : decode cX1_disturb 18 = .ok (.iconst 0, 1) := by decide +kernel
theorem dX1_disturb_19 : decode cX1_disturb 19 = .ok (.istore_n 3, 1) := by decide +kernel
theorem dX1_disturb_20 : decode cX1_disturb 20 = .ok (.iload_n 3, 1) := by decide +kernel
theorem dX1_disturb_21 : decode cX1_disturb 21 = .ok (.iconst 5, 1) := by decide +kernel
theorem dX1_disturb_22 : decode cX1_disturb 22 = .ok (.if_icmp .ge 32, 3) := by decide +kernel
theorem dX1_disturb_25 : decode cX1_disturb 25 = .ok (.iload_n 2, 1) := by decide +kernel
theorem dX1_disturb_26 : decode cX1_disturb 26 = .ok (.iload_n 3, 1) := by decide +kernel
theorem dX1_disturb_27 : decode cX1_disturb 27 = .ok (.ishr, 1) := by decide +kernel
theorem dX1_disturb_28 : decode cX1_disturb 28 = .ok (.iconst 1, 1) := by decide +kernel
theorem dX1_disturb_29 : decode cX1_disturb 29 = .ok (.iand, 1) := by decide +kernel
theorem dX1_disturb_30 : decode cX1_disturb 30 = .ok (.iconst 1, 1) := by decide +kernel
theorem dX1_disturb_31 : decode cX1_disturb 31 = .ok (.if_icmp .ne 17, 3) := by decide +kernel
theorem dX1_disturb_34 : decode cX1_disturb 34 = .ok (.aload_n 0, 1) := by decide +kernel
theorem dX1_disturb_35 : decode cX1_disturb 35 = .ok (.getfield 16, 3) := by decide +kernel
theorem dX1_disturb_38 : decode cX1_disturb 38 = .ok (.iload_n 3, 1) := by decide +kernel
theorem dX1_disturb_39 : decode cX1_disturb 39 = .ok (.aload_n 0, 1) := by decide +kernel
theorem dX1_disturb_40 : decode cX1_disturb 40 = .ok (.getfield 16, 3) := by decide +kernel
theorem dX1_disturb_43 : decode cX1_disturb 43 = .ok (.iload_n 3, 1) := by decide +kernel
theorem dX1_disturb_44 : decode cX1_disturb 44 = .ok (.iaload, 1) := by decide +kernel
theorem dX1_disturb_45 : decode cX1_disturb 45 = .ok (.iload_n 1, 1) := by decide +kernel
theorem dX1_disturb_46 : decode cX1_disturb 46 = .ok (.ixor, 1) := by decide +kernel
theorem dX1_disturb_47 : decode cX1_disturb 47 = .ok (.iastore, 1) := by decide +kernel
theorem dX1_disturb_48 : decode cX1_disturb 48 = .ok (.iinc 3 1, 3) := by decide +kernel
theorem dX1_disturb_51 : decode cX1_disturb 51 = .ok (.goto (-31), 3) := by decide +kernel
theorem dX1_disturb_54 : decode cX1_disturb 54 = .ok (.aload_n 0, 1) := by decide +kernel
theorem dX1_disturb_55 : decode cX1_disturb 55 = .ok (.invokevirtual 60, 3) := by decide +kernel
theorem dX1_disturb_58 : decode cX1_disturb 58 = .ok (.ireturn, 1) := by decide +kernel
abbrev cX1_rank : ByteArray := prog_1_method_15_code
def yX1_rank : MethodName := ⟨RX1, "rank", "()I"⟩
theorem dX1_rank_0 : decode cX1_rank 0 = .ok (.aload_n 0, 1) := by decide +kernel
theorem dX1_rank_1 : decode cX1_rank 1 = .ok (.iconst 0, 1) := by decide +kernel
theorem dX1_rank_2 : decode cX1_rank 2 = .ok (.iconst 0, 1) := by decide +kernel
theorem dX1_rank_3 : decode cX1_rank 3 = .ok (.invokevirtual 64, 3) := by decide +kernel
theorem dX1_rank_6 : decode cX1_rank 6 = .ok (.ireturn, 1) := by decide +kernel
abbrev cX1_distance : ByteArray := prog_1_method_16_code
def yX1_distance : MethodName := ⟨RX1, "distance", "(II)I"⟩
theorem dX1_distance_0 : decode cX1_distance 0 = .ok (.aload_n 0, 1) := by decide +kernel
theorem dX1_distance_1 : decode cX1_distance 1 = .ok (.iload_n 1, 1) := by decide +kernel
theorem dX1_distance_2 : decode cX1_distance 2 = .ok (.iload_n 2, 1) := by decide +kernel
theorem dX1_distance_3 : decode cX1_distance 3 = .ok (.invokevirtual 52, 3) := by decide +kernel
theorem dX1_distance_6 : decode cX1_distance 6 = .ok (.ifCond .eq 5, 3) := by decide +kernel
theorem dX1_distance_9 : decode cX1_distance 9 = .ok (.iconst (-1), 1) := by decide +kernel
theorem dX1_distance_10 : decode cX1_distance 10 = .ok (.ireturn, 1) := by decide +kernel
theorem dX1_distance_11 : decode cX1_distance 11 = .ok (.iconst 0, 1) := by decide +kernel
theorem dX1_distance_12 : decode cX1_distance 12 = .ok (.istore_n 3, 1) := by decide +kernel
theorem dX1_distance_13 : decode cX1_distance 13 = .ok (.iload_n 3, 1) := by decide +kernel
theorem dX1_distance_14 : decode cX1_distance 14 = .ok (.iconst 5, 1) := by decide +kernel
theorem dX1_distance_15 : decode cX1_distance 15 = .ok (.if_icmp .ge 33, 3) := by decide +kernel
theorem dX1_distance_18 : decode cX1_distance 18 = .ok (.aload_n 0, 1) := by decide +kernel
theorem dX1_distance_19 : decode cX1_distance 19 = .ok (.iload_n 1, 1) := by decide +kernel
theorem dX1_distance_20 : decode cX1_distance 20 = .ok (.iload_n 2, 1) := by decide +kernel
theorem dX1_distance_21 : decode cX1_distance 21 = .ok (.iload_n 3, 1) := by decide +kernel
theorem dX1_distance_22 : decode cX1_distance 22 = .ok (.invokevirtual 56, 3) := by decide +kernel
theorem dX1_distance_25 : decode cX1_distance 25 = .ok (.istore 4, 2) := by decide +kernel
theorem dX1_distance_27 : decode cX1_distance 27 = .ok (.aload_n 0, 1) := by decide +kernel
theorem dX1_distance_28 : decode cX1_distance 28 = .ok (.getfield 19, 3) := by decide +kernel
theorem dX1_distance_31 : decode cX1_distance 31 = .ok (.iload_n 3, 1) := by decide +kernel
theorem dX1_distance_32 : decode cX1_distance 32 = .ok (.aload_n 0, 1) := by decide +kernel
theorem dX1_distance_33 : decode cX1_distance 33 = .ok (.getfield 16, 3) := by decide +kernel
theorem dX1_distance_36 : decode cX1_distance 36 = .ok (.iload_n 3, 1) := by decide +kernel
theorem dX1_distance_37 : decode cX1_distance 37 = .ok (.iaload, 1) := by decide +kernel
theorem dX1_distance_38 : decode cX1_distance 38 = .ok (.iload 4, 2) := by decide +kernel
theorem dX1_distance_40 : decode cX1_distance 40 = .ok (.ixor, 1) := by decide +kernel
theorem dX1_distance_41 : decode cX1_distance 41 = .ok (.iastore, 1) := by decide +kernel
theorem dX1_distance_42 : decode cX1_distance 42 = .ok (.iinc 3 1, 3) := by decide +kernel
theorem dX1_distance_45 : decode cX1_distance 45 = .ok (.goto (-32), 3) := by decide +kernel
theorem dX1_distance_48 : decode cX1_distance 48 = .ok (.iconst 0, 1) := by decide +kernel
theorem dX1_distance_49 : decode cX1_distance 49 = .ok (.istore_n 3, 1) := by decide +kernel
theorem dX1_distance_50 : decode cX1_distance 50 = .ok (.iconst 0, 1) := by decide +kernel
theorem dX1_distance_51 : decode cX1_distance 51 = .ok (.istore 4, 2) := by decide +kernel
theorem dX1_distance_53 : decode cX1_distance 53 = .ok (.iload 4, 2) := by decide +kernel
theorem dX1_distance_55 : decode cX1_distance 55 = .ok (.iconst 5, 1) := by decide +kernel
theorem dX1_distance_56 : decode cX1_distance 56 = .ok (.if_icmp .ge 26, 3) := by decide +kernel
theorem dX1_distance_59 : decode cX1_distance 59 = .ok (.aload_n 0, 1) := by decide +kernel
theorem dX1_distance_60 : decode cX1_distance 60 = .ok (.iload_n 3, 1) := by decide +kernel
theorem dX1_distance_61 : decode cX1_distance 61 = .ok (.iload 4, 2) := by decide +kernel
theorem dX1_distance_63 : decode cX1_distance 63 = .ok (.invokevirtual 67, 3) := by decide +kernel
theorem dX1_distance_66 : decode cX1_distance 66 = .ok (.istore 5, 2) := by decide +kernel
theorem dX1_distance_68 : decode cX1_distance 68 = .ok (.iload 5, 2) := by decide +kernel
theorem dX1_distance_70 : decode cX1_distance 70 = .ok (.ifCond .eq 6, 3) := by decide +kernel
theorem dX1_distance_73 : decode cX1_distance 73 = .ok (.iinc 3 1, 3) := by decide +kernel
theorem dX1_distance_76 : decode cX1_distance 76 = .ok (.iinc 4 1, 3) := by decide +kernel
theorem dX1_distance_79 : decode cX1_distance 79 = .ok (.goto (-26), 3) := by decide +kernel
theorem dX1_distance_82 : decode cX1_distance 82 = .ok (.iload_n 3, 1) := by decide +kernel
theorem dX1_distance_83 : decode cX1_distance 83 = .ok (.ireturn, 1) := by decide +kernel
end
section
set_option maxRecDepth 100000
abbrev cX1_clearBit : ByteArray := prog_1_method_17_code
def yX1_clearBit : MethodName := ⟨RX1, "clearBit", "(II)Z"⟩
theorem dX1_clearBit_0 : decode cX1_clearBit 0 = .ok (.iconst (-1), 1) := by decide +kernel
theorem dX1_clearBit_1 : decode cX1_clearBit 1 = .ok (.istore_n 3, 1) := by decide +kernel
theorem dX1_clearBit_2 : decode cX1_clearBit 2 = .ok (.iconst 4, 1) := by decide +kernel
theorem dX1_clearBit_3 : decode cX1_clearBit 3 = .ok (.istore 4, 2) := by decide +kernel
theorem dX1_clearBit_5 : decode cX1_clearBit 5 = .ok (.iload 4, 2) := by decide +kernel
theorem dX1_clearBit_7 : decode cX1_clearBit 7 = .ok (.iload_n 1, 1) := by decide +kernel
theorem dX1_clearBit_8 : decode cX1_clearBit 8 = .ok (.if_icmp .lt 27, 3) := by decide +kernel
theorem dX1_clearBit_11 : decode cX1_clearBit 11 = .ok (.aload_n 0, 1) := by decide +kernel
theorem dX1_clearBit_12 : decode cX1_clearBit 12 = .ok (.getfield 19, 3) := by decide +kernel
theorem dX1_clearBit_15 : decode cX1_clearBit 15 = .ok (.iload 4, 2) := by decide +kernel
theorem dX1_clearBit_17 : decode cX1_clearBit 17 = .ok (.iaload, 1) := by decide +kernel
theorem dX1_clearBit_18 : decode cX1_clearBit 18 = .ok (.iload_n 2, 1) := by decide +kernel
theorem dX1_clearBit_19 : decode cX1_clearBit 19 = .ok (.ishr, 1) := by decide +kernel
theorem dX1_clearBit_20 : decode cX1_clearBit 20 = .ok (.iconst 1, 1) := by decide +kernel
theorem dX1_clearBit_21 : decode cX1_clearBit 21 = .ok (.iand, 1) := by decide +kernel
theorem dX1_clearBit_22 : decode cX1_clearBit 22 = .ok (.iconst 1, 1) := by decide +kernel
theorem dX1_clearBit_23 : decode cX1_clearBit 23 = .ok (.if_icmp .ne 6, 3) := by decide +kernel
theorem dX1_clearBit_26 : decode cX1_clearBit 26 = .ok (.iload 4, 2) := by decide +kernel
theorem dX1_clearBit_28 : decode cX1_clearBit 28 = .ok (.istore_n 3, 1) := by decide +kernel
theorem dX1_clearBit_29 : decode cX1_clearBit 29 = .ok (.iinc 4 (-1), 3) := by decide +kernel
theorem dX1_clearBit_32 : decode cX1_clearBit 32 = .ok (.goto (-27), 3) := by decide +kernel
theorem dX1_clearBit_35 : decode cX1_clearBit 35 = .ok (.iload_n 3, 1) := by decide +kernel
theorem dX1_clearBit_36 : decode cX1_clearBit 36 = .ok (.ifCond .ge 5, 3) := by decide +kernel
theorem dX1_clearBit_39 : decode cX1_clearBit 39 = .ok (.iconst 0, 1) := by decide +kernel
theorem dX1_clearBit_40 : decode cX1_clearBit 40 = .ok (.ireturn, 1) := by decide +kernel
theorem dX1_clearBit_41 : decode cX1_clearBit 41 = .ok (.aload_n 0, 1) := by decide +kernel
theorem dX1_clearBit_42 : decode cX1_clearBit 42 = .ok (.getfield 19, 3) := by decide +kernel
theorem dX1_clearBit_45 : decode cX1_clearBit 45 = .ok (.iload_n 3, 1) := by decide +kernel
theorem dX1_clearBit_46 : decode cX1_clearBit 46 = .ok (.iaload, 1) := by decide +kernel
theorem dX1_clearBit_47 : decode cX1_clearBit 47 = .ok (.istore 4, 2) := by decide +kernel
theorem dX1_clearBit_49 : decode cX1_clearBit 49 = .ok (.aload_n 0, 1) := by decide +kernel
theorem dX1_clearBit_50 : decode cX1_clearBit 50 = .ok (.getfield 19, 3) := by decide +kernel
theorem dX1_clearBit_53 : decode cX1_clearBit 53 = .ok (.iload_n 3, 1) := by decide +kernel
theorem dX1_clearBit_54 : decode cX1_clearBit 54 = .ok (.aload_n 0, 1) := by decide +kernel
theorem dX1_clearBit_55 : decode cX1_clearBit 55 = .ok (.getfield 19, 3) := by decide +kernel
theorem dX1_clearBit_58 : decode cX1_clearBit 58 = .ok (.iload_n 1, 1) := by decide +kernel
theorem dX1_clearBit_59 : decode cX1_clearBit 59 = .ok (.iaload, 1) := by decide +kernel
theorem dX1_clearBit_60 : decode cX1_clearBit 60 = .ok (.iastore, 1) := by decide +kernel
theorem dX1_clearBit_61 : decode cX1_clearBit 61 = .ok (.aload_n 0, 1) := by decide +kernel
theorem dX1_clearBit_62 : decode cX1_clearBit 62 = .ok (.getfield 19, 3) := by decide +kernel
theorem dX1_clearBit_65 : decode cX1_clearBit 65 = .ok (.iload_n 1, 1) := by decide +kernel
theorem dX1_clearBit_66 : decode cX1_clearBit 66 = .ok (.iload 4, 2) := by decide +kernel
theorem dX1_clearBit_68 : decode cX1_clearBit 68 = .ok (.iastore, 1) := by decide +kernel
theorem dX1_clearBit_69 : decode cX1_clearBit 69 = .ok (.iload_n 1, 1) := by decide +kernel
theorem dX1_clearBit_70 : decode cX1_clearBit 70 = .ok (.iconst 1, 1) := by decide +kernel
theorem dX1_clearBit_71 : decode cX1_clearBit 71 = .ok (.iadd, 1) := by decide +kernel
theorem dX1_clearBit_72 : decode cX1_clearBit 72 = .ok (.istore 5, 2) := by decide +kernel
theorem dX1_clearBit_74 : decode cX1_clearBit 74 = .ok (.iload 5, 2) := by decide +kernel
theorem dX1_clearBit_76 : decode cX1_clearBit 76 = .ok (.iconst 5, 1) := by decide +kernel
theorem dX1_clearBit_77 : decode cX1_clearBit 77 = .ok (.if_icmp .ge 41, 3) := by decide +kernel
theorem dX1_clearBit_80 : decode cX1_clearBit 80 = .ok (.aload_n 0, 1) := by decide +kernel
theorem dX1_clearBit_81 : decode cX1_clearBit 81 = .ok (.getfield 19, 3) := by decide +kernel
theorem dX1_clearBit_84 : decode cX1_clearBit 84 = .ok (.iload 5, 2) := by decide +kernel
theorem dX1_clearBit_86 : decode cX1_clearBit 86 = .ok (.iaload, 1) := by decide +kernel
theorem dX1_clearBit_87 : decode cX1_clearBit 87 = .ok (.iload_n 2, 1) := by decide +kernel
theorem dX1_clearBit_88 : decode cX1_clearBit 88 = .ok (.ishr, 1) := by decide +kernel
theorem dX1_clearBit_89 : decode cX1_clearBit 89 = .ok (.iconst 1, 1) := by decide +kernel
theorem dX1_clearBit_90 : decode cX1_clearBit 90 = .ok (.iand, 1) := by decide +kernel
theorem dX1_clearBit_91 : decode cX1_clearBit 91 = .ok (.iconst 1, 1) := by decide +kernel
theorem dX1_clearBit_92 : decode cX1_clearBit 92 = .ok (.if_icmp .ne 20, 3) := by decide +kernel
theorem dX1_clearBit_95 : decode cX1_clearBit 95 = .ok (.aload_n 0, 1) := by decide +kernel
theorem dX1_clearBit_96 : decode cX1_clearBit 96 = .ok (.getfield 19, 3) := by decide +kernel
theorem dX1_clearBit_99 : decode cX1_clearBit 99 = .ok (.iload 5, 2) := by decide +kernel
theorem dX1_clearBit_101 : decode cX1_clearBit 101 = .ok (.aload_n 0, 1) := by decide +kernel
theorem dX1_clearBit_102 : decode cX1_clearBit 102 = .ok (.getfield 19, 3) := by decide +kernel
theorem dX1_clearBit_105 : decode cX1_clearBit 105 = .ok (.iload 5, 2) := by decide +kernel
theorem dX1_clearBit_107 : decode cX1_clearBit 107 = .ok (.iaload, 1) := by decide +kernel
theorem dX1_clearBit_108 : decode cX1_clearBit 108 = .ok (.iload 4, 2) := by decide +kernel
theorem dX1_clearBit_110 : decode cX1_clearBit 110 = .ok (.ixor, 1) := by decide +kernel
theorem dX1_clearBit_111 : decode cX1_clearBit 111 = .ok (.iastore, 1) := by decide +kernel
theorem dX1_clearBit_112 : decode cX1_clearBit 112 = .ok (.iinc 5 1, 3) := by decide +kernel
theorem dX1_clearBit_115 : decode cX1_clearBit 115 = .ok (.goto (-41), 3) := by decide +kernel
theorem dX1_clearBit_118 : decode cX1_clearBit 118 = .ok (.iconst 1, 1) := by decide +kernel
theorem dX1_clearBit_119 : decode cX1_clearBit 119 = .ok (.ireturn, 1) := by decide +kernel
abbrev cX1_errors : ByteArray := prog_1_method_26_code
def yX1_errors : MethodName := ⟨RX1, "errors", "()I"⟩
theorem dX1_errors_0 : decode cX1_errors 0 = .ok (.aload_n 0, 1) := by decide +kernel
theorem dX1_errors_1 : decode cX1_errors 1 = .ok (.invokevirtual 98, 3) := by decide +kernel
theorem dX1_errors_4 : decode cX1_errors 4 = .ok (.istore_n 1, 1) := by decide +kernel
theorem dX1_errors_5 : decode cX1_errors 5 = .ok (.iload_n 1, 1) := by decide +kernel
theorem dX1_errors_6 : decode cX1_errors 6 = .ok (.ifCond .eq 22, 3) := by decide +kernel
theorem dX1_errors_9 : decode cX1_errors 9 = .ok (.aload_n 0, 1) := by decide +kernel
theorem dX1_errors_10 : decode cX1_errors 10 = .ok (.aload_n 0, 1) := by decide +kernel
theorem dX1_errors_11 : decode cX1_errors 11 = .ok (.getfield 31, 3) := by decide +kernel
theorem dX1_errors_14 : decode cX1_errors 14 = .ok (.iconst 0, 1) := by decide +kernel
theorem dX1_errors_15 : decode cX1_errors 15 = .ok (.iaload, 1) := by decide +kernel
theorem dX1_errors_16 : decode cX1_errors 16 = .ok (.aload_n 0, 1) := by decide +kernel
theorem dX1_errors_17 : decode cX1_errors 17 = .ok (.getfield 31, 3) := by decide +kernel
theorem dX1_errors_20 : decode cX1_errors 20 = .ok (.iconst 1, 1) := by decide +kernel
theorem dX1_errors_21 : decode cX1_errors 21 = .ok (.iaload, 1) := by decide +kernel
theorem dX1_errors_22 : decode cX1_errors 22 = .ok (.invokevirtual 64, 3) := by decide +kernel
theorem dX1_errors_25 : decode cX1_errors 25 = .ok (.goto 5, 3) := by decide +kernel
theorem dX1_errors_28 : decode cX1_errors 28 = .ok (.bipush (-4), 2) := by decide +kernel
theorem dX1_errors_30 : decode cX1_errors 30 = .ok (.ireturn, 1) := by decide +kernel
abbrev cX1_decode : ByteArray := prog_1_method_25_code
def yX1_decode : MethodName := ⟨RX1, "decode", "()Z"⟩
theorem dX1_decode_0 : decode cX1_decode 0 = .ok (.iconst 0, 1) := by decide +kernel
theorem dX1_decode_1 : decode cX1_decode 1 = .ok (.istore_n 1, 1) := by decide +kernel
theorem dX1_decode_2 : decode cX1_decode 2 = .ok (.iload_n 1, 1) := by decide +kernel
theorem dX1_decode_3 : decode cX1_decode 3 = .ok (.iconst 5, 1) := by decide +kernel
theorem dX1_decode_4 : decode cX1_decode 4 = .ok (.if_icmp .ge 14, 3) := by decide +kernel
theorem dX1_decode_7 : decode cX1_decode 7 = .ok (.aload_n 0, 1) := by decide +kernel
theorem dX1_decode_8 : decode cX1_decode 8 = .ok (.iload_n 1, 1) := by decide +kernel
theorem dX1_decode_9 : decode cX1_decode 9 = .ok (.invokevirtual 87, 3) := by decide +kernel
theorem dX1_decode_12 : decode cX1_decode 12 = .ok (.iinc 1 1, 3) := by decide +kernel
theorem dX1_decode_15 : decode cX1_decode 15 = .ok (.goto (-13), 3) := by decide +kernel
theorem dX1_decode_18 : decode cX1_decode 18 = .ok (.aload_n 0, 1) := by decide +kernel
theorem dX1_decode_19 : decode cX1_decode 19 = .ok (.invokevirtual 91, 3) := by decide +kernel
theorem dX1_decode_22 : decode cX1_decode 22 = .ok (.istore_n 1, 1) := by decide +kernel
theorem dX1_decode_23 : decode cX1_decode 23 = .ok (.iload_n 1, 1) := by decide +kernel
theorem dX1_decode_24 : decode cX1_decode 24 = .ok (.ifCond .ne 5, 3) := by decide +kernel
theorem dX1_decode_27 : decode cX1_decode 27 = .ok (.iconst 0, 1) := by decide +kernel
theorem dX1_decode_28 : decode cX1_decode 28 = .ok (.ireturn, 1) := by decide +kernel
theorem dX1_decode_29 : decode cX1_decode 29 = .ok (.aload_n 0, 1) := by decide +kernel
theorem dX1_decode_30 : decode cX1_decode 30 = .ok (.invokevirtual 95, 3) := by decide +kernel
theorem dX1_decode_33 : decode cX1_decode 33 = .ok (.istore_n 2, 1) := by decide +kernel
theorem dX1_decode_34 : decode cX1_decode 34 = .ok (.iload_n 2, 1) := by decide +kernel
theorem dX1_decode_35 : decode cX1_decode 35 = .ok (.ifCond .ne 5, 3) := by decide +kernel
theorem dX1_decode_38 : decode cX1_decode 38 = .ok (.iconst 0, 1) := by decide +kernel
theorem dX1_decode_39 : decode cX1_decode 39 = .ok (.ireturn, 1) := by decide +kernel
theorem dX1_decode_40 : decode cX1_decode 40 = .ok (.aload_n 0, 1) := by decide +kernel
theorem dX1_decode_41 : decode cX1_decode 41 = .ok (.aload_n 0, 1) := by decide +kernel
theorem dX1_decode_42 : decode cX1_decode 42 = .ok (.getfield 31, 3) := by decide +kernel
theorem dX1_decode_45 : decode cX1_decode 45 = .ok (.iconst 0, 1) := by decide +kernel
theorem dX1_decode_46 : decode cX1_decode 46 = .ok (.iaload, 1) := by decide +kernel
theorem dX1_decode_47 : decode cX1_decode 47 = .ok (.aload_n 0, 1) := by decide +kernel
theorem dX1_decode_48 : decode cX1_decode 48 = .ok (.getfield 31, 3) := by decide +kernel
theorem dX1_decode_51 : decode cX1_decode 51 = .ok (.iconst 1, 1) := by decide +kernel
theorem dX1_decode_52 : decode cX1_decode 52 = .ok (.iaload, 1) := by decide +kernel
theorem dX1_decode_53 : decode cX1_decode 53 = .ok (.invokevirtual 64, 3) := by decide +kernel
theorem dX1_decode_56 : decode cX1_decode 56 = .ok (.istore_n 3, 1) := by decide +kernel
theorem dX1_decode_57 : decode cX1_decode 57 = .ok (.iload_n 3, 1) := by decide +kernel
theorem dX1_decode_58 : decode cX1_decode 58 = .ok (.aload_n 0, 1) := by decide +kernel
theorem dX1_decode_59 : decode cX1_decode 59 = .ok (.getfield 38, 3) := by decide +kernel
theorem dX1_decode_62 : decode cX1_decode 62 = .ok (.if_icmp .gt 7, 3) := by decide +kernel
theorem dX1_decode_65 : decode cX1_decode 65 = .ok (.iconst 1, 1) := by decide +kernel
theorem dX1_decode_66 : decode cX1_decode 66 = .ok (.goto 4, 3) := by decide +kernel
theorem dX1_decode_69 : decode cX1_decode 69 = .ok (.iconst 0, 1) := by decide +kernel
theorem dX1_decode_70 : decode cX1_decode 70 = .ok (.ireturn, 1) := by decide +kernel
abbrev cX1_equation : ByteArray := prog_1_method_18_code
def yX1_equation : MethodName := ⟨RX1, "equation", "(I)V"⟩
theorem dX1_equation_0 : decode cX1_equation 0 = .ok (.iconst 0, 1) := by decide +kernel
theorem dX1_equation_1 : decode cX1_equation 1 = .ok (.istore_n 2, 1) := by decide +kernel
theorem dX1_equation_2 : decode cX1_equation 2 = .ok (.iload_n 2, 1) := by decide +kernel
theorem dX1_equation_3 : decode cX1_equation 3 = .ok (.aload_n 0, 1) := by decide +kernel
theorem dX1_equation_4 : decode cX1_equation 4 = .ok (.getfield 38, 3) := by decide +kernel
theorem dX1_equation_7 : decode cX1_equation 7 = .ok (.if_icmp .gt 31, 3) := by decide +kernel
theorem dX1_equation_10 : decode cX1_equation 10 = .ok (.aload_n 0, 1) := by decide +kernel
theorem dX1_equation_11 : decode cX1_equation 11 = .ok (.getfield 22, 3) := by decide +kernel
theorem dX1_equation_14 : decode cX1_equation 14 = .ok (.iload_n 1, 1) := by decide +kernel
theorem dX1_equation_15 : decode cX1_equation 15 = .ok (.bipush 6, 2) := by decide +kernel
theorem dX1_equation_17 : decode cX1_equation 17 = .ok (.imul, 1) := by decide +kernel
theorem dX1_equation_18 : decode cX1_equation 18 = .ok (.iload_n 2, 1) := by decide +kernel
theorem dX1_equation_19 : decode cX1_equation 19 = .ok (.iadd, 1) := by decide +kernel
theorem dX1_equation_20 : decode cX1_equation 20 = .ok (.aload_n 0, 1) := by decide +kernel
theorem dX1_equation_21 : decode cX1_equation 21 = .ok (.aload_n 0, 1) := by decide +kernel
theorem dX1_equation_22 : decode cX1_equation 22 = .ok (.getfield 16, 3) := by decide +kernel
theorem dX1_equation_25 : decode cX1_equation 25 = .ok (.iload_n 1, 1) := by decide +kernel
theorem dX1_equation_26 : decode cX1_equation 26 = .ok (.iaload, 1) := by decide +kernel
theorem dX1_equation_27 : decode cX1_equation 27 = .ok (.iload_n 2, 1) := by decide +kernel
theorem dX1_equation_28 : decode cX1_equation 28 = .ok (.invokevirtual 70, 3) := by decide +kernel
theorem dX1_equation_31 : decode cX1_equation 31 = .ok (.iastore, 1) := by decide +kernel
theorem dX1_equation_32 : decode cX1_equation 32 = .ok (.iinc 2 1, 3) := by decide +kernel
theorem dX1_equation_35 : decode cX1_equation 35 = .ok (.goto (-33), 3) := by decide +kernel
theorem dX1_equation_38 : decode cX1_equation 38 = .ok (.iconst 0, 1) := by decide +kernel
theorem dX1_equation_39 : decode cX1_equation 39 = .ok (.istore_n 2, 1) := by decide +kernel
theorem dX1_equation_40 : decode cX1_equation 40 = .ok (.iload_n 2, 1) := by decide +kernel
theorem dX1_equation_41 : decode cX1_equation 41 = .ok (.aload_n 0, 1) := by decide +kernel
theorem dX1_equation_42 : decode cX1_equation 42 = .ok (.getfield 38, 3) := by decide +kernel
theorem dX1_equation_45 : decode cX1_equation 45 = .ok (.aload_n 0, 1) := by decide +kernel
theorem dX1_equation_46 : decode cX1_equation 46 = .ok (.getfield 34, 3) := by decide +kernel
theorem dX1_equation_49 : decode cX1_equation 49 = .ok (.iadd, 1) := by decide +kernel
theorem dX1_equation_50 : decode cX1_equation 50 = .ok (.if_icmp .ge 35, 3) := by decide +kernel
theorem dX1_equation_53 : decode cX1_equation 53 = .ok (.aload_n 0, 1) := by decide +kernel
theorem dX1_equation_54 : decode cX1_equation 54 = .ok (.getfield 22, 3) := by decide +kernel
theorem dX1_equation_57 : decode cX1_equation 57 = .ok (.iload_n 1, 1) := by decide +kernel
theorem dX1_equation_58 : decode cX1_equation 58 = .ok (.bipush 6, 2) := by decide +kernel
theorem dX1_equation_60 : decode cX1_equation 60 = .ok (.imul, 1) := by decide +kernel
theorem dX1_equation_61 : decode cX1_equation 61 = .ok (.aload_n 0, 1) := by decide +kernel
theorem dX1_equation_62 : decode cX1_equation 62 = .ok (.getfield 38, 3) := by decide +kernel
theorem dX1_equation_65 : decode cX1_equation 65 = .ok (.iadd, 1) := by decide +kernel
theorem dX1_equation_66 : decode cX1_equation 66 = .ok (.iconst 1, 1) := by decide +kernel
theorem dX1_equation_67 : decode cX1_equation 67 = .ok (.iadd, 1) := by decide +kernel
theorem dX1_equation_68 : decode cX1_equation 68 = .ok (.iload_n 2, 1) := by decide +kernel
theorem dX1_equation_69 : decode cX1_equation 69 = .ok (.iadd, 1) := by decide +kernel
theorem dX1_equation_70 : decode cX1_equation 70 = .ok (.aload_n 0, 1) := by decide +kernel
theorem dX1_equation_71 : decode cX1_equation 71 = .ok (.iconst 1, 1) := by decide +kernel
theorem dX1_equation_72 : decode cX1_equation 72 = .ok (.iload_n 1, 1) := by decide +kernel
theorem dX1_equation_73 : decode cX1_equation 73 = .ok (.ishl, 1) := by decide +kernel
theorem dX1_equation_74 : decode cX1_equation 74 = .ok (.iload_n 2, 1) := by decide +kernel
theorem dX1_equation_75 : decode cX1_equation 75 = .ok (.invokevirtual 70, 3) := by decide +kernel
theorem dX1_equation_78 : decode cX1_equation 78 = .ok (.iastore, 1) := by decide +kernel
theorem dX1_equation_79 : decode cX1_equation 79 = .ok (.iinc 2 1, 3) := by decide +kernel
theorem dX1_equation_82 : decode cX1_equation 82 = .ok (.goto (-42), 3) := by decide +kernel
theorem dX1_equation_85 : decode cX1_equation 85 = .ok (.return_, 1) := by decide +kernel
abbrev cX1_frobenius : ByteArray := prog_1_method_4_code
def yX1_frobenius : MethodName := ⟨RX1, "frobenius", "(II)I"⟩
theorem dX1_frobenius_0 : decode cX1_frobenius 0 = .ok (.iload_n 1, 1) := by decide +kernel
theorem dX1_frobenius_1 : decode cX1_frobenius 1 = .ok (.istore_n 3, 1) := by decide +kernel
theorem dX1_frobenius_2 : decode cX1_frobenius 2 = .ok (.iconst 0, 1) := by decide +kernel
theorem dX1_frobenius_3 : decode cX1_frobenius 3 = .ok (.istore 4, 2) := by decide +kernel
theorem dX1_frobenius_5 : decode cX1_frobenius 5 = .ok (.iload 4, 2) := by decide +kernel
theorem dX1_frobenius_7 : decode cX1_frobenius 7 = .ok (.iload_n 2, 1) := by decide +kernel
theorem dX1_frobenius_8 : decode cX1_frobenius 8 = .ok (.if_icmp .ge 16, 3) := by decide +kernel
theorem dX1_frobenius_11 : decode cX1_frobenius 11 = .ok (.aload_n 0, 1) := by decide +kernel
theorem dX1_frobenius_12 : decode cX1_frobenius 12 = .ok (.iload_n 3, 1) := by decide +kernel
theorem dX1_frobenius_13 : decode cX1_frobenius 13 = .ok (.iload_n 3, 1) := by decide +kernel
theorem dX1_frobenius_14 : decode cX1_frobenius 14 = .ok (.invokevirtual 41, 3) := by decide +kernel
theorem dX1_frobenius_17 : decode cX1_frobenius 17 = .ok (.istore_n 3, 1) := by decide +kernel
theorem dX1_frobenius_18 : decode cX1_frobenius 18 = .ok (.iinc 4 1, 3) := by decide +kernel
theorem dX1_frobenius_21 : decode cX1_frobenius 21 = .ok (.goto (-16), 3) := by decide +kernel
theorem dX1_frobenius_24 : decode cX1_frobenius 24 = .ok (.iload_n 3, 1) := by decide +kernel
theorem dX1_frobenius_25 : decode cX1_frobenius 25 = .ok (.ireturn, 1) := by decide +kernel
abbrev cX1_solve : ByteArray := prog_1_method_22_code
def yX1_solve : MethodName := ⟨RX1, "solve", "()Z"⟩
theorem dX1_solve_0 : decode cX1_solve 0 = .ok (.iconst 2, 1) := by decide +kernel
theorem dX1_solve_1 : decode cX1_solve 1 = .ok (.aload_n 0, 1) := by decide +kernel
theorem dX1_solve_2 : decode cX1_solve 2 = .ok (.getfield 38, 3) := by decide +kernel
theorem dX1_solve_5 : decode cX1_solve 5 = .ok (.imul, 1) := by decide +kernel
theorem dX1_solve_6 : decode cX1_solve 6 = .ok (.aload_n 0, 1) := by decide +kernel
theorem dX1_solve_7 : decode cX1_solve 7 = .ok (.getfield 34, 3) := by decide +kernel
theorem dX1_solve_10 : decode cX1_solve 10 = .ok (.iadd, 1) := by decide +kernel
theorem dX1_solve_11 : decode cX1_solve 11 = .ok (.iconst 1, 1) := by decide +kernel
theorem dX1_solve_12 : decode cX1_solve 12 = .ok (.iadd, 1) := by decide +kernel
theorem dX1_solve_13 : decode cX1_solve 13 = .ok (.istore_n 1, 1) := by decide +kernel
theorem dX1_solve_14 : decode cX1_solve 14 = .ok (.iconst 0, 1) := by decide +kernel
theorem dX1_solve_15 : decode cX1_solve 15 = .ok (.istore_n 2, 1) := by decide +kernel
theorem dX1_solve_16 : decode cX1_solve 16 = .ok (.iconst (-1), 1) := by decide +kernel
theorem dX1_solve_17 : decode cX1_solve 17 = .ok (.istore_n 3, 1) := by decide +kernel
theorem dX1_solve_18 : decode cX1_solve 18 = .ok (.iconst 0, 1) := by decide +kernel
theorem dX1_solve_19 : decode cX1_solve 19 = .ok (.istore 4, 2) := by decide +kernel
theorem dX1_solve_21 : decode cX1_solve 21 = .ok (.iload 4, 2) := by decide +kernel
theorem dX1_solve_23 : decode cX1_solve 23 = .ok (.iload_n 1, 1) := by decide +kernel
theorem dX1_solve_24 : decode cX1_solve 24 = .ok (.if_icmp .ge 95, 3) := by decide +kernel
theorem dX1_solve_27 : decode cX1_solve 27 = .ok (.aload_n 0, 1) := by decide +kernel
theorem dX1_solve_28 : decode cX1_solve 28 = .ok (.getfield 25, 3) := by decide +kernel
theorem dX1_solve_31 : decode cX1_solve 31 = .ok (.iload 4, 2) := by decide +kernel
theorem dX1_solve_33 : decode cX1_solve 33 = .ok (.iconst (-1), 1) := by decide +kernel
theorem dX1_solve_34 : decode cX1_solve 34 = .ok (.iastore, 1) := by decide +kernel
theorem dX1_solve_35 : decode cX1_solve 35 = .ok (.iconst (-1), 1) := by decide +kernel
theorem dX1_solve_36 : decode cX1_solve 36 = .ok (.istore 5, 2) := by decide +kernel
theorem dX1_solve_38 : decode cX1_solve 38 = .ok (.iconst 4, 1) := by decide +kernel
theorem dX1_solve_39 : decode cX1_solve 39 = .ok (.istore 6, 2) := by decide +kernel
theorem dX1_solve_41 : decode cX1_solve 41 = .ok (.iload 6, 2) := by decide +kernel
theorem dX1_solve_43 : decode cX1_solve 43 = .ok (.iload_n 2, 1) := by decide +kernel
theorem dX1_solve_44 : decode cX1_solve 44 = .ok (.if_icmp .lt 29, 3) := by decide +kernel
theorem dX1_solve_47 : decode cX1_solve 47 = .ok (.aload_n 0, 1) := by decide +kernel
theorem dX1_solve_48 : decode cX1_solve 48 = .ok (.getfield 22, 3) := by decide +kernel
theorem dX1_solve_51 : decode cX1_solve 51 = .ok (.iload 6, 2) := by decide +kernel
theorem dX1_solve_53 : decode cX1_solve 53 = .ok (.bipush 6, 2) := by decide +kernel
theorem dX1_solve_55 : decode cX1_solve 55 = .ok (.imul, 1) := by decide +kernel
theorem dX1_solve_56 : decode cX1_solve 56 = .ok (.iload 4, 2) := by decide +kernel
theorem dX1_solve_58 : decode cX1_solve 58 = .ok (.iadd, 1) := by decide +kernel
theorem dX1_solve_59 : decode cX1_solve 59 = .ok (.iaload, 1) := by decide +kernel
theorem dX1_solve_60 : decode cX1_solve 60 = .ok (.ifCond .eq 7, 3) := by decide +kernel
theorem dX1_solve_63 : decode cX1_solve 63 = .ok (.iload 6, 2) := by decide +kernel
theorem dX1_solve_65 : decode cX1_solve 65 = .ok (.istore 5, 2) := by decide +kernel
theorem dX1_solve_67 : decode cX1_solve 67 = .ok (.iinc 6 (-1), 3) := by decide +kernel
theorem dX1_solve_70 : decode cX1_solve 70 = .ok (.goto (-29), 3) := by decide +kernel
theorem dX1_solve_73 : decode cX1_solve 73 = .ok (.iload 5, 2) := by decide +kernel
theorem dX1_solve_75 : decode cX1_solve 75 = .ok (.ifCond .lt 31, 3) := by decide +kernel
theorem dX1_solve_78 : decode cX1_solve 78 = .ok (.aload_n 0, 1) := by decide +kernel
theorem dX1_solve_79 : decode cX1_solve 79 = .ok (.iload 5, 2) := by decide +kernel
theorem dX1_solve_81 : decode cX1_solve 81 = .ok (.iload_n 2, 1) := by decide +kernel
theorem dX1_solve_82 : decode cX1_solve 82 = .ok (.invokevirtual 73, 3) := by decide +kernel
theorem dX1_solve_85 : decode cX1_solve 85 = .ok (.aload_n 0, 1) := by decide +kernel
theorem dX1_solve_86 : decode cX1_solve 86 = .ok (.iload_n 2, 1) := by decide +kernel
theorem dX1_solve_87 : decode cX1_solve 87 = .ok (.iload 4, 2) := by decide +kernel
theorem dX1_solve_89 : decode cX1_solve 89 = .ok (.invokevirtual 77, 3) := by decide +kernel
theorem dX1_solve_92 : decode cX1_solve 92 = .ok (.aload_n 0, 1) := by decide +kernel
theorem dX1_solve_93 : decode cX1_solve 93 = .ok (.getfield 25, 3) := by decide +kernel
theorem dX1_solve_96 : decode cX1_solve 96 = .ok (.iload 4, 2) := by decide +kernel
theorem dX1_solve_98 : decode cX1_solve 98 = .ok (.iload_n 2, 1) := by decide +kernel
theorem dX1_solve_99 : decode cX1_solve 99 = .ok (.iastore, 1) := by decide +kernel
theorem dX1_solve_100 : decode cX1_solve 100 = .ok (.iinc 2 1, 3) := by decide +kernel
theorem dX1_solve_103 : decode cX1_solve 103 = .ok (.goto 10, 3) := by decide +kernel
theorem dX1_solve_106 : decode cX1_solve 106 = .ok (.iload_n 3, 1) := by decide +kernel
theorem dX1_solve_107 : decode cX1_solve 107 = .ok (.ifCond .ge 6, 3) := by decide +kernel
theorem dX1_solve_110 : decode cX1_solve 110 = .ok (.iload 4, 2) := by decide +kernel
theorem dX1_solve_112 : decode cX1_solve 112 = .ok (.istore_n 3, 1) := by decide +kernel
theorem dX1_solve_113 : decode cX1_solve 113 = .ok (.iinc 4 1, 3) := by decide +kernel
theorem dX1_solve_116 : decode cX1_solve 116 = .ok (.goto (-95), 3) := by decide +kernel
theorem dX1_solve_119 : decode cX1_solve 119 = .ok (.iload_n 3, 1) := by decide +kernel
theorem dX1_solve_120 : decode cX1_solve 120 = .ok (.ifCond .ge 5, 3) := by decide +kernel
theorem dX1_solve_123 : decode cX1_solve 123 = .ok (.iconst 0, 1) := by decide +kernel
theorem dX1_solve_124 : decode cX1_solve 124 = .ok (.ireturn, 1) := by decide +kernel
theorem dX1_solve_125 : decode cX1_solve 125 = .ok (.iconst 0, 1) := by decide +kernel
theorem dX1_solve_126 : decode cX1_solve 126 = .ok (.istore 4, 2) := by decide +kernel
theorem dX1_solve_128 : decode cX1_solve 128 = .ok (.iload 4, 2) := by decide +kernel
theorem dX1_solve_130 : decode cX1_solve 130 = .ok (.iload_n 1, 1) := by decide +kernel
theorem dX1_solve_131 : decode cX1_solve 131 = .ok (.if_icmp .ge 47, 3) := by decide +kernel
theorem dX1_solve_134 : decode cX1_solve 134 = .ok (.aload_n 0, 1) := by decide +kernel
theorem dX1_solve_135 : decode cX1_solve 135 = .ok (.getfield 28, 3) := by decide +kernel
theorem dX1_solve_138 : decode cX1_solve 138 = .ok (.iload 4, 2) := by decide +kernel
theorem dX1_solve_140 : decode cX1_solve 140 = .ok (.aload_n 0, 1) := by decide +kernel
theorem dX1_solve_141 : decode cX1_solve 141 = .ok (.getfield 25, 3) := by decide +kernel
theorem dX1_solve_144 : decode cX1_solve 144 = .ok (.iload 4, 2) := by decide +kernel
theorem dX1_solve_146 : decode cX1_solve 146 = .ok (.iaload, 1) := by decide +kernel
theorem dX1_solve_147 : decode cX1_solve 147 = .ok (.ifCond .ge 7, 3) := by decide +kernel
theorem dX1_solve_150 : decode cX1_solve 150 = .ok (.iconst 0, 1) := by decide +kernel
theorem dX1_solve_151 : decode cX1_solve 151 = .ok (.goto 20, 3) := by decide +kernel
theorem dX1_solve_154 : decode cX1_solve 154 = .ok (.aload_n 0, 1) := by decide +kernel
theorem dX1_solve_155 : decode cX1_solve 155 = .ok (.getfield 22, 3) := by decide +kernel
theorem dX1_solve_158 : decode cX1_solve 158 = .ok (.aload_n 0, 1) := by decide +kernel
theorem dX1_solve_159 : decode cX1_solve 159 = .ok (.getfield 25, 3) := by decide +kernel
theorem dX1_solve_162 : decode cX1_solve 162 = .ok (.iload 4, 2) := by decide +kernel
theorem dX1_solve_164 : decode cX1_solve 164 = .ok (.iaload, 1) := by decide +kernel
theorem dX1_solve_165 : decode cX1_solve 165 = .ok (.bipush 6, 2) := by decide +kernel
theorem dX1_solve_167 : decode cX1_solve 167 = .ok (.imul, 1) := by decide +kernel
theorem dX1_solve_168 : decode cX1_solve 168 = .ok (.iload_n 3, 1) := by decide +kernel
theorem dX1_solve_169 : decode cX1_solve 169 = .ok (.iadd, 1) := by decide +kernel
theorem dX1_solve_170 : decode cX1_solve 170 = .ok (.iaload, 1) := by decide +kernel
theorem dX1_solve_171 : decode cX1_solve 171 = .ok (.iastore, 1) := by decide +kernel
theorem dX1_solve_172 : decode cX1_solve 172 = .ok (.iinc 4 1, 3) := by decide +kernel
theorem dX1_solve_175 : decode cX1_solve 175 = .ok (.goto (-47), 3) := by decide +kernel
theorem dX1_solve_178 : decode cX1_solve 178 = .ok (.aload_n 0, 1) := by decide +kernel
theorem dX1_solve_179 : decode cX1_solve 179 = .ok (.getfield 28, 3) := by decide +kernel
theorem dX1_solve_182 : decode cX1_solve 182 = .ok (.iload_n 3, 1) := by decide +kernel
theorem dX1_solve_183 : decode cX1_solve 183 = .ok (.iconst 1, 1) := by decide +kernel
theorem dX1_solve_184 : decode cX1_solve 184 = .ok (.iastore, 1) := by decide +kernel
theorem dX1_solve_185 : decode cX1_solve 185 = .ok (.iconst 1, 1) := by decide +kernel
theorem dX1_solve_186 : decode cX1_solve 186 = .ok (.ireturn, 1) := by decide +kernel
abbrev cX1_swapRows : ByteArray := prog_1_method_19_code
def yX1_swapRows : MethodName := ⟨RX1, "swapRows", "(II)V"⟩
theorem dX1_swapRows_0 : decode cX1_swapRows 0 = .ok (.iconst 0, 1) := by decide +kernel
theorem dX1_swapRows_1 : decode cX1_swapRows 1 = .ok (.istore_n 3, 1) := by decide +kernel
theorem dX1_swapRows_2 : decode cX1_swapRows 2 = .ok (.iload_n 3, 1) := by decide +kernel
theorem dX1_swapRows_3 : decode cX1_swapRows 3 = .ok (.bipush 6, 2) := by decide +kernel
theorem dX1_swapRows_5 : decode cX1_swapRows 5 = .ok (.if_icmp .ge 57, 3) := by decide +kernel
theorem dX1_swapRows_8 : decode cX1_swapRows 8 = .ok (.aload_n 0, 1) := by decide +kernel
theorem dX1_swapRows_9 : decode cX1_swapRows 9 = .ok (.getfield 22, 3) := by decide +kernel
theorem dX1_swapRows_12 : decode cX1_swapRows 12 = .ok (.iload_n 1, 1) := by decide +kernel
theorem dX1_swapRows_13 : decode cX1_swapRows 13 = .ok (.bipush 6, 2) := by decide +kernel
theorem dX1_swapRows_15 : decode cX1_swapRows 15 = .ok (.imul, 1) := by decide +kernel
theorem dX1_swapRows_16 : decode cX1_swapRows 16 = .ok (.iload_n 3, 1) := by decide +kernel
theorem dX1_swapRows_17 : decode cX1_swapRows 17 = .ok (.iadd, 1) := by decide +kernel
theorem dX1_swapRows_18 : decode cX1_swapRows 18 = .ok (.iaload, 1) := by decide +kernel
theorem dX1_swapRows_19 : decode cX1_swapRows 19 = .ok (.istore 4, 2) := by decide +kernel
theorem dX1_swapRows_21 : decode cX1_swapRows 21 = .ok (.aload_n 0, 1) := by decide +kernel
theorem dX1_swapRows_22 : decode cX1_swapRows 22 = .ok (.getfield 22, 3) := by decide +kernel
theorem dX1_swapRows_25 : decode cX1_swapRows 25 = .ok (.iload_n 1, 1) := by decide +kernel
theorem dX1_swapRows_26 : decode cX1_swapRows 26 = .ok (.bipush 6, 2) := by decide +kernel
theorem dX1_swapRows_28 : decode cX1_swapRows 28 = .ok (.imul, 1) := by decide +kernel
theorem dX1_swapRows_29 : decode cX1_swapRows 29 = .ok (.iload_n 3, 1) := by decide +kernel
theorem dX1_swapRows_30 : decode cX1_swapRows 30 = .ok (.iadd, 1) := by decide +kernel
theorem dX1_swapRows_31 : decode cX1_swapRows 31 = .ok (.aload_n 0, 1) := by decide +kernel
theorem dX1_swapRows_32 : decode cX1_swapRows 32 = .ok (.getfield 22, 3) := by decide +kernel
theorem dX1_swapRows_35 : decode cX1_swapRows 35 = .ok (.iload_n 2, 1) := by decide +kernel
theorem dX1_swapRows_36 : decode cX1_swapRows 36 = .ok (.bipush 6, 2) := by decide +kernel
theorem dX1_swapRows_38 : decode cX1_swapRows 38 = .ok (.imul, 1) := by decide +kernel
theorem dX1_swapRows_39 : decode cX1_swapRows 39 = .ok (.iload_n 3, 1) := by decide +kernel
theorem dX1_swapRows_40 : decode cX1_swapRows 40 = .ok (.iadd, 1) := by decide +kernel
theorem dX1_swapRows_41 : decode cX1_swapRows 41 = .ok (.iaload, 1) := by decide +kernel
theorem dX1_swapRows_42 : decode cX1_swapRows 42 = .ok (.iastore, 1) := by decide +kernel
theorem dX1_swapRows_43 : decode cX1_swapRows 43 = .ok (.aload_n 0, 1) := by decide +kernel
theorem dX1_swapRows_44 : decode cX1_swapRows 44 = .ok (.getfield 22, 3) := by decide +kernel
theorem dX1_swapRows_47 : decode cX1_swapRows 47 = .ok (.iload_n 2, 1) := by decide +kernel
theorem dX1_swapRows_48 : decode cX1_swapRows 48 = .ok (.bipush 6, 2) := by decide +kernel
theorem dX1_swapRows_50 : decode cX1_swapRows 50 = .ok (.imul, 1) := by decide +kernel
theorem dX1_swapRows_51 : decode cX1_swapRows 51 = .ok (.iload_n 3, 1) := by decide +kernel
theorem dX1_swapRows_52 : decode cX1_swapRows 52 = .ok (.iadd, 1) := by decide +kernel
theorem dX1_swapRows_53 : decode cX1_swapRows 53 = .ok (.iload 4, 2) := by decide +kernel
theorem dX1_swapRows_55 : decode cX1_swapRows 55 = .ok (.iastore, 1) := by decide +kernel
theorem dX1_swapRows_56 : decode cX1_swapRows 56 = .ok (.iinc 3 1, 3) := by decide +kernel
theorem dX1_swapRows_59 : decode cX1_swapRows 59 = .ok (.goto (-57), 3) := by decide +kernel
theorem dX1_swapRows_62 : decode cX1_swapRows 62 = .ok (.return_, 1) := by decide +kernel
abbrev cX1_reduce : ByteArray := prog_1_method_23_code
def yX1_reduce : MethodName := ⟨RX1, "reduce", "(II)V"⟩
theorem dX1_reduce_0 : decode cX1_reduce 0 = .ok (.aload_n 0, 1) := by decide +kernel
theorem dX1_reduce_1 : decode cX1_reduce 1 = .ok (.iload_n 1, 1) := by decide +kernel
theorem dX1_reduce_2 : decode cX1_reduce 2 = .ok (.aload_n 0, 1) := by decide +kernel
theorem dX1_reduce_3 : decode cX1_reduce 3 = .ok (.getfield 22, 3) := by decide +kernel
theorem dX1_reduce_6 : decode cX1_reduce 6 = .ok (.iload_n 1, 1) := by decide +kernel
theorem dX1_reduce_7 : decode cX1_reduce 7 = .ok (.bipush 6, 2) := by decide +kernel
theorem dX1_reduce_9 : decode cX1_reduce 9 = .ok (.imul, 1) := by decide +kernel
theorem dX1_reduce_10 : decode cX1_reduce 10 = .ok (.iload_n 2, 1) := by decide +kernel
theorem dX1_reduce_11 : decode cX1_reduce 11 = .ok (.iadd, 1) := by decide +kernel
theorem dX1_reduce_12 : decode cX1_reduce 12 = .ok (.iaload, 1) := by decide +kernel
theorem dX1_reduce_13 : decode cX1_reduce 13 = .ok (.invokevirtual 80, 3) := by decide +kernel
theorem dX1_reduce_16 : decode cX1_reduce 16 = .ok (.iconst 0, 1) := by decide +kernel
theorem dX1_reduce_17 : decode cX1_reduce 17 = .ok (.istore_n 3, 1) := by decide +kernel
theorem dX1_reduce_18 : decode cX1_reduce 18 = .ok (.iload_n 3, 1) := by decide +kernel
theorem dX1_reduce_19 : decode cX1_reduce 19 = .ok (.iconst 5, 1) := by decide +kernel
theorem dX1_reduce_20 : decode cX1_reduce 20 = .ok (.if_icmp .ge 45, 3) := by decide +kernel
theorem dX1_reduce_23 : decode cX1_reduce 23 = .ok (.iload_n 3, 1) := by decide +kernel
theorem dX1_reduce_24 : decode cX1_reduce 24 = .ok (.iload_n 1, 1) := by decide +kernel
theorem dX1_reduce_25 : decode cX1_reduce 25 = .ok (.if_icmp .eq 34, 3) := by decide +kernel
theorem dX1_reduce_28 : decode cX1_reduce 28 = .ok (.aload_n 0, 1) := by decide +kernel
theorem dX1_reduce_29 : decode cX1_reduce 29 = .ok (.getfield 22, 3) := by decide +kernel
theorem dX1_reduce_32 : decode cX1_reduce 32 = .ok (.iload_n 3, 1) := by decide +kernel
theorem dX1_reduce_33 : decode cX1_reduce 33 = .ok (.bipush 6, 2) := by decide +kernel
theorem dX1_reduce_35 : decode cX1_reduce 35 = .ok (.imul, 1) := by decide +kernel
theorem dX1_reduce_36 : decode cX1_reduce 36 = .ok (.iload_n 2, 1) := by decide +kernel
theorem dX1_reduce_37 : decode cX1_reduce 37 = .ok (.iadd, 1) := by decide +kernel
theorem dX1_reduce_38 : decode cX1_reduce 38 = .ok (.iaload, 1) := by decide +kernel
theorem dX1_reduce_39 : decode cX1_reduce 39 = .ok (.ifCond .eq 20, 3) := by decide +kernel
theorem dX1_reduce_42 : decode cX1_reduce 42 = .ok (.aload_n 0, 1) := by decide +kernel
theorem dX1_reduce_43 : decode cX1_reduce 43 = .ok (.iload_n 1, 1) := by decide +kernel
theorem dX1_reduce_44 : decode cX1_reduce 44 = .ok (.iload_n 3, 1) := by decide +kernel
theorem dX1_reduce_45 : decode cX1_reduce 45 = .ok (.aload_n 0, 1) := by decide +kernel
theorem dX1_reduce_46 : decode cX1_reduce 46 = .ok (.getfield 22, 3) := by decide +kernel
theorem dX1_reduce_49 : decode cX1_reduce 49 = .ok (.iload_n 3, 1) := by decide +kernel
theorem dX1_reduce_50 : decode cX1_reduce 50 = .ok (.bipush 6, 2) := by decide +kernel
theorem dX1_reduce_52 : decode cX1_reduce 52 = .ok (.imul, 1) := by decide +kernel
theorem dX1_reduce_53 : decode cX1_reduce 53 = .ok (.iload_n 2, 1) := by decide +kernel
theorem dX1_reduce_54 : decode cX1_reduce 54 = .ok (.iadd, 1) := by decide +kernel
theorem dX1_reduce_55 : decode cX1_reduce 55 = .ok (.iaload, 1) := by decide +kernel
theorem dX1_reduce_56 : decode cX1_reduce 56 = .ok (.invokevirtual 83, 3) := by decide +kernel
theorem dX1_reduce_59 : decode cX1_reduce 59 = .ok (.iinc 3 1, 3) := by decide +kernel
theorem dX1_reduce_62 : decode cX1_reduce 62 = .ok (.goto (-44), 3) := by decide +kernel
theorem dX1_reduce_65 : decode cX1_reduce 65 = .ok (.return_, 1) := by decide +kernel
abbrev cX1_divideRow : ByteArray := prog_1_method_20_code
def yX1_divideRow : MethodName := ⟨RX1, "divideRow", "(II)V"⟩
theorem dX1_divideRow_0 : decode cX1_divideRow 0 = .ok (.iconst 0, 1) := by decide +kernel
theorem dX1_divideRow_1 : decode cX1_divideRow 1 = .ok (.istore_n 3, 1) := by decide +kernel
theorem dX1_divideRow_2 : decode cX1_divideRow 2 = .ok (.iload_n 3, 1) := by decide +kernel
theorem dX1_divideRow_3 : decode cX1_divideRow 3 = .ok (.bipush 6, 2) := by decide +kernel
theorem dX1_divideRow_5 : decode cX1_divideRow 5 = .ok (.if_icmp .ge 36, 3) := by decide +kernel
theorem dX1_divideRow_8 : decode cX1_divideRow 8 = .ok (.aload_n 0, 1) := by decide +kernel
theorem dX1_divideRow_9 : decode cX1_divideRow 9 = .ok (.getfield 22, 3) := by decide +kernel
theorem dX1_divideRow_12 : decode cX1_divideRow 12 = .ok (.iload_n 1, 1) := by decide +kernel
theorem dX1_divideRow_13 : decode cX1_divideRow 13 = .ok (.bipush 6, 2) := by decide +kernel
theorem dX1_divideRow_15 : decode cX1_divideRow 15 = .ok (.imul, 1) := by decide +kernel
theorem dX1_divideRow_16 : decode cX1_divideRow 16 = .ok (.iload_n 3, 1) := by decide +kernel
theorem dX1_divideRow_17 : decode cX1_divideRow 17 = .ok (.iadd, 1) := by decide +kernel
theorem dX1_divideRow_18 : decode cX1_divideRow 18 = .ok (.aload_n 0, 1) := by decide +kernel
theorem dX1_divideRow_19 : decode cX1_divideRow 19 = .ok (.aload_n 0, 1) := by decide +kernel
theorem dX1_divideRow_20 : decode cX1_divideRow 20 = .ok (.getfield 22, 3) := by decide +kernel
theorem dX1_divideRow_23 : decode cX1_divideRow 23 = .ok (.iload_n 1, 1) := by decide +kernel
theorem dX1_divideRow_24 : decode cX1_divideRow 24 = .ok (.bipush 6, 2) := by decide +kernel
theorem dX1_divideRow_26 : decode cX1_divideRow 26 = .ok (.imul, 1) := by decide +kernel
theorem dX1_divideRow_27 : decode cX1_divideRow 27 = .ok (.iload_n 3, 1) := by decide +kernel
theorem dX1_divideRow_28 : decode cX1_divideRow 28 = .ok (.iadd, 1) := by decide +kernel
theorem dX1_divideRow_29 : decode cX1_divideRow 29 = .ok (.iaload, 1) := by decide +kernel
theorem dX1_divideRow_30 : decode cX1_divideRow 30 = .ok (.iload_n 2, 1) := by decide +kernel
theorem dX1_divideRow_31 : decode cX1_divideRow 31 = .ok (.invokevirtual 49, 3) := by decide +kernel
theorem dX1_divideRow_34 : decode cX1_divideRow 34 = .ok (.iastore, 1) := by decide +kernel
theorem dX1_divideRow_35 : decode cX1_divideRow 35 = .ok (.iinc 3 1, 3) := by decide +kernel
theorem dX1_divideRow_38 : decode cX1_divideRow 38 = .ok (.goto (-36), 3) := by decide +kernel
theorem dX1_divideRow_41 : decode cX1_divideRow 41 = .ok (.return_, 1) := by decide +kernel
abbrev cX1_addRow : ByteArray := prog_1_method_21_code
def yX1_addRow : MethodName := ⟨RX1, "addRow", "(III)V"⟩
theorem dX1_addRow_0 : decode cX1_addRow 0 = .ok (.iconst 0, 1) := by decide +kernel
theorem dX1_addRow_1 : decode cX1_addRow 1 = .ok (.istore 4, 2) := by decide +kernel
theorem dX1_addRow_3 : decode cX1_addRow 3 = .ok (.iload 4, 2) := by decide +kernel
theorem dX1_addRow_5 : decode cX1_addRow 5 = .ok (.bipush 6, 2) := by decide +kernel
theorem dX1_addRow_7 : decode cX1_addRow 7 = .ok (.if_icmp .ge 55, 3) := by decide +kernel
theorem dX1_addRow_10 : decode cX1_addRow 10 = .ok (.aload_n 0, 1) := by decide +kernel
theorem dX1_addRow_11 : decode cX1_addRow 11 = .ok (.aload_n 0, 1) := by decide +kernel
theorem dX1_addRow_12 : decode cX1_addRow 12 = .ok (.getfield 22, 3) := by decide +kernel
theorem dX1_addRow_15 : decode cX1_addRow 15 = .ok (.iload_n 1, 1) := by decide +kernel
theorem dX1_addRow_16 : decode cX1_addRow 16 = .ok (.bipush 6, 2) := by decide +kernel
theorem dX1_addRow_18 : decode cX1_addRow 18 = .ok (.imul, 1) := by decide +kernel
theorem dX1_addRow_19 : decode cX1_addRow 19 = .ok (.iload 4, 2) := by decide +kernel
theorem dX1_addRow_21 : decode cX1_addRow 21 = .ok (.iadd, 1) := by decide +kernel
theorem dX1_addRow_22 : decode cX1_addRow 22 = .ok (.iaload, 1) := by decide +kernel
theorem dX1_addRow_23 : decode cX1_addRow 23 = .ok (.iload_n 3, 1) := by decide +kernel
theorem dX1_addRow_24 : decode cX1_addRow 24 = .ok (.invokevirtual 41, 3) := by decide +kernel
theorem dX1_addRow_27 : decode cX1_addRow 27 = .ok (.istore 5, 2) := by decide +kernel
theorem dX1_addRow_29 : decode cX1_addRow 29 = .ok (.aload_n 0, 1) := by decide +kernel
theorem dX1_addRow_30 : decode cX1_addRow 30 = .ok (.getfield 22, 3) := by decide +kernel
theorem dX1_addRow_33 : decode cX1_addRow 33 = .ok (.iload_n 2, 1) := by decide +kernel
theorem dX1_addRow_34 : decode cX1_addRow 34 = .ok (.bipush 6, 2) := by decide +kernel
theorem dX1_addRow_36 : decode cX1_addRow 36 = .ok (.imul, 1) := by decide +kernel
theorem dX1_addRow_37 : decode cX1_addRow 37 = .ok (.iload 4, 2) := by decide +kernel
theorem dX1_addRow_39 : decode cX1_addRow 39 = .ok (.iadd, 1) := by decide +kernel
theorem dX1_addRow_40 : decode cX1_addRow 40 = .ok (.aload_n 0, 1) := by decide +kernel
theorem dX1_addRow_41 : decode cX1_addRow 41 = .ok (.getfield 22, 3) := by decide +kernel
theorem dX1_addRow_44 : decode cX1_addRow 44 = .ok (.iload_n 2, 1) := by decide +kernel
theorem dX1_addRow_45 : decode cX1_addRow 45 = .ok (.bipush 6, 2) := by decide +kernel
theorem dX1_addRow_47 : decode cX1_addRow 47 = .ok (.imul, 1) := by decide +kernel
theorem dX1_addRow_48 : decode cX1_addRow 48 = .ok (.iload 4, 2) := by decide +kernel
theorem dX1_addRow_50 : decode cX1_addRow 50 = .ok (.iadd, 1) := by decide +kernel
theorem dX1_addRow_51 : decode cX1_addRow 51 = .ok (.iaload, 1) := by decide +kernel
theorem dX1_addRow_52 : decode cX1_addRow 52 = .ok (.iload 5, 2) := by decide +kernel
theorem dX1_addRow_54 : decode cX1_addRow 54 = .ok (.ixor, 1) := by decide +kernel
theorem dX1_addRow_55 : decode cX1_addRow 55 = .ok (.iastore, 1) := by decide +kernel
theorem dX1_addRow_56 : decode cX1_addRow 56 = .ok (.iinc 4 1, 3) := by decide +kernel
theorem dX1_addRow_59 : decode cX1_addRow 59 = .ok (.goto (-56), 3) := by decide +kernel
theorem dX1_addRow_62 : decode cX1_addRow 62 = .ok (.return_, 1) := by decide +kernel
end
section
set_option maxRecDepth 100000
abbrev cX1_divide : ByteArray := prog_1_method_24_code
def yX1_divide : MethodName := ⟨RX1, "divide", "()Z"⟩
theorem dX1_divide_0 : decode cX1_divide 0 = .ok (.iconst (-1), 1) := by decide +kernel
theorem dX1_divide_1 : decode cX1_divide 1 = .ok (.istore_n 1, 1) := by decide +kernel
theorem dX1_divide_2 : decode cX1_divide 2 = .ok (.aload_n 0, 1) := by decide +kernel
theorem dX1_divide_3 : decode cX1_divide 3 = .ok (.getfield 38, 3) := by decide +kernel
theorem dX1_divide_6 : decode cX1_divide 6 = .ok (.istore_n 2, 1) := by decide +kernel
theorem dX1_divide_7 : decode cX1_divide 7 = .ok (.iload_n 2, 1) := by decide +kernel
theorem dX1_divide_8 : decode cX1_divide 8 = .ok (.ifCond .lt 20, 3) := by decide +kernel
theorem dX1_divide_11 : decode cX1_divide 11 = .ok (.aload_n 0, 1) := by decide +kernel
theorem dX1_divide_12 : decode cX1_divide 12 = .ok (.getfield 28, 3) := by decide +kernel
theorem dX1_divide_15 : decode cX1_divide 15 = .ok (.iload_n 2, 1) := by decide +kernel
theorem dX1_divide_16 : decode cX1_divide 16 = .ok (.iaload, 1) := by decide +kernel
theorem dX1_divide_17 : decode cX1_divide 17 = .ok (.ifCond .eq 5, 3) := by decide +kernel
theorem dX1_divide_20 : decode cX1_divide 20 = .ok (.iload_n 2, 1) := by decide +kernel
theorem dX1_divide_21 : decode cX1_divide 21 = .ok (.istore_n 1, 1) := by decide +kernel
theorem dX1_divide_22 : decode cX1_divide 22 = .ok (.iinc 2 (-1), 3) := by decide +kernel
theorem dX1_divide_25 : decode cX1_divide 25 = .ok (.goto (-18), 3) := by decide +kernel
theorem dX1_divide_28 : decode cX1_divide 28 = .ok (.iload_n 1, 1) := by decide +kernel
theorem dX1_divide_29 : decode cX1_divide 29 = .ok (.ifCond .ge 5, 3) := by decide +kernel
theorem dX1_divide_32 : decode cX1_divide 32 = .ok (.iconst 0, 1) := by decide +kernel
theorem dX1_divide_33 : decode cX1_divide 33 = .ok (.ireturn, 1) := by decide +kernel
theorem dX1_divide_34 : decode cX1_divide 34 = .ok (.aload_n 0, 1) := by decide +kernel
theorem dX1_divide_35 : decode cX1_divide 35 = .ok (.getfield 31, 3) := by decide +kernel
theorem dX1_divide_38 : decode cX1_divide 38 = .ok (.iconst 1, 1) := by decide +kernel
theorem dX1_divide_39 : decode cX1_divide 39 = .ok (.iconst 0, 1) := by decide +kernel
theorem dX1_divide_40 : decode cX1_divide 40 = .ok (.iastore, 1) := by decide +kernel
theorem dX1_divide_41 : decode cX1_divide 41 = .ok (.iconst 0, 1) := by decide +kernel
theorem dX1_divide_42 : decode cX1_divide 42 = .ok (.istore_n 2, 1) := by decide +kernel
theorem dX1_divide_43 : decode cX1_divide 43 = .ok (.iload_n 2, 1) := by decide +kernel
theorem dX1_divide_44 : decode cX1_divide 44 = .ok (.aload_n 0, 1) := by decide +kernel
theorem dX1_divide_45 : decode cX1_divide 45 = .ok (.getfield 34, 3) := by decide +kernel
theorem dX1_divide_48 : decode cX1_divide 48 = .ok (.if_icmp .ge 102, 3) := by decide +kernel
theorem dX1_divide_51 : decode cX1_divide 51 = .ok (.aload_n 0, 1) := by decide +kernel
theorem dX1_divide_52 : decode cX1_divide 52 = .ok (.getfield 28, 3) := by decide +kernel
theorem dX1_divide_55 : decode cX1_divide 55 = .ok (.aload_n 0, 1) := by decide +kernel
theorem dX1_divide_56 : decode cX1_divide 56 = .ok (.getfield 38, 3) := by decide +kernel
theorem dX1_divide_59 : decode cX1_divide 59 = .ok (.iconst 1, 1) := by decide +kernel
theorem dX1_divide_60 : decode cX1_divide 60 = .ok (.iadd, 1) := by decide +kernel
theorem dX1_divide_61 : decode cX1_divide 61 = .ok (.iload_n 1, 1) := by decide +kernel
theorem dX1_divide_62 : decode cX1_divide 62 = .ok (.iadd, 1) := by decide +kernel
theorem dX1_divide_63 : decode cX1_divide 63 = .ok (.iload_n 2, 1) := by decide +kernel
theorem dX1_divide_64 : decode cX1_divide 64 = .ok (.iadd, 1) := by decide +kernel
theorem dX1_divide_65 : decode cX1_divide 65 = .ok (.iaload, 1) := by decide +kernel
theorem dX1_divide_66 : decode cX1_divide 66 = .ok (.istore_n 3, 1) := by decide +kernel
theorem dX1_divide_67 : decode cX1_divide 67 = .ok (.iload_n 2, 1) := by decide +kernel
theorem dX1_divide_68 : decode cX1_divide 68 = .ok (.iconst 1, 1) := by decide +kernel
theorem dX1_divide_69 : decode cX1_divide 69 = .ok (.if_icmp .ne 47, 3) := by decide +kernel
theorem dX1_divide_72 : decode cX1_divide 72 = .ok (.iload_n 1, 1) := by decide +kernel
theorem dX1_divide_73 : decode cX1_divide 73 = .ok (.aload_n 0, 1) := by decide +kernel
theorem dX1_divide_74 : decode cX1_divide 74 = .ok (.getfield 38, 3) := by decide +kernel
theorem dX1_divide_77 : decode cX1_divide 77 = .ok (.if_icmp .ge 39, 3) := by decide +kernel
theorem dX1_divide_80 : decode cX1_divide 80 = .ok (.aload_n 0, 1) := by decide +kernel
theorem dX1_divide_81 : decode cX1_divide 81 = .ok (.aload_n 0, 1) := by decide +kernel
theorem dX1_divide_82 : decode cX1_divide 82 = .ok (.getfield 31, 3) := by decide +kernel
theorem dX1_divide_85 : decode cX1_divide 85 = .ok (.iconst 0, 1) := by decide +kernel
theorem dX1_divide_86 : decode cX1_divide 86 = .ok (.iaload, 1) := by decide +kernel
theorem dX1_divide_87 : decode cX1_divide 87 = .ok (.iload_n 1, 1) := by decide +kernel
theorem dX1_divide_88 : decode cX1_divide 88 = .ok (.iconst 1, 1) := by decide +kernel
theorem dX1_divide_89 : decode cX1_divide 89 = .ok (.iadd, 1) := by decide +kernel
theorem dX1_divide_90 : decode cX1_divide 90 = .ok (.invokevirtual 70, 3) := by decide +kernel
theorem dX1_divide_93 : decode cX1_divide 93 = .ok (.istore 4, 2) := by decide +kernel
theorem dX1_divide_95 : decode cX1_divide 95 = .ok (.aload_n 0, 1) := by decide +kernel
theorem dX1_divide_96 : decode cX1_divide 96 = .ok (.aload_n 0, 1) := by decide +kernel
theorem dX1_divide_97 : decode cX1_divide 97 = .ok (.getfield 28, 3) := by decide +kernel
theorem dX1_divide_100 : decode cX1_divide 100 = .ok (.iload_n 1, 1) := by decide +kernel
theorem dX1_divide_101 : decode cX1_divide 101 = .ok (.iconst 1, 1) := by decide +kernel
theorem dX1_divide_102 : decode cX1_divide 102 = .ok (.iadd, 1) := by decide +kernel
theorem dX1_divide_103 : decode cX1_divide 103 = .ok (.iaload, 1) := by decide +kernel
theorem dX1_divide_104 : decode cX1_divide 104 = .ok (.iload 4, 2) := by decide +kernel
theorem dX1_divide_106 : decode cX1_divide 106 = .ok (.invokevirtual 41, 3) := by decide +kernel
theorem dX1_divide_109 : decode cX1_divide 109 = .ok (.istore 5, 2) := by decide +kernel
theorem dX1_divide_111 : decode cX1_divide 111 = .ok (.iload_n 3, 1) := by decide +kernel
theorem dX1_divide_112 : decode cX1_divide 112 = .ok (.iload 5, 2) := by decide +kernel
theorem dX1_divide_114 : decode cX1_divide 114 = .ok (.ixor, 1) := by decide +kernel
theorem dX1_divide_115 : decode cX1_divide 115 = .ok (.istore_n 3, 1) := by decide +kernel
theorem dX1_divide_116 : decode cX1_divide 116 = .ok (.aload_n 0, 1) := by decide +kernel
theorem dX1_divide_117 : decode cX1_divide 117 = .ok (.iload_n 3, 1) := by decide +kernel
theorem dX1_divide_118 : decode cX1_divide 118 = .ok (.aload_n 0, 1) := by decide +kernel
theorem dX1_divide_119 : decode cX1_divide 119 = .ok (.getfield 28, 3) := by decide +kernel
theorem dX1_divide_122 : decode cX1_divide 122 = .ok (.iload_n 1, 1) := by decide +kernel
theorem dX1_divide_123 : decode cX1_divide 123 = .ok (.iaload, 1) := by decide +kernel
theorem dX1_divide_124 : decode cX1_divide 124 = .ok (.invokevirtual 49, 3) := by decide +kernel
theorem dX1_divide_127 : decode cX1_divide 127 = .ok (.istore 4, 2) := by decide +kernel
theorem dX1_divide_129 : decode cX1_divide 129 = .ok (.aload_n 0, 1) := by decide +kernel
theorem dX1_divide_130 : decode cX1_divide 130 = .ok (.getfield 31, 3) := by decide +kernel
theorem dX1_divide_133 : decode cX1_divide 133 = .ok (.iload_n 2, 1) := by decide +kernel
theorem dX1_divide_134 : decode cX1_divide 134 = .ok (.aload_n 0, 1) := by decide +kernel
theorem dX1_divide_135 : decode cX1_divide 135 = .ok (.iload 4, 2) := by decide +kernel
theorem dX1_divide_137 : decode cX1_divide 137 = .ok (.iconst 5, 1) := by decide +kernel
theorem dX1_divide_138 : decode cX1_divide 138 = .ok (.iload_n 1, 1) := by decide +kernel
theorem dX1_divide_139 : decode cX1_divide 139 = .ok (.isub, 1) := by decide +kernel
theorem dX1_divide_140 : decode cX1_divide 140 = .ok (.invokevirtual 70, 3) := by decide +kernel
theorem dX1_divide_143 : decode cX1_divide 143 = .ok (.iastore, 1) := by decide +kernel
theorem dX1_divide_144 : decode cX1_divide 144 = .ok (.iinc 2 1, 3) := by decide +kernel
theorem dX1_divide_147 : decode cX1_divide 147 = .ok (.goto (-104), 3) := by decide +kernel
theorem dX1_divide_150 : decode cX1_divide 150 = .ok (.iconst 1, 1) := by decide +kernel
theorem dX1_divide_151 : decode cX1_divide 151 = .ok (.ireturn, 1) := by decide +kernel
abbrev cX1_message : ByteArray := prog_1_method_27_code
def yX1_message : MethodName := ⟨RX1, "message", "(I)I"⟩
theorem dX1_message_0 : decode cX1_message 0 = .ok (.iload_n 1, 1) := by decide +kernel
theorem dX1_message_1 : decode cX1_message 1 = .ok (.ifCond .lt 11, 3) := by decide +kernel
theorem dX1_message_4 : decode cX1_message 4 = .ok (.iload_n 1, 1) := by decide +kernel
theorem dX1_message_5 : decode cX1_message 5 = .ok (.aload_n 0, 1) := by decide +kernel
theorem dX1_message_6 : decode cX1_message 6 = .ok (.getfield 34, 3) := by decide +kernel
theorem dX1_message_9 : decode cX1_message 9 = .ok (.if_icmp .lt 5, 3) := by decide +kernel
theorem dX1_message_12 : decode cX1_message 12 = .ok (.iconst (-1), 1) := by decide +kernel
theorem dX1_message_13 : decode cX1_message 13 = .ok (.ireturn, 1) := by decide +kernel
theorem dX1_message_14 : decode cX1_message 14 = .ok (.aload_n 0, 1) := by decide +kernel
theorem dX1_message_15 : decode cX1_message 15 = .ok (.invokevirtual 98, 3) := by decide +kernel
theorem dX1_message_18 : decode cX1_message 18 = .ok (.istore_n 2, 1) := by decide +kernel
theorem dX1_message_19 : decode cX1_message 19 = .ok (.iload_n 2, 1) := by decide +kernel
theorem dX1_message_20 : decode cX1_message 20 = .ok (.ifCond .eq 12, 3) := by decide +kernel
theorem dX1_message_23 : decode cX1_message 23 = .ok (.aload_n 0, 1) := by decide +kernel
theorem dX1_message_24 : decode cX1_message 24 = .ok (.getfield 31, 3) := by decide +kernel
theorem dX1_message_27 : decode cX1_message 27 = .ok (.iload_n 1, 1) := by decide +kernel
theorem dX1_message_28 : decode cX1_message 28 = .ok (.iaload, 1) := by decide +kernel
theorem dX1_message_29 : decode cX1_message 29 = .ok (.goto 5, 3) := by decide +kernel
theorem dX1_message_32 : decode cX1_message 32 = .ok (.bipush (-4), 2) := by decide +kernel
theorem dX1_message_34 : decode cX1_message 34 = .ok (.ireturn, 1) := by decide +kernel
abbrev cX1_correct : ByteArray := prog_1_method_28_code
def yX1_correct : MethodName := ⟨RX1, "correct", "()I"⟩
theorem dX1_correct_0 : decode cX1_correct 0 = .ok (.aload_n 0, 1) := by decide +kernel
theorem dX1_correct_1 : decode cX1_correct 1 = .ok (.invokevirtual 101, 3) := by decide +kernel
theorem dX1_correct_4 : decode cX1_correct 4 = .ok (.istore_n 1, 1) := by decide +kernel
theorem dX1_correct_5 : decode cX1_correct 5 = .ok (.iload_n 1, 1) := by decide +kernel
theorem dX1_correct_6 : decode cX1_correct 6 = .ok (.ifCond .lt 20, 3) := by decide +kernel
theorem dX1_correct_9 : decode cX1_correct 9 = .ok (.aload_n 0, 1) := by decide +kernel
theorem dX1_correct_10 : decode cX1_correct 10 = .ok (.aload_n 0, 1) := by decide +kernel
theorem dX1_correct_11 : decode cX1_correct 11 = .ok (.getfield 31, 3) := by decide +kernel
theorem dX1_correct_14 : decode cX1_correct 14 = .ok (.iconst 0, 1) := by decide +kernel
theorem dX1_correct_15 : decode cX1_correct 15 = .ok (.iaload, 1) := by decide +kernel
theorem dX1_correct_16 : decode cX1_correct 16 = .ok (.aload_n 0, 1) := by decide +kernel
theorem dX1_correct_17 : decode cX1_correct 17 = .ok (.getfield 31, 3) := by decide +kernel
theorem dX1_correct_20 : decode cX1_correct 20 = .ok (.iconst 1, 1) := by decide +kernel
theorem dX1_correct_21 : decode cX1_correct 21 = .ok (.iaload, 1) := by decide +kernel
theorem dX1_correct_22 : decode cX1_correct 22 = .ok (.invokevirtual 104, 3) := by decide +kernel
theorem dX1_correct_25 : decode cX1_correct 25 = .ok (.pop, 1) := by decide +kernel
theorem dX1_correct_26 : decode cX1_correct 26 = .ok (.iload_n 1, 1) := by decide +kernel
theorem dX1_correct_27 : decode cX1_correct 27 = .ok (.ireturn, 1) := by decide +kernel
abbrev cX1_clean : ByteArray := prog_1_method_29_code
def yX1_clean : MethodName := ⟨RX1, "clean", "()Z"⟩
theorem dX1_clean_0 : decode cX1_clean 0 = .ok (.aload_n 0, 1) := by decide +kernel
theorem dX1_clean_1 : decode cX1_clean 1 = .ok (.bipush 31, 2) := by decide +kernel
theorem dX1_clean_3 : decode cX1_clean 3 = .ok (.invokevirtual 107, 3) := by decide +kernel
theorem dX1_clean_6 : decode cX1_clean 6 = .ok (.ireturn, 1) := by decide +kernel
abbrev cX1_agrees : ByteArray := prog_1_method_31_code
def yX1_agrees : MethodName := ⟨RX1, "agrees", "(I)Z"⟩
theorem dX1_agrees_0 : decode cX1_agrees 0 = .ok (.aload_n 0, 1) := by decide +kernel
theorem dX1_agrees_1 : decode cX1_agrees 1 = .ok (.iload_n 1, 1) := by decide +kernel
theorem dX1_agrees_2 : decode cX1_agrees 2 = .ok (.invokevirtual 110, 3) := by decide +kernel
theorem dX1_agrees_5 : decode cX1_agrees 5 = .ok (.istore_n 2, 1) := by decide +kernel
theorem dX1_agrees_6 : decode cX1_agrees 6 = .ok (.iload_n 2, 1) := by decide +kernel
theorem dX1_agrees_7 : decode cX1_agrees 7 = .ok (.ifCond .ge 5, 3) := by decide +kernel
theorem dX1_agrees_10 : decode cX1_agrees 10 = .ok (.iconst 1, 1) := by decide +kernel
theorem dX1_agrees_11 : decode cX1_agrees 11 = .ok (.ireturn, 1) := by decide +kernel
theorem dX1_agrees_12 : decode cX1_agrees 12 = .ok (.iload_n 1, 1) := by decide +kernel
theorem dX1_agrees_13 : decode cX1_agrees 13 = .ok (.iconst 1, 1) := by decide +kernel
theorem dX1_agrees_14 : decode cX1_agrees 14 = .ok (.iload_n 2, 1) := by decide +kernel
theorem dX1_agrees_15 : decode cX1_agrees 15 = .ok (.ishl, 1) := by decide +kernel
theorem dX1_agrees_16 : decode cX1_agrees 16 = .ok (.iconst (-1), 1) := by decide +kernel
theorem dX1_agrees_17 : decode cX1_agrees 17 = .ok (.ixor, 1) := by decide +kernel
theorem dX1_agrees_18 : decode cX1_agrees 18 = .ok (.iand, 1) := by decide +kernel
theorem dX1_agrees_19 : decode cX1_agrees 19 = .ok (.istore_n 3, 1) := by decide +kernel
theorem dX1_agrees_20 : decode cX1_agrees 20 = .ok (.aload_n 0, 1) := by decide +kernel
theorem dX1_agrees_21 : decode cX1_agrees 21 = .ok (.getfield 34, 3) := by decide +kernel
theorem dX1_agrees_24 : decode cX1_agrees 24 = .ok (.iconst 1, 1) := by decide +kernel
theorem dX1_agrees_25 : decode cX1_agrees 25 = .ok (.if_icmp .ne 27, 3) := by decide +kernel
theorem dX1_agrees_28 : decode cX1_agrees 28 = .ok (.aload_n 0, 1) := by decide +kernel
theorem dX1_agrees_29 : decode cX1_agrees 29 = .ok (.aload_n 0, 1) := by decide +kernel
theorem dX1_agrees_30 : decode cX1_agrees 30 = .ok (.getfield 16, 3) := by decide +kernel
theorem dX1_agrees_33 : decode cX1_agrees 33 = .ok (.iload_n 2, 1) := by decide +kernel
theorem dX1_agrees_34 : decode cX1_agrees 34 = .ok (.iaload, 1) := by decide +kernel
theorem dX1_agrees_35 : decode cX1_agrees 35 = .ok (.iconst 1, 1) := by decide +kernel
theorem dX1_agrees_36 : decode cX1_agrees 36 = .ok (.iload_n 2, 1) := by decide +kernel
theorem dX1_agrees_37 : decode cX1_agrees 37 = .ok (.ishl, 1) := by decide +kernel
theorem dX1_agrees_38 : decode cX1_agrees 38 = .ok (.invokevirtual 49, 3) := by decide +kernel
theorem dX1_agrees_41 : decode cX1_agrees 41 = .ok (.istore 4, 2) := by decide +kernel
theorem dX1_agrees_43 : decode cX1_agrees 43 = .ok (.aload_n 0, 1) := by decide +kernel
theorem dX1_agrees_44 : decode cX1_agrees 44 = .ok (.iload 4, 2) := by decide +kernel
theorem dX1_agrees_46 : decode cX1_agrees 46 = .ok (.iconst 0, 1) := by decide +kernel
theorem dX1_agrees_47 : decode cX1_agrees 47 = .ok (.iload_n 3, 1) := by decide +kernel
theorem dX1_agrees_48 : decode cX1_agrees 48 = .ok (.invokevirtual 114, 3) := by decide +kernel
theorem dX1_agrees_51 : decode cX1_agrees 51 = .ok (.ireturn, 1) := by decide +kernel
theorem dX1_agrees_52 : decode cX1_agrees 52 = .ok (.aload_n 0, 1) := by decide +kernel
theorem dX1_agrees_53 : decode cX1_agrees 53 = .ok (.iload_n 3, 1) := by decide +kernel
theorem dX1_agrees_54 : decode cX1_agrees 54 = .ok (.invokevirtual 110, 3) := by decide +kernel
theorem dX1_agrees_57 : decode cX1_agrees 57 = .ok (.istore 4, 2) := by decide +kernel
theorem dX1_agrees_59 : decode cX1_agrees 59 = .ok (.iload 4, 2) := by decide +kernel
theorem dX1_agrees_61 : decode cX1_agrees 61 = .ok (.ifCond .ge 5, 3) := by decide +kernel
theorem dX1_agrees_64 : decode cX1_agrees 64 = .ok (.iconst 1, 1) := by decide +kernel
theorem dX1_agrees_65 : decode cX1_agrees 65 = .ok (.ireturn, 1) := by decide +kernel
theorem dX1_agrees_66 : decode cX1_agrees 66 = .ok (.iconst 1, 1) := by decide +kernel
theorem dX1_agrees_67 : decode cX1_agrees 67 = .ok (.iload_n 2, 1) := by decide +kernel
theorem dX1_agrees_68 : decode cX1_agrees 68 = .ok (.ishl, 1) := by decide +kernel
theorem dX1_agrees_69 : decode cX1_agrees 69 = .ok (.istore 5, 2) := by decide +kernel
theorem dX1_agrees_71 : decode cX1_agrees 71 = .ok (.iconst 1, 1) := by decide +kernel
theorem dX1_agrees_72 : decode cX1_agrees 72 = .ok (.iload 4, 2) := by decide +kernel
theorem dX1_agrees_74 : decode cX1_agrees 74 = .ok (.ishl, 1) := by decide +kernel
theorem dX1_agrees_75 : decode cX1_agrees 75 = .ok (.istore 6, 2) := by decide +kernel
theorem dX1_agrees_77 : decode cX1_agrees 77 = .ok (.aload_n 0, 1) := by decide +kernel
theorem dX1_agrees_78 : decode cX1_agrees 78 = .ok (.aload_n 0, 1) := by decide +kernel
theorem dX1_agrees_79 : decode cX1_agrees 79 = .ok (.getfield 16, 3) := by decide +kernel
theorem dX1_agrees_82 : decode cX1_agrees 82 = .ok (.iload_n 2, 1) := by decide +kernel
theorem dX1_agrees_83 : decode cX1_agrees 83 = .ok (.iaload, 1) := by decide +kernel
theorem dX1_agrees_84 : decode cX1_agrees 84 = .ok (.iload 5, 2) := by decide +kernel
theorem dX1_agrees_86 : decode cX1_agrees 86 = .ok (.invokevirtual 49, 3) := by decide +kernel
theorem dX1_agrees_89 : decode cX1_agrees 89 = .ok (.istore 7, 2) := by decide +kernel
theorem dX1_agrees_91 : decode cX1_agrees 91 = .ok (.aload_n 0, 1) := by decide +kernel
theorem dX1_agrees_92 : decode cX1_agrees 92 = .ok (.aload_n 0, 1) := by decide +kernel
theorem dX1_agrees_93 : decode cX1_agrees 93 = .ok (.getfield 16, 3) := by decide +kernel
theorem dX1_agrees_96 : decode cX1_agrees 96 = .ok (.iload 4, 2) := by decide +kernel
theorem dX1_agrees_98 : decode cX1_agrees 98 = .ok (.iaload, 1) := by decide +kernel
theorem dX1_agrees_99 : decode cX1_agrees 99 = .ok (.iload 6, 2) := by decide +kernel
theorem dX1_agrees_101 : decode cX1_agrees 101 = .ok (.invokevirtual 49, 3) := by decide +kernel
theorem dX1_agrees_104 : decode cX1_agrees 104 = .ok (.istore 8, 2) := by decide +kernel
theorem dX1_agrees_106 : decode cX1_agrees 106 = .ok (.aload_n 0, 1) := by decide +kernel
theorem dX1_agrees_107 : decode cX1_agrees 107 = .ok (.iload 7, 2) := by decide +kernel
theorem dX1_agrees_109 : decode cX1_agrees 109 = .ok (.iload 8, 2) := by decide +kernel
theorem dX1_agrees_111 : decode cX1_agrees 111 = .ok (.ixor, 1) := by decide +kernel
theorem dX1_agrees_112 : decode cX1_agrees 112 = .ok (.iload 5, 2) := by decide +kernel
theorem dX1_agrees_114 : decode cX1_agrees 114 = .ok (.iload 6, 2) := by decide +kernel
theorem dX1_agrees_116 : decode cX1_agrees 116 = .ok (.ixor, 1) := by decide +kernel
theorem dX1_agrees_117 : decode cX1_agrees 117 = .ok (.invokevirtual 49, 3) := by decide +kernel
theorem dX1_agrees_120 : decode cX1_agrees 120 = .ok (.istore 9, 2) := by decide +kernel
theorem dX1_agrees_122 : decode cX1_agrees 122 = .ok (.aload_n 0, 1) := by decide +kernel
theorem dX1_agrees_123 : decode cX1_agrees 123 = .ok (.iload 9, 2) := by decide +kernel
theorem dX1_agrees_125 : decode cX1_agrees 125 = .ok (.iload 5, 2) := by decide +kernel
theorem dX1_agrees_127 : decode cX1_agrees 127 = .ok (.invokevirtual 41, 3) := by decide +kernel
theorem dX1_agrees_130 : decode cX1_agrees 130 = .ok (.istore 10, 2) := by decide +kernel
theorem dX1_agrees_132 : decode cX1_agrees 132 = .ok (.aload_n 0, 1) := by decide +kernel
theorem dX1_agrees_133 : decode cX1_agrees 133 = .ok (.iload 7, 2) := by decide +kernel
theorem dX1_agrees_135 : decode cX1_agrees 135 = .ok (.iload 10, 2) := by decide +kernel
theorem dX1_agrees_137 : decode cX1_agrees 137 = .ok (.ixor, 1) := by decide +kernel
theorem dX1_agrees_138 : decode cX1_agrees 138 = .ok (.iload 9, 2) := by decide +kernel
theorem dX1_agrees_140 : decode cX1_agrees 140 = .ok (.iload_n 3, 1) := by decide +kernel
theorem dX1_agrees_141 : decode cX1_agrees 141 = .ok (.invokevirtual 114, 3) := by decide +kernel
theorem dX1_agrees_144 : decode cX1_agrees 144 = .ok (.ireturn, 1) := by decide +kernel
abbrev cX1_lowestOf : ByteArray := prog_1_method_30_code
def yX1_lowestOf : MethodName := ⟨RX1, "lowestOf", "(I)I"⟩
theorem dX1_lowestOf_0 : decode cX1_lowestOf 0 = .ok (.iconst (-1), 1) := by decide +kernel
theorem dX1_lowestOf_1 : decode cX1_lowestOf 1 = .ok (.istore_n 2, 1) := by decide +kernel
theorem dX1_lowestOf_2 : decode cX1_lowestOf 2 = .ok (.iconst 4, 1) := by decide +kernel
theorem dX1_lowestOf_3 : decode cX1_lowestOf 3 = .ok (.istore_n 3, 1) := by decide +kernel
theorem dX1_lowestOf_4 : decode cX1_lowestOf 4 = .ok (.iload_n 3, 1) := by decide +kernel
theorem dX1_lowestOf_5 : decode cX1_lowestOf 5 = .ok (.ifCond .lt 20, 3) := by decide +kernel
theorem dX1_lowestOf_8 : decode cX1_lowestOf 8 = .ok (.iload_n 1, 1) := by decide +kernel
theorem dX1_lowestOf_9 : decode cX1_lowestOf 9 = .ok (.iload_n 3, 1) := by decide +kernel
theorem dX1_lowestOf_10 : decode cX1_lowestOf 10 = .ok (.ishr, 1) := by decide +kernel
theorem dX1_lowestOf_11 : decode cX1_lowestOf 11 = .ok (.iconst 1, 1) := by decide +kernel
theorem dX1_lowestOf_12 : decode cX1_lowestOf 12 = .ok (.iand, 1) := by decide +kernel
theorem dX1_lowestOf_13 : decode cX1_lowestOf 13 = .ok (.iconst 1, 1) := by decide +kernel
theorem dX1_lowestOf_14 : decode cX1_lowestOf 14 = .ok (.if_icmp .ne 5, 3) := by decide +kernel
theorem dX1_lowestOf_17 : decode cX1_lowestOf 17 = .ok (.iload_n 3, 1) := by decide +kernel
theorem dX1_lowestOf_18 : decode cX1_lowestOf 18 = .ok (.istore_n 2, 1) := by decide +kernel
theorem dX1_lowestOf_19 : decode cX1_lowestOf 19 = .ok (.iinc 3 (-1), 3) := by decide +kernel
theorem dX1_lowestOf_22 : decode cX1_lowestOf 22 = .ok (.goto (-18), 3) := by decide +kernel
theorem dX1_lowestOf_25 : decode cX1_lowestOf 25 = .ok (.iload_n 2, 1) := by decide +kernel
theorem dX1_lowestOf_26 : decode cX1_lowestOf 26 = .ok (.ireturn, 1) := by decide +kernel
abbrev cX1_matches : ByteArray := prog_1_method_32_code
def yX1_matches : MethodName := ⟨RX1, "matches", "(III)Z"⟩
theorem dX1_matches_0 : decode cX1_matches 0 = .ok (.iconst 1, 1) := by decide +kernel
theorem dX1_matches_1 : decode cX1_matches 1 = .ok (.istore 4, 2) := by decide +kernel
theorem dX1_matches_3 : decode cX1_matches 3 = .ok (.iconst 0, 1) := by decide +kernel
theorem dX1_matches_4 : decode cX1_matches 4 = .ok (.istore 5, 2) := by decide +kernel
theorem dX1_matches_6 : decode cX1_matches 6 = .ok (.iload 5, 2) := by decide +kernel
theorem dX1_matches_8 : decode cX1_matches 8 = .ok (.iconst 5, 1) := by decide +kernel
theorem dX1_matches_9 : decode cX1_matches 9 = .ok (.if_icmp .ge 53, 3) := by decide +kernel
theorem dX1_matches_12 : decode cX1_matches 12 = .ok (.iload_n 3, 1) := by decide +kernel
theorem dX1_matches_13 : decode cX1_matches 13 = .ok (.iload 5, 2) := by decide +kernel
theorem dX1_matches_15 : decode cX1_matches 15 = .ok (.ishr, 1) := by decide +kernel
theorem dX1_matches_16 : decode cX1_matches 16 = .ok (.iconst 1, 1) := by decide +kernel
theorem dX1_matches_17 : decode cX1_matches 17 = .ok (.iand, 1) := by decide +kernel
theorem dX1_matches_18 : decode cX1_matches 18 = .ok (.iconst 1, 1) := by decide +kernel
theorem dX1_matches_19 : decode cX1_matches 19 = .ok (.if_icmp .ne 37, 3) := by decide +kernel
theorem dX1_matches_22 : decode cX1_matches 22 = .ok (.aload_n 0, 1) := by decide +kernel
theorem dX1_matches_23 : decode cX1_matches 23 = .ok (.iload_n 1, 1) := by decide +kernel
theorem dX1_matches_24 : decode cX1_matches 24 = .ok (.iload_n 2, 1) := by decide +kernel
theorem dX1_matches_25 : decode cX1_matches 25 = .ok (.iload 5, 2) := by decide +kernel
theorem dX1_matches_27 : decode cX1_matches 27 = .ok (.invokevirtual 56, 3) := by decide +kernel
theorem dX1_matches_30 : decode cX1_matches 30 = .ok (.istore 6, 2) := by decide +kernel
theorem dX1_matches_32 : decode cX1_matches 32 = .ok (.iload 4, 2) := by decide +kernel
theorem dX1_matches_34 : decode cX1_matches 34 = .ok (.ifCond .eq 19, 3) := by decide +kernel
theorem dX1_matches_37 : decode cX1_matches 37 = .ok (.iload 6, 2) := by decide +kernel
theorem dX1_matches_39 : decode cX1_matches 39 = .ok (.aload_n 0, 1) := by decide +kernel
theorem dX1_matches_40 : decode cX1_matches 40 = .ok (.getfield 16, 3) := by decide +kernel
theorem dX1_matches_43 : decode cX1_matches 43 = .ok (.iload 5, 2) := by decide +kernel
theorem dX1_matches_45 : decode cX1_matches 45 = .ok (.iaload, 1) := by decide +kernel
theorem dX1_matches_46 : decode cX1_matches 46 = .ok (.if_icmp .ne 7, 3) := by decide +kernel
theorem dX1_matches_49 : decode cX1_matches 49 = .ok (.iconst 1, 1) := by decide +kernel
theorem dX1_matches_50 : decode cX1_matches 50 = .ok (.goto 4, 3) := by decide +kernel
theorem dX1_matches_53 : decode cX1_matches 53 = .ok (.iconst 0, 1) := by decide +kernel
theorem dX1_matches_54 : decode cX1_matches 54 = .ok (.istore 4, 2) := by decide +kernel
theorem dX1_matches_56 : decode cX1_matches 56 = .ok (.iinc 5 1, 3) := by decide +kernel
theorem dX1_matches_59 : decode cX1_matches 59 = .ok (.goto (-53), 3) := by decide +kernel
theorem dX1_matches_62 : decode cX1_matches 62 = .ok (.iload 4, 2) := by decide +kernel
theorem dX1_matches_64 : decode cX1_matches 64 = .ok (.ireturn, 1) := by decide +kernel
abbrev cX1_coverings : ByteArray := prog_1_method_33_code
def yX1_coverings : MethodName := ⟨RX1, "coverings", "()I"⟩
theorem dX1_coverings_0 : decode cX1_coverings 0 = .ok (.iconst 0, 1) := by decide +kernel
theorem dX1_coverings_1 : decode cX1_coverings 1 = .ok (.istore_n 1, 1) := by decide +kernel
theorem dX1_coverings_2 : decode cX1_coverings 2 = .ok (.iconst 0, 1) := by decide +kernel
theorem dX1_coverings_3 : decode cX1_coverings 3 = .ok (.istore_n 2, 1) := by decide +kernel
theorem dX1_coverings_4 : decode cX1_coverings 4 = .ok (.iload_n 2, 1) := by decide +kernel
theorem dX1_coverings_5 : decode cX1_coverings 5 = .ok (.bipush 32, 2) := by decide +kernel
theorem dX1_coverings_7 : decode cX1_coverings 7 = .ok (.if_icmp .ge 25, 3) := by decide +kernel
theorem dX1_coverings_10 : decode cX1_coverings 10 = .ok (.aload_n 0, 1) := by decide +kernel
theorem dX1_coverings_11 : decode cX1_coverings 11 = .ok (.bipush 31, 2) := by decide +kernel
theorem dX1_coverings_13 : decode cX1_coverings 13 = .ok (.iload_n 2, 1) := by decide +kernel
theorem dX1_coverings_14 : decode cX1_coverings 14 = .ok (.iconst (-1), 1) := by decide +kernel
theorem dX1_coverings_15 : decode cX1_coverings 15 = .ok (.ixor, 1) := by decide +kernel
theorem dX1_coverings_16 : decode cX1_coverings 16 = .ok (.iand, 1) := by decide +kernel
theorem dX1_coverings_17 : decode cX1_coverings 17 = .ok (.invokevirtual 107, 3) := by decide +kernel
theorem dX1_coverings_20 : decode cX1_coverings 20 = .ok (.ifCond .eq 6, 3) := by decide +kernel
theorem dX1_coverings_23 : decode cX1_coverings 23 = .ok (.iinc 1 1, 3) := by decide +kernel
theorem dX1_coverings_26 : decode cX1_coverings 26 = .ok (.iinc 2 1, 3) := by decide +kernel
theorem dX1_coverings_29 : decode cX1_coverings 29 = .ok (.goto (-25), 3) := by decide +kernel
theorem dX1_coverings_32 : decode cX1_coverings 32 = .ok (.iload_n 1, 1) := by decide +kernel
theorem dX1_coverings_33 : decode cX1_coverings 33 = .ok (.ireturn, 1) := by decide +kernel
abbrev cX1_census : ByteArray := prog_1_method_35_code
def yX1_census : MethodName := ⟨RX1, "census", "(I)I"⟩
theorem dX1_census_0 : decode cX1_census 0 = .ok (.iload_n 1, 1) := by decide +kernel
theorem dX1_census_1 : decode cX1_census 1 = .ok (.ifCond .lt 8, 3) := by decide +kernel
theorem dX1_census_4 : decode cX1_census 4 = .ok (.iload_n 1, 1) := by decide +kernel
theorem dX1_census_5 : decode cX1_census 5 = .ok (.iconst 5, 1) := by decide +kernel
theorem dX1_census_6 : decode cX1_census 6 = .ok (.if_icmp .le 5, 3) := by decide +kernel
theorem dX1_census_9 : decode cX1_census 9 = .ok (.iconst 0, 1) := by decide +kernel
theorem dX1_census_10 : decode cX1_census 10 = .ok (.ireturn, 1) := by decide +kernel
theorem dX1_census_11 : decode cX1_census 11 = .ok (.iload_n 1, 1) := by decide +kernel
theorem dX1_census_12 : decode cX1_census 12 = .ok (.ifCond .ne 5, 3) := by decide +kernel
theorem dX1_census_15 : decode cX1_census 15 = .ok (.iconst 1, 1) := by decide +kernel
theorem dX1_census_16 : decode cX1_census 16 = .ok (.ireturn, 1) := by decide +kernel
theorem dX1_census_17 : decode cX1_census 17 = .ok (.bipush 6, 2) := by decide +kernel
theorem dX1_census_19 : decode cX1_census 19 = .ok (.aload_n 0, 1) := by decide +kernel
theorem dX1_census_20 : decode cX1_census 20 = .ok (.getfield 34, 3) := by decide +kernel
theorem dX1_census_23 : decode cX1_census 23 = .ok (.isub, 1) := by decide +kernel
theorem dX1_census_24 : decode cX1_census 24 = .ok (.istore_n 2, 1) := by decide +kernel
theorem dX1_census_25 : decode cX1_census 25 = .ok (.iconst 0, 1) := by decide +kernel
theorem dX1_census_26 : decode cX1_census 26 = .ok (.istore_n 3, 1) := by decide +kernel
theorem dX1_census_27 : decode cX1_census 27 = .ok (.iload_n 2, 1) := by decide +kernel
theorem dX1_census_28 : decode cX1_census 28 = .ok (.istore 4, 2) := by decide +kernel
theorem dX1_census_30 : decode cX1_census 30 = .ok (.iload 4, 2) := by decide +kernel
theorem dX1_census_32 : decode cX1_census 32 = .ok (.iload_n 1, 1) := by decide +kernel
theorem dX1_census_33 : decode cX1_census 33 = .ok (.if_icmp .gt 70, 3) := by decide +kernel
theorem dX1_census_36 : decode cX1_census 36 = .ok (.iload_n 1, 1) := by decide +kernel
theorem dX1_census_37 : decode cX1_census 37 = .ok (.iload 4, 2) := by decide +kernel
theorem dX1_census_39 : decode cX1_census 39 = .ok (.isub, 1) := by decide +kernel
theorem dX1_census_40 : decode cX1_census 40 = .ok (.istore 5, 2) := by decide +kernel
theorem dX1_census_42 : decode cX1_census 42 = .ok (.aload_n 0, 1) := by decide +kernel
theorem dX1_census_43 : decode cX1_census 43 = .ok (.iload_n 1, 1) := by decide +kernel
theorem dX1_census_44 : decode cX1_census 44 = .ok (.iload 4, 2) := by decide +kernel
theorem dX1_census_46 : decode cX1_census 46 = .ok (.invokevirtual 118, 3) := by decide +kernel
theorem dX1_census_49 : decode cX1_census 49 = .ok (.istore 6, 2) := by decide +kernel
theorem dX1_census_51 : decode cX1_census 51 = .ok (.iload 6, 2) := by decide +kernel
theorem dX1_census_53 : decode cX1_census 53 = .ok (.iconst 1, 1) := by decide +kernel
theorem dX1_census_54 : decode cX1_census 54 = .ok (.iconst 5, 1) := by decide +kernel
theorem dX1_census_55 : decode cX1_census 55 = .ok (.iload 4, 2) := by decide +kernel
theorem dX1_census_57 : decode cX1_census 57 = .ok (.iload_n 2, 1) := by decide +kernel
theorem dX1_census_58 : decode cX1_census 58 = .ok (.isub, 1) := by decide +kernel
theorem dX1_census_59 : decode cX1_census 59 = .ok (.iconst 1, 1) := by decide +kernel
theorem dX1_census_60 : decode cX1_census 60 = .ok (.iadd, 1) := by decide +kernel
theorem dX1_census_61 : decode cX1_census 61 = .ok (.imul, 1) := by decide +kernel
theorem dX1_census_62 : decode cX1_census 62 = .ok (.ishl, 1) := by decide +kernel
theorem dX1_census_63 : decode cX1_census 63 = .ok (.iconst 1, 1) := by decide +kernel
theorem dX1_census_64 : decode cX1_census 64 = .ok (.isub, 1) := by decide +kernel
theorem dX1_census_65 : decode cX1_census 65 = .ok (.imul, 1) := by decide +kernel
theorem dX1_census_66 : decode cX1_census 66 = .ok (.iload 5, 2) := by decide +kernel
theorem dX1_census_68 : decode cX1_census 68 = .ok (.iload 5, 2) := by decide +kernel
theorem dX1_census_70 : decode cX1_census 70 = .ok (.iconst 1, 1) := by decide +kernel
theorem dX1_census_71 : decode cX1_census 71 = .ok (.isub, 1) := by decide +kernel
theorem dX1_census_72 : decode cX1_census 72 = .ok (.imul, 1) := by decide +kernel
theorem dX1_census_73 : decode cX1_census 73 = .ok (.iconst 2, 1) := by decide +kernel
theorem dX1_census_74 : decode cX1_census 74 = .ok (.idiv, 1) := by decide +kernel
theorem dX1_census_75 : decode cX1_census 75 = .ok (.ishl, 1) := by decide +kernel
theorem dX1_census_76 : decode cX1_census 76 = .ok (.istore 7, 2) := by decide +kernel
theorem dX1_census_78 : decode cX1_census 78 = .ok (.iload 5, 2) := by decide +kernel
theorem dX1_census_80 : decode cX1_census 80 = .ok (.iconst 1, 1) := by decide +kernel
theorem dX1_census_81 : decode cX1_census 81 = .ok (.iand, 1) := by decide +kernel
theorem dX1_census_82 : decode cX1_census 82 = .ok (.ifCond .ne 10, 3) := by decide +kernel
theorem dX1_census_85 : decode cX1_census 85 = .ok (.iload_n 3, 1) := by decide +kernel
theorem dX1_census_86 : decode cX1_census 86 = .ok (.iload 7, 2) := by decide +kernel
theorem dX1_census_88 : decode cX1_census 88 = .ok (.iadd, 1) := by decide +kernel
theorem dX1_census_89 : decode cX1_census 89 = .ok (.goto 7, 3) := by decide +kernel
theorem dX1_census_92 : decode cX1_census 92 = .ok (.iload_n 3, 1) := by decide +kernel
theorem dX1_census_93 : decode cX1_census 93 = .ok (.iload 7, 2) := by decide +kernel
theorem dX1_census_95 : decode cX1_census 95 = .ok (.isub, 1) := by decide +kernel
theorem dX1_census_96 : decode cX1_census 96 = .ok (.istore_n 3, 1) := by decide +kernel
theorem dX1_census_97 : decode cX1_census 97 = .ok (.iinc 4 1, 3) := by decide +kernel
theorem dX1_census_100 : decode cX1_census 100 = .ok (.goto (-70), 3) := by decide +kernel
theorem dX1_census_103 : decode cX1_census 103 = .ok (.aload_n 0, 1) := by decide +kernel
theorem dX1_census_104 : decode cX1_census 104 = .ok (.iconst 5, 1) := by decide +kernel
theorem dX1_census_105 : decode cX1_census 105 = .ok (.iload_n 1, 1) := by decide +kernel
theorem dX1_census_106 : decode cX1_census 106 = .ok (.invokevirtual 118, 3) := by decide +kernel
theorem dX1_census_109 : decode cX1_census 109 = .ok (.istore 4, 2) := by decide +kernel
theorem dX1_census_111 : decode cX1_census 111 = .ok (.iload 4, 2) := by decide +kernel
theorem dX1_census_113 : decode cX1_census 113 = .ok (.iload_n 3, 1) := by decide +kernel
theorem dX1_census_114 : decode cX1_census 114 = .ok (.imul, 1) := by decide +kernel
theorem dX1_census_115 : decode cX1_census 115 = .ok (.ireturn, 1) := by decide +kernel
abbrev cX1_subspaces : ByteArray := prog_1_method_34_code
def yX1_subspaces : MethodName := ⟨RX1, "subspaces", "(II)I"⟩
theorem dX1_subspaces_0 : decode cX1_subspaces 0 = .ok (.iconst 1, 1) := by decide +kernel
theorem dX1_subspaces_1 : decode cX1_subspaces 1 = .ok (.istore_n 3, 1) := by decide +kernel
theorem dX1_subspaces_2 : decode cX1_subspaces 2 = .ok (.iconst 1, 1) := by decide +kernel
theorem dX1_subspaces_3 : decode cX1_subspaces 3 = .ok (.istore 4, 2) := by decide +kernel
theorem dX1_subspaces_5 : decode cX1_subspaces 5 = .ok (.iconst 0, 1) := by decide +kernel
theorem dX1_subspaces_6 : decode cX1_subspaces 6 = .ok (.istore 5, 2) := by decide +kernel
theorem dX1_subspaces_8 : decode cX1_subspaces 8 = .ok (.iload 5, 2) := by decide +kernel
theorem dX1_subspaces_10 : decode cX1_subspaces 10 = .ok (.iload_n 2, 1) := by decide +kernel
theorem dX1_subspaces_11 : decode cX1_subspaces 11 = .ok (.if_icmp .ge 33, 3) := by decide +kernel
theorem dX1_subspaces_14 : decode cX1_subspaces 14 = .ok (.iload_n 3, 1) := by decide +kernel
theorem dX1_subspaces_15 : decode cX1_subspaces 15 = .ok (.iconst 1, 1) := by decide +kernel
theorem dX1_subspaces_16 : decode cX1_subspaces 16 = .ok (.iload_n 1, 1) := by decide +kernel
theorem dX1_subspaces_17 : decode cX1_subspaces 17 = .ok (.iload 5, 2) := by decide +kernel
theorem dX1_subspaces_19 : decode cX1_subspaces 19 = .ok (.isub, 1) := by decide +kernel
theorem dX1_subspaces_20 : decode cX1_subspaces 20 = .ok (.ishl, 1) := by decide +kernel
theorem dX1_subspaces_21 : decode cX1_subspaces 21 = .ok (.iconst 1, 1) := by decide +kernel
theorem dX1_subspaces_22 : decode cX1_subspaces 22 = .ok (.isub, 1) := by decide +kernel
theorem dX1_subspaces_23 : decode cX1_subspaces 23 = .ok (.imul, 1) := by decide +kernel
theorem dX1_subspaces_24 : decode cX1_subspaces 24 = .ok (.istore_n 3, 1) := by decide +kernel
theorem dX1_subspaces_25 : decode cX1_subspaces 25 = .ok (.iload 4, 2) := by decide +kernel
theorem dX1_subspaces_27 : decode cX1_subspaces 27 = .ok (.iconst 1, 1) := by decide +kernel
theorem dX1_subspaces_28 : decode cX1_subspaces 28 = .ok (.iload 5, 2) := by decide +kernel
theorem dX1_subspaces_30 : decode cX1_subspaces 30 = .ok (.iconst 1, 1) := by decide +kernel
theorem dX1_subspaces_31 : decode cX1_subspaces 31 = .ok (.iadd, 1) := by decide +kernel
theorem dX1_subspaces_32 : decode cX1_subspaces 32 = .ok (.ishl, 1) := by decide +kernel
theorem dX1_subspaces_33 : decode cX1_subspaces 33 = .ok (.iconst 1, 1) := by decide +kernel
theorem dX1_subspaces_34 : decode cX1_subspaces 34 = .ok (.isub, 1) := by decide +kernel
theorem dX1_subspaces_35 : decode cX1_subspaces 35 = .ok (.imul, 1) := by decide +kernel
theorem dX1_subspaces_36 : decode cX1_subspaces 36 = .ok (.istore 4, 2) := by decide +kernel
theorem dX1_subspaces_38 : decode cX1_subspaces 38 = .ok (.iinc 5 1, 3) := by decide +kernel
theorem dX1_subspaces_41 : decode cX1_subspaces 41 = .ok (.goto (-33), 3) := by decide +kernel
theorem dX1_subspaces_44 : decode cX1_subspaces 44 = .ok (.iload 4, 2) := by decide +kernel
theorem dX1_subspaces_46 : decode cX1_subspaces 46 = .ok (.ifCond .le 10, 3) := by decide +kernel
theorem dX1_subspaces_49 : decode cX1_subspaces 49 = .ok (.iload_n 3, 1) := by decide +kernel
theorem dX1_subspaces_50 : decode cX1_subspaces 50 = .ok (.iload 4, 2) := by decide +kernel
theorem dX1_subspaces_52 : decode cX1_subspaces 52 = .ok (.idiv, 1) := by decide +kernel
theorem dX1_subspaces_53 : decode cX1_subspaces 53 = .ok (.goto 4, 3) := by decide +kernel
theorem dX1_subspaces_56 : decode cX1_subspaces 56 = .ok (.iconst 0, 1) := by decide +kernel
theorem dX1_subspaces_57 : decode cX1_subspaces 57 = .ok (.ireturn, 1) := by decide +kernel
theorem q28 : (Jvm.Cond.initialized "RankMetricCode") ∈ lw_all := lw_g (lw_at lw_m1 1 rfl) rfl
theorem q31 : (Jvm.Cond.instantiable "RankMetricCode" (10 : Nat)) ∈ lw_all := lw_g (lw_at lw_m1 4 rfl) rfl
theorem q33 : (Jvm.Cond.instanceMethod ({ cls := "RankMetricCode", name := "<init>", desc := "(I)V" } : Jvm.MethodName)) ∈ lw_all := lw_g (lw_at lw_m1 6 rfl) rfl
theorem q34 : (Jvm.Cond.code ({ cls := "RankMetricCode", name := "<init>", desc := "(I)V" } : Jvm.MethodName) prog_1_method_1_code (5 : Nat) (Option.none : Option Jvm.ClassFile.FieldType)) ∈ lw_all := lw_g (lw_at lw_m1 7 rfl) rfl
theorem q35 : (Jvm.Cond.methodLink "RankMetricCode" (1 : Nat) ({ cls := "java/lang/Object", name := "<init>", desc := "()V" } : Jvm.MethodName)) ∈ lw_all := lw_g (lw_at lw_m1 8 rfl) rfl
theorem q38 : (Jvm.Cond.fieldLink "RankMetricCode" (34 : Nat) "RankMetricCode" "k" "I") ∈ lw_all := lw_g (lw_at lw_m1 11 rfl) rfl
theorem q39 : (Jvm.Cond.fieldLink "RankMetricCode" (38 : Nat) "RankMetricCode" "t" "I") ∈ lw_all := lw_g (lw_at lw_m1 12 rfl) rfl
theorem q40 : (Jvm.Cond.fieldLink "RankMetricCode" (7 : Nat) "RankMetricCode" "power" "[I") ∈ lw_all := lw_g (lw_at lw_m1 13 rfl) rfl
theorem q41 : (Jvm.Cond.fieldLink "RankMetricCode" (13 : Nat) "RankMetricCode" "log" "[I") ∈ lw_all := lw_g (lw_at lw_m1 14 rfl) rfl
theorem q42 : (Jvm.Cond.fieldLink "RankMetricCode" (16 : Nat) "RankMetricCode" "word" "[I") ∈ lw_all := lw_g (lw_at lw_m1 15 rfl) rfl
theorem q43 : (Jvm.Cond.fieldLink "RankMetricCode" (19 : Nat) "RankMetricCode" "diff" "[I") ∈ lw_all := lw_g (lw_at lw_m1 16 rfl) rfl
theorem q44 : (Jvm.Cond.fieldLink "RankMetricCode" (22 : Nat) "RankMetricCode" "cell" "[I") ∈ lw_all := lw_g (lw_at lw_m1 17 rfl) rfl
theorem q45 : (Jvm.Cond.fieldLink "RankMetricCode" (25 : Nat) "RankMetricCode" "pivotOf" "[I") ∈ lw_all := lw_g (lw_at lw_m1 18 rfl) rfl
theorem q46 : (Jvm.Cond.fieldLink "RankMetricCode" (28 : Nat) "RankMetricCode" "root" "[I") ∈ lw_all := lw_g (lw_at lw_m1 19 rfl) rfl
theorem q47 : (Jvm.Cond.fieldLink "RankMetricCode" (31 : Nat) "RankMetricCode" "found" "[I") ∈ lw_all := lw_g (lw_at lw_m1 20 rfl) rfl
theorem q48 : (Jvm.Cond.laysFinal "RankMetricCode" "RankMetricCode" "k" "I") ∈ lw_all := lw_g (lw_at lw_m1 21 rfl) rfl
theorem q49 : (Jvm.Cond.soleField "RankMetricCode" "k") ∈ lw_all := lw_g (lw_at lw_m1 22 rfl) rfl
theorem q50 : (Jvm.Cond.laysFinal "RankMetricCode" "RankMetricCode" "t" "I") ∈ lw_all := lw_g (lw_at lw_m1 23 rfl) rfl
theorem q51 : (Jvm.Cond.soleField "RankMetricCode" "t") ∈ lw_all := lw_g (lw_at lw_m1 24 rfl) rfl
theorem q52 : (Jvm.Cond.laysFinal "RankMetricCode" "RankMetricCode" "power" "[I") ∈ lw_all := lw_g (lw_at lw_m1 25 rfl) rfl
theorem q53 : (Jvm.Cond.soleField "RankMetricCode" "power") ∈ lw_all := lw_g (lw_at lw_m1 26 rfl) rfl
theorem q54 : (Jvm.Cond.laysFinal "RankMetricCode" "RankMetricCode" "log" "[I") ∈ lw_all := lw_g (lw_at lw_m1 27 rfl) rfl
theorem q55 : (Jvm.Cond.soleField "RankMetricCode" "log") ∈ lw_all := lw_g (lw_at lw_m1 28 rfl) rfl
theorem q56 : (Jvm.Cond.laysFinal "RankMetricCode" "RankMetricCode" "word" "[I") ∈ lw_all := lw_g (lw_at lw_m1 29 rfl) rfl
theorem q57 : (Jvm.Cond.soleField "RankMetricCode" "word") ∈ lw_all := lw_g (lw_at lw_m1 30 rfl) rfl
theorem q58 : (Jvm.Cond.laysFinal "RankMetricCode" "RankMetricCode" "diff" "[I") ∈ lw_all := lw_g (lw_at lw_m1 31 rfl) rfl
theorem q59 : (Jvm.Cond.soleField "RankMetricCode" "diff") ∈ lw_all := lw_g (lw_at lw_m1 32 rfl) rfl
theorem q60 : (Jvm.Cond.laysFinal "RankMetricCode" "RankMetricCode" "cell" "[I") ∈ lw_all := lw_g (lw_at lw_m1 33 rfl) rfl
theorem q61 : (Jvm.Cond.soleField "RankMetricCode" "cell") ∈ lw_all := lw_g (lw_at lw_m1 34 rfl) rfl
theorem q62 : (Jvm.Cond.laysFinal "RankMetricCode" "RankMetricCode" "pivotOf" "[I") ∈ lw_all := lw_g (lw_at lw_m1 35 rfl) rfl
theorem q63 : (Jvm.Cond.soleField "RankMetricCode" "pivotOf") ∈ lw_all := lw_g (lw_at lw_m1 36 rfl) rfl
theorem q64 : (Jvm.Cond.laysFinal "RankMetricCode" "RankMetricCode" "root" "[I") ∈ lw_all := lw_g (lw_at lw_m1 37 rfl) rfl
theorem q65 : (Jvm.Cond.soleField "RankMetricCode" "root") ∈ lw_all := lw_g (lw_at lw_m1 38 rfl) rfl
theorem q66 : (Jvm.Cond.laysFinal "RankMetricCode" "RankMetricCode" "found" "[I") ∈ lw_all := lw_g (lw_at lw_m1 39 rfl) rfl
theorem q67 : (Jvm.Cond.soleField "RankMetricCode" "found") ∈ lw_all := lw_g (lw_at lw_m1 40 rfl) rfl
theorem q68 : (Jvm.Cond.superclass "RankMetricCode" "java/lang/Object") ∈ lw_all := lw_g (lw_at lw_m1 41 rfl) rfl
theorem q71 : (Jvm.Cond.instanceMethod ({ cls := "RankMetricCode", name := "size", desc := "()I" } : Jvm.MethodName)) ∈ lw_all := lw_g (lw_at lw_m1 44 rfl) rfl
theorem q72 : (Jvm.Cond.selects "RankMetricCode" ({ cls := "RankMetricCode", name := "size", desc := "()I" } : Jvm.MethodName) ({ cls := "RankMetricCode", name := "size", desc := "()I" } : Jvm.MethodName)) ∈ lw_all := lw_g (lw_at lw_m1 45 rfl) rfl
theorem q73 : (Jvm.Cond.code ({ cls := "RankMetricCode", name := "size", desc := "()I" } : Jvm.MethodName) prog_1_method_6_code (1 : Nat) (Option.some Jvm.ClassFile.FieldType.int)) ∈ lw_all := lw_g (lw_at lw_m1 46 rfl) rfl
theorem q75 : (Jvm.Cond.instanceMethod ({ cls := "RankMetricCode", name := "times", desc := "(II)I" } : Jvm.MethodName)) ∈ lw_all := lw_g (lw_at lw_m1 48 rfl) rfl
theorem q76 : (Jvm.Cond.selects "RankMetricCode" ({ cls := "RankMetricCode", name := "times", desc := "(II)I" } : Jvm.MethodName) ({ cls := "RankMetricCode", name := "times", desc := "(II)I" } : Jvm.MethodName)) ∈ lw_all := lw_g (lw_at lw_m1 49 rfl) rfl
theorem q77 : (Jvm.Cond.code ({ cls := "RankMetricCode", name := "times", desc := "(II)I" } : Jvm.MethodName) prog_1_method_7_code (3 : Nat) (Option.some Jvm.ClassFile.FieldType.int)) ∈ lw_all := lw_g (lw_at lw_m1 50 rfl) rfl
theorem q78 : (Jvm.Cond.methodLink "RankMetricCode" (45 : Nat) ({ cls := "RankMetricCode", name := "outside", desc := "(I)Z" } : Jvm.MethodName)) ∈ lw_all := lw_g (lw_at lw_m1 51 rfl) rfl
theorem q79 : (Jvm.Cond.privateMethod ({ cls := "RankMetricCode", name := "outside", desc := "(I)Z" } : Jvm.MethodName)) ∈ lw_tbl := lw_at lw_m1 52 rfl
theorem q80 : (Jvm.Cond.instanceMethod ({ cls := "RankMetricCode", name := "outside", desc := "(I)Z" } : Jvm.MethodName)) ∈ lw_all := lw_g (lw_at lw_m1 53 rfl) rfl
theorem q81 : (Jvm.Cond.code ({ cls := "RankMetricCode", name := "outside", desc := "(I)Z" } : Jvm.MethodName) prog_1_method_5_code (2 : Nat) (Option.some Jvm.ClassFile.FieldType.boolean)) ∈ lw_all := lw_g (lw_at lw_m1 54 rfl) rfl
theorem q82 : (Jvm.Cond.methodLink "RankMetricCode" (41 : Nat) ({ cls := "RankMetricCode", name := "mul", desc := "(II)I" } : Jvm.MethodName)) ∈ lw_all := lw_g (lw_at lw_m1 55 rfl) rfl
theorem q83 : (Jvm.Cond.privateMethod ({ cls := "RankMetricCode", name := "mul", desc := "(II)I" } : Jvm.MethodName)) ∈ lw_tbl := lw_at lw_m1 56 rfl
theorem q84 : (Jvm.Cond.instanceMethod ({ cls := "RankMetricCode", name := "mul", desc := "(II)I" } : Jvm.MethodName)) ∈ lw_all := lw_g (lw_at lw_m1 57 rfl) rfl
theorem q85 : (Jvm.Cond.code ({ cls := "RankMetricCode", name := "mul", desc := "(II)I" } : Jvm.MethodName) prog_1_method_2_code (3 : Nat) (Option.some Jvm.ClassFile.FieldType.int)) ∈ lw_all := lw_g (lw_at lw_m1 58 rfl) rfl
theorem q87 : (Jvm.Cond.instanceMethod ({ cls := "RankMetricCode", name := "over", desc := "(II)I" } : Jvm.MethodName)) ∈ lw_all := lw_g (lw_at lw_m1 60 rfl) rfl
theorem q88 : (Jvm.Cond.selects "RankMetricCode" ({ cls := "RankMetricCode", name := "over", desc := "(II)I" } : Jvm.MethodName) ({ cls := "RankMetricCode", name := "over", desc := "(II)I" } : Jvm.MethodName)) ∈ lw_all := lw_g (lw_at lw_m1 61 rfl) rfl
theorem q89 : (Jvm.Cond.code ({ cls := "RankMetricCode", name := "over", desc := "(II)I" } : Jvm.MethodName) prog_1_method_8_code (3 : Nat) (Option.some Jvm.ClassFile.FieldType.int)) ∈ lw_all := lw_g (lw_at lw_m1 62 rfl) rfl
theorem q90 : (Jvm.Cond.methodLink "RankMetricCode" (49 : Nat) ({ cls := "RankMetricCode", name := "div", desc := "(II)I" } : Jvm.MethodName)) ∈ lw_all := lw_g (lw_at lw_m1 63 rfl) rfl
theorem q91 : (Jvm.Cond.privateMethod ({ cls := "RankMetricCode", name := "div", desc := "(II)I" } : Jvm.MethodName)) ∈ lw_tbl := lw_at lw_m1 64 rfl
theorem q92 : (Jvm.Cond.instanceMethod ({ cls := "RankMetricCode", name := "div", desc := "(II)I" } : Jvm.MethodName)) ∈ lw_all := lw_g (lw_at lw_m1 65 rfl) rfl
theorem q93 : (Jvm.Cond.code ({ cls := "RankMetricCode", name := "div", desc := "(II)I" } : Jvm.MethodName) prog_1_method_3_code (3 : Nat) (Option.some Jvm.ClassFile.FieldType.int)) ∈ lw_all := lw_g (lw_at lw_m1 66 rfl) rfl
theorem q95 : (Jvm.Cond.instanceMethod ({ cls := "RankMetricCode", name := "encode", desc := "(II)I" } : Jvm.MethodName)) ∈ lw_all := lw_g (lw_at lw_m1 68 rfl) rfl
theorem q96 : (Jvm.Cond.selects "RankMetricCode" ({ cls := "RankMetricCode", name := "encode", desc := "(II)I" } : Jvm.MethodName) ({ cls := "RankMetricCode", name := "encode", desc := "(II)I" } : Jvm.MethodName)) ∈ lw_all := lw_g (lw_at lw_m1 69 rfl) rfl
theorem q97 : (Jvm.Cond.code ({ cls := "RankMetricCode", name := "encode", desc := "(II)I" } : Jvm.MethodName) prog_1_method_11_code (4 : Nat) (Option.some Jvm.ClassFile.FieldType.int)) ∈ lw_all := lw_g (lw_at lw_m1 70 rfl) rfl
theorem q98 : (Jvm.Cond.methodLink "RankMetricCode" (52 : Nat) ({ cls := "RankMetricCode", name := "badMessage", desc := "(II)Z" } : Jvm.MethodName)) ∈ lw_all := lw_g (lw_at lw_m1 71 rfl) rfl
theorem q99 : (Jvm.Cond.privateMethod ({ cls := "RankMetricCode", name := "badMessage", desc := "(II)Z" } : Jvm.MethodName)) ∈ lw_tbl := lw_at lw_m1 72 rfl
theorem q100 : (Jvm.Cond.instanceMethod ({ cls := "RankMetricCode", name := "badMessage", desc := "(II)Z" } : Jvm.MethodName)) ∈ lw_all := lw_g (lw_at lw_m1 73 rfl) rfl
theorem q101 : (Jvm.Cond.code ({ cls := "RankMetricCode", name := "badMessage", desc := "(II)Z" } : Jvm.MethodName) prog_1_method_9_code (3 : Nat) (Option.some Jvm.ClassFile.FieldType.boolean)) ∈ lw_all := lw_g (lw_at lw_m1 74 rfl) rfl
theorem q102 : (Jvm.Cond.methodLink "RankMetricCode" (56 : Nat) ({ cls := "RankMetricCode", name := "value", desc := "(III)I" } : Jvm.MethodName)) ∈ lw_all := lw_g (lw_at lw_m1 75 rfl) rfl
theorem q103 : (Jvm.Cond.privateMethod ({ cls := "RankMetricCode", name := "value", desc := "(III)I" } : Jvm.MethodName)) ∈ lw_tbl := lw_at lw_m1 76 rfl
theorem q104 : (Jvm.Cond.instanceMethod ({ cls := "RankMetricCode", name := "value", desc := "(III)I" } : Jvm.MethodName)) ∈ lw_all := lw_g (lw_at lw_m1 77 rfl) rfl
theorem q105 : (Jvm.Cond.code ({ cls := "RankMetricCode", name := "value", desc := "(III)I" } : Jvm.MethodName) prog_1_method_10_code (8 : Nat) (Option.some Jvm.ClassFile.FieldType.int)) ∈ lw_all := lw_g (lw_at lw_m1 78 rfl) rfl
theorem q107 : (Jvm.Cond.instanceMethod ({ cls := "RankMetricCode", name := "put", desc := "(II)I" } : Jvm.MethodName)) ∈ lw_all := lw_g (lw_at lw_m1 80 rfl) rfl
theorem q108 : (Jvm.Cond.selects "RankMetricCode" ({ cls := "RankMetricCode", name := "put", desc := "(II)I" } : Jvm.MethodName) ({ cls := "RankMetricCode", name := "put", desc := "(II)I" } : Jvm.MethodName)) ∈ lw_all := lw_g (lw_at lw_m1 81 rfl) rfl
theorem q109 : (Jvm.Cond.code ({ cls := "RankMetricCode", name := "put", desc := "(II)I" } : Jvm.MethodName) prog_1_method_12_code (4 : Nat) (Option.some Jvm.ClassFile.FieldType.int)) ∈ lw_all := lw_g (lw_at lw_m1 82 rfl) rfl
theorem q111 : (Jvm.Cond.instanceMethod ({ cls := "RankMetricCode", name := "symbol", desc := "(I)I" } : Jvm.MethodName)) ∈ lw_all := lw_g (lw_at lw_m1 84 rfl) rfl
theorem q112 : (Jvm.Cond.selects "RankMetricCode" ({ cls := "RankMetricCode", name := "symbol", desc := "(I)I" } : Jvm.MethodName) ({ cls := "RankMetricCode", name := "symbol", desc := "(I)I" } : Jvm.MethodName)) ∈ lw_all := lw_g (lw_at lw_m1 85 rfl) rfl
theorem q113 : (Jvm.Cond.code ({ cls := "RankMetricCode", name := "symbol", desc := "(I)I" } : Jvm.MethodName) prog_1_method_13_code (2 : Nat) (Option.some Jvm.ClassFile.FieldType.int)) ∈ lw_all := lw_g (lw_at lw_m1 86 rfl) rfl
theorem q115 : (Jvm.Cond.instanceMethod ({ cls := "RankMetricCode", name := "disturb", desc := "(II)I" } : Jvm.MethodName)) ∈ lw_all := lw_g (lw_at lw_m1 88 rfl) rfl
theorem q116 : (Jvm.Cond.selects "RankMetricCode" ({ cls := "RankMetricCode", name := "disturb", desc := "(II)I" } : Jvm.MethodName) ({ cls := "RankMetricCode", name := "disturb", desc := "(II)I" } : Jvm.MethodName)) ∈ lw_all := lw_g (lw_at lw_m1 89 rfl) rfl
theorem q117 : (Jvm.Cond.code ({ cls := "RankMetricCode", name := "disturb", desc := "(II)I" } : Jvm.MethodName) prog_1_method_14_code (4 : Nat) (Option.some Jvm.ClassFile.FieldType.int)) ∈ lw_all := lw_g (lw_at lw_m1 90 rfl) rfl
theorem q118 : (Jvm.Cond.methodLink "RankMetricCode" (60 : Nat) ({ cls := "RankMetricCode", name := "rank", desc := "()I" } : Jvm.MethodName)) ∈ lw_all := lw_g (lw_at lw_m1 91 rfl) rfl
theorem q119 : (Jvm.Cond.instanceMethod ({ cls := "RankMetricCode", name := "rank", desc := "()I" } : Jvm.MethodName)) ∈ lw_all := lw_g (lw_at lw_m1 92 rfl) rfl
theorem q120 : (Jvm.Cond.selects "RankMetricCode" ({ cls := "RankMetricCode", name := "rank", desc := "()I" } : Jvm.MethodName) ({ cls := "RankMetricCode", name := "rank", desc := "()I" } : Jvm.MethodName)) ∈ lw_all := lw_g (lw_at lw_m1 93 rfl) rfl
theorem q121 : (Jvm.Cond.code ({ cls := "RankMetricCode", name := "rank", desc := "()I" } : Jvm.MethodName) prog_1_method_15_code (1 : Nat) (Option.some Jvm.ClassFile.FieldType.int)) ∈ lw_all := lw_g (lw_at lw_m1 94 rfl) rfl
theorem q122 : (Jvm.Cond.methodLink "RankMetricCode" (64 : Nat) ({ cls := "RankMetricCode", name := "distance", desc := "(II)I" } : Jvm.MethodName)) ∈ lw_all := lw_g (lw_at lw_m1 95 rfl) rfl
theorem q123 : (Jvm.Cond.instanceMethod ({ cls := "RankMetricCode", name := "distance", desc := "(II)I" } : Jvm.MethodName)) ∈ lw_all := lw_g (lw_at lw_m1 96 rfl) rfl
theorem q124 : (Jvm.Cond.selects "RankMetricCode" ({ cls := "RankMetricCode", name := "distance", desc := "(II)I" } : Jvm.MethodName) ({ cls := "RankMetricCode", name := "distance", desc := "(II)I" } : Jvm.MethodName)) ∈ lw_all := lw_g (lw_at lw_m1 97 rfl) rfl
theorem q125 : (Jvm.Cond.code ({ cls := "RankMetricCode", name := "distance", desc := "(II)I" } : Jvm.MethodName) prog_1_method_16_code (6 : Nat) (Option.some Jvm.ClassFile.FieldType.int)) ∈ lw_all := lw_g (lw_at lw_m1 98 rfl) rfl
theorem q126 : (Jvm.Cond.methodLink "RankMetricCode" (67 : Nat) ({ cls := "RankMetricCode", name := "clearBit", desc := "(II)Z" } : Jvm.MethodName)) ∈ lw_all := lw_g (lw_at lw_m1 99 rfl) rfl
theorem q127 : (Jvm.Cond.privateMethod ({ cls := "RankMetricCode", name := "clearBit", desc := "(II)Z" } : Jvm.MethodName)) ∈ lw_tbl := lw_at lw_m1 100 rfl
theorem q128 : (Jvm.Cond.instanceMethod ({ cls := "RankMetricCode", name := "clearBit", desc := "(II)Z" } : Jvm.MethodName)) ∈ lw_all := lw_g (lw_at lw_m1 101 rfl) rfl
theorem q129 : (Jvm.Cond.code ({ cls := "RankMetricCode", name := "clearBit", desc := "(II)Z" } : Jvm.MethodName) prog_1_method_17_code (6 : Nat) (Option.some Jvm.ClassFile.FieldType.boolean)) ∈ lw_all := lw_g (lw_at lw_m1 102 rfl) rfl
theorem q133 : (Jvm.Cond.instanceMethod ({ cls := "RankMetricCode", name := "errors", desc := "()I" } : Jvm.MethodName)) ∈ lw_all := lw_g (lw_at lw_m1 106 rfl) rfl
theorem q134 : (Jvm.Cond.selects "RankMetricCode" ({ cls := "RankMetricCode", name := "errors", desc := "()I" } : Jvm.MethodName) ({ cls := "RankMetricCode", name := "errors", desc := "()I" } : Jvm.MethodName)) ∈ lw_all := lw_g (lw_at lw_m1 107 rfl) rfl
theorem q135 : (Jvm.Cond.code ({ cls := "RankMetricCode", name := "errors", desc := "()I" } : Jvm.MethodName) prog_1_method_26_code (2 : Nat) (Option.some Jvm.ClassFile.FieldType.int)) ∈ lw_all := lw_g (lw_at lw_m1 108 rfl) rfl
theorem q136 : (Jvm.Cond.methodLink "RankMetricCode" (98 : Nat) ({ cls := "RankMetricCode", name := "decode", desc := "()Z" } : Jvm.MethodName)) ∈ lw_all := lw_g (lw_at lw_m1 109 rfl) rfl
theorem q137 : (Jvm.Cond.privateMethod ({ cls := "RankMetricCode", name := "decode", desc := "()Z" } : Jvm.MethodName)) ∈ lw_tbl := lw_at lw_m1 110 rfl
theorem q138 : (Jvm.Cond.instanceMethod ({ cls := "RankMetricCode", name := "decode", desc := "()Z" } : Jvm.MethodName)) ∈ lw_all := lw_g (lw_at lw_m1 111 rfl) rfl
theorem q139 : (Jvm.Cond.code ({ cls := "RankMetricCode", name := "decode", desc := "()Z" } : Jvm.MethodName) prog_1_method_25_code (4 : Nat) (Option.some Jvm.ClassFile.FieldType.boolean)) ∈ lw_all := lw_g (lw_at lw_m1 112 rfl) rfl
theorem q140 : (Jvm.Cond.methodLink "RankMetricCode" (87 : Nat) ({ cls := "RankMetricCode", name := "equation", desc := "(I)V" } : Jvm.MethodName)) ∈ lw_all := lw_g (lw_at lw_m1 113 rfl) rfl
theorem q141 : (Jvm.Cond.privateMethod ({ cls := "RankMetricCode", name := "equation", desc := "(I)V" } : Jvm.MethodName)) ∈ lw_tbl := lw_at lw_m1 114 rfl
theorem q142 : (Jvm.Cond.instanceMethod ({ cls := "RankMetricCode", name := "equation", desc := "(I)V" } : Jvm.MethodName)) ∈ lw_all := lw_g (lw_at lw_m1 115 rfl) rfl
theorem q143 : (Jvm.Cond.code ({ cls := "RankMetricCode", name := "equation", desc := "(I)V" } : Jvm.MethodName) prog_1_method_18_code (3 : Nat) (Option.none : Option Jvm.ClassFile.FieldType)) ∈ lw_all := lw_g (lw_at lw_m1 116 rfl) rfl
theorem q144 : (Jvm.Cond.methodLink "RankMetricCode" (70 : Nat) ({ cls := "RankMetricCode", name := "frobenius", desc := "(II)I" } : Jvm.MethodName)) ∈ lw_all := lw_g (lw_at lw_m1 117 rfl) rfl
theorem q145 : (Jvm.Cond.privateMethod ({ cls := "RankMetricCode", name := "frobenius", desc := "(II)I" } : Jvm.MethodName)) ∈ lw_tbl := lw_at lw_m1 118 rfl
theorem q146 : (Jvm.Cond.instanceMethod ({ cls := "RankMetricCode", name := "frobenius", desc := "(II)I" } : Jvm.MethodName)) ∈ lw_all := lw_g (lw_at lw_m1 119 rfl) rfl
theorem q147 : (Jvm.Cond.code ({ cls := "RankMetricCode", name := "frobenius", desc := "(II)I" } : Jvm.MethodName) prog_1_method_4_code (5 : Nat) (Option.some Jvm.ClassFile.FieldType.int)) ∈ lw_all := lw_g (lw_at lw_m1 120 rfl) rfl
theorem q148 : (Jvm.Cond.methodLink "RankMetricCode" (91 : Nat) ({ cls := "RankMetricCode", name := "solve", desc := "()Z" } : Jvm.MethodName)) ∈ lw_all := lw_g (lw_at lw_m1 121 rfl) rfl
theorem q149 : (Jvm.Cond.privateMethod ({ cls := "RankMetricCode", name := "solve", desc := "()Z" } : Jvm.MethodName)) ∈ lw_tbl := lw_at lw_m1 122 rfl
theorem q150 : (Jvm.Cond.instanceMethod ({ cls := "RankMetricCode", name := "solve", desc := "()Z" } : Jvm.MethodName)) ∈ lw_all := lw_g (lw_at lw_m1 123 rfl) rfl
theorem q151 : (Jvm.Cond.code ({ cls := "RankMetricCode", name := "solve", desc := "()Z" } : Jvm.MethodName) prog_1_method_22_code (7 : Nat) (Option.some Jvm.ClassFile.FieldType.boolean)) ∈ lw_all := lw_g (lw_at lw_m1 124 rfl) rfl
theorem q152 : (Jvm.Cond.methodLink "RankMetricCode" (73 : Nat) ({ cls := "RankMetricCode", name := "swapRows", desc := "(II)V" } : Jvm.MethodName)) ∈ lw_all := lw_g (lw_at lw_m1 125 rfl) rfl
theorem q153 : (Jvm.Cond.privateMethod ({ cls := "RankMetricCode", name := "swapRows", desc := "(II)V" } : Jvm.MethodName)) ∈ lw_tbl := lw_at lw_m1 126 rfl
theorem q154 : (Jvm.Cond.instanceMethod ({ cls := "RankMetricCode", name := "swapRows", desc := "(II)V" } : Jvm.MethodName)) ∈ lw_all := lw_g (lw_at lw_m1 127 rfl) rfl
theorem q155 : (Jvm.Cond.code ({ cls := "RankMetricCode", name := "swapRows", desc := "(II)V" } : Jvm.MethodName) prog_1_method_19_code (5 : Nat) (Option.none : Option Jvm.ClassFile.FieldType)) ∈ lw_all := lw_g (lw_at lw_m1 128 rfl) rfl
theorem q156 : (Jvm.Cond.methodLink "RankMetricCode" (77 : Nat) ({ cls := "RankMetricCode", name := "reduce", desc := "(II)V" } : Jvm.MethodName)) ∈ lw_all := lw_g (lw_at lw_m1 129 rfl) rfl
theorem q157 : (Jvm.Cond.privateMethod ({ cls := "RankMetricCode", name := "reduce", desc := "(II)V" } : Jvm.MethodName)) ∈ lw_tbl := lw_at lw_m1 130 rfl
theorem q158 : (Jvm.Cond.instanceMethod ({ cls := "RankMetricCode", name := "reduce", desc := "(II)V" } : Jvm.MethodName)) ∈ lw_all := lw_g (lw_at lw_m1 131 rfl) rfl
theorem q159 : (Jvm.Cond.code ({ cls := "RankMetricCode", name := "reduce", desc := "(II)V" } : Jvm.MethodName) prog_1_method_23_code (4 : Nat) (Option.none : Option Jvm.ClassFile.FieldType)) ∈ lw_all := lw_g (lw_at lw_m1 132 rfl) rfl
theorem q160 : (Jvm.Cond.methodLink "RankMetricCode" (80 : Nat) ({ cls := "RankMetricCode", name := "divideRow", desc := "(II)V" } : Jvm.MethodName)) ∈ lw_all := lw_g (lw_at lw_m1 133 rfl) rfl
theorem q161 : (Jvm.Cond.privateMethod ({ cls := "RankMetricCode", name := "divideRow", desc := "(II)V" } : Jvm.MethodName)) ∈ lw_tbl := lw_at lw_m1 134 rfl
theorem q162 : (Jvm.Cond.instanceMethod ({ cls := "RankMetricCode", name := "divideRow", desc := "(II)V" } : Jvm.MethodName)) ∈ lw_all := lw_g (lw_at lw_m1 135 rfl) rfl
theorem q163 : (Jvm.Cond.code ({ cls := "RankMetricCode", name := "divideRow", desc := "(II)V" } : Jvm.MethodName) prog_1_method_20_code (4 : Nat) (Option.none : Option Jvm.ClassFile.FieldType)) ∈ lw_all := lw_g (lw_at lw_m1 136 rfl) rfl
theorem q164 : (Jvm.Cond.methodLink "RankMetricCode" (83 : Nat) ({ cls := "RankMetricCode", name := "addRow", desc := "(III)V" } : Jvm.MethodName)) ∈ lw_all := lw_g (lw_at lw_m1 137 rfl) rfl
theorem q165 : (Jvm.Cond.privateMethod ({ cls := "RankMetricCode", name := "addRow", desc := "(III)V" } : Jvm.MethodName)) ∈ lw_tbl := lw_at lw_m1 138 rfl
theorem q166 : (Jvm.Cond.instanceMethod ({ cls := "RankMetricCode", name := "addRow", desc := "(III)V" } : Jvm.MethodName)) ∈ lw_all := lw_g (lw_at lw_m1 139 rfl) rfl
theorem q167 : (Jvm.Cond.code ({ cls := "RankMetricCode", name := "addRow", desc := "(III)V" } : Jvm.MethodName) prog_1_method_21_code (6 : Nat) (Option.none : Option Jvm.ClassFile.FieldType)) ∈ lw_all := lw_g (lw_at lw_m1 140 rfl) rfl
theorem q168 : (Jvm.Cond.methodLink "RankMetricCode" (95 : Nat) ({ cls := "RankMetricCode", name := "divide", desc := "()Z" } : Jvm.MethodName)) ∈ lw_all := lw_g (lw_at lw_m1 141 rfl) rfl
theorem q169 : (Jvm.Cond.privateMethod ({ cls := "RankMetricCode", name := "divide", desc := "()Z" } : Jvm.MethodName)) ∈ lw_tbl := lw_at lw_m1 142 rfl
theorem q170 : (Jvm.Cond.instanceMethod ({ cls := "RankMetricCode", name := "divide", desc := "()Z" } : Jvm.MethodName)) ∈ lw_all := lw_g (lw_at lw_m1 143 rfl) rfl
theorem q171 : (Jvm.Cond.code ({ cls := "RankMetricCode", name := "divide", desc := "()Z" } : Jvm.MethodName) prog_1_method_24_code (6 : Nat) (Option.some Jvm.ClassFile.FieldType.boolean)) ∈ lw_all := lw_g (lw_at lw_m1 144 rfl) rfl
theorem q173 : (Jvm.Cond.instanceMethod ({ cls := "RankMetricCode", name := "message", desc := "(I)I" } : Jvm.MethodName)) ∈ lw_all := lw_g (lw_at lw_m1 146 rfl) rfl
theorem q174 : (Jvm.Cond.selects "RankMetricCode" ({ cls := "RankMetricCode", name := "message", desc := "(I)I" } : Jvm.MethodName) ({ cls := "RankMetricCode", name := "message", desc := "(I)I" } : Jvm.MethodName)) ∈ lw_all := lw_g (lw_at lw_m1 147 rfl) rfl
theorem q175 : (Jvm.Cond.code ({ cls := "RankMetricCode", name := "message", desc := "(I)I" } : Jvm.MethodName) prog_1_method_27_code (3 : Nat) (Option.some Jvm.ClassFile.FieldType.int)) ∈ lw_all := lw_g (lw_at lw_m1 148 rfl) rfl
theorem q177 : (Jvm.Cond.instanceMethod ({ cls := "RankMetricCode", name := "correct", desc := "()I" } : Jvm.MethodName)) ∈ lw_all := lw_g (lw_at lw_m1 150 rfl) rfl
theorem q178 : (Jvm.Cond.selects "RankMetricCode" ({ cls := "RankMetricCode", name := "correct", desc := "()I" } : Jvm.MethodName) ({ cls := "RankMetricCode", name := "correct", desc := "()I" } : Jvm.MethodName)) ∈ lw_all := lw_g (lw_at lw_m1 151 rfl) rfl
theorem q179 : (Jvm.Cond.code ({ cls := "RankMetricCode", name := "correct", desc := "()I" } : Jvm.MethodName) prog_1_method_28_code (2 : Nat) (Option.some Jvm.ClassFile.FieldType.int)) ∈ lw_all := lw_g (lw_at lw_m1 152 rfl) rfl
theorem q180 : (Jvm.Cond.methodLink "RankMetricCode" (101 : Nat) ({ cls := "RankMetricCode", name := "errors", desc := "()I" } : Jvm.MethodName)) ∈ lw_all := lw_g (lw_at lw_m1 153 rfl) rfl
theorem q181 : (Jvm.Cond.methodLink "RankMetricCode" (104 : Nat) ({ cls := "RankMetricCode", name := "encode", desc := "(II)I" } : Jvm.MethodName)) ∈ lw_all := lw_g (lw_at lw_m1 154 rfl) rfl
theorem q183 : (Jvm.Cond.instanceMethod ({ cls := "RankMetricCode", name := "clean", desc := "()Z" } : Jvm.MethodName)) ∈ lw_all := lw_g (lw_at lw_m1 156 rfl) rfl
theorem q184 : (Jvm.Cond.selects "RankMetricCode" ({ cls := "RankMetricCode", name := "clean", desc := "()Z" } : Jvm.MethodName) ({ cls := "RankMetricCode", name := "clean", desc := "()Z" } : Jvm.MethodName)) ∈ lw_all := lw_g (lw_at lw_m1 157 rfl) rfl
theorem q185 : (Jvm.Cond.code ({ cls := "RankMetricCode", name := "clean", desc := "()Z" } : Jvm.MethodName) prog_1_method_29_code (1 : Nat) (Option.some Jvm.ClassFile.FieldType.boolean)) ∈ lw_all := lw_g (lw_at lw_m1 158 rfl) rfl
theorem q186 : (Jvm.Cond.methodLink "RankMetricCode" (107 : Nat) ({ cls := "RankMetricCode", name := "agrees", desc := "(I)Z" } : Jvm.MethodName)) ∈ lw_all := lw_g (lw_at lw_m1 159 rfl) rfl
theorem q187 : (Jvm.Cond.privateMethod ({ cls := "RankMetricCode", name := "agrees", desc := "(I)Z" } : Jvm.MethodName)) ∈ lw_tbl := lw_at lw_m1 160 rfl
theorem q188 : (Jvm.Cond.instanceMethod ({ cls := "RankMetricCode", name := "agrees", desc := "(I)Z" } : Jvm.MethodName)) ∈ lw_all := lw_g (lw_at lw_m1 161 rfl) rfl
theorem q189 : (Jvm.Cond.code ({ cls := "RankMetricCode", name := "agrees", desc := "(I)Z" } : Jvm.MethodName) prog_1_method_31_code (11 : Nat) (Option.some Jvm.ClassFile.FieldType.boolean)) ∈ lw_all := lw_g (lw_at lw_m1 162 rfl) rfl
theorem q190 : (Jvm.Cond.methodLink "RankMetricCode" (110 : Nat) ({ cls := "RankMetricCode", name := "lowestOf", desc := "(I)I" } : Jvm.MethodName)) ∈ lw_all := lw_g (lw_at lw_m1 163 rfl) rfl
theorem q191 : (Jvm.Cond.privateMethod ({ cls := "RankMetricCode", name := "lowestOf", desc := "(I)I" } : Jvm.MethodName)) ∈ lw_tbl := lw_at lw_m1 164 rfl
theorem q192 : (Jvm.Cond.instanceMethod ({ cls := "RankMetricCode", name := "lowestOf", desc := "(I)I" } : Jvm.MethodName)) ∈ lw_all := lw_g (lw_at lw_m1 165 rfl) rfl
theorem q193 : (Jvm.Cond.code ({ cls := "RankMetricCode", name := "lowestOf", desc := "(I)I" } : Jvm.MethodName) prog_1_method_30_code (4 : Nat) (Option.some Jvm.ClassFile.FieldType.int)) ∈ lw_all := lw_g (lw_at lw_m1 166 rfl) rfl
theorem q194 : (Jvm.Cond.methodLink "RankMetricCode" (114 : Nat) ({ cls := "RankMetricCode", name := "matches", desc := "(III)Z" } : Jvm.MethodName)) ∈ lw_all := lw_g (lw_at lw_m1 167 rfl) rfl
theorem q195 : (Jvm.Cond.privateMethod ({ cls := "RankMetricCode", name := "matches", desc := "(III)Z" } : Jvm.MethodName)) ∈ lw_tbl := lw_at lw_m1 168 rfl
theorem q196 : (Jvm.Cond.instanceMethod ({ cls := "RankMetricCode", name := "matches", desc := "(III)Z" } : Jvm.MethodName)) ∈ lw_all := lw_g (lw_at lw_m1 169 rfl) rfl
theorem q197 : (Jvm.Cond.code ({ cls := "RankMetricCode", name := "matches", desc := "(III)Z" } : Jvm.MethodName) prog_1_method_32_code (7 : Nat) (Option.some Jvm.ClassFile.FieldType.boolean)) ∈ lw_all := lw_g (lw_at lw_m1 170 rfl) rfl
theorem q199 : (Jvm.Cond.instanceMethod ({ cls := "RankMetricCode", name := "coverings", desc := "()I" } : Jvm.MethodName)) ∈ lw_all := lw_g (lw_at lw_m1 172 rfl) rfl
theorem q200 : (Jvm.Cond.selects "RankMetricCode" ({ cls := "RankMetricCode", name := "coverings", desc := "()I" } : Jvm.MethodName) ({ cls := "RankMetricCode", name := "coverings", desc := "()I" } : Jvm.MethodName)) ∈ lw_all := lw_g (lw_at lw_m1 173 rfl) rfl
theorem q201 : (Jvm.Cond.code ({ cls := "RankMetricCode", name := "coverings", desc := "()I" } : Jvm.MethodName) prog_1_method_33_code (3 : Nat) (Option.some Jvm.ClassFile.FieldType.int)) ∈ lw_all := lw_g (lw_at lw_m1 174 rfl) rfl
theorem q203 : (Jvm.Cond.instanceMethod ({ cls := "RankMetricCode", name := "census", desc := "(I)I" } : Jvm.MethodName)) ∈ lw_all := lw_g (lw_at lw_m1 176 rfl) rfl
theorem q204 : (Jvm.Cond.selects "RankMetricCode" ({ cls := "RankMetricCode", name := "census", desc := "(I)I" } : Jvm.MethodName) ({ cls := "RankMetricCode", name := "census", desc := "(I)I" } : Jvm.MethodName)) ∈ lw_all := lw_g (lw_at lw_m1 177 rfl) rfl
theorem q205 : (Jvm.Cond.code ({ cls := "RankMetricCode", name := "census", desc := "(I)I" } : Jvm.MethodName) prog_1_method_35_code (8 : Nat) (Option.some Jvm.ClassFile.FieldType.int)) ∈ lw_all := lw_g (lw_at lw_m1 178 rfl) rfl
theorem q206 : (Jvm.Cond.methodLink "RankMetricCode" (118 : Nat) ({ cls := "RankMetricCode", name := "subspaces", desc := "(II)I" } : Jvm.MethodName)) ∈ lw_all := lw_g (lw_at lw_m1 179 rfl) rfl
theorem q207 : (Jvm.Cond.privateMethod ({ cls := "RankMetricCode", name := "subspaces", desc := "(II)I" } : Jvm.MethodName)) ∈ lw_tbl := lw_at lw_m1 180 rfl
theorem q208 : (Jvm.Cond.instanceMethod ({ cls := "RankMetricCode", name := "subspaces", desc := "(II)I" } : Jvm.MethodName)) ∈ lw_all := lw_g (lw_at lw_m1 181 rfl) rfl
theorem q209 : (Jvm.Cond.code ({ cls := "RankMetricCode", name := "subspaces", desc := "(II)I" } : Jvm.MethodName) prog_1_method_34_code (6 : Nat) (Option.some Jvm.ClassFile.FieldType.int)) ∈ lw_all := lw_g (lw_at lw_m1 182 rfl) rfl
theorem in_X1 : ∀ w ∈ wsX10, w ∈ lw_all := lw_in wsX10 [48, 50, 52, 54, 56, 58, 60, 62, 64, 66] (by decide +kernel) (by decide +kernel)
end
section
/-! RankMetricCodeModel -/
set_option maxRecDepth 100000
def RX2 : String := "RankMetricCodeModel"
def TX2 : u_T := fun k => match k with
  | 0 => ("RankMetricCodeModel", "word", "[I", true)
  | 1 => ("RankMetricCodeModel", "code", "[I", true)
  | 2 => ("RankMetricCodeModel", "sum", "[I", true)
  | 3 => ("RankMetricCodeModel", "changed", "[Z", true)
  | _ => ("RankMetricCodeModel", "k", "I", false)
def tyX2 : Nat → FieldType := fun k => match k with
  | 0 => .array .int
  | 1 => .array .int
  | 2 => .array .int
  | 3 => .array .boolean
  | _ => .int
abbrev wsX20 : List Cond := u_ws RX2 TX2 5
theorem nmX2 : ∀ a, a < 5 → ∀ b, b < 5 → a ≠ b → (TX2 a).2.1 ≠ (TX2 b).2.1 := by decide +kernel
theorem tyX2_ok : ∀ k, k < 5 → parseFieldDescriptor (TX2 k).2.2.1 = some (tyX2 k) := by decide +kernel
abbrev cX2_init : ByteArray := prog_3_method_1_code
def yX2_init : MethodName := ⟨RX2, "<init>", "(I)V"⟩
theorem dX2_init_0 : decode cX2_init 0 = .ok (.aload_n 0, 1) := by decide +kernel
theorem dX2_init_1 : decode cX2_init 1 = .ok (.invokespecial 1, 3) := by decide +kernel
theorem dX2_init_4 : decode cX2_init 4 = .ok (.aload_n 0, 1) := by decide +kernel
theorem dX2_init_5 : decode cX2_init 5 = .ok (.iconst 5, 1) := by decide +kernel
theorem dX2_init_6 : decode cX2_init 6 = .ok (.newarray .int, 2) := by decide +kernel
theorem dX2_init_8 : decode cX2_init 8 = .ok (.putfield 7, 3) := by decide +kernel
theorem dX2_init_11 : decode cX2_init 11 = .ok (.aload_n 0, 1) := by decide +kernel
theorem dX2_init_12 : decode cX2_init 12 = .ok (.iconst 5, 1) := by decide +kernel
theorem dX2_init_13 : decode cX2_init 13 = .ok (.newarray .int, 2) := by decide +kernel
theorem dX2_init_15 : decode cX2_init 15 = .ok (.putfield 13, 3) := by decide +kernel
theorem dX2_init_18 : decode cX2_init 18 = .ok (.aload_n 0, 1) := by decide +kernel
theorem dX2_init_19 : decode cX2_init 19 = .ok (.iconst 5, 1) := by decide +kernel
theorem dX2_init_20 : decode cX2_init 20 = .ok (.newarray .int, 2) := by decide +kernel
theorem dX2_init_22 : decode cX2_init 22 = .ok (.putfield 16, 3) := by decide +kernel
theorem dX2_init_25 : decode cX2_init 25 = .ok (.aload_n 0, 1) := by decide +kernel
theorem dX2_init_26 : decode cX2_init 26 = .ok (.bipush 32, 2) := by decide +kernel
theorem dX2_init_28 : decode cX2_init 28 = .ok (.newarray .boolean, 2) := by decide +kernel
theorem dX2_init_30 : decode cX2_init 30 = .ok (.putfield 19, 3) := by decide +kernel
theorem dX2_init_33 : decode cX2_init 33 = .ok (.aload_n 0, 1) := by decide +kernel
theorem dX2_init_34 : decode cX2_init 34 = .ok (.iload_n 1, 1) := by decide +kernel
theorem dX2_init_35 : decode cX2_init 35 = .ok (.iconst 1, 1) := by decide +kernel
theorem dX2_init_36 : decode cX2_init 36 = .ok (.if_icmp .ge 7, 3) := by decide +kernel
theorem dX2_init_39 : decode cX2_init 39 = .ok (.iconst 1, 1) := by decide +kernel
theorem dX2_init_40 : decode cX2_init 40 = .ok (.goto 13, 3) := by decide +kernel
theorem dX2_init_43 : decode cX2_init 43 = .ok (.iload_n 1, 1) := by decide +kernel
theorem dX2_init_44 : decode cX2_init 44 = .ok (.iconst 2, 1) := by decide +kernel
theorem dX2_init_45 : decode cX2_init 45 = .ok (.if_icmp .le 7, 3) := by decide +kernel
theorem dX2_init_48 : decode cX2_init 48 = .ok (.iconst 2, 1) := by decide +kernel
theorem dX2_init_49 : decode cX2_init 49 = .ok (.goto 4, 3) := by decide +kernel
theorem dX2_init_52 : decode cX2_init 52 = .ok (.iload_n 1, 1) := by decide +kernel
theorem dX2_init_53 : decode cX2_init 53 = .ok (.putfield 23, 3) := by decide +kernel
theorem dX2_init_56 : decode cX2_init 56 = .ok (.return_, 1) := by decide +kernel
abbrev cX2_size : ByteArray := prog_3_method_2_code
def yX2_size : MethodName := ⟨RX2, "size", "()I"⟩
theorem dX2_size_0 : decode cX2_size 0 = .ok (.aload_n 0, 1) := by decide +kernel
theorem dX2_size_1 : decode cX2_size 1 = .ok (.getfield 23, 3) := by decide +kernel
theorem dX2_size_4 : decode cX2_size 4 = .ok (.ireturn, 1) := by decide +kernel
abbrev cX2_times : ByteArray := prog_3_method_5_code
def yX2_times : MethodName := ⟨RX2, "times", "(II)I"⟩
theorem dX2_times_0 : decode cX2_times 0 = .ok (.aload_n 0, 1) := by decide +kernel
theorem dX2_times_1 : decode cX2_times 1 = .ok (.iload_n 1, 1) := by decide +kernel
theorem dX2_times_2 : decode cX2_times 2 = .ok (.invokevirtual 27, 3) := by decide +kernel
theorem dX2_times_5 : decode cX2_times 5 = .ok (.ifCond .eq 20, 3) := by decide +kernel
theorem dX2_times_8 : decode cX2_times 8 = .ok (.aload_n 0, 1) := by decide +kernel
theorem dX2_times_9 : decode cX2_times 9 = .ok (.iload_n 2, 1) := by decide +kernel
theorem dX2_times_10 : decode cX2_times 10 = .ok (.invokevirtual 27, 3) := by decide +kernel
theorem dX2_times_13 : decode cX2_times 13 = .ok (.ifCond .eq 12, 3) := by decide +kernel
theorem dX2_times_16 : decode cX2_times 16 = .ok (.aload_n 0, 1) := by decide +kernel
theorem dX2_times_17 : decode cX2_times 17 = .ok (.iload_n 1, 1) := by decide +kernel
theorem dX2_times_18 : decode cX2_times 18 = .ok (.iload_n 2, 1) := by decide +kernel
theorem dX2_times_19 : decode cX2_times 19 = .ok (.invokevirtual 31, 3) := by decide +kernel
theorem dX2_times_22 : decode cX2_times 22 = .ok (.goto 4, 3) := by decide +kernel
theorem dX2_times_25 : decode cX2_times 25 = .ok (.iconst (-1), 1) := by decide +kernel
theorem dX2_times_26 : decode cX2_times 26 = .ok (.ireturn, 1) := by decide +kernel
abbrev cX2_isElement : ByteArray := prog_3_method_3_code
def yX2_isElement : MethodName := ⟨RX2, "isElement", "(I)Z"⟩
theorem dX2_isElement_0 : decode cX2_isElement 0 = .ok (.iload_n 1, 1) := by decide +kernel
theorem dX2_isElement_1 : decode cX2_isElement 1 = .ok (.ifCond .lt 13, 3) := by decide +kernel
theorem dX2_isElement_4 : decode cX2_isElement 4 = .ok (.iload_n 1, 1) := by decide +kernel
theorem dX2_isElement_5 : decode cX2_isElement 5 = .ok (.bipush 31, 2) := by decide +kernel
theorem dX2_isElement_7 : decode cX2_isElement 7 = .ok (.if_icmp .gt 7, 3) := by decide +kernel
theorem dX2_isElement_10 : decode cX2_isElement 10 = .ok (.iconst 1, 1) := by decide +kernel
theorem dX2_isElement_11 : decode cX2_isElement 11 = .ok (.goto 4, 3) := by decide +kernel
theorem dX2_isElement_14 : decode cX2_isElement 14 = .ok (.iconst 0, 1) := by decide +kernel
theorem dX2_isElement_15 : decode cX2_isElement 15 = .ok (.ireturn, 1) := by decide +kernel
abbrev cX2_product : ByteArray := prog_3_method_4_code
def yX2_product : MethodName := ⟨RX2, "product", "(II)I"⟩
theorem dX2_product_0 : decode cX2_product 0 = .ok (.iconst 0, 1) := by decide +kernel
theorem dX2_product_1 : decode cX2_product 1 = .ok (.istore_n 3, 1) := by decide +kernel
theorem dX2_product_2 : decode cX2_product 2 = .ok (.iconst 0, 1) := by decide +kernel
theorem dX2_product_3 : decode cX2_product 3 = .ok (.istore 4, 2) := by decide +kernel
theorem dX2_product_5 : decode cX2_product 5 = .ok (.iload 4, 2) := by decide +kernel
theorem dX2_product_7 : decode cX2_product 7 = .ok (.iconst 5, 1) := by decide +kernel
theorem dX2_product_8 : decode cX2_product 8 = .ok (.if_icmp .ge 26, 3) := by decide +kernel
theorem dX2_product_11 : decode cX2_product 11 = .ok (.iload_n 2, 1) := by decide +kernel
theorem dX2_product_12 : decode cX2_product 12 = .ok (.iload 4, 2) := by decide +kernel
theorem dX2_product_14 : decode cX2_product 14 = .ok (.ishr, 1) := by decide +kernel
theorem dX2_product_15 : decode cX2_product 15 = .ok (.iconst 1, 1) := by decide +kernel
theorem dX2_product_16 : decode cX2_product 16 = .ok (.iand, 1) := by decide +kernel
theorem dX2_product_17 : decode cX2_product 17 = .ok (.iconst 1, 1) := by decide +kernel
theorem dX2_product_18 : decode cX2_product 18 = .ok (.if_icmp .ne 10, 3) := by decide +kernel
theorem dX2_product_21 : decode cX2_product 21 = .ok (.iload_n 3, 1) := by decide +kernel
theorem dX2_product_22 : decode cX2_product 22 = .ok (.iload_n 1, 1) := by decide +kernel
theorem dX2_product_23 : decode cX2_product 23 = .ok (.iload 4, 2) := by decide +kernel
theorem dX2_product_25 : decode cX2_product 25 = .ok (.ishl, 1) := by decide +kernel
theorem dX2_product_26 : decode cX2_product 26 = .ok (.ixor, 1) := by decide +kernel
theorem dX2_product_27 : decode cX2_product 27 = .ok (.istore_n 3, 1) := by decide +kernel
theorem dX2_product_28 : decode cX2_product 28 = .ok (.iinc 4 1, 3) := by decide +kernel
theorem dX2_product_31 : decode cX2_product 31 = .ok (.goto (-26), 3) := by decide +kernel
theorem dX2_product_34 : decode cX2_product 34 = .ok (.bipush 8, 2) := by decide +kernel
theorem dX2_product_36 : decode cX2_product 36 = .ok (.istore 4, 2) := by decide +kernel
theorem dX2_product_38 : decode cX2_product 38 = .ok (.iload 4, 2) := by decide +kernel
theorem dX2_product_40 : decode cX2_product 40 = .ok (.iconst 5, 1) := by decide +kernel
theorem dX2_product_41 : decode cX2_product 41 = .ok (.if_icmp .lt 29, 3) := by decide +kernel
theorem dX2_product_44 : decode cX2_product 44 = .ok (.iload_n 3, 1) := by decide +kernel
theorem dX2_product_45 : decode cX2_product 45 = .ok (.iload 4, 2) := by decide +kernel
theorem dX2_product_47 : decode cX2_product 47 = .ok (.ishr, 1) := by decide +kernel
theorem dX2_product_48 : decode cX2_product 48 = .ok (.iconst 1, 1) := by decide +kernel
theorem dX2_product_49 : decode cX2_product 49 = .ok (.iand, 1) := by decide +kernel
theorem dX2_product_50 : decode cX2_product 50 = .ok (.iconst 1, 1) := by decide +kernel
theorem dX2_product_51 : decode cX2_product 51 = .ok (.if_icmp .ne 13, 3) := by decide +kernel
theorem dX2_product_54 : decode cX2_product 54 = .ok (.iload_n 3, 1) := by decide +kernel
theorem dX2_product_55 : decode cX2_product 55 = .ok (.bipush 37, 2) := by decide +kernel
theorem dX2_product_57 : decode cX2_product 57 = .ok (.iload 4, 2) := by decide +kernel
theorem dX2_product_59 : decode cX2_product 59 = .ok (.iconst 5, 1) := by decide +kernel
theorem dX2_product_60 : decode cX2_product 60 = .ok (.isub, 1) := by decide +kernel
theorem dX2_product_61 : decode cX2_product 61 = .ok (.ishl, 1) := by decide +kernel
theorem dX2_product_62 : decode cX2_product 62 = .ok (.ixor, 1) := by decide +kernel
theorem dX2_product_63 : decode cX2_product 63 = .ok (.istore_n 3, 1) := by decide +kernel
theorem dX2_product_64 : decode cX2_product 64 = .ok (.iinc 4 (-1), 3) := by decide +kernel
theorem dX2_product_67 : decode cX2_product 67 = .ok (.goto (-29), 3) := by decide +kernel
theorem dX2_product_70 : decode cX2_product 70 = .ok (.iload_n 3, 1) := by decide +kernel
theorem dX2_product_71 : decode cX2_product 71 = .ok (.ireturn, 1) := by decide +kernel
abbrev cX2_over : ByteArray := prog_3_method_6_code
def yX2_over : MethodName := ⟨RX2, "over", "(II)I"⟩
theorem dX2_over_0 : decode cX2_over 0 = .ok (.aload_n 0, 1) := by decide +kernel
theorem dX2_over_1 : decode cX2_over 1 = .ok (.iload_n 1, 1) := by decide +kernel
theorem dX2_over_2 : decode cX2_over 2 = .ok (.invokevirtual 27, 3) := by decide +kernel
theorem dX2_over_5 : decode cX2_over 5 = .ok (.ifCond .eq 15, 3) := by decide +kernel
theorem dX2_over_8 : decode cX2_over 8 = .ok (.aload_n 0, 1) := by decide +kernel
theorem dX2_over_9 : decode cX2_over 9 = .ok (.iload_n 2, 1) := by decide +kernel
theorem dX2_over_10 : decode cX2_over 10 = .ok (.invokevirtual 27, 3) := by decide +kernel
theorem dX2_over_13 : decode cX2_over 13 = .ok (.ifCond .eq 7, 3) := by decide +kernel
theorem dX2_over_16 : decode cX2_over 16 = .ok (.iload_n 2, 1) := by decide +kernel
theorem dX2_over_17 : decode cX2_over 17 = .ok (.ifCond .ne 5, 3) := by decide +kernel
theorem dX2_over_20 : decode cX2_over 20 = .ok (.iconst (-1), 1) := by decide +kernel
theorem dX2_over_21 : decode cX2_over 21 = .ok (.ireturn, 1) := by decide +kernel
theorem dX2_over_22 : decode cX2_over 22 = .ok (.iconst 0, 1) := by decide +kernel
theorem dX2_over_23 : decode cX2_over 23 = .ok (.istore_n 3, 1) := by decide +kernel
theorem dX2_over_24 : decode cX2_over 24 = .ok (.iconst 0, 1) := by decide +kernel
theorem dX2_over_25 : decode cX2_over 25 = .ok (.istore 4, 2) := by decide +kernel
theorem dX2_over_27 : decode cX2_over 27 = .ok (.iload 4, 2) := by decide +kernel
theorem dX2_over_29 : decode cX2_over 29 = .ok (.bipush 32, 2) := by decide +kernel
theorem dX2_over_31 : decode cX2_over 31 = .ok (.if_icmp .ge 23, 3) := by decide +kernel
theorem dX2_over_34 : decode cX2_over 34 = .ok (.aload_n 0, 1) := by decide +kernel
theorem dX2_over_35 : decode cX2_over 35 = .ok (.iload_n 2, 1) := by decide +kernel
theorem dX2_over_36 : decode cX2_over 36 = .ok (.iload 4, 2) := by decide +kernel
theorem dX2_over_38 : decode cX2_over 38 = .ok (.invokevirtual 31, 3) := by decide +kernel
theorem dX2_over_41 : decode cX2_over 41 = .ok (.iload_n 1, 1) := by decide +kernel
theorem dX2_over_42 : decode cX2_over 42 = .ok (.if_icmp .ne 6, 3) := by decide +kernel
theorem dX2_over_45 : decode cX2_over 45 = .ok (.iload 4, 2) := by decide +kernel
theorem dX2_over_47 : decode cX2_over 47 = .ok (.istore_n 3, 1) := by decide +kernel
theorem dX2_over_48 : decode cX2_over 48 = .ok (.iinc 4 1, 3) := by decide +kernel
theorem dX2_over_51 : decode cX2_over 51 = .ok (.goto (-24), 3) := by decide +kernel
theorem dX2_over_54 : decode cX2_over 54 = .ok (.iload_n 3, 1) := by decide +kernel
theorem dX2_over_55 : decode cX2_over 55 = .ok (.ireturn, 1) := by decide +kernel
abbrev cX2_encode : ByteArray := prog_3_method_11_code
def yX2_encode : MethodName := ⟨RX2, "encode", "(II)I"⟩
theorem dX2_encode_0 : decode cX2_encode 0 = .ok (.aload_n 0, 1) := by decide +kernel
theorem dX2_encode_1 : decode cX2_encode 1 = .ok (.iload_n 1, 1) := by decide +kernel
theorem dX2_encode_2 : decode cX2_encode 2 = .ok (.iload_n 2, 1) := by decide +kernel
theorem dX2_encode_3 : decode cX2_encode 3 = .ok (.invokevirtual 43, 3) := by decide +kernel
theorem dX2_encode_6 : decode cX2_encode 6 = .ok (.ifCond .ne 5, 3) := by decide +kernel
theorem dX2_encode_9 : decode cX2_encode 9 = .ok (.iconst (-1), 1) := by decide +kernel
theorem dX2_encode_10 : decode cX2_encode 10 = .ok (.ireturn, 1) := by decide +kernel
theorem dX2_encode_11 : decode cX2_encode 11 = .ok (.aload_n 0, 1) := by decide +kernel
theorem dX2_encode_12 : decode cX2_encode 12 = .ok (.iload_n 1, 1) := by decide +kernel
theorem dX2_encode_13 : decode cX2_encode 13 = .ok (.iload_n 2, 1) := by decide +kernel
theorem dX2_encode_14 : decode cX2_encode 14 = .ok (.invokevirtual 35, 3) := by decide +kernel
theorem dX2_encode_17 : decode cX2_encode 17 = .ok (.iconst 0, 1) := by decide +kernel
theorem dX2_encode_18 : decode cX2_encode 18 = .ok (.istore_n 3, 1) := by decide +kernel
theorem dX2_encode_19 : decode cX2_encode 19 = .ok (.iload_n 3, 1) := by decide +kernel
theorem dX2_encode_20 : decode cX2_encode 20 = .ok (.iconst 5, 1) := by decide +kernel
theorem dX2_encode_21 : decode cX2_encode 21 = .ok (.if_icmp .ge 21, 3) := by decide +kernel
theorem dX2_encode_24 : decode cX2_encode 24 = .ok (.aload_n 0, 1) := by decide +kernel
theorem dX2_encode_25 : decode cX2_encode 25 = .ok (.getfield 7, 3) := by decide +kernel
theorem dX2_encode_28 : decode cX2_encode 28 = .ok (.iload_n 3, 1) := by decide +kernel
theorem dX2_encode_29 : decode cX2_encode 29 = .ok (.aload_n 0, 1) := by decide +kernel
theorem dX2_encode_30 : decode cX2_encode 30 = .ok (.getfield 13, 3) := by decide +kernel
theorem dX2_encode_33 : decode cX2_encode 33 = .ok (.iload_n 3, 1) := by decide +kernel
theorem dX2_encode_34 : decode cX2_encode 34 = .ok (.iaload, 1) := by decide +kernel
theorem dX2_encode_35 : decode cX2_encode 35 = .ok (.iastore, 1) := by decide +kernel
theorem dX2_encode_36 : decode cX2_encode 36 = .ok (.iinc 3 1, 3) := by decide +kernel
theorem dX2_encode_39 : decode cX2_encode 39 = .ok (.goto (-20), 3) := by decide +kernel
theorem dX2_encode_42 : decode cX2_encode 42 = .ok (.iconst 0, 1) := by decide +kernel
theorem dX2_encode_43 : decode cX2_encode 43 = .ok (.ireturn, 1) := by decide +kernel
abbrev cX2_isMessage : ByteArray := prog_3_method_7_code
def yX2_isMessage : MethodName := ⟨RX2, "isMessage", "(II)Z"⟩
theorem dX2_isMessage_0 : decode cX2_isMessage 0 = .ok (.aload_n 0, 1) := by decide +kernel
theorem dX2_isMessage_1 : decode cX2_isMessage 1 = .ok (.iload_n 1, 1) := by decide +kernel
theorem dX2_isMessage_2 : decode cX2_isMessage 2 = .ok (.invokevirtual 27, 3) := by decide +kernel
theorem dX2_isMessage_5 : decode cX2_isMessage 5 = .ok (.ifCond .eq 27, 3) := by decide +kernel
theorem dX2_isMessage_8 : decode cX2_isMessage 8 = .ok (.aload_n 0, 1) := by decide +kernel
theorem dX2_isMessage_9 : decode cX2_isMessage 9 = .ok (.iload_n 2, 1) := by decide +kernel
theorem dX2_isMessage_10 : decode cX2_isMessage 10 = .ok (.invokevirtual 27, 3) := by decide +kernel
theorem dX2_isMessage_13 : decode cX2_isMessage 13 = .ok (.ifCond .eq 19, 3) := by decide +kernel
theorem dX2_isMessage_16 : decode cX2_isMessage 16 = .ok (.aload_n 0, 1) := by decide +kernel
theorem dX2_isMessage_17 : decode cX2_isMessage 17 = .ok (.getfield 23, 3) := by decide +kernel
theorem dX2_isMessage_20 : decode cX2_isMessage 20 = .ok (.iconst 2, 1) := by decide +kernel
theorem dX2_isMessage_21 : decode cX2_isMessage 21 = .ok (.if_icmp .eq 7, 3) := by decide +kernel
theorem dX2_isMessage_24 : decode cX2_isMessage 24 = .ok (.iload_n 2, 1) := by decide +kernel
theorem dX2_isMessage_25 : decode cX2_isMessage 25 = .ok (.ifCond .ne 7, 3) := by decide +kernel
theorem dX2_isMessage_28 : decode cX2_isMessage 28 = .ok (.iconst 1, 1) := by decide +kernel
theorem dX2_isMessage_29 : decode cX2_isMessage 29 = .ok (.goto 4, 3) := by decide +kernel
theorem dX2_isMessage_32 : decode cX2_isMessage 32 = .ok (.iconst 0, 1) := by decide +kernel
theorem dX2_isMessage_33 : decode cX2_isMessage 33 = .ok (.ireturn, 1) := by decide +kernel
abbrev cX2_codeWord : ByteArray := prog_3_method_8_code
def yX2_codeWord : MethodName := ⟨RX2, "codeWord", "(II)V"⟩
theorem dX2_codeWord_0 : decode cX2_codeWord 0 = .ok (.iconst 0, 1) := by decide +kernel
theorem dX2_codeWord_1 : decode cX2_codeWord 1 = .ok (.istore_n 3, 1) := by decide +kernel
theorem dX2_codeWord_2 : decode cX2_codeWord 2 = .ok (.iload_n 3, 1) := by decide +kernel
theorem dX2_codeWord_3 : decode cX2_codeWord 3 = .ok (.iconst 5, 1) := by decide +kernel
theorem dX2_codeWord_4 : decode cX2_codeWord 4 = .ok (.if_icmp .ge 45, 3) := by decide +kernel
theorem dX2_codeWord_7 : decode cX2_codeWord 7 = .ok (.iconst 1, 1) := by decide +kernel
theorem dX2_codeWord_8 : decode cX2_codeWord 8 = .ok (.iload_n 3, 1) := by decide +kernel
theorem dX2_codeWord_9 : decode cX2_codeWord 9 = .ok (.ishl, 1) := by decide +kernel
theorem dX2_codeWord_10 : decode cX2_codeWord 10 = .ok (.istore 4, 2) := by decide +kernel
theorem dX2_codeWord_12 : decode cX2_codeWord 12 = .ok (.aload_n 0, 1) := by decide +kernel
theorem dX2_codeWord_13 : decode cX2_codeWord 13 = .ok (.iload 4, 2) := by decide +kernel
theorem dX2_codeWord_15 : decode cX2_codeWord 15 = .ok (.iload 4, 2) := by decide +kernel
theorem dX2_codeWord_17 : decode cX2_codeWord 17 = .ok (.invokevirtual 31, 3) := by decide +kernel
theorem dX2_codeWord_20 : decode cX2_codeWord 20 = .ok (.istore 5, 2) := by decide +kernel
theorem dX2_codeWord_22 : decode cX2_codeWord 22 = .ok (.aload_n 0, 1) := by decide +kernel
theorem dX2_codeWord_23 : decode cX2_codeWord 23 = .ok (.getfield 13, 3) := by decide +kernel
theorem dX2_codeWord_26 : decode cX2_codeWord 26 = .ok (.iload_n 3, 1) := by decide +kernel
theorem dX2_codeWord_27 : decode cX2_codeWord 27 = .ok (.aload_n 0, 1) := by decide +kernel
theorem dX2_codeWord_28 : decode cX2_codeWord 28 = .ok (.iload_n 1, 1) := by decide +kernel
theorem dX2_codeWord_29 : decode cX2_codeWord 29 = .ok (.iload 4, 2) := by decide +kernel
theorem dX2_codeWord_31 : decode cX2_codeWord 31 = .ok (.invokevirtual 31, 3) := by decide +kernel
theorem dX2_codeWord_34 : decode cX2_codeWord 34 = .ok (.aload_n 0, 1) := by decide +kernel
theorem dX2_codeWord_35 : decode cX2_codeWord 35 = .ok (.iload_n 2, 1) := by decide +kernel
theorem dX2_codeWord_36 : decode cX2_codeWord 36 = .ok (.iload 5, 2) := by decide +kernel
theorem dX2_codeWord_38 : decode cX2_codeWord 38 = .ok (.invokevirtual 31, 3) := by decide +kernel
theorem dX2_codeWord_41 : decode cX2_codeWord 41 = .ok (.ixor, 1) := by decide +kernel
theorem dX2_codeWord_42 : decode cX2_codeWord 42 = .ok (.iastore, 1) := by decide +kernel
theorem dX2_codeWord_43 : decode cX2_codeWord 43 = .ok (.iinc 3 1, 3) := by decide +kernel
theorem dX2_codeWord_46 : decode cX2_codeWord 46 = .ok (.goto (-44), 3) := by decide +kernel
theorem dX2_codeWord_49 : decode cX2_codeWord 49 = .ok (.return_, 1) := by decide +kernel
abbrev cX2_put : ByteArray := prog_3_method_12_code
def yX2_put : MethodName := ⟨RX2, "put", "(II)I"⟩
theorem dX2_put_0 : decode cX2_put 0 = .ok (.iload_n 1, 1) := by decide +kernel
theorem dX2_put_1 : decode cX2_put 1 = .ok (.ifCond .lt 16, 3) := by decide +kernel
theorem dX2_put_4 : decode cX2_put 4 = .ok (.iload_n 1, 1) := by decide +kernel
theorem dX2_put_5 : decode cX2_put 5 = .ok (.iconst 4, 1) := by decide +kernel
theorem dX2_put_6 : decode cX2_put 6 = .ok (.if_icmp .gt 11, 3) := by decide +kernel
theorem dX2_put_9 : decode cX2_put 9 = .ok (.aload_n 0, 1) := by decide +kernel
theorem dX2_put_10 : decode cX2_put 10 = .ok (.iload_n 2, 1) := by decide +kernel
theorem dX2_put_11 : decode cX2_put 11 = .ok (.invokevirtual 27, 3) := by decide +kernel
theorem dX2_put_14 : decode cX2_put 14 = .ok (.ifCond .ne 5, 3) := by decide +kernel
theorem dX2_put_17 : decode cX2_put 17 = .ok (.iconst (-1), 1) := by decide +kernel
theorem dX2_put_18 : decode cX2_put 18 = .ok (.ireturn, 1) := by decide +kernel
theorem dX2_put_19 : decode cX2_put 19 = .ok (.aload_n 0, 1) := by decide +kernel
theorem dX2_put_20 : decode cX2_put 20 = .ok (.getfield 7, 3) := by decide +kernel
theorem dX2_put_23 : decode cX2_put 23 = .ok (.iload_n 1, 1) := by decide +kernel
theorem dX2_put_24 : decode cX2_put 24 = .ok (.iaload, 1) := by decide +kernel
theorem dX2_put_25 : decode cX2_put 25 = .ok (.istore_n 3, 1) := by decide +kernel
theorem dX2_put_26 : decode cX2_put 26 = .ok (.aload_n 0, 1) := by decide +kernel
theorem dX2_put_27 : decode cX2_put 27 = .ok (.getfield 7, 3) := by decide +kernel
theorem dX2_put_30 : decode cX2_put 30 = .ok (.iload_n 1, 1) := by decide +kernel
theorem dX2_put_31 : decode cX2_put 31 = .ok (.iload_n 2, 1) := by decide +kernel
theorem dX2_put_32 : decode cX2_put 32 = .ok (.iastore, 1) := by decide +kernel
theorem dX2_put_33 : decode cX2_put 33 = .ok (.iload_n 3, 1) := by decide +kernel
theorem dX2_put_34 : decode cX2_put 34 = .ok (.ireturn, 1) := by decide +kernel
abbrev cX2_symbol : ByteArray := prog_3_method_13_code
def yX2_symbol : MethodName := ⟨RX2, "symbol", "(I)I"⟩
theorem dX2_symbol_0 : decode cX2_symbol 0 = .ok (.iload_n 1, 1) := by decide +kernel
theorem dX2_symbol_1 : decode cX2_symbol 1 = .ok (.ifCond .lt 8, 3) := by decide +kernel
theorem dX2_symbol_4 : decode cX2_symbol 4 = .ok (.iload_n 1, 1) := by decide +kernel
theorem dX2_symbol_5 : decode cX2_symbol 5 = .ok (.iconst 4, 1) := by decide +kernel
theorem dX2_symbol_6 : decode cX2_symbol 6 = .ok (.if_icmp .le 7, 3) := by decide +kernel
theorem dX2_symbol_9 : decode cX2_symbol 9 = .ok (.iconst (-1), 1) := by decide +kernel
theorem dX2_symbol_10 : decode cX2_symbol 10 = .ok (.goto 9, 3) := by decide +kernel
theorem dX2_symbol_13 : decode cX2_symbol 13 = .ok (.aload_n 0, 1) := by decide +kernel
theorem dX2_symbol_14 : decode cX2_symbol 14 = .ok (.getfield 7, 3) := by decide +kernel
theorem dX2_symbol_17 : decode cX2_symbol 17 = .ok (.iload_n 1, 1) := by decide +kernel
theorem dX2_symbol_18 : decode cX2_symbol 18 = .ok (.iaload, 1) := by decide +kernel
theorem dX2_symbol_19 : decode cX2_symbol 19 = .ok (.ireturn, 1) := by decide +kernel
abbrev cX2_disturb : ByteArray := prog_3_method_14_code
def yX2_disturb : MethodName := ⟨RX2, "disturb", "(II)I"⟩
theorem dX2_disturb_0 : decode cX2_disturb 0 = .ok (.aload_n 0, 1) := by decide +kernel
theorem dX2_disturb_1 : decode cX2_disturb 1 = .ok (.iload_n 1, 1) := by decide +kernel
theorem dX2_disturb_2 : decode cX2_disturb 2 = .ok (.invokevirtual 27, 3) := by decide +kernel
theorem dX2_disturb_5 : decode cX2_disturb 5 = .ok (.ifCond .eq 11, 3) := by decide +kernel
theorem dX2_disturb_8 : decode cX2_disturb 8 = .ok (.aload_n 0, 1) := by decide +kernel
theorem dX2_disturb_9 : decode cX2_disturb 9 = .ok (.iload_n 2, 1) := by decide +kernel
theorem dX2_disturb_10 : decode cX2_disturb 10 = .ok (.invokevirtual 27, 3) := by decide +kernel
theorem dX2_disturb_13 : decode cX2_disturb 13 = .ok (.ifCond .ne 5, 3) := by decide +kernel
theorem dX2_disturb_16 : decode cX2_disturb 16 = .ok (.iconst (-1), 1) := by decide +kernel
theorem dX2_disturb_17 : decode cX2_disturb 17 = .ok (.ireturn, 1) := by decide +kernel
theorem dX2_disturb_18 : decode cX2_disturb 18 = .ok (.iconst 0, 1) := by decide +kernel
theorem dX2_disturb_19 : decode cX2_disturb 19 = .ok (.istore_n 3, 1) := by decide +kernel
theorem dX2_disturb_20 : decode cX2_disturb 20 = .ok (.iload_n 3, 1) := by decide +kernel
theorem dX2_disturb_21 : decode cX2_disturb 21 = .ok (.iconst 5, 1) := by decide +kernel
theorem dX2_disturb_22 : decode cX2_disturb 22 = .ok (.if_icmp .ge 32, 3) := by decide +kernel
theorem dX2_disturb_25 : decode cX2_disturb 25 = .ok (.iload_n 2, 1) := by decide +kernel
theorem dX2_disturb_26 : decode cX2_disturb 26 = .ok (.iload_n 3, 1) := by decide +kernel
theorem dX2_disturb_27 : decode cX2_disturb 27 = .ok (.ishr, 1) := by decide +kernel
theorem dX2_disturb_28 : decode cX2_disturb 28 = .ok (.iconst 1, 1) := by decide +kernel
theorem dX2_disturb_29 : decode cX2_disturb 29 = .ok (.iand, 1) := by decide +kernel
theorem dX2_disturb_30 : decode cX2_disturb 30 = .ok (.iconst 1, 1) := by decide +kernel
theorem dX2_disturb_31 : decode cX2_disturb 31 = .ok (.if_icmp .ne 17, 3) := by decide +kernel
theorem dX2_disturb_34 : decode cX2_disturb 34 = .ok (.aload_n 0, 1) := by decide +kernel
theorem dX2_disturb_35 : decode cX2_disturb 35 = .ok (.getfield 7, 3) := by decide +kernel
theorem dX2_disturb_38 : decode cX2_disturb 38 = .ok (.iload_n 3, 1) := by decide +kernel
theorem dX2_disturb_39 : decode cX2_disturb 39 = .ok (.aload_n 0, 1) := by decide +kernel
theorem dX2_disturb_40 : decode cX2_disturb 40 = .ok (.getfield 7, 3) := by decide +kernel
theorem dX2_disturb_43 : decode cX2_disturb 43 = .ok (.iload_n 3, 1) := by decide +kernel
theorem dX2_disturb_44 : decode cX2_disturb 44 = .ok (.iaload, 1) := by decide +kernel
theorem dX2_disturb_45 : decode cX2_disturb 45 = .ok (.iload_n 1, 1) := by decide +kernel
theorem dX2_disturb_46 : decode cX2_disturb 46 = .ok (.ixor, 1) := by decide +kernel
theorem dX2_disturb_47 : decode cX2_disturb 47 = .ok (.iastore, 1) := by decide +kernel
theorem dX2_disturb_48 : decode cX2_disturb 48 = .ok (.iinc 3 1, 3) := by decide +kernel
theorem dX2_disturb_51 : decode cX2_disturb 51 = .ok (.goto (-31), 3) := by decide +kernel
theorem dX2_disturb_54 : decode cX2_disturb 54 = .ok (.aload_n 0, 1) := by decide +kernel
theorem dX2_disturb_55 : decode cX2_disturb 55 = .ok (.invokevirtual 47, 3) := by decide +kernel
theorem dX2_disturb_58 : decode cX2_disturb 58 = .ok (.ireturn, 1) := by decide +kernel
abbrev cX2_rank : ByteArray := prog_3_method_15_code
def yX2_rank : MethodName := ⟨RX2, "rank", "()I"⟩
theorem dX2_rank_0 : decode cX2_rank 0 = .ok (.aload_n 0, 1) := by decide +kernel
theorem dX2_rank_1 : decode cX2_rank 1 = .ok (.iconst 0, 1) := by decide +kernel
theorem dX2_rank_2 : decode cX2_rank 2 = .ok (.iconst 0, 1) := by decide +kernel
theorem dX2_rank_3 : decode cX2_rank 3 = .ok (.iconst 5, 1) := by decide +kernel
theorem dX2_rank_4 : decode cX2_rank 4 = .ok (.invokevirtual 51, 3) := by decide +kernel
theorem dX2_rank_7 : decode cX2_rank 7 = .ok (.ireturn, 1) := by decide +kernel
abbrev cX2_distanceTo : ByteArray := prog_3_method_10_code
def yX2_distanceTo : MethodName := ⟨RX2, "distanceTo", "(III)I"⟩
theorem dX2_distanceTo_0 : decode cX2_distanceTo 0 = .ok (.aload_n 0, 1) := by decide +kernel
theorem dX2_distanceTo_1 : decode cX2_distanceTo 1 = .ok (.iload_n 1, 1) := by decide +kernel
theorem dX2_distanceTo_2 : decode cX2_distanceTo 2 = .ok (.iload_n 2, 1) := by decide +kernel
theorem dX2_distanceTo_3 : decode cX2_distanceTo 3 = .ok (.invokevirtual 35, 3) := by decide +kernel
theorem dX2_distanceTo_6 : decode cX2_distanceTo 6 = .ok (.iconst 0, 1) := by decide +kernel
theorem dX2_distanceTo_7 : decode cX2_distanceTo 7 = .ok (.istore 4, 2) := by decide +kernel
theorem dX2_distanceTo_9 : decode cX2_distanceTo 9 = .ok (.iload 4, 2) := by decide +kernel
theorem dX2_distanceTo_11 : decode cX2_distanceTo 11 = .ok (.iconst 5, 1) := by decide +kernel
theorem dX2_distanceTo_12 : decode cX2_distanceTo 12 = .ok (.if_icmp .ge 31, 3) := by decide +kernel
theorem dX2_distanceTo_15 : decode cX2_distanceTo 15 = .ok (.aload_n 0, 1) := by decide +kernel
theorem dX2_distanceTo_16 : decode cX2_distanceTo 16 = .ok (.getfield 16, 3) := by decide +kernel
theorem dX2_distanceTo_19 : decode cX2_distanceTo 19 = .ok (.iload 4, 2) := by decide +kernel
theorem dX2_distanceTo_21 : decode cX2_distanceTo 21 = .ok (.aload_n 0, 1) := by decide +kernel
theorem dX2_distanceTo_22 : decode cX2_distanceTo 22 = .ok (.getfield 7, 3) := by decide +kernel
theorem dX2_distanceTo_25 : decode cX2_distanceTo 25 = .ok (.iload 4, 2) := by decide +kernel
theorem dX2_distanceTo_27 : decode cX2_distanceTo 27 = .ok (.iaload, 1) := by decide +kernel
theorem dX2_distanceTo_28 : decode cX2_distanceTo 28 = .ok (.aload_n 0, 1) := by decide +kernel
theorem dX2_distanceTo_29 : decode cX2_distanceTo 29 = .ok (.getfield 13, 3) := by decide +kernel
theorem dX2_distanceTo_32 : decode cX2_distanceTo 32 = .ok (.iload 4, 2) := by decide +kernel
theorem dX2_distanceTo_34 : decode cX2_distanceTo 34 = .ok (.iaload, 1) := by decide +kernel
theorem dX2_distanceTo_35 : decode cX2_distanceTo 35 = .ok (.ixor, 1) := by decide +kernel
theorem dX2_distanceTo_36 : decode cX2_distanceTo 36 = .ok (.iastore, 1) := by decide +kernel
theorem dX2_distanceTo_37 : decode cX2_distanceTo 37 = .ok (.iinc 4 1, 3) := by decide +kernel
theorem dX2_distanceTo_40 : decode cX2_distanceTo 40 = .ok (.goto (-31), 3) := by decide +kernel
theorem dX2_distanceTo_43 : decode cX2_distanceTo 43 = .ok (.aload_n 0, 1) := by decide +kernel
theorem dX2_distanceTo_44 : decode cX2_distanceTo 44 = .ok (.iload_n 3, 1) := by decide +kernel
theorem dX2_distanceTo_45 : decode cX2_distanceTo 45 = .ok (.invokevirtual 39, 3) := by decide +kernel
theorem dX2_distanceTo_48 : decode cX2_distanceTo 48 = .ok (.ireturn, 1) := by decide +kernel
abbrev cX2_rankOfSum : ByteArray := prog_3_method_9_code
def yX2_rankOfSum : MethodName := ⟨RX2, "rankOfSum", "(I)I"⟩
theorem dX2_rankOfSum_0 : decode cX2_rankOfSum 0 = .ok (.iconst 1, 1) := by decide +kernel
theorem dX2_rankOfSum_1 : decode cX2_rankOfSum 1 = .ok (.istore_n 2, 1) := by decide +kernel
theorem dX2_rankOfSum_2 : decode cX2_rankOfSum 2 = .ok (.iconst 0, 1) := by decide +kernel
theorem dX2_rankOfSum_3 : decode cX2_rankOfSum 3 = .ok (.istore_n 3, 1) := by decide +kernel
theorem dX2_rankOfSum_4 : decode cX2_rankOfSum 4 = .ok (.iconst 0, 1) := by decide +kernel
theorem dX2_rankOfSum_5 : decode cX2_rankOfSum 5 = .ok (.istore 4, 2) := by decide +kernel
theorem dX2_rankOfSum_7 : decode cX2_rankOfSum 7 = .ok (.iload 4, 2) := by decide +kernel
theorem dX2_rankOfSum_9 : decode cX2_rankOfSum 9 = .ok (.iconst 5, 1) := by decide +kernel
theorem dX2_rankOfSum_10 : decode cX2_rankOfSum 10 = .ok (.if_icmp .ge 80, 3) := by decide +kernel
theorem dX2_rankOfSum_13 : decode cX2_rankOfSum 13 = .ok (.iload_n 3, 1) := by decide +kernel
theorem dX2_rankOfSum_14 : decode cX2_rankOfSum 14 = .ok (.iload_n 1, 1) := by decide +kernel
theorem dX2_rankOfSum_15 : decode cX2_rankOfSum 15 = .ok (.if_icmp .gt 75, 3) := by decide +kernel
theorem dX2_rankOfSum_18 : decode cX2_rankOfSum 18 = .ok (.iload_n 2, 1) := by decide +kernel
theorem dX2_rankOfSum_19 : decode cX2_rankOfSum 19 = .ok (.aload_n 0, 1) := by decide +kernel
theorem dX2_rankOfSum_20 : decode cX2_rankOfSum 20 = .ok (.getfield 16, 3) := by decide +kernel
theorem dX2_rankOfSum_23 : decode cX2_rankOfSum 23 = .ok (.iload 4, 2) := by decide +kernel
theorem dX2_rankOfSum_25 : decode cX2_rankOfSum 25 = .ok (.iaload, 1) := by decide +kernel
theorem dX2_rankOfSum_26 : decode cX2_rankOfSum 26 = .ok (.ishr, 1) := by decide +kernel
theorem dX2_rankOfSum_27 : decode cX2_rankOfSum 27 = .ok (.iconst 1, 1) := by decide +kernel
theorem dX2_rankOfSum_28 : decode cX2_rankOfSum 28 = .ok (.iand, 1) := by decide +kernel
theorem dX2_rankOfSum_29 : decode cX2_rankOfSum 29 = .ok (.ifCond .ne 55, 3) := by decide +kernel
theorem dX2_rankOfSum_32 : decode cX2_rankOfSum 32 = .ok (.iinc 3 1, 3) := by decide +kernel
theorem dX2_rankOfSum_35 : decode cX2_rankOfSum 35 = .ok (.iload_n 2, 1) := by decide +kernel
theorem dX2_rankOfSum_36 : decode cX2_rankOfSum 36 = .ok (.istore 5, 2) := by decide +kernel
theorem dX2_rankOfSum_38 : decode cX2_rankOfSum 38 = .ok (.iconst 0, 1) := by decide +kernel
theorem dX2_rankOfSum_39 : decode cX2_rankOfSum 39 = .ok (.istore 6, 2) := by decide +kernel
theorem dX2_rankOfSum_41 : decode cX2_rankOfSum 41 = .ok (.iload 6, 2) := by decide +kernel
theorem dX2_rankOfSum_43 : decode cX2_rankOfSum 43 = .ok (.bipush 32, 2) := by decide +kernel
theorem dX2_rankOfSum_45 : decode cX2_rankOfSum 45 = .ok (.if_icmp .ge 36, 3) := by decide +kernel
theorem dX2_rankOfSum_48 : decode cX2_rankOfSum 48 = .ok (.iload_n 2, 1) := by decide +kernel
theorem dX2_rankOfSum_49 : decode cX2_rankOfSum 49 = .ok (.iload 6, 2) := by decide +kernel
theorem dX2_rankOfSum_51 : decode cX2_rankOfSum 51 = .ok (.ishr, 1) := by decide +kernel
theorem dX2_rankOfSum_52 : decode cX2_rankOfSum 52 = .ok (.iconst 1, 1) := by decide +kernel
theorem dX2_rankOfSum_53 : decode cX2_rankOfSum 53 = .ok (.iand, 1) := by decide +kernel
theorem dX2_rankOfSum_54 : decode cX2_rankOfSum 54 = .ok (.iconst 1, 1) := by decide +kernel
theorem dX2_rankOfSum_55 : decode cX2_rankOfSum 55 = .ok (.if_icmp .ne 20, 3) := by decide +kernel
theorem dX2_rankOfSum_58 : decode cX2_rankOfSum 58 = .ok (.iload 5, 2) := by decide +kernel
theorem dX2_rankOfSum_60 : decode cX2_rankOfSum 60 = .ok (.iconst 1, 1) := by decide +kernel
theorem dX2_rankOfSum_61 : decode cX2_rankOfSum 61 = .ok (.iload 6, 2) := by decide +kernel
theorem dX2_rankOfSum_63 : decode cX2_rankOfSum 63 = .ok (.aload_n 0, 1) := by decide +kernel
theorem dX2_rankOfSum_64 : decode cX2_rankOfSum 64 = .ok (.getfield 16, 3) := by decide +kernel
theorem dX2_rankOfSum_67 : decode cX2_rankOfSum 67 = .ok (.iload 4, 2) := by decide +kernel
theorem dX2_rankOfSum_69 : decode cX2_rankOfSum 69 = .ok (.iaload, 1) := by decide +kernel
theorem dX2_rankOfSum_70 : decode cX2_rankOfSum 70 = .ok (.ixor, 1) := by decide +kernel
theorem dX2_rankOfSum_71 : decode cX2_rankOfSum 71 = .ok (.ishl, 1) := by decide +kernel
theorem dX2_rankOfSum_72 : decode cX2_rankOfSum 72 = .ok (.ior, 1) := by decide +kernel
theorem dX2_rankOfSum_73 : decode cX2_rankOfSum 73 = .ok (.istore 5, 2) := by decide +kernel
theorem dX2_rankOfSum_75 : decode cX2_rankOfSum 75 = .ok (.iinc 6 1, 3) := by decide +kernel
theorem dX2_rankOfSum_78 : decode cX2_rankOfSum 78 = .ok (.goto (-37), 3) := by decide +kernel
theorem dX2_rankOfSum_81 : decode cX2_rankOfSum 81 = .ok (.iload 5, 2) := by decide +kernel
theorem dX2_rankOfSum_83 : decode cX2_rankOfSum 83 = .ok (.istore_n 2, 1) := by decide +kernel
theorem dX2_rankOfSum_84 : decode cX2_rankOfSum 84 = .ok (.iinc 4 1, 3) := by decide +kernel
theorem dX2_rankOfSum_87 : decode cX2_rankOfSum 87 = .ok (.goto (-80), 3) := by decide +kernel
theorem dX2_rankOfSum_90 : decode cX2_rankOfSum 90 = .ok (.iload_n 3, 1) := by decide +kernel
theorem dX2_rankOfSum_91 : decode cX2_rankOfSum 91 = .ok (.ireturn, 1) := by decide +kernel
end
section
set_option maxRecDepth 100000
abbrev cX2_distance : ByteArray := prog_3_method_16_code
def yX2_distance : MethodName := ⟨RX2, "distance", "(II)I"⟩
theorem dX2_distance_0 : decode cX2_distance 0 = .ok (.aload_n 0, 1) := by decide +kernel
theorem dX2_distance_1 : decode cX2_distance 1 = .ok (.iload_n 1, 1) := by decide +kernel
theorem dX2_distance_2 : decode cX2_distance 2 = .ok (.iload_n 2, 1) := by decide +kernel
theorem dX2_distance_3 : decode cX2_distance 3 = .ok (.invokevirtual 43, 3) := by decide +kernel
theorem dX2_distance_6 : decode cX2_distance 6 = .ok (.ifCond .ne 5, 3) := by decide +kernel
theorem dX2_distance_9 : decode cX2_distance 9 = .ok (.iconst (-1), 1) := by decide +kernel
theorem dX2_distance_10 : decode cX2_distance 10 = .ok (.ireturn, 1) := by decide +kernel
theorem dX2_distance_11 : decode cX2_distance 11 = .ok (.aload_n 0, 1) := by decide +kernel
theorem dX2_distance_12 : decode cX2_distance 12 = .ok (.iload_n 1, 1) := by decide +kernel
theorem dX2_distance_13 : decode cX2_distance 13 = .ok (.iload_n 2, 1) := by decide +kernel
theorem dX2_distance_14 : decode cX2_distance 14 = .ok (.iconst 5, 1) := by decide +kernel
theorem dX2_distance_15 : decode cX2_distance 15 = .ok (.invokevirtual 51, 3) := by decide +kernel
theorem dX2_distance_18 : decode cX2_distance 18 = .ok (.ireturn, 1) := by decide +kernel
abbrev cX2_errors : ByteArray := prog_3_method_18_code
def yX2_errors : MethodName := ⟨RX2, "errors", "()I"⟩
theorem dX2_errors_0 : decode cX2_errors 0 = .ok (.aload_n 0, 1) := by decide +kernel
theorem dX2_errors_1 : decode cX2_errors 1 = .ok (.invokevirtual 55, 3) := by decide +kernel
theorem dX2_errors_4 : decode cX2_errors 4 = .ok (.istore_n 1, 1) := by decide +kernel
theorem dX2_errors_5 : decode cX2_errors 5 = .ok (.iload_n 1, 1) := by decide +kernel
theorem dX2_errors_6 : decode cX2_errors 6 = .ok (.bipush (-4), 2) := by decide +kernel
theorem dX2_errors_8 : decode cX2_errors 8 = .ok (.if_icmp .ne 8, 3) := by decide +kernel
theorem dX2_errors_11 : decode cX2_errors 11 = .ok (.bipush (-4), 2) := by decide +kernel
theorem dX2_errors_13 : decode cX2_errors 13 = .ok (.goto 15, 3) := by decide +kernel
theorem dX2_errors_16 : decode cX2_errors 16 = .ok (.aload_n 0, 1) := by decide +kernel
theorem dX2_errors_17 : decode cX2_errors 17 = .ok (.iload_n 1, 1) := by decide +kernel
theorem dX2_errors_18 : decode cX2_errors 18 = .ok (.bipush 31, 2) := by decide +kernel
theorem dX2_errors_20 : decode cX2_errors 20 = .ok (.iand, 1) := by decide +kernel
theorem dX2_errors_21 : decode cX2_errors 21 = .ok (.iload_n 1, 1) := by decide +kernel
theorem dX2_errors_22 : decode cX2_errors 22 = .ok (.iconst 5, 1) := by decide +kernel
theorem dX2_errors_23 : decode cX2_errors 23 = .ok (.ishr, 1) := by decide +kernel
theorem dX2_errors_24 : decode cX2_errors 24 = .ok (.iconst 5, 1) := by decide +kernel
theorem dX2_errors_25 : decode cX2_errors 25 = .ok (.invokevirtual 51, 3) := by decide +kernel
theorem dX2_errors_28 : decode cX2_errors 28 = .ok (.ireturn, 1) := by decide +kernel
abbrev cX2_nearMessage : ByteArray := prog_3_method_17_code
def yX2_nearMessage : MethodName := ⟨RX2, "nearMessage", "()I"⟩
theorem dX2_nearMessage_0 : decode cX2_nearMessage 0 = .ok (.iconst 3, 1) := by decide +kernel
theorem dX2_nearMessage_1 : decode cX2_nearMessage 1 = .ok (.aload_n 0, 1) := by decide +kernel
theorem dX2_nearMessage_2 : decode cX2_nearMessage 2 = .ok (.getfield 23, 3) := by decide +kernel
theorem dX2_nearMessage_5 : decode cX2_nearMessage 5 = .ok (.isub, 1) := by decide +kernel
theorem dX2_nearMessage_6 : decode cX2_nearMessage 6 = .ok (.istore_n 1, 1) := by decide +kernel
theorem dX2_nearMessage_7 : decode cX2_nearMessage 7 = .ok (.iconst 0, 1) := by decide +kernel
theorem dX2_nearMessage_8 : decode cX2_nearMessage 8 = .ok (.istore_n 2, 1) := by decide +kernel
theorem dX2_nearMessage_9 : decode cX2_nearMessage 9 = .ok (.iload_n 2, 1) := by decide +kernel
theorem dX2_nearMessage_10 : decode cX2_nearMessage 10 = .ok (.aload_n 0, 1) := by decide +kernel
theorem dX2_nearMessage_11 : decode cX2_nearMessage 11 = .ok (.getfield 23, 3) := by decide +kernel
theorem dX2_nearMessage_14 : decode cX2_nearMessage 14 = .ok (.iconst 2, 1) := by decide +kernel
theorem dX2_nearMessage_15 : decode cX2_nearMessage 15 = .ok (.if_icmp .ne 9, 3) := by decide +kernel
theorem dX2_nearMessage_18 : decode cX2_nearMessage 18 = .ok (.sipush 1024, 3) := by decide +kernel
theorem dX2_nearMessage_21 : decode cX2_nearMessage 21 = .ok (.goto 5, 3) := by decide +kernel
theorem dX2_nearMessage_24 : decode cX2_nearMessage 24 = .ok (.bipush 32, 2) := by decide +kernel
theorem dX2_nearMessage_26 : decode cX2_nearMessage 26 = .ok (.if_icmp .ge 27, 3) := by decide +kernel
theorem dX2_nearMessage_29 : decode cX2_nearMessage 29 = .ok (.aload_n 0, 1) := by decide +kernel
theorem dX2_nearMessage_30 : decode cX2_nearMessage 30 = .ok (.iload_n 2, 1) := by decide +kernel
theorem dX2_nearMessage_31 : decode cX2_nearMessage 31 = .ok (.bipush 31, 2) := by decide +kernel
theorem dX2_nearMessage_33 : decode cX2_nearMessage 33 = .ok (.iand, 1) := by decide +kernel
theorem dX2_nearMessage_34 : decode cX2_nearMessage 34 = .ok (.iload_n 2, 1) := by decide +kernel
theorem dX2_nearMessage_35 : decode cX2_nearMessage 35 = .ok (.iconst 5, 1) := by decide +kernel
theorem dX2_nearMessage_36 : decode cX2_nearMessage 36 = .ok (.ishr, 1) := by decide +kernel
theorem dX2_nearMessage_37 : decode cX2_nearMessage 37 = .ok (.iload_n 1, 1) := by decide +kernel
theorem dX2_nearMessage_38 : decode cX2_nearMessage 38 = .ok (.invokevirtual 51, 3) := by decide +kernel
theorem dX2_nearMessage_41 : decode cX2_nearMessage 41 = .ok (.iload_n 1, 1) := by decide +kernel
theorem dX2_nearMessage_42 : decode cX2_nearMessage 42 = .ok (.if_icmp .gt 5, 3) := by decide +kernel
theorem dX2_nearMessage_45 : decode cX2_nearMessage 45 = .ok (.iload_n 2, 1) := by decide +kernel
theorem dX2_nearMessage_46 : decode cX2_nearMessage 46 = .ok (.ireturn, 1) := by decide +kernel
theorem dX2_nearMessage_47 : decode cX2_nearMessage 47 = .ok (.iinc 2 1, 3) := by decide +kernel
theorem dX2_nearMessage_50 : decode cX2_nearMessage 50 = .ok (.goto (-41), 3) := by decide +kernel
theorem dX2_nearMessage_53 : decode cX2_nearMessage 53 = .ok (.bipush (-4), 2) := by decide +kernel
theorem dX2_nearMessage_55 : decode cX2_nearMessage 55 = .ok (.ireturn, 1) := by decide +kernel
abbrev cX2_message : ByteArray := prog_3_method_19_code
def yX2_message : MethodName := ⟨RX2, "message", "(I)I"⟩
theorem dX2_message_0 : decode cX2_message 0 = .ok (.iload_n 1, 1) := by decide +kernel
theorem dX2_message_1 : decode cX2_message 1 = .ok (.ifCond .lt 11, 3) := by decide +kernel
theorem dX2_message_4 : decode cX2_message 4 = .ok (.iload_n 1, 1) := by decide +kernel
theorem dX2_message_5 : decode cX2_message 5 = .ok (.aload_n 0, 1) := by decide +kernel
theorem dX2_message_6 : decode cX2_message 6 = .ok (.getfield 23, 3) := by decide +kernel
theorem dX2_message_9 : decode cX2_message 9 = .ok (.if_icmp .lt 5, 3) := by decide +kernel
theorem dX2_message_12 : decode cX2_message 12 = .ok (.iconst (-1), 1) := by decide +kernel
theorem dX2_message_13 : decode cX2_message 13 = .ok (.ireturn, 1) := by decide +kernel
theorem dX2_message_14 : decode cX2_message 14 = .ok (.aload_n 0, 1) := by decide +kernel
theorem dX2_message_15 : decode cX2_message 15 = .ok (.invokevirtual 55, 3) := by decide +kernel
theorem dX2_message_18 : decode cX2_message 18 = .ok (.istore_n 2, 1) := by decide +kernel
theorem dX2_message_19 : decode cX2_message 19 = .ok (.iload_n 2, 1) := by decide +kernel
theorem dX2_message_20 : decode cX2_message 20 = .ok (.bipush (-4), 2) := by decide +kernel
theorem dX2_message_22 : decode cX2_message 22 = .ok (.if_icmp .ne 6, 3) := by decide +kernel
theorem dX2_message_25 : decode cX2_message 25 = .ok (.bipush (-4), 2) := by decide +kernel
theorem dX2_message_27 : decode cX2_message 27 = .ok (.ireturn, 1) := by decide +kernel
theorem dX2_message_28 : decode cX2_message 28 = .ok (.iload_n 1, 1) := by decide +kernel
theorem dX2_message_29 : decode cX2_message 29 = .ok (.ifCond .ne 10, 3) := by decide +kernel
theorem dX2_message_32 : decode cX2_message 32 = .ok (.iload_n 2, 1) := by decide +kernel
theorem dX2_message_33 : decode cX2_message 33 = .ok (.bipush 31, 2) := by decide +kernel
theorem dX2_message_35 : decode cX2_message 35 = .ok (.iand, 1) := by decide +kernel
theorem dX2_message_36 : decode cX2_message 36 = .ok (.goto 6, 3) := by decide +kernel
theorem dX2_message_39 : decode cX2_message 39 = .ok (.iload_n 2, 1) := by decide +kernel
theorem dX2_message_40 : decode cX2_message 40 = .ok (.iconst 5, 1) := by decide +kernel
theorem dX2_message_41 : decode cX2_message 41 = .ok (.ishr, 1) := by decide +kernel
theorem dX2_message_42 : decode cX2_message 42 = .ok (.ireturn, 1) := by decide +kernel
abbrev cX2_correct : ByteArray := prog_3_method_20_code
def yX2_correct : MethodName := ⟨RX2, "correct", "()I"⟩
theorem dX2_correct_0 : decode cX2_correct 0 = .ok (.aload_n 0, 1) := by decide +kernel
theorem dX2_correct_1 : decode cX2_correct 1 = .ok (.invokevirtual 55, 3) := by decide +kernel
theorem dX2_correct_4 : decode cX2_correct 4 = .ok (.istore_n 1, 1) := by decide +kernel
theorem dX2_correct_5 : decode cX2_correct 5 = .ok (.iload_n 1, 1) := by decide +kernel
theorem dX2_correct_6 : decode cX2_correct 6 = .ok (.bipush (-4), 2) := by decide +kernel
theorem dX2_correct_8 : decode cX2_correct 8 = .ok (.if_icmp .ne 6, 3) := by decide +kernel
theorem dX2_correct_11 : decode cX2_correct 11 = .ok (.bipush (-4), 2) := by decide +kernel
theorem dX2_correct_13 : decode cX2_correct 13 = .ok (.ireturn, 1) := by decide +kernel
theorem dX2_correct_14 : decode cX2_correct 14 = .ok (.aload_n 0, 1) := by decide +kernel
theorem dX2_correct_15 : decode cX2_correct 15 = .ok (.iload_n 1, 1) := by decide +kernel
theorem dX2_correct_16 : decode cX2_correct 16 = .ok (.bipush 31, 2) := by decide +kernel
theorem dX2_correct_18 : decode cX2_correct 18 = .ok (.iand, 1) := by decide +kernel
theorem dX2_correct_19 : decode cX2_correct 19 = .ok (.iload_n 1, 1) := by decide +kernel
theorem dX2_correct_20 : decode cX2_correct 20 = .ok (.iconst 5, 1) := by decide +kernel
theorem dX2_correct_21 : decode cX2_correct 21 = .ok (.ishr, 1) := by decide +kernel
theorem dX2_correct_22 : decode cX2_correct 22 = .ok (.iconst 5, 1) := by decide +kernel
theorem dX2_correct_23 : decode cX2_correct 23 = .ok (.invokevirtual 51, 3) := by decide +kernel
theorem dX2_correct_26 : decode cX2_correct 26 = .ok (.istore_n 2, 1) := by decide +kernel
theorem dX2_correct_27 : decode cX2_correct 27 = .ok (.aload_n 0, 1) := by decide +kernel
theorem dX2_correct_28 : decode cX2_correct 28 = .ok (.iload_n 1, 1) := by decide +kernel
theorem dX2_correct_29 : decode cX2_correct 29 = .ok (.bipush 31, 2) := by decide +kernel
theorem dX2_correct_31 : decode cX2_correct 31 = .ok (.iand, 1) := by decide +kernel
theorem dX2_correct_32 : decode cX2_correct 32 = .ok (.iload_n 1, 1) := by decide +kernel
theorem dX2_correct_33 : decode cX2_correct 33 = .ok (.iconst 5, 1) := by decide +kernel
theorem dX2_correct_34 : decode cX2_correct 34 = .ok (.ishr, 1) := by decide +kernel
theorem dX2_correct_35 : decode cX2_correct 35 = .ok (.invokevirtual 58, 3) := by decide +kernel
theorem dX2_correct_38 : decode cX2_correct 38 = .ok (.pop, 1) := by decide +kernel
theorem dX2_correct_39 : decode cX2_correct 39 = .ok (.iload_n 2, 1) := by decide +kernel
theorem dX2_correct_40 : decode cX2_correct 40 = .ok (.ireturn, 1) := by decide +kernel
abbrev cX2_clean : ByteArray := prog_3_method_21_code
def yX2_clean : MethodName := ⟨RX2, "clean", "()Z"⟩
theorem dX2_clean_0 : decode cX2_clean 0 = .ok (.aload_n 0, 1) := by decide +kernel
theorem dX2_clean_1 : decode cX2_clean 1 = .ok (.invokevirtual 61, 3) := by decide +kernel
theorem dX2_clean_4 : decode cX2_clean 4 = .ok (.ifCond .ne 7, 3) := by decide +kernel
theorem dX2_clean_7 : decode cX2_clean 7 = .ok (.iconst 1, 1) := by decide +kernel
theorem dX2_clean_8 : decode cX2_clean 8 = .ok (.goto 4, 3) := by decide +kernel
theorem dX2_clean_11 : decode cX2_clean 11 = .ok (.iconst 0, 1) := by decide +kernel
theorem dX2_clean_12 : decode cX2_clean 12 = .ok (.ireturn, 1) := by decide +kernel
abbrev cX2_coverings : ByteArray := prog_3_method_23_code
def yX2_coverings : MethodName := ⟨RX2, "coverings", "()I"⟩
theorem dX2_coverings_0 : decode cX2_coverings 0 = .ok (.iconst 0, 1) := by decide +kernel
theorem dX2_coverings_1 : decode cX2_coverings 1 = .ok (.istore_n 1, 1) := by decide +kernel
theorem dX2_coverings_2 : decode cX2_coverings 2 = .ok (.iload_n 1, 1) := by decide +kernel
theorem dX2_coverings_3 : decode cX2_coverings 3 = .ok (.bipush 32, 2) := by decide +kernel
theorem dX2_coverings_5 : decode cX2_coverings 5 = .ok (.if_icmp .ge 16, 3) := by decide +kernel
theorem dX2_coverings_8 : decode cX2_coverings 8 = .ok (.aload_n 0, 1) := by decide +kernel
theorem dX2_coverings_9 : decode cX2_coverings 9 = .ok (.getfield 19, 3) := by decide +kernel
theorem dX2_coverings_12 : decode cX2_coverings 12 = .ok (.iload_n 1, 1) := by decide +kernel
theorem dX2_coverings_13 : decode cX2_coverings 13 = .ok (.iconst 0, 1) := by decide +kernel
theorem dX2_coverings_14 : decode cX2_coverings 14 = .ok (.bastore, 1) := by decide +kernel
theorem dX2_coverings_15 : decode cX2_coverings 15 = .ok (.iinc 1 1, 3) := by decide +kernel
theorem dX2_coverings_18 : decode cX2_coverings 18 = .ok (.goto (-16), 3) := by decide +kernel
theorem dX2_coverings_21 : decode cX2_coverings 21 = .ok (.iconst 0, 1) := by decide +kernel
theorem dX2_coverings_22 : decode cX2_coverings 22 = .ok (.istore_n 1, 1) := by decide +kernel
theorem dX2_coverings_23 : decode cX2_coverings 23 = .ok (.iload_n 1, 1) := by decide +kernel
theorem dX2_coverings_24 : decode cX2_coverings 24 = .ok (.aload_n 0, 1) := by decide +kernel
theorem dX2_coverings_25 : decode cX2_coverings 25 = .ok (.getfield 23, 3) := by decide +kernel
theorem dX2_coverings_28 : decode cX2_coverings 28 = .ok (.iconst 2, 1) := by decide +kernel
theorem dX2_coverings_29 : decode cX2_coverings 29 = .ok (.if_icmp .ne 9, 3) := by decide +kernel
theorem dX2_coverings_32 : decode cX2_coverings 32 = .ok (.sipush 1024, 3) := by decide +kernel
theorem dX2_coverings_35 : decode cX2_coverings 35 = .ok (.goto 5, 3) := by decide +kernel
theorem dX2_coverings_38 : decode cX2_coverings 38 = .ok (.bipush 32, 2) := by decide +kernel
theorem dX2_coverings_40 : decode cX2_coverings 40 = .ok (.if_icmp .ge 28, 3) := by decide +kernel
theorem dX2_coverings_43 : decode cX2_coverings 43 = .ok (.aload_n 0, 1) := by decide +kernel
theorem dX2_coverings_44 : decode cX2_coverings 44 = .ok (.iload_n 1, 1) := by decide +kernel
theorem dX2_coverings_45 : decode cX2_coverings 45 = .ok (.bipush 31, 2) := by decide +kernel
theorem dX2_coverings_47 : decode cX2_coverings 47 = .ok (.iand, 1) := by decide +kernel
theorem dX2_coverings_48 : decode cX2_coverings 48 = .ok (.iload_n 1, 1) := by decide +kernel
theorem dX2_coverings_49 : decode cX2_coverings 49 = .ok (.iconst 5, 1) := by decide +kernel
theorem dX2_coverings_50 : decode cX2_coverings 50 = .ok (.ishr, 1) := by decide +kernel
theorem dX2_coverings_51 : decode cX2_coverings 51 = .ok (.invokevirtual 64, 3) := by decide +kernel
theorem dX2_coverings_54 : decode cX2_coverings 54 = .ok (.istore_n 2, 1) := by decide +kernel
theorem dX2_coverings_55 : decode cX2_coverings 55 = .ok (.aload_n 0, 1) := by decide +kernel
theorem dX2_coverings_56 : decode cX2_coverings 56 = .ok (.getfield 19, 3) := by decide +kernel
theorem dX2_coverings_59 : decode cX2_coverings 59 = .ok (.iload_n 2, 1) := by decide +kernel
theorem dX2_coverings_60 : decode cX2_coverings 60 = .ok (.iconst 1, 1) := by decide +kernel
theorem dX2_coverings_61 : decode cX2_coverings 61 = .ok (.bastore, 1) := by decide +kernel
theorem dX2_coverings_62 : decode cX2_coverings 62 = .ok (.iinc 1 1, 3) := by decide +kernel
theorem dX2_coverings_65 : decode cX2_coverings 65 = .ok (.goto (-42), 3) := by decide +kernel
theorem dX2_coverings_68 : decode cX2_coverings 68 = .ok (.iconst 0, 1) := by decide +kernel
theorem dX2_coverings_69 : decode cX2_coverings 69 = .ok (.istore_n 1, 1) := by decide +kernel
theorem dX2_coverings_70 : decode cX2_coverings 70 = .ok (.iconst 0, 1) := by decide +kernel
theorem dX2_coverings_71 : decode cX2_coverings 71 = .ok (.istore_n 2, 1) := by decide +kernel
theorem dX2_coverings_72 : decode cX2_coverings 72 = .ok (.iload_n 2, 1) := by decide +kernel
theorem dX2_coverings_73 : decode cX2_coverings 73 = .ok (.bipush 32, 2) := by decide +kernel
theorem dX2_coverings_75 : decode cX2_coverings 75 = .ok (.if_icmp .ge 68, 3) := by decide +kernel
theorem dX2_coverings_78 : decode cX2_coverings 78 = .ok (.iconst 0, 1) := by decide +kernel
theorem dX2_coverings_79 : decode cX2_coverings 79 = .ok (.istore_n 3, 1) := by decide +kernel
theorem dX2_coverings_80 : decode cX2_coverings 80 = .ok (.iconst 0, 1) := by decide +kernel
theorem dX2_coverings_81 : decode cX2_coverings 81 = .ok (.istore 4, 2) := by decide +kernel
theorem dX2_coverings_83 : decode cX2_coverings 83 = .ok (.iload 4, 2) := by decide +kernel
theorem dX2_coverings_85 : decode cX2_coverings 85 = .ok (.bipush 32, 2) := by decide +kernel
theorem dX2_coverings_87 : decode cX2_coverings 87 = .ok (.if_icmp .ge 38, 3) := by decide +kernel
theorem dX2_coverings_90 : decode cX2_coverings 90 = .ok (.iload_n 3, 1) := by decide +kernel
theorem dX2_coverings_91 : decode cX2_coverings 91 = .ok (.ifCond .ne 22, 3) := by decide +kernel
theorem dX2_coverings_94 : decode cX2_coverings 94 = .ok (.aload_n 0, 1) := by decide +kernel
theorem dX2_coverings_95 : decode cX2_coverings 95 = .ok (.getfield 19, 3) := by decide +kernel
theorem dX2_coverings_98 : decode cX2_coverings 98 = .ok (.iload 4, 2) := by decide +kernel
theorem dX2_coverings_100 : decode cX2_coverings 100 = .ok (.baload, 1) := by decide +kernel
theorem dX2_coverings_101 : decode cX2_coverings 101 = .ok (.ifCond .eq 16, 3) := by decide +kernel
theorem dX2_coverings_104 : decode cX2_coverings 104 = .ok (.iload 4, 2) := by decide +kernel
theorem dX2_coverings_106 : decode cX2_coverings 106 = .ok (.iload_n 2, 1) := by decide +kernel
theorem dX2_coverings_107 : decode cX2_coverings 107 = .ok (.iconst (-1), 1) := by decide +kernel
theorem dX2_coverings_108 : decode cX2_coverings 108 = .ok (.ixor, 1) := by decide +kernel
theorem dX2_coverings_109 : decode cX2_coverings 109 = .ok (.iand, 1) := by decide +kernel
theorem dX2_coverings_110 : decode cX2_coverings 110 = .ok (.ifCond .ne 7, 3) := by decide +kernel
theorem dX2_coverings_113 : decode cX2_coverings 113 = .ok (.iconst 1, 1) := by decide +kernel
theorem dX2_coverings_114 : decode cX2_coverings 114 = .ok (.goto 4, 3) := by decide +kernel
theorem dX2_coverings_117 : decode cX2_coverings 117 = .ok (.iconst 0, 1) := by decide +kernel
theorem dX2_coverings_118 : decode cX2_coverings 118 = .ok (.istore_n 3, 1) := by decide +kernel
theorem dX2_coverings_119 : decode cX2_coverings 119 = .ok (.iinc 4 1, 3) := by decide +kernel
theorem dX2_coverings_122 : decode cX2_coverings 122 = .ok (.goto (-39), 3) := by decide +kernel
theorem dX2_coverings_125 : decode cX2_coverings 125 = .ok (.iload_n 3, 1) := by decide +kernel
theorem dX2_coverings_126 : decode cX2_coverings 126 = .ok (.ifCond .eq 9, 3) := by decide +kernel
theorem dX2_coverings_129 : decode cX2_coverings 129 = .ok (.iload_n 1, 1) := by decide +kernel
theorem dX2_coverings_130 : decode cX2_coverings 130 = .ok (.iconst 1, 1) := by decide +kernel
theorem dX2_coverings_131 : decode cX2_coverings 131 = .ok (.iadd, 1) := by decide +kernel
theorem dX2_coverings_132 : decode cX2_coverings 132 = .ok (.goto 4, 3) := by decide +kernel
theorem dX2_coverings_135 : decode cX2_coverings 135 = .ok (.iload_n 1, 1) := by decide +kernel
theorem dX2_coverings_136 : decode cX2_coverings 136 = .ok (.istore_n 1, 1) := by decide +kernel
theorem dX2_coverings_137 : decode cX2_coverings 137 = .ok (.iinc 2 1, 3) := by decide +kernel
theorem dX2_coverings_140 : decode cX2_coverings 140 = .ok (.goto (-68), 3) := by decide +kernel
theorem dX2_coverings_143 : decode cX2_coverings 143 = .ok (.iload_n 1, 1) := by decide +kernel
theorem dX2_coverings_144 : decode cX2_coverings 144 = .ok (.ireturn, 1) := by decide +kernel
abbrev cX2_placesChanged : ByteArray := prog_3_method_22_code
def yX2_placesChanged : MethodName := ⟨RX2, "placesChanged", "(II)I"⟩
theorem dX2_placesChanged_0 : decode cX2_placesChanged 0 = .ok (.aload_n 0, 1) := by decide +kernel
theorem dX2_placesChanged_1 : decode cX2_placesChanged 1 = .ok (.iload_n 1, 1) := by decide +kernel
theorem dX2_placesChanged_2 : decode cX2_placesChanged 2 = .ok (.iload_n 2, 1) := by decide +kernel
theorem dX2_placesChanged_3 : decode cX2_placesChanged 3 = .ok (.invokevirtual 35, 3) := by decide +kernel
theorem dX2_placesChanged_6 : decode cX2_placesChanged 6 = .ok (.iconst 0, 1) := by decide +kernel
theorem dX2_placesChanged_7 : decode cX2_placesChanged 7 = .ok (.istore_n 3, 1) := by decide +kernel
theorem dX2_placesChanged_8 : decode cX2_placesChanged 8 = .ok (.iconst 0, 1) := by decide +kernel
theorem dX2_placesChanged_9 : decode cX2_placesChanged 9 = .ok (.istore 4, 2) := by decide +kernel
theorem dX2_placesChanged_11 : decode cX2_placesChanged 11 = .ok (.iload 4, 2) := by decide +kernel
theorem dX2_placesChanged_13 : decode cX2_placesChanged 13 = .ok (.iconst 5, 1) := by decide +kernel
theorem dX2_placesChanged_14 : decode cX2_placesChanged 14 = .ok (.if_icmp .ge 33, 3) := by decide +kernel
theorem dX2_placesChanged_17 : decode cX2_placesChanged 17 = .ok (.aload_n 0, 1) := by decide +kernel
theorem dX2_placesChanged_18 : decode cX2_placesChanged 18 = .ok (.getfield 13, 3) := by decide +kernel
theorem dX2_placesChanged_21 : decode cX2_placesChanged 21 = .ok (.iload 4, 2) := by decide +kernel
theorem dX2_placesChanged_23 : decode cX2_placesChanged 23 = .ok (.iaload, 1) := by decide +kernel
theorem dX2_placesChanged_24 : decode cX2_placesChanged 24 = .ok (.aload_n 0, 1) := by decide +kernel
theorem dX2_placesChanged_25 : decode cX2_placesChanged 25 = .ok (.getfield 7, 3) := by decide +kernel
theorem dX2_placesChanged_28 : decode cX2_placesChanged 28 = .ok (.iload 4, 2) := by decide +kernel
theorem dX2_placesChanged_30 : decode cX2_placesChanged 30 = .ok (.iaload, 1) := by decide +kernel
theorem dX2_placesChanged_31 : decode cX2_placesChanged 31 = .ok (.if_icmp .eq 10, 3) := by decide +kernel
theorem dX2_placesChanged_34 : decode cX2_placesChanged 34 = .ok (.iload_n 3, 1) := by decide +kernel
theorem dX2_placesChanged_35 : decode cX2_placesChanged 35 = .ok (.iconst 1, 1) := by decide +kernel
theorem dX2_placesChanged_36 : decode cX2_placesChanged 36 = .ok (.iload 4, 2) := by decide +kernel
theorem dX2_placesChanged_38 : decode cX2_placesChanged 38 = .ok (.ishl, 1) := by decide +kernel
theorem dX2_placesChanged_39 : decode cX2_placesChanged 39 = .ok (.ior, 1) := by decide +kernel
theorem dX2_placesChanged_40 : decode cX2_placesChanged 40 = .ok (.istore_n 3, 1) := by decide +kernel
theorem dX2_placesChanged_41 : decode cX2_placesChanged 41 = .ok (.iinc 4 1, 3) := by decide +kernel
theorem dX2_placesChanged_44 : decode cX2_placesChanged 44 = .ok (.goto (-33), 3) := by decide +kernel
theorem dX2_placesChanged_47 : decode cX2_placesChanged 47 = .ok (.iload_n 3, 1) := by decide +kernel
theorem dX2_placesChanged_48 : decode cX2_placesChanged 48 = .ok (.ireturn, 1) := by decide +kernel
abbrev cX2_census : ByteArray := prog_3_method_24_code
def yX2_census : MethodName := ⟨RX2, "census", "(I)I"⟩
theorem dX2_census_0 : decode cX2_census 0 = .ok (.iconst 0, 1) := by decide +kernel
theorem dX2_census_1 : decode cX2_census 1 = .ok (.istore_n 2, 1) := by decide +kernel
theorem dX2_census_2 : decode cX2_census 2 = .ok (.iconst 0, 1) := by decide +kernel
theorem dX2_census_3 : decode cX2_census 3 = .ok (.istore_n 3, 1) := by decide +kernel
theorem dX2_census_4 : decode cX2_census 4 = .ok (.iload_n 3, 1) := by decide +kernel
theorem dX2_census_5 : decode cX2_census 5 = .ok (.aload_n 0, 1) := by decide +kernel
theorem dX2_census_6 : decode cX2_census 6 = .ok (.getfield 23, 3) := by decide +kernel
theorem dX2_census_9 : decode cX2_census 9 = .ok (.iconst 2, 1) := by decide +kernel
theorem dX2_census_10 : decode cX2_census 10 = .ok (.if_icmp .ne 9, 3) := by decide +kernel
theorem dX2_census_13 : decode cX2_census 13 = .ok (.sipush 1024, 3) := by decide +kernel
theorem dX2_census_16 : decode cX2_census 16 = .ok (.goto 5, 3) := by decide +kernel
theorem dX2_census_19 : decode cX2_census 19 = .ok (.bipush 32, 2) := by decide +kernel
theorem dX2_census_21 : decode cX2_census 21 = .ok (.if_icmp .ge 61, 3) := by decide +kernel
theorem dX2_census_24 : decode cX2_census 24 = .ok (.aload_n 0, 1) := by decide +kernel
theorem dX2_census_25 : decode cX2_census 25 = .ok (.iload_n 3, 1) := by decide +kernel
theorem dX2_census_26 : decode cX2_census 26 = .ok (.bipush 31, 2) := by decide +kernel
theorem dX2_census_28 : decode cX2_census 28 = .ok (.iand, 1) := by decide +kernel
theorem dX2_census_29 : decode cX2_census 29 = .ok (.iload_n 3, 1) := by decide +kernel
theorem dX2_census_30 : decode cX2_census 30 = .ok (.iconst 5, 1) := by decide +kernel
theorem dX2_census_31 : decode cX2_census 31 = .ok (.ishr, 1) := by decide +kernel
theorem dX2_census_32 : decode cX2_census 32 = .ok (.invokevirtual 35, 3) := by decide +kernel
theorem dX2_census_35 : decode cX2_census 35 = .ok (.iconst 0, 1) := by decide +kernel
theorem dX2_census_36 : decode cX2_census 36 = .ok (.istore 4, 2) := by decide +kernel
theorem dX2_census_38 : decode cX2_census 38 = .ok (.iload 4, 2) := by decide +kernel
theorem dX2_census_40 : decode cX2_census 40 = .ok (.iconst 5, 1) := by decide +kernel
theorem dX2_census_41 : decode cX2_census 41 = .ok (.if_icmp .ge 23, 3) := by decide +kernel
theorem dX2_census_44 : decode cX2_census 44 = .ok (.aload_n 0, 1) := by decide +kernel
theorem dX2_census_45 : decode cX2_census 45 = .ok (.getfield 16, 3) := by decide +kernel
theorem dX2_census_48 : decode cX2_census 48 = .ok (.iload 4, 2) := by decide +kernel
theorem dX2_census_50 : decode cX2_census 50 = .ok (.aload_n 0, 1) := by decide +kernel
theorem dX2_census_51 : decode cX2_census 51 = .ok (.getfield 13, 3) := by decide +kernel
theorem dX2_census_54 : decode cX2_census 54 = .ok (.iload 4, 2) := by decide +kernel
theorem dX2_census_56 : decode cX2_census 56 = .ok (.iaload, 1) := by decide +kernel
theorem dX2_census_57 : decode cX2_census 57 = .ok (.iastore, 1) := by decide +kernel
theorem dX2_census_58 : decode cX2_census 58 = .ok (.iinc 4 1, 3) := by decide +kernel
theorem dX2_census_61 : decode cX2_census 61 = .ok (.goto (-23), 3) := by decide +kernel
theorem dX2_census_64 : decode cX2_census 64 = .ok (.aload_n 0, 1) := by decide +kernel
theorem dX2_census_65 : decode cX2_census 65 = .ok (.iconst 5, 1) := by decide +kernel
theorem dX2_census_66 : decode cX2_census 66 = .ok (.invokevirtual 39, 3) := by decide +kernel
theorem dX2_census_69 : decode cX2_census 69 = .ok (.iload_n 1, 1) := by decide +kernel
theorem dX2_census_70 : decode cX2_census 70 = .ok (.if_icmp .ne 6, 3) := by decide +kernel
theorem dX2_census_73 : decode cX2_census 73 = .ok (.iinc 2 1, 3) := by decide +kernel
theorem dX2_census_76 : decode cX2_census 76 = .ok (.iinc 3 1, 3) := by decide +kernel
theorem dX2_census_79 : decode cX2_census 79 = .ok (.goto (-75), 3) := by decide +kernel
theorem dX2_census_82 : decode cX2_census 82 = .ok (.iload_n 2, 1) := by decide +kernel
theorem dX2_census_83 : decode cX2_census 83 = .ok (.ireturn, 1) := by decide +kernel
theorem q29 : (Jvm.Cond.initialized "RankMetricCodeModel") ∈ lw_all := lw_g (lw_at lw_m1 2 rfl) rfl
theorem q214 : (Jvm.Cond.instantiable "RankMetricCodeModel" (5 : Nat)) ∈ lw_all := lw_g (lw_at lw_m1 187 rfl) rfl
theorem q216 : (Jvm.Cond.instanceMethod ({ cls := "RankMetricCodeModel", name := "<init>", desc := "(I)V" } : Jvm.MethodName)) ∈ lw_all := lw_g (lw_at lw_m1 189 rfl) rfl
theorem q217 : (Jvm.Cond.code ({ cls := "RankMetricCodeModel", name := "<init>", desc := "(I)V" } : Jvm.MethodName) prog_3_method_1_code (2 : Nat) (Option.none : Option Jvm.ClassFile.FieldType)) ∈ lw_all := lw_g (lw_at lw_m1 190 rfl) rfl
theorem q218 : (Jvm.Cond.methodLink "RankMetricCodeModel" (1 : Nat) ({ cls := "java/lang/Object", name := "<init>", desc := "()V" } : Jvm.MethodName)) ∈ lw_all := lw_g (lw_at lw_m1 191 rfl) rfl
theorem q219 : (Jvm.Cond.fieldLink "RankMetricCodeModel" (7 : Nat) "RankMetricCodeModel" "word" "[I") ∈ lw_all := lw_g (lw_at lw_m1 192 rfl) rfl
theorem q220 : (Jvm.Cond.fieldLink "RankMetricCodeModel" (13 : Nat) "RankMetricCodeModel" "code" "[I") ∈ lw_all := lw_g (lw_at lw_m1 193 rfl) rfl
theorem q221 : (Jvm.Cond.fieldLink "RankMetricCodeModel" (16 : Nat) "RankMetricCodeModel" "sum" "[I") ∈ lw_all := lw_g (lw_at lw_m1 194 rfl) rfl
theorem q222 : (Jvm.Cond.fieldLink "RankMetricCodeModel" (19 : Nat) "RankMetricCodeModel" "changed" "[Z") ∈ lw_all := lw_g (lw_at lw_m1 195 rfl) rfl
theorem q223 : (Jvm.Cond.fieldLink "RankMetricCodeModel" (23 : Nat) "RankMetricCodeModel" "k" "I") ∈ lw_all := lw_g (lw_at lw_m1 196 rfl) rfl
theorem q224 : (Jvm.Cond.laysFinal "RankMetricCodeModel" "RankMetricCodeModel" "word" "[I") ∈ lw_all := lw_g (lw_at lw_m1 197 rfl) rfl
theorem q225 : (Jvm.Cond.soleField "RankMetricCodeModel" "word") ∈ lw_all := lw_g (lw_at lw_m1 198 rfl) rfl
theorem q226 : (Jvm.Cond.laysFinal "RankMetricCodeModel" "RankMetricCodeModel" "code" "[I") ∈ lw_all := lw_g (lw_at lw_m1 199 rfl) rfl
theorem q227 : (Jvm.Cond.soleField "RankMetricCodeModel" "code") ∈ lw_all := lw_g (lw_at lw_m1 200 rfl) rfl
theorem q228 : (Jvm.Cond.laysFinal "RankMetricCodeModel" "RankMetricCodeModel" "sum" "[I") ∈ lw_all := lw_g (lw_at lw_m1 201 rfl) rfl
theorem q229 : (Jvm.Cond.soleField "RankMetricCodeModel" "sum") ∈ lw_all := lw_g (lw_at lw_m1 202 rfl) rfl
theorem q230 : (Jvm.Cond.laysFinal "RankMetricCodeModel" "RankMetricCodeModel" "changed" "[Z") ∈ lw_all := lw_g (lw_at lw_m1 203 rfl) rfl
theorem q231 : (Jvm.Cond.soleField "RankMetricCodeModel" "changed") ∈ lw_all := lw_g (lw_at lw_m1 204 rfl) rfl
theorem q232 : (Jvm.Cond.lays "RankMetricCodeModel" "RankMetricCodeModel" "k" "I") ∈ lw_all := lw_g (lw_at lw_m1 205 rfl) rfl
theorem q233 : (Jvm.Cond.soleField "RankMetricCodeModel" "k") ∈ lw_all := lw_g (lw_at lw_m1 206 rfl) rfl
theorem q234 : (Jvm.Cond.superclass "RankMetricCodeModel" "java/lang/Object") ∈ lw_all := lw_g (lw_at lw_m1 207 rfl) rfl
theorem q237 : (Jvm.Cond.instanceMethod ({ cls := "RankMetricCodeModel", name := "size", desc := "()I" } : Jvm.MethodName)) ∈ lw_all := lw_g (lw_at lw_m1 210 rfl) rfl
theorem q238 : (Jvm.Cond.selects "RankMetricCodeModel" ({ cls := "RankMetricCodeModel", name := "size", desc := "()I" } : Jvm.MethodName) ({ cls := "RankMetricCodeModel", name := "size", desc := "()I" } : Jvm.MethodName)) ∈ lw_all := lw_g (lw_at lw_m1 211 rfl) rfl
theorem q239 : (Jvm.Cond.code ({ cls := "RankMetricCodeModel", name := "size", desc := "()I" } : Jvm.MethodName) prog_3_method_2_code (1 : Nat) (Option.some Jvm.ClassFile.FieldType.int)) ∈ lw_all := lw_g (lw_at lw_m1 212 rfl) rfl
theorem q241 : (Jvm.Cond.instanceMethod ({ cls := "RankMetricCodeModel", name := "times", desc := "(II)I" } : Jvm.MethodName)) ∈ lw_all := lw_g (lw_at lw_m1 214 rfl) rfl
theorem q242 : (Jvm.Cond.selects "RankMetricCodeModel" ({ cls := "RankMetricCodeModel", name := "times", desc := "(II)I" } : Jvm.MethodName) ({ cls := "RankMetricCodeModel", name := "times", desc := "(II)I" } : Jvm.MethodName)) ∈ lw_all := lw_g (lw_at lw_m1 215 rfl) rfl
theorem q243 : (Jvm.Cond.code ({ cls := "RankMetricCodeModel", name := "times", desc := "(II)I" } : Jvm.MethodName) prog_3_method_5_code (3 : Nat) (Option.some Jvm.ClassFile.FieldType.int)) ∈ lw_all := lw_g (lw_at lw_m1 216 rfl) rfl
theorem q244 : (Jvm.Cond.methodLink "RankMetricCodeModel" (27 : Nat) ({ cls := "RankMetricCodeModel", name := "isElement", desc := "(I)Z" } : Jvm.MethodName)) ∈ lw_all := lw_g (lw_at lw_m1 217 rfl) rfl
theorem q245 : (Jvm.Cond.privateMethod ({ cls := "RankMetricCodeModel", name := "isElement", desc := "(I)Z" } : Jvm.MethodName)) ∈ lw_tbl := lw_at lw_m1 218 rfl
theorem q246 : (Jvm.Cond.instanceMethod ({ cls := "RankMetricCodeModel", name := "isElement", desc := "(I)Z" } : Jvm.MethodName)) ∈ lw_all := lw_g (lw_at lw_m1 219 rfl) rfl
theorem q247 : (Jvm.Cond.code ({ cls := "RankMetricCodeModel", name := "isElement", desc := "(I)Z" } : Jvm.MethodName) prog_3_method_3_code (2 : Nat) (Option.some Jvm.ClassFile.FieldType.boolean)) ∈ lw_all := lw_g (lw_at lw_m1 220 rfl) rfl
theorem q248 : (Jvm.Cond.methodLink "RankMetricCodeModel" (31 : Nat) ({ cls := "RankMetricCodeModel", name := "product", desc := "(II)I" } : Jvm.MethodName)) ∈ lw_all := lw_g (lw_at lw_m1 221 rfl) rfl
theorem q249 : (Jvm.Cond.privateMethod ({ cls := "RankMetricCodeModel", name := "product", desc := "(II)I" } : Jvm.MethodName)) ∈ lw_tbl := lw_at lw_m1 222 rfl
theorem q250 : (Jvm.Cond.instanceMethod ({ cls := "RankMetricCodeModel", name := "product", desc := "(II)I" } : Jvm.MethodName)) ∈ lw_all := lw_g (lw_at lw_m1 223 rfl) rfl
theorem q251 : (Jvm.Cond.code ({ cls := "RankMetricCodeModel", name := "product", desc := "(II)I" } : Jvm.MethodName) prog_3_method_4_code (5 : Nat) (Option.some Jvm.ClassFile.FieldType.int)) ∈ lw_all := lw_g (lw_at lw_m1 224 rfl) rfl
theorem q253 : (Jvm.Cond.instanceMethod ({ cls := "RankMetricCodeModel", name := "over", desc := "(II)I" } : Jvm.MethodName)) ∈ lw_all := lw_g (lw_at lw_m1 226 rfl) rfl
theorem q254 : (Jvm.Cond.selects "RankMetricCodeModel" ({ cls := "RankMetricCodeModel", name := "over", desc := "(II)I" } : Jvm.MethodName) ({ cls := "RankMetricCodeModel", name := "over", desc := "(II)I" } : Jvm.MethodName)) ∈ lw_all := lw_g (lw_at lw_m1 227 rfl) rfl
theorem q255 : (Jvm.Cond.code ({ cls := "RankMetricCodeModel", name := "over", desc := "(II)I" } : Jvm.MethodName) prog_3_method_6_code (5 : Nat) (Option.some Jvm.ClassFile.FieldType.int)) ∈ lw_all := lw_g (lw_at lw_m1 228 rfl) rfl
theorem q257 : (Jvm.Cond.instanceMethod ({ cls := "RankMetricCodeModel", name := "encode", desc := "(II)I" } : Jvm.MethodName)) ∈ lw_all := lw_g (lw_at lw_m1 230 rfl) rfl
theorem q258 : (Jvm.Cond.selects "RankMetricCodeModel" ({ cls := "RankMetricCodeModel", name := "encode", desc := "(II)I" } : Jvm.MethodName) ({ cls := "RankMetricCodeModel", name := "encode", desc := "(II)I" } : Jvm.MethodName)) ∈ lw_all := lw_g (lw_at lw_m1 231 rfl) rfl
theorem q259 : (Jvm.Cond.code ({ cls := "RankMetricCodeModel", name := "encode", desc := "(II)I" } : Jvm.MethodName) prog_3_method_11_code (4 : Nat) (Option.some Jvm.ClassFile.FieldType.int)) ∈ lw_all := lw_g (lw_at lw_m1 232 rfl) rfl
theorem q260 : (Jvm.Cond.methodLink "RankMetricCodeModel" (43 : Nat) ({ cls := "RankMetricCodeModel", name := "isMessage", desc := "(II)Z" } : Jvm.MethodName)) ∈ lw_all := lw_g (lw_at lw_m1 233 rfl) rfl
theorem q261 : (Jvm.Cond.privateMethod ({ cls := "RankMetricCodeModel", name := "isMessage", desc := "(II)Z" } : Jvm.MethodName)) ∈ lw_tbl := lw_at lw_m1 234 rfl
theorem q262 : (Jvm.Cond.instanceMethod ({ cls := "RankMetricCodeModel", name := "isMessage", desc := "(II)Z" } : Jvm.MethodName)) ∈ lw_all := lw_g (lw_at lw_m1 235 rfl) rfl
theorem q263 : (Jvm.Cond.code ({ cls := "RankMetricCodeModel", name := "isMessage", desc := "(II)Z" } : Jvm.MethodName) prog_3_method_7_code (3 : Nat) (Option.some Jvm.ClassFile.FieldType.boolean)) ∈ lw_all := lw_g (lw_at lw_m1 236 rfl) rfl
theorem q264 : (Jvm.Cond.methodLink "RankMetricCodeModel" (35 : Nat) ({ cls := "RankMetricCodeModel", name := "codeWord", desc := "(II)V" } : Jvm.MethodName)) ∈ lw_all := lw_g (lw_at lw_m1 237 rfl) rfl
theorem q265 : (Jvm.Cond.privateMethod ({ cls := "RankMetricCodeModel", name := "codeWord", desc := "(II)V" } : Jvm.MethodName)) ∈ lw_tbl := lw_at lw_m1 238 rfl
theorem q266 : (Jvm.Cond.instanceMethod ({ cls := "RankMetricCodeModel", name := "codeWord", desc := "(II)V" } : Jvm.MethodName)) ∈ lw_all := lw_g (lw_at lw_m1 239 rfl) rfl
theorem q267 : (Jvm.Cond.code ({ cls := "RankMetricCodeModel", name := "codeWord", desc := "(II)V" } : Jvm.MethodName) prog_3_method_8_code (6 : Nat) (Option.none : Option Jvm.ClassFile.FieldType)) ∈ lw_all := lw_g (lw_at lw_m2 0 rfl) rfl
theorem q269 : (Jvm.Cond.instanceMethod ({ cls := "RankMetricCodeModel", name := "put", desc := "(II)I" } : Jvm.MethodName)) ∈ lw_all := lw_g (lw_at lw_m2 2 rfl) rfl
theorem q270 : (Jvm.Cond.selects "RankMetricCodeModel" ({ cls := "RankMetricCodeModel", name := "put", desc := "(II)I" } : Jvm.MethodName) ({ cls := "RankMetricCodeModel", name := "put", desc := "(II)I" } : Jvm.MethodName)) ∈ lw_all := lw_g (lw_at lw_m2 3 rfl) rfl
theorem q271 : (Jvm.Cond.code ({ cls := "RankMetricCodeModel", name := "put", desc := "(II)I" } : Jvm.MethodName) prog_3_method_12_code (4 : Nat) (Option.some Jvm.ClassFile.FieldType.int)) ∈ lw_all := lw_g (lw_at lw_m2 4 rfl) rfl
theorem q273 : (Jvm.Cond.instanceMethod ({ cls := "RankMetricCodeModel", name := "symbol", desc := "(I)I" } : Jvm.MethodName)) ∈ lw_all := lw_g (lw_at lw_m2 6 rfl) rfl
theorem q274 : (Jvm.Cond.selects "RankMetricCodeModel" ({ cls := "RankMetricCodeModel", name := "symbol", desc := "(I)I" } : Jvm.MethodName) ({ cls := "RankMetricCodeModel", name := "symbol", desc := "(I)I" } : Jvm.MethodName)) ∈ lw_all := lw_g (lw_at lw_m2 7 rfl) rfl
theorem q275 : (Jvm.Cond.code ({ cls := "RankMetricCodeModel", name := "symbol", desc := "(I)I" } : Jvm.MethodName) prog_3_method_13_code (2 : Nat) (Option.some Jvm.ClassFile.FieldType.int)) ∈ lw_all := lw_g (lw_at lw_m2 8 rfl) rfl
theorem q277 : (Jvm.Cond.instanceMethod ({ cls := "RankMetricCodeModel", name := "disturb", desc := "(II)I" } : Jvm.MethodName)) ∈ lw_all := lw_g (lw_at lw_m2 10 rfl) rfl
theorem q278 : (Jvm.Cond.selects "RankMetricCodeModel" ({ cls := "RankMetricCodeModel", name := "disturb", desc := "(II)I" } : Jvm.MethodName) ({ cls := "RankMetricCodeModel", name := "disturb", desc := "(II)I" } : Jvm.MethodName)) ∈ lw_all := lw_g (lw_at lw_m2 11 rfl) rfl
theorem q279 : (Jvm.Cond.code ({ cls := "RankMetricCodeModel", name := "disturb", desc := "(II)I" } : Jvm.MethodName) prog_3_method_14_code (4 : Nat) (Option.some Jvm.ClassFile.FieldType.int)) ∈ lw_all := lw_g (lw_at lw_m2 12 rfl) rfl
theorem q280 : (Jvm.Cond.methodLink "RankMetricCodeModel" (47 : Nat) ({ cls := "RankMetricCodeModel", name := "rank", desc := "()I" } : Jvm.MethodName)) ∈ lw_all := lw_g (lw_at lw_m2 13 rfl) rfl
theorem q281 : (Jvm.Cond.instanceMethod ({ cls := "RankMetricCodeModel", name := "rank", desc := "()I" } : Jvm.MethodName)) ∈ lw_all := lw_g (lw_at lw_m2 14 rfl) rfl
theorem q282 : (Jvm.Cond.selects "RankMetricCodeModel" ({ cls := "RankMetricCodeModel", name := "rank", desc := "()I" } : Jvm.MethodName) ({ cls := "RankMetricCodeModel", name := "rank", desc := "()I" } : Jvm.MethodName)) ∈ lw_all := lw_g (lw_at lw_m2 15 rfl) rfl
theorem q283 : (Jvm.Cond.code ({ cls := "RankMetricCodeModel", name := "rank", desc := "()I" } : Jvm.MethodName) prog_3_method_15_code (1 : Nat) (Option.some Jvm.ClassFile.FieldType.int)) ∈ lw_all := lw_g (lw_at lw_m2 16 rfl) rfl
theorem q284 : (Jvm.Cond.methodLink "RankMetricCodeModel" (51 : Nat) ({ cls := "RankMetricCodeModel", name := "distanceTo", desc := "(III)I" } : Jvm.MethodName)) ∈ lw_all := lw_g (lw_at lw_m2 17 rfl) rfl
theorem q285 : (Jvm.Cond.privateMethod ({ cls := "RankMetricCodeModel", name := "distanceTo", desc := "(III)I" } : Jvm.MethodName)) ∈ lw_tbl := lw_at lw_m2 18 rfl
theorem q286 : (Jvm.Cond.instanceMethod ({ cls := "RankMetricCodeModel", name := "distanceTo", desc := "(III)I" } : Jvm.MethodName)) ∈ lw_all := lw_g (lw_at lw_m2 19 rfl) rfl
theorem q287 : (Jvm.Cond.code ({ cls := "RankMetricCodeModel", name := "distanceTo", desc := "(III)I" } : Jvm.MethodName) prog_3_method_10_code (5 : Nat) (Option.some Jvm.ClassFile.FieldType.int)) ∈ lw_all := lw_g (lw_at lw_m2 20 rfl) rfl
theorem q288 : (Jvm.Cond.methodLink "RankMetricCodeModel" (39 : Nat) ({ cls := "RankMetricCodeModel", name := "rankOfSum", desc := "(I)I" } : Jvm.MethodName)) ∈ lw_all := lw_g (lw_at lw_m2 21 rfl) rfl
theorem q289 : (Jvm.Cond.privateMethod ({ cls := "RankMetricCodeModel", name := "rankOfSum", desc := "(I)I" } : Jvm.MethodName)) ∈ lw_tbl := lw_at lw_m2 22 rfl
theorem q290 : (Jvm.Cond.instanceMethod ({ cls := "RankMetricCodeModel", name := "rankOfSum", desc := "(I)I" } : Jvm.MethodName)) ∈ lw_all := lw_g (lw_at lw_m2 23 rfl) rfl
theorem q291 : (Jvm.Cond.code ({ cls := "RankMetricCodeModel", name := "rankOfSum", desc := "(I)I" } : Jvm.MethodName) prog_3_method_9_code (7 : Nat) (Option.some Jvm.ClassFile.FieldType.int)) ∈ lw_all := lw_g (lw_at lw_m2 24 rfl) rfl
theorem q294 : (Jvm.Cond.instanceMethod ({ cls := "RankMetricCodeModel", name := "distance", desc := "(II)I" } : Jvm.MethodName)) ∈ lw_all := lw_g (lw_at lw_m2 27 rfl) rfl
theorem q295 : (Jvm.Cond.selects "RankMetricCodeModel" ({ cls := "RankMetricCodeModel", name := "distance", desc := "(II)I" } : Jvm.MethodName) ({ cls := "RankMetricCodeModel", name := "distance", desc := "(II)I" } : Jvm.MethodName)) ∈ lw_all := lw_g (lw_at lw_m2 28 rfl) rfl
theorem q296 : (Jvm.Cond.code ({ cls := "RankMetricCodeModel", name := "distance", desc := "(II)I" } : Jvm.MethodName) prog_3_method_16_code (3 : Nat) (Option.some Jvm.ClassFile.FieldType.int)) ∈ lw_all := lw_g (lw_at lw_m2 29 rfl) rfl
theorem q298 : (Jvm.Cond.instanceMethod ({ cls := "RankMetricCodeModel", name := "errors", desc := "()I" } : Jvm.MethodName)) ∈ lw_all := lw_g (lw_at lw_m2 31 rfl) rfl
theorem q299 : (Jvm.Cond.selects "RankMetricCodeModel" ({ cls := "RankMetricCodeModel", name := "errors", desc := "()I" } : Jvm.MethodName) ({ cls := "RankMetricCodeModel", name := "errors", desc := "()I" } : Jvm.MethodName)) ∈ lw_all := lw_g (lw_at lw_m2 32 rfl) rfl
theorem q300 : (Jvm.Cond.code ({ cls := "RankMetricCodeModel", name := "errors", desc := "()I" } : Jvm.MethodName) prog_3_method_18_code (2 : Nat) (Option.some Jvm.ClassFile.FieldType.int)) ∈ lw_all := lw_g (lw_at lw_m2 33 rfl) rfl
theorem q301 : (Jvm.Cond.methodLink "RankMetricCodeModel" (55 : Nat) ({ cls := "RankMetricCodeModel", name := "nearMessage", desc := "()I" } : Jvm.MethodName)) ∈ lw_all := lw_g (lw_at lw_m2 34 rfl) rfl
theorem q302 : (Jvm.Cond.privateMethod ({ cls := "RankMetricCodeModel", name := "nearMessage", desc := "()I" } : Jvm.MethodName)) ∈ lw_tbl := lw_at lw_m2 35 rfl
theorem q303 : (Jvm.Cond.instanceMethod ({ cls := "RankMetricCodeModel", name := "nearMessage", desc := "()I" } : Jvm.MethodName)) ∈ lw_all := lw_g (lw_at lw_m2 36 rfl) rfl
theorem q304 : (Jvm.Cond.code ({ cls := "RankMetricCodeModel", name := "nearMessage", desc := "()I" } : Jvm.MethodName) prog_3_method_17_code (3 : Nat) (Option.some Jvm.ClassFile.FieldType.int)) ∈ lw_all := lw_g (lw_at lw_m2 37 rfl) rfl
theorem q306 : (Jvm.Cond.instanceMethod ({ cls := "RankMetricCodeModel", name := "message", desc := "(I)I" } : Jvm.MethodName)) ∈ lw_all := lw_g (lw_at lw_m2 39 rfl) rfl
theorem q307 : (Jvm.Cond.selects "RankMetricCodeModel" ({ cls := "RankMetricCodeModel", name := "message", desc := "(I)I" } : Jvm.MethodName) ({ cls := "RankMetricCodeModel", name := "message", desc := "(I)I" } : Jvm.MethodName)) ∈ lw_all := lw_g (lw_at lw_m2 40 rfl) rfl
theorem q308 : (Jvm.Cond.code ({ cls := "RankMetricCodeModel", name := "message", desc := "(I)I" } : Jvm.MethodName) prog_3_method_19_code (3 : Nat) (Option.some Jvm.ClassFile.FieldType.int)) ∈ lw_all := lw_g (lw_at lw_m2 41 rfl) rfl
theorem q310 : (Jvm.Cond.instanceMethod ({ cls := "RankMetricCodeModel", name := "correct", desc := "()I" } : Jvm.MethodName)) ∈ lw_all := lw_g (lw_at lw_m2 43 rfl) rfl
theorem q311 : (Jvm.Cond.selects "RankMetricCodeModel" ({ cls := "RankMetricCodeModel", name := "correct", desc := "()I" } : Jvm.MethodName) ({ cls := "RankMetricCodeModel", name := "correct", desc := "()I" } : Jvm.MethodName)) ∈ lw_all := lw_g (lw_at lw_m2 44 rfl) rfl
theorem q312 : (Jvm.Cond.code ({ cls := "RankMetricCodeModel", name := "correct", desc := "()I" } : Jvm.MethodName) prog_3_method_20_code (3 : Nat) (Option.some Jvm.ClassFile.FieldType.int)) ∈ lw_all := lw_g (lw_at lw_m2 45 rfl) rfl
theorem q313 : (Jvm.Cond.methodLink "RankMetricCodeModel" (58 : Nat) ({ cls := "RankMetricCodeModel", name := "encode", desc := "(II)I" } : Jvm.MethodName)) ∈ lw_all := lw_g (lw_at lw_m2 46 rfl) rfl
theorem q315 : (Jvm.Cond.instanceMethod ({ cls := "RankMetricCodeModel", name := "clean", desc := "()Z" } : Jvm.MethodName)) ∈ lw_all := lw_g (lw_at lw_m2 48 rfl) rfl
theorem q316 : (Jvm.Cond.selects "RankMetricCodeModel" ({ cls := "RankMetricCodeModel", name := "clean", desc := "()Z" } : Jvm.MethodName) ({ cls := "RankMetricCodeModel", name := "clean", desc := "()Z" } : Jvm.MethodName)) ∈ lw_all := lw_g (lw_at lw_m2 49 rfl) rfl
theorem q317 : (Jvm.Cond.code ({ cls := "RankMetricCodeModel", name := "clean", desc := "()Z" } : Jvm.MethodName) prog_3_method_21_code (1 : Nat) (Option.some Jvm.ClassFile.FieldType.boolean)) ∈ lw_all := lw_g (lw_at lw_m2 50 rfl) rfl
theorem q318 : (Jvm.Cond.methodLink "RankMetricCodeModel" (61 : Nat) ({ cls := "RankMetricCodeModel", name := "errors", desc := "()I" } : Jvm.MethodName)) ∈ lw_all := lw_g (lw_at lw_m2 51 rfl) rfl
theorem q320 : (Jvm.Cond.instanceMethod ({ cls := "RankMetricCodeModel", name := "coverings", desc := "()I" } : Jvm.MethodName)) ∈ lw_all := lw_g (lw_at lw_m2 53 rfl) rfl
theorem q321 : (Jvm.Cond.selects "RankMetricCodeModel" ({ cls := "RankMetricCodeModel", name := "coverings", desc := "()I" } : Jvm.MethodName) ({ cls := "RankMetricCodeModel", name := "coverings", desc := "()I" } : Jvm.MethodName)) ∈ lw_all := lw_g (lw_at lw_m2 54 rfl) rfl
theorem q322 : (Jvm.Cond.code ({ cls := "RankMetricCodeModel", name := "coverings", desc := "()I" } : Jvm.MethodName) prog_3_method_23_code (5 : Nat) (Option.some Jvm.ClassFile.FieldType.int)) ∈ lw_all := lw_g (lw_at lw_m2 55 rfl) rfl
theorem q323 : (Jvm.Cond.methodLink "RankMetricCodeModel" (64 : Nat) ({ cls := "RankMetricCodeModel", name := "placesChanged", desc := "(II)I" } : Jvm.MethodName)) ∈ lw_all := lw_g (lw_at lw_m2 56 rfl) rfl
theorem q324 : (Jvm.Cond.privateMethod ({ cls := "RankMetricCodeModel", name := "placesChanged", desc := "(II)I" } : Jvm.MethodName)) ∈ lw_tbl := lw_at lw_m2 57 rfl
theorem q325 : (Jvm.Cond.instanceMethod ({ cls := "RankMetricCodeModel", name := "placesChanged", desc := "(II)I" } : Jvm.MethodName)) ∈ lw_all := lw_g (lw_at lw_m2 58 rfl) rfl
theorem q326 : (Jvm.Cond.code ({ cls := "RankMetricCodeModel", name := "placesChanged", desc := "(II)I" } : Jvm.MethodName) prog_3_method_22_code (5 : Nat) (Option.some Jvm.ClassFile.FieldType.int)) ∈ lw_all := lw_g (lw_at lw_m2 59 rfl) rfl
theorem q328 : (Jvm.Cond.instanceMethod ({ cls := "RankMetricCodeModel", name := "census", desc := "(I)I" } : Jvm.MethodName)) ∈ lw_all := lw_g (lw_at lw_m2 61 rfl) rfl
theorem q329 : (Jvm.Cond.selects "RankMetricCodeModel" ({ cls := "RankMetricCodeModel", name := "census", desc := "(I)I" } : Jvm.MethodName) ({ cls := "RankMetricCodeModel", name := "census", desc := "(I)I" } : Jvm.MethodName)) ∈ lw_all := lw_g (lw_at lw_m2 62 rfl) rfl
theorem q330 : (Jvm.Cond.code ({ cls := "RankMetricCodeModel", name := "census", desc := "(I)I" } : Jvm.MethodName) prog_3_method_24_code (5 : Nat) (Option.some Jvm.ClassFile.FieldType.int)) ∈ lw_all := lw_g (lw_at lw_m2 63 rfl) rfl
theorem in_X2 : ∀ w ∈ wsX20, w ∈ lw_all := lw_in wsX20 [224, 226, 228, 230, 232] (by decide +kernel) (by decide +kernel)
end
section
/-! java/lang/Object -/
set_option maxRecDepth 100000
def RJ0 : String := "java/lang/Object"
abbrev cJ0_init : ByteArray := object_method_1_code
def yJ0_init : MethodName := ⟨RJ0, "<init>", "()V"⟩
theorem dJ0_init_0 : decode cJ0_init 0 = .ok (.return_, 1) := by decide +kernel
theorem q36 : (Jvm.Cond.instanceMethod ({ cls := "java/lang/Object", name := "<init>", desc := "()V" } : Jvm.MethodName)) ∈ lw_all := lw_g (lw_at lw_m1 9 rfl) rfl
theorem q37 : (Jvm.Cond.code ({ cls := "java/lang/Object", name := "<init>", desc := "()V" } : Jvm.MethodName) object_method_1_code (1 : Nat) (Option.none : Option Jvm.ClassFile.FieldType)) ∈ lw_all := lw_g (lw_at lw_m1 10 rfl) rfl
/-! RankMetricCodeLaw -/
set_option maxRecDepth 100000
def RX0 : String := "RankMetricCodeLaw"
abbrev cX0_cell : ByteArray := method_2_code
def yX0_cell : MethodName := ⟨RX0, "cell", "([II)I"⟩
theorem dX0_cell_0 : decode cX0_cell 0 = .ok (.iload_n 1, 1) := by decide +kernel
theorem dX0_cell_1 : decode cX0_cell 1 = .ok (.aload_n 0, 1) := by decide +kernel
theorem dX0_cell_2 : decode cX0_cell 2 = .ok (.arraylength, 1) := by decide +kernel
theorem dX0_cell_3 : decode cX0_cell 3 = .ok (.if_icmp .ge 9, 3) := by decide +kernel
theorem dX0_cell_6 : decode cX0_cell 6 = .ok (.aload_n 0, 1) := by decide +kernel
theorem dX0_cell_7 : decode cX0_cell 7 = .ok (.iload_n 1, 1) := by decide +kernel
theorem dX0_cell_8 : decode cX0_cell 8 = .ok (.iaload, 1) := by decide +kernel
theorem dX0_cell_9 : decode cX0_cell 9 = .ok (.goto 4, 3) := by decide +kernel
theorem dX0_cell_12 : decode cX0_cell 12 = .ok (.iconst 0, 1) := by decide +kernel
theorem dX0_cell_13 : decode cX0_cell 13 = .ok (.ireturn, 1) := by decide +kernel
theorem q27 : (Jvm.Cond.initialized "RankMetricCodeLaw") ∈ lw_all := lw_g (lw_at lw_m1 0 rfl) rfl
theorem q30 : (Jvm.Cond.classLink "RankMetricCodeLaw" (7 : Nat) "RankMetricCode") ∈ lw_all := lw_g (lw_at lw_m1 3 rfl) rfl
theorem q32 : (Jvm.Cond.methodLink "RankMetricCodeLaw" (15 : Nat) ({ cls := "RankMetricCode", name := "<init>", desc := "(I)V" } : Jvm.MethodName)) ∈ lw_all := lw_g (lw_at lw_m1 5 rfl) rfl
theorem q70 : (Jvm.Cond.methodLink "RankMetricCodeLaw" (21 : Nat) ({ cls := "RankMetricCode", name := "size", desc := "()I" } : Jvm.MethodName)) ∈ lw_all := lw_g (lw_at lw_m1 43 rfl) rfl
theorem q74 : (Jvm.Cond.methodLink "RankMetricCodeLaw" (26 : Nat) ({ cls := "RankMetricCode", name := "times", desc := "(II)I" } : Jvm.MethodName)) ∈ lw_all := lw_g (lw_at lw_m1 47 rfl) rfl
theorem q86 : (Jvm.Cond.methodLink "RankMetricCodeLaw" (31 : Nat) ({ cls := "RankMetricCode", name := "over", desc := "(II)I" } : Jvm.MethodName)) ∈ lw_all := lw_g (lw_at lw_m1 59 rfl) rfl
theorem q94 : (Jvm.Cond.methodLink "RankMetricCodeLaw" (35 : Nat) ({ cls := "RankMetricCode", name := "encode", desc := "(II)I" } : Jvm.MethodName)) ∈ lw_all := lw_g (lw_at lw_m1 67 rfl) rfl
theorem q106 : (Jvm.Cond.methodLink "RankMetricCodeLaw" (39 : Nat) ({ cls := "RankMetricCode", name := "put", desc := "(II)I" } : Jvm.MethodName)) ∈ lw_all := lw_g (lw_at lw_m1 79 rfl) rfl
theorem q110 : (Jvm.Cond.methodLink "RankMetricCodeLaw" (43 : Nat) ({ cls := "RankMetricCode", name := "symbol", desc := "(I)I" } : Jvm.MethodName)) ∈ lw_all := lw_g (lw_at lw_m1 83 rfl) rfl
theorem q114 : (Jvm.Cond.methodLink "RankMetricCodeLaw" (48 : Nat) ({ cls := "RankMetricCode", name := "disturb", desc := "(II)I" } : Jvm.MethodName)) ∈ lw_all := lw_g (lw_at lw_m1 87 rfl) rfl
theorem q130 : (Jvm.Cond.methodLink "RankMetricCodeLaw" (52 : Nat) ({ cls := "RankMetricCode", name := "rank", desc := "()I" } : Jvm.MethodName)) ∈ lw_all := lw_g (lw_at lw_m1 103 rfl) rfl
theorem q131 : (Jvm.Cond.methodLink "RankMetricCodeLaw" (56 : Nat) ({ cls := "RankMetricCode", name := "distance", desc := "(II)I" } : Jvm.MethodName)) ∈ lw_all := lw_g (lw_at lw_m1 104 rfl) rfl
theorem q132 : (Jvm.Cond.methodLink "RankMetricCodeLaw" (60 : Nat) ({ cls := "RankMetricCode", name := "errors", desc := "()I" } : Jvm.MethodName)) ∈ lw_all := lw_g (lw_at lw_m1 105 rfl) rfl
theorem q172 : (Jvm.Cond.methodLink "RankMetricCodeLaw" (64 : Nat) ({ cls := "RankMetricCode", name := "message", desc := "(I)I" } : Jvm.MethodName)) ∈ lw_all := lw_g (lw_at lw_m1 145 rfl) rfl
theorem q176 : (Jvm.Cond.methodLink "RankMetricCodeLaw" (68 : Nat) ({ cls := "RankMetricCode", name := "correct", desc := "()I" } : Jvm.MethodName)) ∈ lw_all := lw_g (lw_at lw_m1 149 rfl) rfl
theorem q182 : (Jvm.Cond.methodLink "RankMetricCodeLaw" (72 : Nat) ({ cls := "RankMetricCode", name := "clean", desc := "()Z" } : Jvm.MethodName)) ∈ lw_all := lw_g (lw_at lw_m1 155 rfl) rfl
theorem q198 : (Jvm.Cond.methodLink "RankMetricCodeLaw" (77 : Nat) ({ cls := "RankMetricCode", name := "coverings", desc := "()I" } : Jvm.MethodName)) ∈ lw_all := lw_g (lw_at lw_m1 171 rfl) rfl
theorem q202 : (Jvm.Cond.methodLink "RankMetricCodeLaw" (81 : Nat) ({ cls := "RankMetricCode", name := "census", desc := "(I)I" } : Jvm.MethodName)) ∈ lw_all := lw_g (lw_at lw_m1 175 rfl) rfl
theorem q210 : (Jvm.Cond.methodLink "RankMetricCodeLaw" (9 : Nat) ({ cls := "RankMetricCodeLaw", name := "cell", desc := "([II)I" } : Jvm.MethodName)) ∈ lw_all := lw_g (lw_at lw_m1 183 rfl) rfl
theorem q211 : (Jvm.Cond.static ({ cls := "RankMetricCodeLaw", name := "cell", desc := "([II)I" } : Jvm.MethodName)) ∈ lw_all := lw_g (lw_at lw_m1 184 rfl) rfl
theorem q212 : (Jvm.Cond.code ({ cls := "RankMetricCodeLaw", name := "cell", desc := "([II)I" } : Jvm.MethodName) method_2_code (2 : Nat) (Option.some Jvm.ClassFile.FieldType.int)) ∈ lw_all := lw_g (lw_at lw_m1 185 rfl) rfl
theorem q213 : (Jvm.Cond.classLink "RankMetricCodeLaw" (18 : Nat) "RankMetricCodeModel") ∈ lw_all := lw_g (lw_at lw_m1 186 rfl) rfl
theorem q215 : (Jvm.Cond.methodLink "RankMetricCodeLaw" (20 : Nat) ({ cls := "RankMetricCodeModel", name := "<init>", desc := "(I)V" } : Jvm.MethodName)) ∈ lw_all := lw_g (lw_at lw_m1 188 rfl) rfl
theorem q236 : (Jvm.Cond.methodLink "RankMetricCodeLaw" (25 : Nat) ({ cls := "RankMetricCodeModel", name := "size", desc := "()I" } : Jvm.MethodName)) ∈ lw_all := lw_g (lw_at lw_m1 209 rfl) rfl
theorem q240 : (Jvm.Cond.methodLink "RankMetricCodeLaw" (30 : Nat) ({ cls := "RankMetricCodeModel", name := "times", desc := "(II)I" } : Jvm.MethodName)) ∈ lw_all := lw_g (lw_at lw_m1 213 rfl) rfl
theorem q252 : (Jvm.Cond.methodLink "RankMetricCodeLaw" (34 : Nat) ({ cls := "RankMetricCodeModel", name := "over", desc := "(II)I" } : Jvm.MethodName)) ∈ lw_all := lw_g (lw_at lw_m1 225 rfl) rfl
theorem q256 : (Jvm.Cond.methodLink "RankMetricCodeLaw" (38 : Nat) ({ cls := "RankMetricCodeModel", name := "encode", desc := "(II)I" } : Jvm.MethodName)) ∈ lw_all := lw_g (lw_at lw_m1 229 rfl) rfl
theorem q268 : (Jvm.Cond.methodLink "RankMetricCodeLaw" (42 : Nat) ({ cls := "RankMetricCodeModel", name := "put", desc := "(II)I" } : Jvm.MethodName)) ∈ lw_all := lw_g (lw_at lw_m2 1 rfl) rfl
theorem q272 : (Jvm.Cond.methodLink "RankMetricCodeLaw" (47 : Nat) ({ cls := "RankMetricCodeModel", name := "symbol", desc := "(I)I" } : Jvm.MethodName)) ∈ lw_all := lw_g (lw_at lw_m2 5 rfl) rfl
theorem q276 : (Jvm.Cond.methodLink "RankMetricCodeLaw" (51 : Nat) ({ cls := "RankMetricCodeModel", name := "disturb", desc := "(II)I" } : Jvm.MethodName)) ∈ lw_all := lw_g (lw_at lw_m2 9 rfl) rfl
theorem q292 : (Jvm.Cond.methodLink "RankMetricCodeLaw" (55 : Nat) ({ cls := "RankMetricCodeModel", name := "rank", desc := "()I" } : Jvm.MethodName)) ∈ lw_all := lw_g (lw_at lw_m2 25 rfl) rfl
theorem q293 : (Jvm.Cond.methodLink "RankMetricCodeLaw" (59 : Nat) ({ cls := "RankMetricCodeModel", name := "distance", desc := "(II)I" } : Jvm.MethodName)) ∈ lw_all := lw_g (lw_at lw_m2 26 rfl) rfl
theorem q297 : (Jvm.Cond.methodLink "RankMetricCodeLaw" (63 : Nat) ({ cls := "RankMetricCodeModel", name := "errors", desc := "()I" } : Jvm.MethodName)) ∈ lw_all := lw_g (lw_at lw_m2 30 rfl) rfl
theorem q305 : (Jvm.Cond.methodLink "RankMetricCodeLaw" (67 : Nat) ({ cls := "RankMetricCodeModel", name := "message", desc := "(I)I" } : Jvm.MethodName)) ∈ lw_all := lw_g (lw_at lw_m2 38 rfl) rfl
theorem q309 : (Jvm.Cond.methodLink "RankMetricCodeLaw" (71 : Nat) ({ cls := "RankMetricCodeModel", name := "correct", desc := "()I" } : Jvm.MethodName)) ∈ lw_all := lw_g (lw_at lw_m2 42 rfl) rfl
theorem q314 : (Jvm.Cond.methodLink "RankMetricCodeLaw" (76 : Nat) ({ cls := "RankMetricCodeModel", name := "clean", desc := "()Z" } : Jvm.MethodName)) ∈ lw_all := lw_g (lw_at lw_m2 47 rfl) rfl
theorem q319 : (Jvm.Cond.methodLink "RankMetricCodeLaw" (80 : Nat) ({ cls := "RankMetricCodeModel", name := "coverings", desc := "()I" } : Jvm.MethodName)) ∈ lw_all := lw_g (lw_at lw_m2 52 rfl) rfl
theorem q327 : (Jvm.Cond.methodLink "RankMetricCodeLaw" (84 : Nat) ({ cls := "RankMetricCodeModel", name := "census", desc := "(I)I" } : Jvm.MethodName)) ∈ lw_all := lw_g (lw_at lw_m2 60 rfl) rfl
theorem q69 : (Jvm.Cond.arrayClass Jvm.ClassFile.FieldType.int) ∈ lw_all := lw_g (lw_at lw_m1 42 rfl) rfl
set_option maxRecDepth 100000
theorem q235 : (Jvm.Cond.arrayClass Jvm.ClassFile.FieldType.boolean) ∈ lw_all := lw_g (lw_at lw_m1 208 rfl) rfl
/-! the law's own entry -/
set_option maxRecDepth 100000
abbrev cL_law : ByteArray := code
theorem dL_law_0 : decode cL_law 0 = .ok (.new 7, 3) := by decide +kernel
theorem dL_law_3 : decode cL_law 3 = .ok (.dup, 1) := by decide +kernel
theorem dL_law_4 : decode cL_law 4 = .ok (.aload_n 0, 1) := by decide +kernel
theorem dL_law_5 : decode cL_law 5 = .ok (.iconst 0, 1) := by decide +kernel
theorem dL_law_6 : decode cL_law 6 = .ok (.invokestatic 9, 3) := by decide +kernel
theorem dL_law_9 : decode cL_law 9 = .ok (.invokespecial 15, 3) := by decide +kernel
theorem dL_law_12 : decode cL_law 12 = .ok (.astore_n 1, 1) := by decide +kernel
theorem dL_law_13 : decode cL_law 13 = .ok (.new 18, 3) := by decide +kernel
theorem dL_law_16 : decode cL_law 16 = .ok (.dup, 1) := by decide +kernel
theorem dL_law_17 : decode cL_law 17 = .ok (.aload_n 0, 1) := by decide +kernel
theorem dL_law_18 : decode cL_law 18 = .ok (.iconst 0, 1) := by decide +kernel
theorem dL_law_19 : decode cL_law 19 = .ok (.invokestatic 9, 3) := by decide +kernel
theorem dL_law_22 : decode cL_law 22 = .ok (.invokespecial 20, 3) := by decide +kernel
theorem dL_law_25 : decode cL_law 25 = .ok (.astore_n 2, 1) := by decide +kernel
theorem dL_law_26 : decode cL_law 26 = .ok (.iconst 1, 1) := by decide +kernel
theorem dL_law_27 : decode cL_law 27 = .ok (.istore_n 3, 1) := by decide +kernel
theorem dL_law_28 : decode cL_law 28 = .ok (.iload_n 3, 1) := by decide +kernel
theorem dL_law_29 : decode cL_law 29 = .ok (.aload_n 0, 1) := by decide +kernel
theorem dL_law_30 : decode cL_law 30 = .ok (.arraylength, 1) := by decide +kernel
theorem dL_law_31 : decode cL_law 31 = .ok (.iconst 3, 1) := by decide +kernel
theorem dL_law_32 : decode cL_law 32 = .ok (.isub, 1) := by decide +kernel
theorem dL_law_33 : decode cL_law 33 = .ok (.if_icmp .gt 434, 3) := by decide +kernel
theorem dL_law_36 : decode cL_law 36 = .ok (.aload_n 0, 1) := by decide +kernel
theorem dL_law_37 : decode cL_law 37 = .ok (.iload_n 3, 1) := by decide +kernel
theorem dL_law_38 : decode cL_law 38 = .ok (.iaload, 1) := by decide +kernel
theorem dL_law_39 : decode cL_law 39 = .ok (.bipush 15, 2) := by decide +kernel
theorem dL_law_41 : decode cL_law 41 = .ok (.iand, 1) := by decide +kernel
theorem dL_law_42 : decode cL_law 42 = .ok (.tableswitch 419 0 14 #[74, 87, 120, 153, 186, 219, 242, 275, 288, 321, 334, 357, 370, 383, 396], 74) := by decide +kernel
theorem dL_law_116 : decode cL_law 116 = .ok (.aload_n 1, 1) := by decide +kernel
theorem dL_law_117 : decode cL_law 117 = .ok (.invokevirtual 21, 3) := by decide +kernel
theorem dL_law_120 : decode cL_law 120 = .ok (.aload_n 2, 1) := by decide +kernel
theorem dL_law_121 : decode cL_law 121 = .ok (.invokevirtual 25, 3) := by decide +kernel
theorem dL_law_124 : decode cL_law 124 = .ok (.if_icmp .eq 337, 3) := by decide +kernel
theorem dL_law_127 : decode cL_law 127 = .ok (.iconst 0, 1) := by decide +kernel
theorem dL_law_128 : decode cL_law 128 = .ok (.ireturn, 1) := by decide +kernel
theorem dL_law_129 : decode cL_law 129 = .ok (.aload_n 1, 1) := by decide +kernel
theorem dL_law_130 : decode cL_law 130 = .ok (.aload_n 0, 1) := by decide +kernel
theorem dL_law_131 : decode cL_law 131 = .ok (.iload_n 3, 1) := by decide +kernel
theorem dL_law_132 : decode cL_law 132 = .ok (.iconst 1, 1) := by decide +kernel
theorem dL_law_133 : decode cL_law 133 = .ok (.iadd, 1) := by decide +kernel
theorem dL_law_134 : decode cL_law 134 = .ok (.iaload, 1) := by decide +kernel
theorem dL_law_135 : decode cL_law 135 = .ok (.aload_n 0, 1) := by decide +kernel
theorem dL_law_136 : decode cL_law 136 = .ok (.iload_n 3, 1) := by decide +kernel
theorem dL_law_137 : decode cL_law 137 = .ok (.iconst 2, 1) := by decide +kernel
theorem dL_law_138 : decode cL_law 138 = .ok (.iadd, 1) := by decide +kernel
theorem dL_law_139 : decode cL_law 139 = .ok (.iaload, 1) := by decide +kernel
theorem dL_law_140 : decode cL_law 140 = .ok (.invokevirtual 26, 3) := by decide +kernel
theorem dL_law_143 : decode cL_law 143 = .ok (.aload_n 2, 1) := by decide +kernel
theorem dL_law_144 : decode cL_law 144 = .ok (.aload_n 0, 1) := by decide +kernel
theorem dL_law_145 : decode cL_law 145 = .ok (.iload_n 3, 1) := by decide +kernel
theorem dL_law_146 : decode cL_law 146 = .ok (.iconst 1, 1) := by decide +kernel
theorem dL_law_147 : decode cL_law 147 = .ok (.iadd, 1) := by decide +kernel
theorem dL_law_148 : decode cL_law 148 = .ok (.iaload, 1) := by decide +kernel
theorem dL_law_149 : decode cL_law 149 = .ok (.aload_n 0, 1) := by decide +kernel
theorem dL_law_150 : decode cL_law 150 = .ok (.iload_n 3, 1) := by decide +kernel
theorem dL_law_151 : decode cL_law 151 = .ok (.iconst 2, 1) := by decide +kernel
theorem dL_law_152 : decode cL_law 152 = .ok (.iadd, 1) := by decide +kernel
theorem dL_law_153 : decode cL_law 153 = .ok (.iaload, 1) := by decide +kernel
theorem dL_law_154 : decode cL_law 154 = .ok (.invokevirtual 30, 3) := by decide +kernel
theorem dL_law_157 : decode cL_law 157 = .ok (.if_icmp .eq 304, 3) := by decide +kernel
theorem dL_law_160 : decode cL_law 160 = .ok (.iconst 0, 1) := by decide +kernel
theorem dL_law_161 : decode cL_law 161 = .ok (.ireturn, 1) := by decide +kernel
theorem dL_law_162 : decode cL_law 162 = .ok (.aload_n 1, 1) := by decide +kernel
theorem dL_law_163 : decode cL_law 163 = .ok (.aload_n 0, 1) := by decide +kernel
theorem dL_law_164 : decode cL_law 164 = .ok (.iload_n 3, 1) := by decide +kernel
theorem dL_law_165 : decode cL_law 165 = .ok (.iconst 1, 1) := by decide +kernel
theorem dL_law_166 : decode cL_law 166 = .ok (.iadd, 1) := by decide +kernel
theorem dL_law_167 : decode cL_law 167 = .ok (.iaload, 1) := by decide +kernel
theorem dL_law_168 : decode cL_law 168 = .ok (.aload_n 0, 1) := by decide +kernel
theorem dL_law_169 : decode cL_law 169 = .ok (.iload_n 3, 1) := by decide +kernel
theorem dL_law_170 : decode cL_law 170 = .ok (.iconst 2, 1) := by decide +kernel
theorem dL_law_171 : decode cL_law 171 = .ok (.iadd, 1) := by decide +kernel
theorem dL_law_172 : decode cL_law 172 = .ok (.iaload, 1) := by decide +kernel
theorem dL_law_173 : decode cL_law 173 = .ok (.invokevirtual 31, 3) := by decide +kernel
theorem dL_law_176 : decode cL_law 176 = .ok (.aload_n 2, 1) := by decide +kernel
theorem dL_law_177 : decode cL_law 177 = .ok (.aload_n 0, 1) := by decide +kernel
theorem dL_law_178 : decode cL_law 178 = .ok (.iload_n 3, 1) := by decide +kernel
theorem dL_law_179 : decode cL_law 179 = .ok (.iconst 1, 1) := by decide +kernel
theorem dL_law_180 : decode cL_law 180 = .ok (.iadd, 1) := by decide +kernel
theorem dL_law_181 : decode cL_law 181 = .ok (.iaload, 1) := by decide +kernel
theorem dL_law_182 : decode cL_law 182 = .ok (.aload_n 0, 1) := by decide +kernel
theorem dL_law_183 : decode cL_law 183 = .ok (.iload_n 3, 1) := by decide +kernel
theorem dL_law_184 : decode cL_law 184 = .ok (.iconst 2, 1) := by decide +kernel
theorem dL_law_185 : decode cL_law 185 = .ok (.iadd, 1) := by decide +kernel
theorem dL_law_186 : decode cL_law 186 = .ok (.iaload, 1) := by decide +kernel
theorem dL_law_187 : decode cL_law 187 = .ok (.invokevirtual 34, 3) := by decide +kernel
theorem dL_law_190 : decode cL_law 190 = .ok (.if_icmp .eq 271, 3) := by decide +kernel
theorem dL_law_193 : decode cL_law 193 = .ok (.iconst 0, 1) := by decide +kernel
theorem dL_law_194 : decode cL_law 194 = .ok (.ireturn, 1) := by decide +kernel
theorem dL_law_195 : decode cL_law 195 = .ok (.aload_n 1, 1) := by decide +kernel
theorem dL_law_196 : decode cL_law 196 = .ok (.aload_n 0, 1) := by decide +kernel
theorem dL_law_197 : decode cL_law 197 = .ok (.iload_n 3, 1) := by decide +kernel
theorem dL_law_198 : decode cL_law 198 = .ok (.iconst 1, 1) := by decide +kernel
theorem dL_law_199 : decode cL_law 199 = .ok (.iadd, 1) := by decide +kernel
theorem dL_law_200 : decode cL_law 200 = .ok (.iaload, 1) := by decide +kernel
theorem dL_law_201 : decode cL_law 201 = .ok (.aload_n 0, 1) := by decide +kernel
theorem dL_law_202 : decode cL_law 202 = .ok (.iload_n 3, 1) := by decide +kernel
theorem dL_law_203 : decode cL_law 203 = .ok (.iconst 2, 1) := by decide +kernel
theorem dL_law_204 : decode cL_law 204 = .ok (.iadd, 1) := by decide +kernel
theorem dL_law_205 : decode cL_law 205 = .ok (.iaload, 1) := by decide +kernel
theorem dL_law_206 : decode cL_law 206 = .ok (.invokevirtual 35, 3) := by decide +kernel
theorem dL_law_209 : decode cL_law 209 = .ok (.aload_n 2, 1) := by decide +kernel
theorem dL_law_210 : decode cL_law 210 = .ok (.aload_n 0, 1) := by decide +kernel
theorem dL_law_211 : decode cL_law 211 = .ok (.iload_n 3, 1) := by decide +kernel
theorem dL_law_212 : decode cL_law 212 = .ok (.iconst 1, 1) := by decide +kernel
theorem dL_law_213 : decode cL_law 213 = .ok (.iadd, 1) := by decide +kernel
theorem dL_law_214 : decode cL_law 214 = .ok (.iaload, 1) := by decide +kernel
theorem dL_law_215 : decode cL_law 215 = .ok (.aload_n 0, 1) := by decide +kernel
theorem dL_law_216 : decode cL_law 216 = .ok (.iload_n 3, 1) := by decide +kernel
theorem dL_law_217 : decode cL_law 217 = .ok (.iconst 2, 1) := by decide +kernel
theorem dL_law_218 : decode cL_law 218 = .ok (.iadd, 1) := by decide +kernel
theorem dL_law_219 : decode cL_law 219 = .ok (.iaload, 1) := by decide +kernel
theorem dL_law_220 : decode cL_law 220 = .ok (.invokevirtual 38, 3) := by decide +kernel
theorem dL_law_223 : decode cL_law 223 = .ok (.if_icmp .eq 238, 3) := by decide +kernel
theorem dL_law_226 : decode cL_law 226 = .ok (.iconst 0, 1) := by decide +kernel
theorem dL_law_227 : decode cL_law 227 = .ok (.ireturn, 1) := by decide +kernel
theorem dL_law_228 : decode cL_law 228 = .ok (.aload_n 1, 1) := by decide +kernel
theorem dL_law_229 : decode cL_law 229 = .ok (.aload_n 0, 1) := by decide +kernel
theorem dL_law_230 : decode cL_law 230 = .ok (.iload_n 3, 1) := by decide +kernel
theorem dL_law_231 : decode cL_law 231 = .ok (.iconst 1, 1) := by decide +kernel
theorem dL_law_232 : decode cL_law 232 = .ok (.iadd, 1) := by decide +kernel
theorem dL_law_233 : decode cL_law 233 = .ok (.iaload, 1) := by decide +kernel
theorem dL_law_234 : decode cL_law 234 = .ok (.aload_n 0, 1) := by decide +kernel
theorem dL_law_235 : decode cL_law 235 = .ok (.iload_n 3, 1) := by decide +kernel
theorem dL_law_236 : decode cL_law 236 = .ok (.iconst 2, 1) := by decide +kernel
theorem dL_law_237 : decode cL_law 237 = .ok (.iadd, 1) := by decide +kernel
theorem dL_law_238 : decode cL_law 238 = .ok (.iaload, 1) := by decide +kernel
theorem dL_law_239 : decode cL_law 239 = .ok (.invokevirtual 39, 3) := by decide +kernel
theorem dL_law_242 : decode cL_law 242 = .ok (.aload_n 2, 1) := by decide +kernel
theorem dL_law_243 : decode cL_law 243 = .ok (.aload_n 0, 1) := by decide +kernel
theorem dL_law_244 : decode cL_law 244 = .ok (.iload_n 3, 1) := by decide +kernel
theorem dL_law_245 : decode cL_law 245 = .ok (.iconst 1, 1) := by decide +kernel
theorem dL_law_246 : decode cL_law 246 = .ok (.iadd, 1) := by decide +kernel
theorem dL_law_247 : decode cL_law 247 = .ok (.iaload, 1) := by decide +kernel
theorem dL_law_248 : decode cL_law 248 = .ok (.aload_n 0, 1) := by decide +kernel
theorem dL_law_249 : decode cL_law 249 = .ok (.iload_n 3, 1) := by decide +kernel
theorem dL_law_250 : decode cL_law 250 = .ok (.iconst 2, 1) := by decide +kernel
theorem dL_law_251 : decode cL_law 251 = .ok (.iadd, 1) := by decide +kernel
theorem dL_law_252 : decode cL_law 252 = .ok (.iaload, 1) := by decide +kernel
theorem dL_law_253 : decode cL_law 253 = .ok (.invokevirtual 42, 3) := by decide +kernel
theorem dL_law_256 : decode cL_law 256 = .ok (.if_icmp .eq 205, 3) := by decide +kernel
theorem dL_law_259 : decode cL_law 259 = .ok (.iconst 0, 1) := by decide +kernel
theorem dL_law_260 : decode cL_law 260 = .ok (.ireturn, 1) := by decide +kernel
theorem dL_law_261 : decode cL_law 261 = .ok (.aload_n 1, 1) := by decide +kernel
theorem dL_law_262 : decode cL_law 262 = .ok (.aload_n 0, 1) := by decide +kernel
theorem dL_law_263 : decode cL_law 263 = .ok (.iload_n 3, 1) := by decide +kernel
theorem dL_law_264 : decode cL_law 264 = .ok (.iconst 1, 1) := by decide +kernel
theorem dL_law_265 : decode cL_law 265 = .ok (.iadd, 1) := by decide +kernel
theorem dL_law_266 : decode cL_law 266 = .ok (.iaload, 1) := by decide +kernel
theorem dL_law_267 : decode cL_law 267 = .ok (.invokevirtual 43, 3) := by decide +kernel
theorem dL_law_270 : decode cL_law 270 = .ok (.aload_n 2, 1) := by decide +kernel
theorem dL_law_271 : decode cL_law 271 = .ok (.aload_n 0, 1) := by decide +kernel
theorem dL_law_272 : decode cL_law 272 = .ok (.iload_n 3, 1) := by decide +kernel
theorem dL_law_273 : decode cL_law 273 = .ok (.iconst 1, 1) := by decide +kernel
theorem dL_law_274 : decode cL_law 274 = .ok (.iadd, 1) := by decide +kernel
theorem dL_law_275 : decode cL_law 275 = .ok (.iaload, 1) := by decide +kernel
theorem dL_law_276 : decode cL_law 276 = .ok (.invokevirtual 47, 3) := by decide +kernel
theorem dL_law_279 : decode cL_law 279 = .ok (.if_icmp .eq 182, 3) := by decide +kernel
theorem dL_law_282 : decode cL_law 282 = .ok (.iconst 0, 1) := by decide +kernel
theorem dL_law_283 : decode cL_law 283 = .ok (.ireturn, 1) := by decide +kernel
theorem dL_law_284 : decode cL_law 284 = .ok (.aload_n 1, 1) := by decide +kernel
theorem dL_law_285 : decode cL_law 285 = .ok (.aload_n 0, 1) := by decide +kernel
theorem dL_law_286 : decode cL_law 286 = .ok (.iload_n 3, 1) := by decide +kernel
theorem dL_law_287 : decode cL_law 287 = .ok (.iconst 1, 1) := by decide +kernel
theorem dL_law_288 : decode cL_law 288 = .ok (.iadd, 1) := by decide +kernel
theorem dL_law_289 : decode cL_law 289 = .ok (.iaload, 1) := by decide +kernel
theorem dL_law_290 : decode cL_law 290 = .ok (.aload_n 0, 1) := by decide +kernel
theorem dL_law_291 : decode cL_law 291 = .ok (.iload_n 3, 1) := by decide +kernel
theorem dL_law_292 : decode cL_law 292 = .ok (.iconst 2, 1) := by decide +kernel
theorem dL_law_293 : decode cL_law 293 = .ok (.iadd, 1) := by decide +kernel
theorem dL_law_294 : decode cL_law 294 = .ok (.iaload, 1) := by decide +kernel
theorem dL_law_295 : decode cL_law 295 = .ok (.invokevirtual 48, 3) := by decide +kernel
theorem dL_law_298 : decode cL_law 298 = .ok (.aload_n 2, 1) := by decide +kernel
theorem dL_law_299 : decode cL_law 299 = .ok (.aload_n 0, 1) := by decide +kernel
theorem dL_law_300 : decode cL_law 300 = .ok (.iload_n 3, 1) := by decide +kernel
theorem dL_law_301 : decode cL_law 301 = .ok (.iconst 1, 1) := by decide +kernel
theorem dL_law_302 : decode cL_law 302 = .ok (.iadd, 1) := by decide +kernel
theorem dL_law_303 : decode cL_law 303 = .ok (.iaload, 1) := by decide +kernel
theorem dL_law_304 : decode cL_law 304 = .ok (.aload_n 0, 1) := by decide +kernel
theorem dL_law_305 : decode cL_law 305 = .ok (.iload_n 3, 1) := by decide +kernel
theorem dL_law_306 : decode cL_law 306 = .ok (.iconst 2, 1) := by decide +kernel
theorem dL_law_307 : decode cL_law 307 = .ok (.iadd, 1) := by decide +kernel
theorem dL_law_308 : decode cL_law 308 = .ok (.iaload, 1) := by decide +kernel
theorem dL_law_309 : decode cL_law 309 = .ok (.invokevirtual 51, 3) := by decide +kernel
theorem dL_law_312 : decode cL_law 312 = .ok (.if_icmp .eq 149, 3) := by decide +kernel
theorem dL_law_315 : decode cL_law 315 = .ok (.iconst 0, 1) := by decide +kernel
theorem dL_law_316 : decode cL_law 316 = .ok (.ireturn, 1) := by decide +kernel
theorem dL_law_317 : decode cL_law 317 = .ok (.aload_n 1, 1) := by decide +kernel
theorem dL_law_318 : decode cL_law 318 = .ok (.invokevirtual 52, 3) := by decide +kernel
theorem dL_law_321 : decode cL_law 321 = .ok (.aload_n 2, 1) := by decide +kernel
theorem dL_law_322 : decode cL_law 322 = .ok (.invokevirtual 55, 3) := by decide +kernel
theorem dL_law_325 : decode cL_law 325 = .ok (.if_icmp .eq 136, 3) := by decide +kernel
theorem dL_law_328 : decode cL_law 328 = .ok (.iconst 0, 1) := by decide +kernel
theorem dL_law_329 : decode cL_law 329 = .ok (.ireturn, 1) := by decide +kernel
theorem dL_law_330 : decode cL_law 330 = .ok (.aload_n 1, 1) := by decide +kernel
theorem dL_law_331 : decode cL_law 331 = .ok (.aload_n 0, 1) := by decide +kernel
theorem dL_law_332 : decode cL_law 332 = .ok (.iload_n 3, 1) := by decide +kernel
theorem dL_law_333 : decode cL_law 333 = .ok (.iconst 1, 1) := by decide +kernel
theorem dL_law_334 : decode cL_law 334 = .ok (.iadd, 1) := by decide +kernel
theorem dL_law_335 : decode cL_law 335 = .ok (.iaload, 1) := by decide +kernel
theorem dL_law_336 : decode cL_law 336 = .ok (.aload_n 0, 1) := by decide +kernel
theorem dL_law_337 : decode cL_law 337 = .ok (.iload_n 3, 1) := by decide +kernel
theorem dL_law_338 : decode cL_law 338 = .ok (.iconst 2, 1) := by decide +kernel
theorem dL_law_339 : decode cL_law 339 = .ok (.iadd, 1) := by decide +kernel
theorem dL_law_340 : decode cL_law 340 = .ok (.iaload, 1) := by decide +kernel
theorem dL_law_341 : decode cL_law 341 = .ok (.invokevirtual 56, 3) := by decide +kernel
theorem dL_law_344 : decode cL_law 344 = .ok (.aload_n 2, 1) := by decide +kernel
theorem dL_law_345 : decode cL_law 345 = .ok (.aload_n 0, 1) := by decide +kernel
theorem dL_law_346 : decode cL_law 346 = .ok (.iload_n 3, 1) := by decide +kernel
theorem dL_law_347 : decode cL_law 347 = .ok (.iconst 1, 1) := by decide +kernel
theorem dL_law_348 : decode cL_law 348 = .ok (.iadd, 1) := by decide +kernel
theorem dL_law_349 : decode cL_law 349 = .ok (.iaload, 1) := by decide +kernel
theorem dL_law_350 : decode cL_law 350 = .ok (.aload_n 0, 1) := by decide +kernel
theorem dL_law_351 : decode cL_law 351 = .ok (.iload_n 3, 1) := by decide +kernel
theorem dL_law_352 : decode cL_law 352 = .ok (.iconst 2, 1) := by decide +kernel
theorem dL_law_353 : decode cL_law 353 = .ok (.iadd, 1) := by decide +kernel
theorem dL_law_354 : decode cL_law 354 = .ok (.iaload, 1) := by decide +kernel
theorem dL_law_355 : decode cL_law 355 = .ok (.invokevirtual 59, 3) := by decide +kernel
theorem dL_law_358 : decode cL_law 358 = .ok (.if_icmp .eq 103, 3) := by decide +kernel
theorem dL_law_361 : decode cL_law 361 = .ok (.iconst 0, 1) := by decide +kernel
theorem dL_law_362 : decode cL_law 362 = .ok (.ireturn, 1) := by decide +kernel
theorem dL_law_363 : decode cL_law 363 = .ok (.aload_n 1, 1) := by decide +kernel
theorem dL_law_364 : decode cL_law 364 = .ok (.invokevirtual 60, 3) := by decide +kernel
theorem dL_law_367 : decode cL_law 367 = .ok (.aload_n 2, 1) := by decide +kernel
theorem dL_law_368 : decode cL_law 368 = .ok (.invokevirtual 63, 3) := by decide +kernel
theorem dL_law_371 : decode cL_law 371 = .ok (.if_icmp .eq 90, 3) := by decide +kernel
theorem dL_law_374 : decode cL_law 374 = .ok (.iconst 0, 1) := by decide +kernel
theorem dL_law_375 : decode cL_law 375 = .ok (.ireturn, 1) := by decide +kernel
theorem dL_law_376 : decode cL_law 376 = .ok (.aload_n 1, 1) := by decide +kernel
theorem dL_law_377 : decode cL_law 377 = .ok (.aload_n 0, 1) := by decide +kernel
theorem dL_law_378 : decode cL_law 378 = .ok (.iload_n 3, 1) := by decide +kernel
theorem dL_law_379 : decode cL_law 379 = .ok (.iconst 1, 1) := by decide +kernel
theorem dL_law_380 : decode cL_law 380 = .ok (.iadd, 1) := by decide +kernel
theorem dL_law_381 : decode cL_law 381 = .ok (.iaload, 1) := by decide +kernel
theorem dL_law_382 : decode cL_law 382 = .ok (.invokevirtual 64, 3) := by decide +kernel
theorem dL_law_385 : decode cL_law 385 = .ok (.aload_n 2, 1) := by decide +kernel
theorem dL_law_386 : decode cL_law 386 = .ok (.aload_n 0, 1) := by decide +kernel
theorem dL_law_387 : decode cL_law 387 = .ok (.iload_n 3, 1) := by decide +kernel
theorem dL_law_388 : decode cL_law 388 = .ok (.iconst 1, 1) := by decide +kernel
theorem dL_law_389 : decode cL_law 389 = .ok (.iadd, 1) := by decide +kernel
theorem dL_law_390 : decode cL_law 390 = .ok (.iaload, 1) := by decide +kernel
theorem dL_law_391 : decode cL_law 391 = .ok (.invokevirtual 67, 3) := by decide +kernel
theorem dL_law_394 : decode cL_law 394 = .ok (.if_icmp .eq 67, 3) := by decide +kernel
theorem dL_law_397 : decode cL_law 397 = .ok (.iconst 0, 1) := by decide +kernel
theorem dL_law_398 : decode cL_law 398 = .ok (.ireturn, 1) := by decide +kernel
theorem dL_law_399 : decode cL_law 399 = .ok (.aload_n 1, 1) := by decide +kernel
theorem dL_law_400 : decode cL_law 400 = .ok (.invokevirtual 68, 3) := by decide +kernel
theorem dL_law_403 : decode cL_law 403 = .ok (.aload_n 2, 1) := by decide +kernel
theorem dL_law_404 : decode cL_law 404 = .ok (.invokevirtual 71, 3) := by decide +kernel
theorem dL_law_407 : decode cL_law 407 = .ok (.if_icmp .eq 54, 3) := by decide +kernel
theorem dL_law_410 : decode cL_law 410 = .ok (.iconst 0, 1) := by decide +kernel
theorem dL_law_411 : decode cL_law 411 = .ok (.ireturn, 1) := by decide +kernel
theorem dL_law_412 : decode cL_law 412 = .ok (.aload_n 1, 1) := by decide +kernel
theorem dL_law_413 : decode cL_law 413 = .ok (.invokevirtual 72, 3) := by decide +kernel
theorem dL_law_416 : decode cL_law 416 = .ok (.aload_n 2, 1) := by decide +kernel
theorem dL_law_417 : decode cL_law 417 = .ok (.invokevirtual 76, 3) := by decide +kernel
theorem dL_law_420 : decode cL_law 420 = .ok (.if_icmp .eq 41, 3) := by decide +kernel
theorem dL_law_423 : decode cL_law 423 = .ok (.iconst 0, 1) := by decide +kernel
theorem dL_law_424 : decode cL_law 424 = .ok (.ireturn, 1) := by decide +kernel
theorem dL_law_425 : decode cL_law 425 = .ok (.aload_n 1, 1) := by decide +kernel
theorem dL_law_426 : decode cL_law 426 = .ok (.invokevirtual 77, 3) := by decide +kernel
theorem dL_law_429 : decode cL_law 429 = .ok (.aload_n 2, 1) := by decide +kernel
theorem dL_law_430 : decode cL_law 430 = .ok (.invokevirtual 80, 3) := by decide +kernel
theorem dL_law_433 : decode cL_law 433 = .ok (.if_icmp .eq 28, 3) := by decide +kernel
theorem dL_law_436 : decode cL_law 436 = .ok (.iconst 0, 1) := by decide +kernel
theorem dL_law_437 : decode cL_law 437 = .ok (.ireturn, 1) := by decide +kernel
theorem dL_law_438 : decode cL_law 438 = .ok (.aload_n 1, 1) := by decide +kernel
theorem dL_law_439 : decode cL_law 439 = .ok (.aload_n 0, 1) := by decide +kernel
theorem dL_law_440 : decode cL_law 440 = .ok (.iload_n 3, 1) := by decide +kernel
theorem dL_law_441 : decode cL_law 441 = .ok (.iconst 1, 1) := by decide +kernel
theorem dL_law_442 : decode cL_law 442 = .ok (.iadd, 1) := by decide +kernel
theorem dL_law_443 : decode cL_law 443 = .ok (.iaload, 1) := by decide +kernel
theorem dL_law_444 : decode cL_law 444 = .ok (.invokevirtual 81, 3) := by decide +kernel
theorem dL_law_447 : decode cL_law 447 = .ok (.aload_n 2, 1) := by decide +kernel
theorem dL_law_448 : decode cL_law 448 = .ok (.aload_n 0, 1) := by decide +kernel
theorem dL_law_449 : decode cL_law 449 = .ok (.iload_n 3, 1) := by decide +kernel
theorem dL_law_450 : decode cL_law 450 = .ok (.iconst 1, 1) := by decide +kernel
theorem dL_law_451 : decode cL_law 451 = .ok (.iadd, 1) := by decide +kernel
theorem dL_law_452 : decode cL_law 452 = .ok (.iaload, 1) := by decide +kernel
theorem dL_law_453 : decode cL_law 453 = .ok (.invokevirtual 84, 3) := by decide +kernel
theorem dL_law_456 : decode cL_law 456 = .ok (.if_icmp .eq 5, 3) := by decide +kernel
theorem dL_law_459 : decode cL_law 459 = .ok (.iconst 0, 1) := by decide +kernel
theorem dL_law_460 : decode cL_law 460 = .ok (.ireturn, 1) := by decide +kernel
theorem dL_law_461 : decode cL_law 461 = .ok (.iinc 3 3, 3) := by decide +kernel
theorem dL_law_464 : decode cL_law 464 = .ok (.goto (-436), 3) := by decide +kernel
theorem dL_law_467 : decode cL_law 467 = .ok (.iconst 1, 1) := by decide +kernel
theorem dL_law_468 : decode cL_law 468 = .ok (.ireturn, 1) := by decide +kernel
end
section
set_option maxRecDepth 100000
def bt (x : Int32) (i : Nat) : Bool := x.toBitVec.getLsbD i
theorem b_ext {x y : Int32} (h : ∀ i, i < 32 → bt x i = bt y i) : x = y := Int32.toBitVec_inj.mp (BitVec.eq_of_getLsbD_eq (fun i hi => h i hi))
theorem b_or (x y : Int32) (i : Nat) : bt (x ||| y) i = (bt x i || bt y i) := by unfold bt; rw [Int32.toBitVec_or, BitVec.getLsbD_or]
theorem b_and (x y : Int32) (i : Nat) : bt (x &&& y) i = (bt x i && bt y i) := by unfold bt; rw [Int32.toBitVec_and, BitVec.getLsbD_and]
theorem b_xor (x y : Int32) (i : Nat) : bt (x ^^^ y) i = (bt x i ^^ bt y i) := by unfold bt; rw [Int32.toBitVec_xor, BitVec.getLsbD_xor]
theorem b_0 (i : Nat) : bt 0 i = false := BitVec.getLsbD_zero
theorem s_l : ∀ n, n < 32 → ((nI n &&& 31).toBitVec.smod 32).toNat = n := by decide +kernel
theorem b_shl (n : Nat) (hn : n < 32) (x : Int32) {i : Nat} (hi : i < 32) : bt (x <<< (nI n &&& 31)) i = (decide (n ≤ i) && bt x (i - n)) := by
  unfold bt
  rw [Int32.toBitVec_shiftLeft]
  show (x.toBitVec <<< ((nI n &&& 31).toBitVec.smod 32).toNat).getLsbD i = _
  rw [s_l n hn, BitVec.getLsbD_shiftLeft]
  rcases Nat.lt_or_ge i n with h | h
  · simp [h, Nat.not_le.mpr h]
  · simp [hi, h, Nat.not_lt.mpr h]
theorem b_sshr (n : Nat) (hn : n < 32) (x : Int32) {i : Nat} (hi : i < 32) : bt (x >>> (nI n &&& 31)) i = if n + i < 32 then bt x (n + i) else bt x 31 := by
  unfold bt
  rw [Int32.toBitVec_shiftRight]
  show (x.toBitVec.sshiftRight ((nI n &&& 31).toBitVec.smod 32).toNat).getLsbD i = _
  rw [s_l n hn, BitVec.getLsbD_sshiftRight, BitVec.msb_eq_getLsbD_last]
  simp [hi]
theorem nx_and (a b : Nat) : nI a &&& nI b = nI (a &&& b) := by
  apply Int32.toBitVec_inj.1
  show BitVec.ofNat 32 a &&& BitVec.ofNat 32 b = BitVec.ofNat 32 (a &&& b)
  apply BitVec.eq_of_getLsbD_eq
  intro i hi
  simp [hi]
theorem nx_xor (a b : Nat) : nI a ^^^ nI b = nI (a ^^^ b) := by
  apply Int32.toBitVec_inj.1
  show BitVec.ofNat 32 a ^^^ BitVec.ofNat 32 b = BitVec.ofNat 32 (a ^^^ b)
  apply BitVec.eq_of_getLsbD_eq
  intro i hi
  simp [hi]
theorem i_ext {x y : Int32} (h : x.toBitVec.toNat = y.toBitVec.toNat) : x = y := Int32.toBitVec_inj.mp (BitVec.eq_of_toNat_eq h)
theorem n_tn (n : Nat) : (nI n).toBitVec.toNat = n % 2 ^ 32 := by
  show (BitVec.ofNat 32 n).toNat = _
  exact BitVec.toNat_ofNat ..
theorem n_shl (a : Nat) {k : Nat} (hk : k < 32) : nI a <<< (nI k &&& 31) = nI (a * 2 ^ k) := by
  apply i_ext
  rw [pk_shl _ _ k (s_l k hk), n_tn, n_tn, Nat.mul_mod, Nat.mod_mod, ← Nat.mul_mod]
theorem n_shr {a k : Nat} (ha : a < 2 ^ 31) (hk : k < 32) : nI a >>> (nI k &&& 31) = nI (a / 2 ^ k) := pk_shrN ha _ k (s_l k hk)
theorem n_tb (a k : Nat) : a / 2 ^ k &&& 1 = 1 ↔ a.testBit k = true := by
  rw [Nat.and_one_is_mod, Nat.testBit_eq_decide_div_mod_eq, decide_eq_true_iff]
def nA (w : Nat → Nat) : Nat → Int32 := fun j => nI (w j)
def up (w : Nat → Nat) (k x : Nat) : Nat → Nat := fun j => if j = k then x else w j
theorem up_s (w : Nat → Nat) (k x : Nat) : up w k x k = x := by simp [up]
theorem up_n (w : Nat → Nat) {k j : Nat} (x : Nat) (h : j ≠ k) : up w k x j = w j := by simp [up, h]
theorem nA_upd (w : Nat → Nat) (k x : Nat) : upd (nA w) k (nI x) = nA (up w k x) := by
  funext j
  by_cases h : j = k
  · simp [upd, nA, up, h]
  · simp [upd, nA, up, h]
/-- -1, 0, 1, .. as 0, 1, 2, .. -/
def pI : Nat → Int32 | 0 => -1 | n + 1 => nI n
def pA (w : Nat → Nat) : Nat → Int32 := fun j => pI (w j)
theorem pA_upd (w : Nat → Nat) (k x : Nat) : upd (pA w) k (pI x) = pA (up w k x) := by
  funext j
  by_cases h : j = k
  · simp [upd, pA, up, h]
  · simp [upd, pA, up, h]
theorem z_nar {x : Nat} (h : x < 2) : vp_nar .boolean (nI x) = nI x := by
  rcases (show x = 0 ∨ x = 1 by omega) with rfl | rfl <;> rfl
theorem ni_inc (e : Nat) : nI e + Int32.ofInt 1 = nI (e + 1) := nI_1 e
theorem pi_dec (e : Nat) : nI e + Int32.ofInt (-1) = pI e := by
  cases e with
  | zero => decide +kernel
  | succ n => exact pk_m1 n
theorem pi_lt0 (a : Nat) (h : a < 2 ^ 31) : pI a < 0 ↔ a = 0 := by
  cases a with
  | zero => decide +kernel
  | succ n => exact ⟨fun q => absurd q (nI_pos (by omega)), fun q => by omega⟩
theorem pi_ge0 (a : Nat) (h : a < 2 ^ 31) : 0 ≤ pI a ↔ 0 < a := by
  cases a with
  | zero => decide +kernel
  | succ n => exact ⟨fun _ => by omega, fun _ => nI_pos' (by omega)⟩
theorem pi_lt (a f : Nat) (h : a < 2 ^ 31) (hf : f < 2 ^ 31) : pI a < nI f ↔ a ≤ f := by
  cases a with
  | zero => exact ⟨fun _ => by omega, fun _ => by rw [Int32.lt_iff_toInt_lt, nI_toInt hf]; show (-1 : Int) < _; omega⟩
  | succ n => exact nI_ltI (by omega) hf
theorem n_nar (b : Bool) : narrow .boolean (.int (nI b.toNat)) = .int (nI b.toNat) := by cases b <;> rfl
section NR
variable {p : Program} {l : Launch} {e : Env} {R : Room} {s : State} {m : MethodId} {args : Array Value} {below : List Frame} {meth : Method} {c : Code} {H : Heap} {locs : List Loc} {cells slots : Nat} {Q : State → Prop}
variable {cc : ByteArray} {pc nL : Nat} {ls : Array Slot} {rest : List Value} {Ts : List Cond} {own : String}
theorem n_top {x y : Int32} (h : x = y) (k : W p l e R s m args below meth c H locs cells slots Q (F0 m (pc) ls (.int y :: rest))) : W p l e R s m args below meth c H locs cells slots Q (F0 m (pc) ls (.int x :: rest)) := by rw [h]; exact k
theorem n_iadd (hC : CallFix p m c cc nL s args Ts own) {a b : Nat} (hdg : decode cc pc = .ok (.iadd, 1)) (k : W p l e R s m args below meth c H locs cells slots Q (F0 m (pc + 1) ls (.int (nI (a + b)) :: rest)))  : W p l e R s m args below meth c H locs cells slots Q (F0 m (pc) ls (.int (nI b) :: .int (nI a) :: rest)) := lv_iadd hC.1 hC.2.1 hdg (n_top (nI_add a b) k)
theorem n_isub (hC : CallFix p m c cc nL s args Ts own) {a b : Nat} (hdg : decode cc pc = .ok (.isub, 1)) (k : W p l e R s m args below meth c H locs cells slots Q (F0 m (pc + 1) ls (.int (nI (a - b)) :: rest))) (h1 : b ≤ a := by omega) : W p l e R s m args below meth c H locs cells slots Q (F0 m (pc) ls (.int (nI b) :: .int (nI a) :: rest)) := lv_isub hC.1 hC.2.1 hdg (n_top (pk_sub h1) k)
theorem n_imul (hC : CallFix p m c cc nL s args Ts own) {a b : Nat} (hdg : decode cc pc = .ok (.imul, 1)) (k : W p l e R s m args below meth c H locs cells slots Q (F0 m (pc + 1) ls (.int (nI (a * b)) :: rest)))  : W p l e R s m args below meth c H locs cells slots Q (F0 m (pc) ls (.int (nI b) :: .int (nI a) :: rest)) := lv_imul hC.1 hC.2.1 hdg (n_top (pk_mul a b) k)
theorem n_ixor (hC : CallFix p m c cc nL s args Ts own) {a b : Nat} (hdg : decode cc pc = .ok (.ixor, 1)) (k : W p l e R s m args below meth c H locs cells slots Q (F0 m (pc + 1) ls (.int (nI (a ^^^ b)) :: rest)))  : W p l e R s m args below meth c H locs cells slots Q (F0 m (pc) ls (.int (nI b) :: .int (nI a) :: rest)) := lv_ixor hC.1 hC.2.1 hdg (n_top (nx_xor a b) k)
theorem n_iand (hC : CallFix p m c cc nL s args Ts own) {a b : Nat} (hdg : decode cc pc = .ok (.iand, 1)) (k : W p l e R s m args below meth c H locs cells slots Q (F0 m (pc + 1) ls (.int (nI (a &&& b)) :: rest)))  : W p l e R s m args below meth c H locs cells slots Q (F0 m (pc) ls (.int (nI b) :: .int (nI a) :: rest)) := lv_iand hC.1 hC.2.1 hdg (n_top (nx_and a b) k)
theorem n_ishl (hC : CallFix p m c cc nL s args Ts own) {a b : Nat} (hdg : decode cc pc = .ok (.ishl, 1)) (k : W p l e R s m args below meth c H locs cells slots Q (F0 m (pc + 1) ls (.int (nI (a * 2 ^ b)) :: rest))) (h1 : b < 32 := by omega) : W p l e R s m args below meth c H locs cells slots Q (F0 m (pc) ls (.int (nI b) :: .int (nI a) :: rest)) := lv_ishl hC.1 hC.2.1 hdg (n_top (n_shl a h1) k)
theorem n_ishr (hC : CallFix p m c cc nL s args Ts own) {a b : Nat} (hdg : decode cc pc = .ok (.ishr, 1)) (k : W p l e R s m args below meth c H locs cells slots Q (F0 m (pc + 1) ls (.int (nI (a / 2 ^ b)) :: rest))) (h1 : a < 2 ^ 31 := by omega) (h2 : b < 32 := by omega) : W p l e R s m args below meth c H locs cells slots Q (F0 m (pc) ls (.int (nI b) :: .int (nI a) :: rest)) := lv_ishr hC.1 hC.2.1 hdg (n_top (n_shr h1 h2) k)
theorem n_iconst (n : Nat) (hC : CallFix p m c cc nL s args Ts own) (hdg : decode cc pc = .ok (.iconst (n : Int), 1)) (h : Int32.ofInt (n : Int) = nI n) (k : W p l e R s m args below meth c H locs cells slots Q (F0 m (pc + 1) ls (.int (nI n) :: rest))) : W p l e R s m args below meth c H locs cells slots Q (F0 m (pc) ls (rest)) := lv_iconst hC.1 hC.2.1 hdg h k
theorem n_icmp_eq (hC : CallFix p m c cc nL s args Ts own) {a b : Nat} {off : Int} {tgt : Nat} (hdg : decode cc pc = .ok (.if_icmp .eq off, 3)) (ht : (pc : Int) + off = (tgt : Int)) (kt : a = b → W p l e R s m args below meth c H locs cells slots Q (F0 m (tgt) ls (rest))) (kf : ¬ a = b → W p l e R s m args below meth c H locs cells slots Q (F0 m (pc + 3) ls (rest))) (h1 : a < 2 ^ 31 := by omega) (h2 : b < 2 ^ 31 := by omega) : W p l e R s m args below meth c H locs cells slots Q (F0 m (pc) ls (.int (nI b) :: .int (nI a) :: rest)) := lv_icmp_eq hC.1 hC.2.1 hdg ht (fun h => kt ((nI_eq h1 h2).mp h)) (fun h => kf (fun q => h ((nI_eq h1 h2).mpr q)))
theorem n_icmp_ne (hC : CallFix p m c cc nL s args Ts own) {a b : Nat} {off : Int} {tgt : Nat} (hdg : decode cc pc = .ok (.if_icmp .ne off, 3)) (ht : (pc : Int) + off = (tgt : Int)) (kt : ¬ a = b → W p l e R s m args below meth c H locs cells slots Q (F0 m (tgt) ls (rest))) (kf : a = b → W p l e R s m args below meth c H locs cells slots Q (F0 m (pc + 3) ls (rest))) (h1 : a < 2 ^ 31 := by omega) (h2 : b < 2 ^ 31 := by omega) : W p l e R s m args below meth c H locs cells slots Q (F0 m (pc) ls (.int (nI b) :: .int (nI a) :: rest)) := lv_icmp_ne hC.1 hC.2.1 hdg ht (fun h => kt (fun q => h ((nI_eq h1 h2).mpr q))) (fun h => kf ((nI_eq h1 h2).mp h))
theorem n_icmp_lt (hC : CallFix p m c cc nL s args Ts own) {a b : Nat} {off : Int} {tgt : Nat} (hdg : decode cc pc = .ok (.if_icmp .lt off, 3)) (ht : (pc : Int) + off = (tgt : Int)) (kt : a < b → W p l e R s m args below meth c H locs cells slots Q (F0 m (tgt) ls (rest))) (kf : b ≤ a → W p l e R s m args below meth c H locs cells slots Q (F0 m (pc + 3) ls (rest))) (h1 : a < 2 ^ 31 := by omega) (h2 : b < 2 ^ 31 := by omega) : W p l e R s m args below meth c H locs cells slots Q (F0 m (pc) ls (.int (nI b) :: .int (nI a) :: rest)) := lv_icmp_lt hC.1 hC.2.1 hdg ht (fun h => kt ((nI_ltI h1 h2).mp h)) (fun h => kf (Nat.le_of_not_lt fun q => h ((nI_ltI h1 h2).mpr q)))
theorem n_icmp_ge (hC : CallFix p m c cc nL s args Ts own) {a b : Nat} {off : Int} {tgt : Nat} (hdg : decode cc pc = .ok (.if_icmp .ge off, 3)) (ht : (pc : Int) + off = (tgt : Int)) (kt : b ≤ a → W p l e R s m args below meth c H locs cells slots Q (F0 m (tgt) ls (rest))) (kf : a < b → W p l e R s m args below meth c H locs cells slots Q (F0 m (pc + 3) ls (rest))) (h1 : a < 2 ^ 31 := by omega) (h2 : b < 2 ^ 31 := by omega) : W p l e R s m args below meth c H locs cells slots Q (F0 m (pc) ls (.int (nI b) :: .int (nI a) :: rest)) := lv_icmp_ge hC.1 hC.2.1 hdg ht (fun h => kt ((nI_leI h2 h1).mp h)) (fun h => kf (Nat.lt_of_not_le fun q => h ((nI_leI h2 h1).mpr q)))
theorem n_icmp_gt (hC : CallFix p m c cc nL s args Ts own) {a b : Nat} {off : Int} {tgt : Nat} (hdg : decode cc pc = .ok (.if_icmp .gt off, 3)) (ht : (pc : Int) + off = (tgt : Int)) (kt : b < a → W p l e R s m args below meth c H locs cells slots Q (F0 m (tgt) ls (rest))) (kf : a ≤ b → W p l e R s m args below meth c H locs cells slots Q (F0 m (pc + 3) ls (rest))) (h1 : a < 2 ^ 31 := by omega) (h2 : b < 2 ^ 31 := by omega) : W p l e R s m args below meth c H locs cells slots Q (F0 m (pc) ls (.int (nI b) :: .int (nI a) :: rest)) := lv_icmp_gt hC.1 hC.2.1 hdg ht (fun h => kt ((nI_ltI h2 h1).mp h)) (fun h => kf (Nat.le_of_not_lt fun q => h ((nI_ltI h2 h1).mpr q)))
theorem n_icmp_le (hC : CallFix p m c cc nL s args Ts own) {a b : Nat} {off : Int} {tgt : Nat} (hdg : decode cc pc = .ok (.if_icmp .le off, 3)) (ht : (pc : Int) + off = (tgt : Int)) (kt : a ≤ b → W p l e R s m args below meth c H locs cells slots Q (F0 m (tgt) ls (rest))) (kf : b < a → W p l e R s m args below meth c H locs cells slots Q (F0 m (pc + 3) ls (rest))) (h1 : a < 2 ^ 31 := by omega) (h2 : b < 2 ^ 31 := by omega) : W p l e R s m args below meth c H locs cells slots Q (F0 m (pc) ls (.int (nI b) :: .int (nI a) :: rest)) := lv_icmp_le hC.1 hC.2.1 hdg ht (fun h => kt ((nI_leI h1 h2).mp h)) (fun h => kf (Nat.lt_of_not_le fun q => h ((nI_leI h1 h2).mpr q)))
theorem n_if_eq (hC : CallFix p m c cc nL s args Ts own) {a : Nat} {off : Int} {tgt : Nat} (hdg : decode cc pc = .ok (.ifCond .eq off, 3)) (ht : (pc : Int) + off = (tgt : Int)) (kt : a = 0 → W p l e R s m args below meth c H locs cells slots Q (F0 m (tgt) ls (rest))) (kf : ¬ a = 0 → W p l e R s m args below meth c H locs cells slots Q (F0 m (pc + 3) ls (rest))) (h1 : a < 2 ^ 31 := by omega) : W p l e R s m args below meth c H locs cells slots Q (F0 m (pc) ls (.int (nI a) :: rest)) := lv_if_eq hC.1 hC.2.1 hdg ht (fun h => kt ((nI_eq h1 (by omega)).mp (by rw [nI_0]; exact h))) (fun h => kf (fun q => h (by rw [q, nI_0])))
theorem n_if_ne (hC : CallFix p m c cc nL s args Ts own) {a : Nat} {off : Int} {tgt : Nat} (hdg : decode cc pc = .ok (.ifCond .ne off, 3)) (ht : (pc : Int) + off = (tgt : Int)) (kt : ¬ a = 0 → W p l e R s m args below meth c H locs cells slots Q (F0 m (tgt) ls (rest))) (kf : a = 0 → W p l e R s m args below meth c H locs cells slots Q (F0 m (pc + 3) ls (rest))) (h1 : a < 2 ^ 31 := by omega) : W p l e R s m args below meth c H locs cells slots Q (F0 m (pc) ls (.int (nI a) :: rest)) := lv_if_ne hC.1 hC.2.1 hdg ht (fun h => kt (fun q => h (by rw [q, nI_0]))) (fun h => kf ((nI_eq h1 (by omega)).mp (by rw [nI_0]; exact h)))
theorem n_if_lt (hC : CallFix p m c cc nL s args Ts own) {a : Nat} {off : Int} {tgt : Nat} (hdg : decode cc pc = .ok (.ifCond .lt off, 3)) (ht : (pc : Int) + off = (tgt : Int)) (kf : W p l e R s m args below meth c H locs cells slots Q (F0 m (pc + 3) ls (rest))) (h1 : a < 2 ^ 31 := by omega) : W p l e R s m args below meth c H locs cells slots Q (F0 m (pc) ls (.int (nI a) :: rest)) := lv_if_lt hC.1 hC.2.1 hdg ht (fun h => absurd h (nI_pos h1)) (fun _ => kf)
theorem n_if_ge (hC : CallFix p m c cc nL s args Ts own) {a : Nat} {off : Int} {tgt : Nat} (hdg : decode cc pc = .ok (.ifCond .ge off, 3)) (ht : (pc : Int) + off = (tgt : Int)) (kt : W p l e R s m args below meth c H locs cells slots Q (F0 m (tgt) ls (rest))) (h1 : a < 2 ^ 31 := by omega) : W p l e R s m args below meth c H locs cells slots Q (F0 m (pc) ls (.int (nI a) :: rest)) := lv_if_ge hC.1 hC.2.1 hdg ht (fun _ => kt) (fun h => absurd (nI_pos' h1) h)
theorem n_ishl1 (hC : CallFix p m c cc nL s args Ts own) {b : Nat} (hdg : decode cc pc = .ok (.ishl, 1)) (k : W p l e R s m args below meth c H locs cells slots Q (F0 m (pc + 1) ls (.int (nI (2 ^ b)) :: rest))) (h1 : b < 32 := by omega) : W p l e R s m args below meth c H locs cells slots Q (F0 m (pc) ls (.int (nI b) :: .int (nI 1) :: rest)) := lv_ishl hC.1 hC.2.1 hdg (n_top (by rw [n_shl 1 h1, Nat.one_mul]) k)
theorem p_if_lt (hC : CallFix p m c cc nL s args Ts own) {a : Nat} {off : Int} {tgt : Nat} (hdg : decode cc pc = .ok (.ifCond .lt off, 3)) (ht : (pc : Int) + off = (tgt : Int)) (kt : a = 0 → W p l e R s m args below meth c H locs cells slots Q (F0 m (tgt) ls (rest))) (kf : 0 < a → W p l e R s m args below meth c H locs cells slots Q (F0 m (pc + 3) ls (rest))) (h1 : a < 2 ^ 31 := by omega) : W p l e R s m args below meth c H locs cells slots Q (F0 m (pc) ls (.int (pI a) :: rest)) := lv_if_lt hC.1 hC.2.1 hdg ht (fun h => kt ((pi_lt0 a h1).mp h)) (fun h => kf (Nat.pos_of_ne_zero fun z => h ((pi_lt0 a h1).mpr z)))
theorem p_if_ge (hC : CallFix p m c cc nL s args Ts own) {a : Nat} {off : Int} {tgt : Nat} (hdg : decode cc pc = .ok (.ifCond .ge off, 3)) (ht : (pc : Int) + off = (tgt : Int)) (kt : 0 < a → W p l e R s m args below meth c H locs cells slots Q (F0 m (tgt) ls (rest))) (kf : a = 0 → W p l e R s m args below meth c H locs cells slots Q (F0 m (pc + 3) ls (rest))) (h1 : a < 2 ^ 31 := by omega) : W p l e R s m args below meth c H locs cells slots Q (F0 m (pc) ls (.int (pI a) :: rest)) := lv_if_ge hC.1 hC.2.1 hdg ht (fun h => kt ((pi_ge0 a h1).mp h)) (fun h => kf (Nat.eq_zero_of_not_pos fun z => h ((pi_ge0 a h1).mpr z)))
theorem p_icmp_lt (hC : CallFix p m c cc nL s args Ts own) {a f : Nat} {off : Int} {tgt : Nat} (hdg : decode cc pc = .ok (.if_icmp .lt off, 3)) (ht : (pc : Int) + off = (tgt : Int)) (kt : a ≤ f → W p l e R s m args below meth c H locs cells slots Q (F0 m (tgt) ls (rest))) (kf : f < a → W p l e R s m args below meth c H locs cells slots Q (F0 m (pc + 3) ls (rest))) (h1 : a < 2 ^ 31 := by omega) (h2 : f < 2 ^ 31 := by omega) : W p l e R s m args below meth c H locs cells slots Q (F0 m (pc) ls (.int (nI f) :: .int (pI a) :: rest)) := lv_icmp_lt hC.1 hC.2.1 hdg ht (fun h => kt ((pi_lt a f h1 h2).mp h)) (fun h => kf (Nat.lt_of_not_le fun z => h ((pi_lt a f h1 h2).mpr z)))
end NR
end
section
set_option maxRecDepth 100000
abbrev vwCl : List vw_C := [(RX1, TX1, 10), (RX2, TX2, 5)]
abbrev CS : Type := (Nat → Nat) × (Nat → Nat) × (Nat → Nat) × (Nat → Nat) × (Nat → Nat) × (Nat → Nat)
abbrev MS : Type := (Nat → Nat) × (Nat → Nat) × (Nat → Nat) × (Nat → Nat)
def PWl : List Nat := [1, 2, 4, 8, 16, 5, 10, 20, 13, 26, 17, 7, 14, 28, 29, 31, 27, 19, 3, 6, 12, 24, 21, 15, 30, 25, 23, 11, 22, 9, 18, 1, 2, 4, 8, 16, 5, 10, 20, 13, 26, 17, 7, 14, 28, 29, 31, 27, 19, 3, 6, 12, 24, 21, 15, 30, 25, 23, 11, 22, 9, 18]
def LGl : List Nat := [0, 0, 1, 18, 2, 5, 19, 11, 3, 29, 6, 27, 20, 8, 12, 23, 4, 10, 30, 17, 7, 22, 28, 26, 21, 25, 9, 16, 13, 14, 24, 15]
def PW (j : Nat) : Nat := PWl.getD j 0
def LG (j : Nat) : Nat := LGl.getD j 0
abbrev cF (q : Nat → Nat) (kk : Nat) : List Value := [.int (nI kk), .int (nI (3 - kk)), .ref (q 2), .ref (q 3), .ref (q 4), .ref (q 5), .ref (q 6), .ref (q 7), .ref (q 8), .ref (q 9)]
abbrev cW (h : Nat) (q : Nat → Nat) (dA : ClassId) (kk : Nat) (u : CS) : va_W := [(h, .inr (0, cF q kk)), (q 2, .inl (dA, 64, .inl (nA PW))), (q 3, .inl (dA, 32, .inl (nA LG))), (q 4, .inl (dA, 5, .inl (nA u.1))), (q 5, .inl (dA, 5, .inl (nA u.2.1))), (q 6, .inl (dA, 30, .inl (nA u.2.2.1))), (q 7, .inl (dA, 6, .inl (pA u.2.2.2.1))), (q 8, .inl (dA, 6, .inl (nA u.2.2.2.2.1))), (q 9, .inl (dA, 2, .inl (nA u.2.2.2.2.2)))]
abbrev mF (q : Nat → Nat) (kk : Nat) : List Value := [.ref (q 0), .ref (q 1), .ref (q 2), .ref (q 3), .int (nI kk)]
abbrev mW (h : Nat) (q : Nat → Nat) (dA : ClassId × ClassId) (kk : Nat) (u : MS) : va_W := [(h, .inr (1, mF q kk)), (q 0, .inl (dA.1, 5, .inl (nA u.1))), (q 1, .inl (dA.1, 5, .inl (nA u.2.1))), (q 2, .inl (dA.1, 5, .inl (nA u.2.2.1))), (q 3, .inl (dA.2, 32, .inl (nA u.2.2.2)))]
abbrev cT (dA : ClassId) : List (ClassId × FieldType) := [(dA, .int)]
abbrev mT (dA : ClassId × ClassId) : List (ClassId × FieldType) := [(dA.1, .int), (dA.2, .boolean)]
def cX (p : Program) (m : MethodId) (c : Code) (cc : ByteArray) (nL : Nat) (s : State) (args : Array Value) (D : va_G) (dA : ClassId) : Prop := CallFix p m c cc nL s args lw_all RX1 ∧ va_K D vwCl (cT dA) s
def cI (D : va_G) (h : Nat) (q : Nat → Nat) (dA : ClassId) (kk : Nat) (A : Nat → Prop) (H0 : Heap) (u : CS) (H : Heap) (locs : List Loc) : Prop := va_P D vwCl (cW h q dA kk u) H ∧ va_D A (cW h q dA kk u) ∧ va_S A H0 H locs ∧ ∀ z, H0.size ≤ z → A z
def cB (D : va_G) (h : Nat) (q : Nat → Nat) (dA : ClassId) (kk : Nat) (A : Nat → Prop) (u : CS) (t : State) : Prop := va_P D vwCl (cW h q dA kk u) t.heap ∧ va_K D vwCl (cT dA) t ∧ va_D A (cW h q dA kk u)
def cPc (D : va_G) (h : Nat) (q : Nat → Nat) (dA : ClassId) (kk : Nat) (As : List Value) (u : CS) (sz : Nat) : Array Value → State → Prop := va_Pc (.ref h :: As) (fun U => U.heap.size = sz ∧ va_P D vwCl (cW h q dA kk u) U.heap ∧ va_K D vwCl (cT dA) U ∧ va_D (fun _ => True) (cW h q dA kk u))
/-- the contract of a method with an int (or boolean) answer -/
def cMi (l : Launch) (y : MethodName) (ws : List Cond) (rm : Room) (D : va_G) (h : Nat) (q : Nat → Nat) (dA : ClassId) (kk : Nat) (As : List Value) (u : CS) (post : Int32 → CS → Prop) : Prop := ∀ sz : Nat, Met l y ws rm (cPc D h q dA kk As u sz) (va_Qi post (cB D h q dA kk (va_A (cW h q dA kk u) sz)) (va_A (cW h q dA kk u) sz)) 0 0 (va_A (cW h q dA kk u) sz)
/-- the contract of a void method -/
def cMv (l : Launch) (y : MethodName) (ws : List Cond) (rm : Room) (D : va_G) (h : Nat) (q : Nat → Nat) (dA : ClassId) (kk : Nat) (As : List Value) (u : CS) (post : CS → Prop) : Prop := ∀ sz : Nat, Met l y ws rm (cPc D h q dA kk As u sz) (va_Qv post (cB D h q dA kk (va_A (cW h q dA kk u) sz)) (va_A (cW h q dA kk u) sz)) 0 0 (va_A (cW h q dA kk u) sz)
section CROWS
variable {p : Program} {l : Launch} {e : Env} {R : Room} {s : State} {m : MethodId} {args : Array Value} {below : List Frame} {meth : Method} {c : Code} {H : Heap} {locs : List Loc} {cells slots : Nat} {Q : State → Prop}
variable {cc : ByteArray} {pc nL : Nat} {ls : Array Slot} {rest : List Value}
variable {D : va_G} {h : Nat} {q : Nat → Nat} {dA : ClassId} {kk : Nat} {A : Nat → Prop} {u : CS}
theorem c_get (hC : cX p m c cc nL s args D dA) (hI : cI D h q dA kk A s.heap u H locs) (j : Nat) (hj : j < 10) {idx : Nat} {v : Value} (hlink : Cond.fieldLink RX1 idx RX1 (TX1 j).2.1 (TX1 j).2.2.1 ∈ lw_all) (hsame : (TX1 j).1 = RX1) (hv : (cF q kk)[j]? = some v) (hdg : decode cc pc = .ok (.getfield idx, 3)) (k : W p l e R s m args below meth c H locs cells slots Q (F0 m (pc + 3) ls (v :: rest))) : W p l e R s m args below meth c H locs cells slots Q (F0 m pc ls (.ref h :: rest)) :=
  va_get (D := D) (ci := 0) (v := v) (C := RX1) (T := TX1) (N := 10) hC.1.1 hC.1.2.1 hC.1.2.2.2.2 in_X1 hC.1.2.2.2.1 hC.2 hI.1 0 rfl rfl j hj (hC.1.2.2.2.2 _ hlink) (fun _ h9 => by rw [hsame] at h9; exact h9) hv hdg k
theorem c_get_k (hC : cX p m c cc nL s args D dA) (hI : cI D h q dA kk A s.heap u H locs) (hdg : decode cc pc = .ok (.getfield 34, 3)) (k : W p l e R s m args below meth c H locs cells slots Q (F0 m (pc + 3) ls (.int (nI kk) :: rest))) : W p l e R s m args below meth c H locs cells slots Q (F0 m pc ls (.ref h :: rest)) := c_get hC hI 0 (by decide) q38 rfl rfl hdg k
theorem c_get_t (hC : cX p m c cc nL s args D dA) (hI : cI D h q dA kk A s.heap u H locs) (hdg : decode cc pc = .ok (.getfield 38, 3)) (k : W p l e R s m args below meth c H locs cells slots Q (F0 m (pc + 3) ls (.int (nI (3 - kk)) :: rest))) : W p l e R s m args below meth c H locs cells slots Q (F0 m pc ls (.ref h :: rest)) := c_get hC hI 1 (by decide) q39 rfl rfl hdg k
theorem c_get_power (hC : cX p m c cc nL s args D dA) (hI : cI D h q dA kk A s.heap u H locs) (hdg : decode cc pc = .ok (.getfield 7, 3)) (k : W p l e R s m args below meth c H locs cells slots Q (F0 m (pc + 3) ls (.ref (q 2) :: rest))) : W p l e R s m args below meth c H locs cells slots Q (F0 m pc ls (.ref h :: rest)) := c_get hC hI 2 (by decide) q40 rfl rfl hdg k
theorem c_get_log (hC : cX p m c cc nL s args D dA) (hI : cI D h q dA kk A s.heap u H locs) (hdg : decode cc pc = .ok (.getfield 13, 3)) (k : W p l e R s m args below meth c H locs cells slots Q (F0 m (pc + 3) ls (.ref (q 3) :: rest))) : W p l e R s m args below meth c H locs cells slots Q (F0 m pc ls (.ref h :: rest)) := c_get hC hI 3 (by decide) q41 rfl rfl hdg k
theorem c_get_word (hC : cX p m c cc nL s args D dA) (hI : cI D h q dA kk A s.heap u H locs) (hdg : decode cc pc = .ok (.getfield 16, 3)) (k : W p l e R s m args below meth c H locs cells slots Q (F0 m (pc + 3) ls (.ref (q 4) :: rest))) : W p l e R s m args below meth c H locs cells slots Q (F0 m pc ls (.ref h :: rest)) := c_get hC hI 4 (by decide) q42 rfl rfl hdg k
theorem c_get_diff (hC : cX p m c cc nL s args D dA) (hI : cI D h q dA kk A s.heap u H locs) (hdg : decode cc pc = .ok (.getfield 19, 3)) (k : W p l e R s m args below meth c H locs cells slots Q (F0 m (pc + 3) ls (.ref (q 5) :: rest))) : W p l e R s m args below meth c H locs cells slots Q (F0 m pc ls (.ref h :: rest)) := c_get hC hI 5 (by decide) q43 rfl rfl hdg k
theorem c_get_cell (hC : cX p m c cc nL s args D dA) (hI : cI D h q dA kk A s.heap u H locs) (hdg : decode cc pc = .ok (.getfield 22, 3)) (k : W p l e R s m args below meth c H locs cells slots Q (F0 m (pc + 3) ls (.ref (q 6) :: rest))) : W p l e R s m args below meth c H locs cells slots Q (F0 m pc ls (.ref h :: rest)) := c_get hC hI 6 (by decide) q44 rfl rfl hdg k
theorem c_get_piv (hC : cX p m c cc nL s args D dA) (hI : cI D h q dA kk A s.heap u H locs) (hdg : decode cc pc = .ok (.getfield 25, 3)) (k : W p l e R s m args below meth c H locs cells slots Q (F0 m (pc + 3) ls (.ref (q 7) :: rest))) : W p l e R s m args below meth c H locs cells slots Q (F0 m pc ls (.ref h :: rest)) := c_get hC hI 7 (by decide) q45 rfl rfl hdg k
theorem c_get_root (hC : cX p m c cc nL s args D dA) (hI : cI D h q dA kk A s.heap u H locs) (hdg : decode cc pc = .ok (.getfield 28, 3)) (k : W p l e R s m args below meth c H locs cells slots Q (F0 m (pc + 3) ls (.ref (q 8) :: rest))) : W p l e R s m args below meth c H locs cells slots Q (F0 m pc ls (.ref h :: rest)) := c_get hC hI 8 (by decide) q46 rfl rfl hdg k
theorem c_get_found (hC : cX p m c cc nL s args D dA) (hI : cI D h q dA kk A s.heap u H locs) (hdg : decode cc pc = .ok (.getfield 31, 3)) (k : W p l e R s m args below meth c H locs cells slots Q (F0 m (pc + 3) ls (.ref (q 9) :: rest))) : W p l e R s m args below meth c H locs cells slots Q (F0 m pc ls (.ref h :: rest)) := c_get hC hI 9 (by decide) q47 rfl rfl hdg k
theorem c_ld_power (hC : cX p m c cc nL s args D dA) (hI : cI D h q dA kk A s.heap u H locs) {i : Nat} (hdg : decode cc pc = .ok (.iaload, 1)) (k : W p l e R s m args below meth c H locs cells slots Q (F0 m (pc + 1) ls (.int (nI (PW i)) :: rest))) (h1 : i < 64 := by omega) : W p l e R s m args below meth c H locs cells slots Q (F0 m pc ls (.int (nI i) :: .ref (q 2) :: rest)) :=
  va_iald hC.1.1 hC.1.2.1 hC.2 hI.1 1 0 rfl rfl (vp_in_nI h1 (by decide)) hdg (by rw [nI_clamp (Nat.lt_trans h1 (by decide))]; exact k)
theorem c_ld_log (hC : cX p m c cc nL s args D dA) (hI : cI D h q dA kk A s.heap u H locs) {i : Nat} (hdg : decode cc pc = .ok (.iaload, 1)) (k : W p l e R s m args below meth c H locs cells slots Q (F0 m (pc + 1) ls (.int (nI (LG i)) :: rest))) (h1 : i < 32 := by omega) : W p l e R s m args below meth c H locs cells slots Q (F0 m pc ls (.int (nI i) :: .ref (q 3) :: rest)) :=
  va_iald hC.1.1 hC.1.2.1 hC.2 hI.1 2 0 rfl rfl (vp_in_nI h1 (by decide)) hdg (by rw [nI_clamp (Nat.lt_trans h1 (by decide))]; exact k)
theorem c_ld_word (hC : cX p m c cc nL s args D dA) (hI : cI D h q dA kk A s.heap u H locs) {i : Nat} (hdg : decode cc pc = .ok (.iaload, 1)) (k : W p l e R s m args below meth c H locs cells slots Q (F0 m (pc + 1) ls (.int (nI (u.1 i)) :: rest))) (h1 : i < 5 := by omega) : W p l e R s m args below meth c H locs cells slots Q (F0 m pc ls (.int (nI i) :: .ref (q 4) :: rest)) :=
  va_iald hC.1.1 hC.1.2.1 hC.2 hI.1 3 0 rfl rfl (vp_in_nI h1 (by decide)) hdg (by rw [nI_clamp (Nat.lt_trans h1 (by decide))]; exact k)
theorem c_st_word (hC : cX p m c cc nL s args D dA) (hI : cI D h q dA kk A s.heap u H locs) {i : Nat} {x : Nat} (hdg : decode cc pc = .ok (.iastore, 1)) (k : ∀ (u' : CS) (H1 : Heap) (locs1 : List Loc), u'.1 = up u.1 i x → u'.2 = u.2 → cI D h q dA kk A s.heap u' H1 locs1 → W p l e R s m args below meth c H1 locs1 cells slots Q (F0 m (pc + 1) ls rest)) (h1 : i < 5 := by omega) : W p l e R s m args below meth c H locs cells slots Q (F0 m pc ls (.int (nI x) :: .int (nI i) :: .ref (q 4) :: rest)) := by
  refine va_iast hC.1.1 hC.1.2.1 hC.2 hI.1 hI.2.1 hI.2.2.1 3 0 rfl rfl (vp_in_nI h1 (by decide)) hdg (fun H1 locs1 hP hD hS => ?_)
  rw [nI_clamp (Nat.lt_trans h1 (by decide)), nA_upd] at hP hD
  exact k (up u.1 i x, u.2) H1 locs1 rfl rfl ⟨hP, hD, hS, hI.2.2.2⟩
theorem c_ld_diff (hC : cX p m c cc nL s args D dA) (hI : cI D h q dA kk A s.heap u H locs) {i : Nat} (hdg : decode cc pc = .ok (.iaload, 1)) (k : W p l e R s m args below meth c H locs cells slots Q (F0 m (pc + 1) ls (.int (nI (u.2.1 i)) :: rest))) (h1 : i < 5 := by omega) : W p l e R s m args below meth c H locs cells slots Q (F0 m pc ls (.int (nI i) :: .ref (q 5) :: rest)) :=
  va_iald hC.1.1 hC.1.2.1 hC.2 hI.1 4 0 rfl rfl (vp_in_nI h1 (by decide)) hdg (by rw [nI_clamp (Nat.lt_trans h1 (by decide))]; exact k)
theorem c_st_diff (hC : cX p m c cc nL s args D dA) (hI : cI D h q dA kk A s.heap u H locs) {i : Nat} {x : Nat} (hdg : decode cc pc = .ok (.iastore, 1)) (k : ∀ (u' : CS) (H1 : Heap) (locs1 : List Loc), u'.2.1 = up u.2.1 i x → u'.1 = u.1 → u'.2.2 = u.2.2 → cI D h q dA kk A s.heap u' H1 locs1 → W p l e R s m args below meth c H1 locs1 cells slots Q (F0 m (pc + 1) ls rest)) (h1 : i < 5 := by omega) : W p l e R s m args below meth c H locs cells slots Q (F0 m pc ls (.int (nI x) :: .int (nI i) :: .ref (q 5) :: rest)) := by
  refine va_iast hC.1.1 hC.1.2.1 hC.2 hI.1 hI.2.1 hI.2.2.1 4 0 rfl rfl (vp_in_nI h1 (by decide)) hdg (fun H1 locs1 hP hD hS => ?_)
  rw [nI_clamp (Nat.lt_trans h1 (by decide)), nA_upd] at hP hD
  exact k (u.1, up u.2.1 i x, u.2.2) H1 locs1 rfl rfl rfl ⟨hP, hD, hS, hI.2.2.2⟩
theorem c_ld_cell (hC : cX p m c cc nL s args D dA) (hI : cI D h q dA kk A s.heap u H locs) {i : Nat} (hdg : decode cc pc = .ok (.iaload, 1)) (k : W p l e R s m args below meth c H locs cells slots Q (F0 m (pc + 1) ls (.int (nI (u.2.2.1 i)) :: rest))) (h1 : i < 30 := by omega) : W p l e R s m args below meth c H locs cells slots Q (F0 m pc ls (.int (nI i) :: .ref (q 6) :: rest)) :=
  va_iald hC.1.1 hC.1.2.1 hC.2 hI.1 5 0 rfl rfl (vp_in_nI h1 (by decide)) hdg (by rw [nI_clamp (Nat.lt_trans h1 (by decide))]; exact k)
theorem c_st_cell (hC : cX p m c cc nL s args D dA) (hI : cI D h q dA kk A s.heap u H locs) {i : Nat} {x : Nat} (hdg : decode cc pc = .ok (.iastore, 1)) (k : ∀ (u' : CS) (H1 : Heap) (locs1 : List Loc), u'.2.2.1 = up u.2.2.1 i x → u'.1 = u.1 → u'.2.1 = u.2.1 → u'.2.2.2 = u.2.2.2 → cI D h q dA kk A s.heap u' H1 locs1 → W p l e R s m args below meth c H1 locs1 cells slots Q (F0 m (pc + 1) ls rest)) (h1 : i < 30 := by omega) : W p l e R s m args below meth c H locs cells slots Q (F0 m pc ls (.int (nI x) :: .int (nI i) :: .ref (q 6) :: rest)) := by
  refine va_iast hC.1.1 hC.1.2.1 hC.2 hI.1 hI.2.1 hI.2.2.1 5 0 rfl rfl (vp_in_nI h1 (by decide)) hdg (fun H1 locs1 hP hD hS => ?_)
  rw [nI_clamp (Nat.lt_trans h1 (by decide)), nA_upd] at hP hD
  exact k (u.1, u.2.1, up u.2.2.1 i x, u.2.2.2) H1 locs1 rfl rfl rfl rfl ⟨hP, hD, hS, hI.2.2.2⟩
theorem c_ld_piv (hC : cX p m c cc nL s args D dA) (hI : cI D h q dA kk A s.heap u H locs) {i : Nat} (hdg : decode cc pc = .ok (.iaload, 1)) (k : W p l e R s m args below meth c H locs cells slots Q (F0 m (pc + 1) ls (.int (pI (u.2.2.2.1 i)) :: rest))) (h1 : i < 6 := by omega) : W p l e R s m args below meth c H locs cells slots Q (F0 m pc ls (.int (nI i) :: .ref (q 7) :: rest)) :=
  va_iald hC.1.1 hC.1.2.1 hC.2 hI.1 6 0 rfl rfl (vp_in_nI h1 (by decide)) hdg (by rw [nI_clamp (Nat.lt_trans h1 (by decide))]; exact k)
theorem c_st_piv (hC : cX p m c cc nL s args D dA) (hI : cI D h q dA kk A s.heap u H locs) {i : Nat} {x : Nat} (hdg : decode cc pc = .ok (.iastore, 1)) (k : ∀ (u' : CS) (H1 : Heap) (locs1 : List Loc), u'.2.2.2.1 = up u.2.2.2.1 i x → u'.1 = u.1 → u'.2.1 = u.2.1 → u'.2.2.1 = u.2.2.1 → u'.2.2.2.2 = u.2.2.2.2 → cI D h q dA kk A s.heap u' H1 locs1 → W p l e R s m args below meth c H1 locs1 cells slots Q (F0 m (pc + 1) ls rest)) (h1 : i < 6 := by omega) : W p l e R s m args below meth c H locs cells slots Q (F0 m pc ls (.int (pI x) :: .int (nI i) :: .ref (q 7) :: rest)) := by
  refine va_iast hC.1.1 hC.1.2.1 hC.2 hI.1 hI.2.1 hI.2.2.1 6 0 rfl rfl (vp_in_nI h1 (by decide)) hdg (fun H1 locs1 hP hD hS => ?_)
  rw [nI_clamp (Nat.lt_trans h1 (by decide)), pA_upd] at hP hD
  exact k (u.1, u.2.1, u.2.2.1, up u.2.2.2.1 i x, u.2.2.2.2) H1 locs1 rfl rfl rfl rfl rfl ⟨hP, hD, hS, hI.2.2.2⟩
theorem c_ld_root (hC : cX p m c cc nL s args D dA) (hI : cI D h q dA kk A s.heap u H locs) {i : Nat} (hdg : decode cc pc = .ok (.iaload, 1)) (k : W p l e R s m args below meth c H locs cells slots Q (F0 m (pc + 1) ls (.int (nI (u.2.2.2.2.1 i)) :: rest))) (h1 : i < 6 := by omega) : W p l e R s m args below meth c H locs cells slots Q (F0 m pc ls (.int (nI i) :: .ref (q 8) :: rest)) :=
  va_iald hC.1.1 hC.1.2.1 hC.2 hI.1 7 0 rfl rfl (vp_in_nI h1 (by decide)) hdg (by rw [nI_clamp (Nat.lt_trans h1 (by decide))]; exact k)
theorem c_st_root (hC : cX p m c cc nL s args D dA) (hI : cI D h q dA kk A s.heap u H locs) {i : Nat} {x : Nat} (hdg : decode cc pc = .ok (.iastore, 1)) (k : ∀ (u' : CS) (H1 : Heap) (locs1 : List Loc), u'.2.2.2.2.1 = up u.2.2.2.2.1 i x → u'.1 = u.1 → u'.2.1 = u.2.1 → u'.2.2.1 = u.2.2.1 → u'.2.2.2.1 = u.2.2.2.1 → u'.2.2.2.2.2 = u.2.2.2.2.2 → cI D h q dA kk A s.heap u' H1 locs1 → W p l e R s m args below meth c H1 locs1 cells slots Q (F0 m (pc + 1) ls rest)) (h1 : i < 6 := by omega) : W p l e R s m args below meth c H locs cells slots Q (F0 m pc ls (.int (nI x) :: .int (nI i) :: .ref (q 8) :: rest)) := by
  refine va_iast hC.1.1 hC.1.2.1 hC.2 hI.1 hI.2.1 hI.2.2.1 7 0 rfl rfl (vp_in_nI h1 (by decide)) hdg (fun H1 locs1 hP hD hS => ?_)
  rw [nI_clamp (Nat.lt_trans h1 (by decide)), nA_upd] at hP hD
  exact k (u.1, u.2.1, u.2.2.1, u.2.2.2.1, up u.2.2.2.2.1 i x, u.2.2.2.2.2) H1 locs1 rfl rfl rfl rfl rfl rfl ⟨hP, hD, hS, hI.2.2.2⟩
theorem c_ld_found (hC : cX p m c cc nL s args D dA) (hI : cI D h q dA kk A s.heap u H locs) {i : Nat} (hdg : decode cc pc = .ok (.iaload, 1)) (k : W p l e R s m args below meth c H locs cells slots Q (F0 m (pc + 1) ls (.int (nI (u.2.2.2.2.2 i)) :: rest))) (h1 : i < 2 := by omega) : W p l e R s m args below meth c H locs cells slots Q (F0 m pc ls (.int (nI i) :: .ref (q 9) :: rest)) :=
  va_iald hC.1.1 hC.1.2.1 hC.2 hI.1 8 0 rfl rfl (vp_in_nI h1 (by decide)) hdg (by rw [nI_clamp (Nat.lt_trans h1 (by decide))]; exact k)
theorem c_st_found (hC : cX p m c cc nL s args D dA) (hI : cI D h q dA kk A s.heap u H locs) {i : Nat} {x : Nat} (hdg : decode cc pc = .ok (.iastore, 1)) (k : ∀ (u' : CS) (H1 : Heap) (locs1 : List Loc), u'.2.2.2.2.2 = up u.2.2.2.2.2 i x → u'.1 = u.1 → u'.2.1 = u.2.1 → u'.2.2.1 = u.2.2.1 → u'.2.2.2.1 = u.2.2.2.1 → u'.2.2.2.2.1 = u.2.2.2.2.1 → cI D h q dA kk A s.heap u' H1 locs1 → W p l e R s m args below meth c H1 locs1 cells slots Q (F0 m (pc + 1) ls rest)) (h1 : i < 2 := by omega) : W p l e R s m args below meth c H locs cells slots Q (F0 m pc ls (.int (nI x) :: .int (nI i) :: .ref (q 9) :: rest)) := by
  refine va_iast hC.1.1 hC.1.2.1 hC.2 hI.1 hI.2.1 hI.2.2.1 8 0 rfl rfl (vp_in_nI h1 (by decide)) hdg (fun H1 locs1 hP hD hS => ?_)
  rw [nI_clamp (Nat.lt_trans h1 (by decide)), nA_upd] at hP hD
  exact k (u.1, u.2.1, u.2.2.1, u.2.2.2.1, u.2.2.2.2.1, up u.2.2.2.2.2 i x) H1 locs1 rfl rfl rfl rfl rfl rfl ⟨hP, hD, hS, hI.2.2.2⟩
theorem cMi_of {y : MethodName} {cc : ByteArray} {nL : Nat} {ty : FieldType} {rm : Room} {As : List Value} {lv : List (Nat × Value)} {post : Int32 → CS → Prop} (hy : plainName y.cls = true) (hcl : y.cls = RX1) (hlen : (lg_sl (.ref h :: As)).length ≤ nL) (hlv : lv_args 0 (.ref h :: As) = lv)
    (body : ∀ (p : Program) (e : Env) (s : State) (m : MethodId) (args : Array Value) (below : List Frame) (meth : Method) (c : Code) (A : Nat → Prop) (Q : State → Prop) (ls : Array Slot), cX p m c cc nL s args D dA → cI D h q dA kk A s.heap u s.heap [] → lv_has ls nL lv →
      (∀ (pc : Nat) (ls : Array Slot) (r : Int32) (u' : CS) (H : Heap) (locs : List Loc), decode cc pc = .ok (.ireturn, 1) → narrow ty (.int r) = .int r → post r u' → cI D h q dA kk A s.heap u' H locs → W p l e rm s m args below meth c H locs 0 0 Q (F0 m pc ls [.int r])) →
      W p l e rm s m args below meth c s.heap [] 0 0 Q (F0 m 0 ls [])) : cMi l y (ws_ y cc nL (some ty)) rm D h q dA kk As u post := by
  intro sz
  refine Met.ofW (cc := cc) (maxL := nL) (ret := some ty) hy rfl ?_
  intro p e s m args below meth c s₁ B hml hv
  obtain ⟨rfl, hsz, hP, hK, hD0⟩ := hv
  have hts := atoms_spec (ws := ws_ y cc nL (some ty)) B.pre
  have hts : ∀ w ∈ lw_all, w.before _ s = true := fun w h => hts w (List.mem_cons_of_mem _ h)
  have hown : s.vm.findClass y.cls = some m.cls := findClass_of_methodNamed B.named
  rw [hcl] at hown
  have hlocks := B.notSynchronized
  have hr := B.returns
  subst hsz
  have hD := hD0.self (sz := s.heap.size)
  have hl := lv_entry (.ref h :: As) (n := nL) hlen
  rw [lg_entry_eq]
  rw [hlv] at hl
  refine body p e s m _ below meth c _ _ _ ⟨⟨B.exec, B.bytes, hml, hown, hts⟩, hK⟩ ⟨hP, hD, va_S.rf, fun z hz => Or.inr hz⟩ hl ?_
  intro pc ls r u' H locs hdg hnr hpost hI
  exact W.zret B.exec B.bytes hr hnr (fun t ht hW => ⟨⟨r, u', rfl, hpost, by rw [ht]; exact hI.1, va_K.moved hW.alike hK, hI.2.1⟩, hI.2.2.1.F ht⟩) hI.2.2.1.2.2 hdg hlocks
theorem c_calli (hC : cX p m c cc nL s args D dA) (hI : cI D h q dA kk A s.heap u H locs) {y : MethodName} {bytes : ByteArray} {maxL n index : Nat} {ret : Option FieldType} {rm : Room} {As st : List Value} {post : Int32 → CS → Prop} (hM : cMi l y (ws_ y bytes maxL ret) rm D h q dA kk As u post) (hT : GoodIn lw_all (wsV RX1 index RX1 y (ws_ y bytes maxL ret)))
    (hd : y.cls = RX1 ∧ y.cls ≠ "java/lang/invoke/MethodHandle" ∧ y.cls ≠ "java/lang/invoke/VarHandle" ∧ (parseMethodDescriptor y.desc).map (fun d => d.parameters.length) = some n) (hz : rm.cells = 0 ∧ rm.slots = 0) (hR : rm.frames + 1 ≤ R.frames ∧ 8 + (maxL + 11) + rm.locals ≤ R.locals) (hn : As.length = n) (hsz : ls.size = nL) (hst : st = As.reverse ++ .ref h :: rest) (hrest : (rest.map fun v => v.category).sum ≤ 8) (hcs : cells ≤ R.cells ∧ slots ≤ R.slots) (hdg : decode cc pc = .ok (.invokevirtual index, 3))
    (kk2 : ∀ (r : Int32) (u' : CS) (H1 : Heap) (locs1 : List Loc), post r u' → cI D h q dA kk A s.heap u' H1 locs1 → W p l e R s m args below meth c H1 locs1 cells slots Q (F0 m (pc + 3) ls (.int r :: rest))) : W p l e R s m args below meth c H locs cells slots Q (F0 m pc ls st) := by
  have hPc := hI.1
  have hDc := hI.2.1
  have hFc := va_free (wc := cW h q dA kk u) hI.2.1 hI.2.2.1 hI.2.2.2 [0, 1, 2, 3, 4, 5, 6, 7, 8] rfl
  refine va_calli (va_runV (As := As) (rest := rest) (index := index) hC.1 (hM H.size) (cwV n hC.1.2.2.2.2 hT rfl hz.1 hz.2 hd hR) ⟨fun a U g mk z => by obtain ⟨q0, q1, qP, qK, qD⟩ := z; exact ⟨q0, q1, qP, va_K.moved (u := U) (U := U.calling g mk a) (Vm.Alike.refl U.vm) qK, qD⟩, va_recv hC.2 hPc (ci := 0) (q0 := 0) rfl rfl, fun U hU hW => ⟨rfl, by rw [hU], by rw [hU]; exact hPc, va_K.moved hW.alike hC.2, hDc.weaken (fun _ _ _ _ => trivial)⟩⟩ rfl hn hsz hst (lv_room hrest) hdg hcs) hI.2.2.1 (fun z _ h => hFc z h) hFc (fun r u' t H1 locs1 ht hvm hp hB hz1 hk1 hS => ?_)
  obtain ⟨hP1, hK1, hD1⟩ := hB
  rw [ht] at hP1
  exact kk2 r u' H1 locs1 hp ⟨hP1, hD1.weaken (fun _ z _ h => hFc z.1 h), hS, hI.2.2.2⟩
theorem cMv_of {y : MethodName} {cc : ByteArray} {nL : Nat} {rm : Room} {As : List Value} {lv : List (Nat × Value)} {post : CS → Prop} (hy : plainName y.cls = true) (hcl : y.cls = RX1) (hlen : (lg_sl (.ref h :: As)).length ≤ nL) (hlv : lv_args 0 (.ref h :: As) = lv)
    (body : ∀ (p : Program) (e : Env) (s : State) (m : MethodId) (args : Array Value) (below : List Frame) (meth : Method) (c : Code) (A : Nat → Prop) (Q : State → Prop) (ls : Array Slot), cX p m c cc nL s args D dA → cI D h q dA kk A s.heap u s.heap [] → lv_has ls nL lv →
      (∀ (pc : Nat) (ls : Array Slot) (u' : CS) (H : Heap) (locs : List Loc), decode cc pc = .ok (.return_, 1) → post u' → cI D h q dA kk A s.heap u' H locs → W p l e rm s m args below meth c H locs 0 0 Q (F0 m pc ls [])) →
      W p l e rm s m args below meth c s.heap [] 0 0 Q (F0 m 0 ls [])) : cMv l y (ws_ y cc nL (none)) rm D h q dA kk As u post := by
  intro sz
  refine Met.ofW (cc := cc) (maxL := nL) (ret := none) hy rfl ?_
  intro p e s m args below meth c s₁ B hml hv
  obtain ⟨rfl, hsz, hP, hK, hD0⟩ := hv
  have hts := atoms_spec (ws := ws_ y cc nL (none)) B.pre
  have hts : ∀ w ∈ lw_all, w.before _ s = true := fun w h => hts w (List.mem_cons_of_mem _ h)
  have hown : s.vm.findClass y.cls = some m.cls := findClass_of_methodNamed B.named
  rw [hcl] at hown
  have hlocks := B.notSynchronized
  have hr := B.returns
  subst hsz
  have hD := hD0.self (sz := s.heap.size)
  have hl := lv_entry (.ref h :: As) (n := nL) hlen
  rw [lg_entry_eq]
  rw [hlv] at hl
  refine body p e s m _ below meth c _ _ _ ⟨⟨B.exec, B.bytes, hml, hown, hts⟩, hK⟩ ⟨hP, hD, va_S.rf, fun z hz => Or.inr hz⟩ hl ?_
  intro pc ls u' H locs hdg hpost hI
  exact W.vret B.exec B.bytes hr (fun t ht hW => ⟨⟨u', rfl, hpost, by rw [ht]; exact hI.1, va_K.moved hW.alike hK, hI.2.1⟩, hI.2.2.1.F ht⟩) hI.2.2.1.2.2 hdg hlocks
theorem c_callv (hC : cX p m c cc nL s args D dA) (hI : cI D h q dA kk A s.heap u H locs) {y : MethodName} {bytes : ByteArray} {maxL n index : Nat} {ret : Option FieldType} {rm : Room} {As st : List Value} {post : CS → Prop} (hM : cMv l y (ws_ y bytes maxL ret) rm D h q dA kk As u post) (hT : GoodIn lw_all (wsV RX1 index RX1 y (ws_ y bytes maxL ret)))
    (hd : y.cls = RX1 ∧ y.cls ≠ "java/lang/invoke/MethodHandle" ∧ y.cls ≠ "java/lang/invoke/VarHandle" ∧ (parseMethodDescriptor y.desc).map (fun d => d.parameters.length) = some n) (hz : rm.cells = 0 ∧ rm.slots = 0) (hR : rm.frames + 1 ≤ R.frames ∧ 8 + (maxL + 11) + rm.locals ≤ R.locals) (hn : As.length = n) (hsz : ls.size = nL) (hst : st = As.reverse ++ .ref h :: rest) (hrest : (rest.map fun v => v.category).sum ≤ 8) (hcs : cells ≤ R.cells ∧ slots ≤ R.slots) (hdg : decode cc pc = .ok (.invokevirtual index, 3))
    (kk2 : ∀ (u' : CS) (H1 : Heap) (locs1 : List Loc), post u' → cI D h q dA kk A s.heap u' H1 locs1 → W p l e R s m args below meth c H1 locs1 cells slots Q (F0 m (pc + 3) ls (rest))) : W p l e R s m args below meth c H locs cells slots Q (F0 m pc ls st) := by
  have hPc := hI.1
  have hDc := hI.2.1
  have hFc := va_free (wc := cW h q dA kk u) hI.2.1 hI.2.2.1 hI.2.2.2 [0, 1, 2, 3, 4, 5, 6, 7, 8] rfl
  refine va_callv (va_runV (As := As) (rest := rest) (index := index) hC.1 (hM H.size) (cwV n hC.1.2.2.2.2 hT rfl hz.1 hz.2 hd hR) ⟨fun a U g mk z => by obtain ⟨q0, q1, qP, qK, qD⟩ := z; exact ⟨q0, q1, qP, va_K.moved (u := U) (U := U.calling g mk a) (Vm.Alike.refl U.vm) qK, qD⟩, va_recv hC.2 hPc (ci := 0) (q0 := 0) rfl rfl, fun U hU hW => ⟨rfl, by rw [hU], by rw [hU]; exact hPc, va_K.moved hW.alike hC.2, hDc.weaken (fun _ _ _ _ => trivial)⟩⟩ rfl hn hsz hst (lv_room hrest) hdg hcs) hI.2.2.1 (fun z _ h => hFc z h) hFc (fun u' t H1 locs1 ht hvm hp hB hz1 hk1 hS => ?_)
  obtain ⟨hP1, hK1, hD1⟩ := hB
  rw [ht] at hP1
  exact kk2 u' H1 locs1 hp ⟨hP1, hD1.weaken (fun _ z _ h => hFc z.1 h), hS, hI.2.2.2⟩
end CROWS
def mX (p : Program) (m : MethodId) (c : Code) (cc : ByteArray) (nL : Nat) (s : State) (args : Array Value) (D : va_G) (dA : ClassId × ClassId) : Prop := CallFix p m c cc nL s args lw_all RX2 ∧ va_K D vwCl (mT dA) s
def mI (D : va_G) (h : Nat) (q : Nat → Nat) (dA : ClassId × ClassId) (kk : Nat) (A : Nat → Prop) (H0 : Heap) (u : MS) (H : Heap) (locs : List Loc) : Prop := va_P D vwCl (mW h q dA kk u) H ∧ va_D A (mW h q dA kk u) ∧ va_S A H0 H locs ∧ ∀ z, H0.size ≤ z → A z
def mB (D : va_G) (h : Nat) (q : Nat → Nat) (dA : ClassId × ClassId) (kk : Nat) (A : Nat → Prop) (u : MS) (t : State) : Prop := va_P D vwCl (mW h q dA kk u) t.heap ∧ va_K D vwCl (mT dA) t ∧ va_D A (mW h q dA kk u)
def mPc (D : va_G) (h : Nat) (q : Nat → Nat) (dA : ClassId × ClassId) (kk : Nat) (As : List Value) (u : MS) (sz : Nat) : Array Value → State → Prop := va_Pc (.ref h :: As) (fun U => U.heap.size = sz ∧ va_P D vwCl (mW h q dA kk u) U.heap ∧ va_K D vwCl (mT dA) U ∧ va_D (fun _ => True) (mW h q dA kk u))
/-- the contract of a method with an int (or boolean) answer -/
def mMi (l : Launch) (y : MethodName) (ws : List Cond) (rm : Room) (D : va_G) (h : Nat) (q : Nat → Nat) (dA : ClassId × ClassId) (kk : Nat) (As : List Value) (u : MS) (post : Int32 → MS → Prop) : Prop := ∀ sz : Nat, Met l y ws rm (mPc D h q dA kk As u sz) (va_Qi post (mB D h q dA kk (va_A (mW h q dA kk u) sz)) (va_A (mW h q dA kk u) sz)) 0 0 (va_A (mW h q dA kk u) sz)
/-- the contract of a void method -/
def mMv (l : Launch) (y : MethodName) (ws : List Cond) (rm : Room) (D : va_G) (h : Nat) (q : Nat → Nat) (dA : ClassId × ClassId) (kk : Nat) (As : List Value) (u : MS) (post : MS → Prop) : Prop := ∀ sz : Nat, Met l y ws rm (mPc D h q dA kk As u sz) (va_Qv post (mB D h q dA kk (va_A (mW h q dA kk u) sz)) (va_A (mW h q dA kk u) sz)) 0 0 (va_A (mW h q dA kk u) sz)
section MROWS
variable {p : Program} {l : Launch} {e : Env} {R : Room} {s : State} {m : MethodId} {args : Array Value} {below : List Frame} {meth : Method} {c : Code} {H : Heap} {locs : List Loc} {cells slots : Nat} {Q : State → Prop}
variable {cc : ByteArray} {pc nL : Nat} {ls : Array Slot} {rest : List Value}
variable {D : va_G} {h : Nat} {q : Nat → Nat} {dA : ClassId × ClassId} {kk : Nat} {A : Nat → Prop} {u : MS}
theorem m_get (hC : mX p m c cc nL s args D dA) (hI : mI D h q dA kk A s.heap u H locs) (j : Nat) (hj : j < 5) {idx : Nat} {v : Value} (hlink : Cond.fieldLink RX2 idx RX2 (TX2 j).2.1 (TX2 j).2.2.1 ∈ lw_all) (hsame : (TX2 j).1 = RX2) (hv : (mF q kk)[j]? = some v) (hdg : decode cc pc = .ok (.getfield idx, 3)) (k : W p l e R s m args below meth c H locs cells slots Q (F0 m (pc + 3) ls (v :: rest))) : W p l e R s m args below meth c H locs cells slots Q (F0 m pc ls (.ref h :: rest)) :=
  va_get (D := D) (ci := 1) (v := v) (C := RX2) (T := TX2) (N := 5) hC.1.1 hC.1.2.1 hC.1.2.2.2.2 in_X2 hC.1.2.2.2.1 hC.2 hI.1 0 rfl rfl j hj (hC.1.2.2.2.2 _ hlink) (fun _ h9 => by rw [hsame] at h9; exact h9) hv hdg k
theorem m_get_word (hC : mX p m c cc nL s args D dA) (hI : mI D h q dA kk A s.heap u H locs) (hdg : decode cc pc = .ok (.getfield 7, 3)) (k : W p l e R s m args below meth c H locs cells slots Q (F0 m (pc + 3) ls (.ref (q 0) :: rest))) : W p l e R s m args below meth c H locs cells slots Q (F0 m pc ls (.ref h :: rest)) := m_get hC hI 0 (by decide) q219 rfl rfl hdg k
theorem m_get_code (hC : mX p m c cc nL s args D dA) (hI : mI D h q dA kk A s.heap u H locs) (hdg : decode cc pc = .ok (.getfield 13, 3)) (k : W p l e R s m args below meth c H locs cells slots Q (F0 m (pc + 3) ls (.ref (q 1) :: rest))) : W p l e R s m args below meth c H locs cells slots Q (F0 m pc ls (.ref h :: rest)) := m_get hC hI 1 (by decide) q220 rfl rfl hdg k
theorem m_get_sum (hC : mX p m c cc nL s args D dA) (hI : mI D h q dA kk A s.heap u H locs) (hdg : decode cc pc = .ok (.getfield 16, 3)) (k : W p l e R s m args below meth c H locs cells slots Q (F0 m (pc + 3) ls (.ref (q 2) :: rest))) : W p l e R s m args below meth c H locs cells slots Q (F0 m pc ls (.ref h :: rest)) := m_get hC hI 2 (by decide) q221 rfl rfl hdg k
theorem m_get_changed (hC : mX p m c cc nL s args D dA) (hI : mI D h q dA kk A s.heap u H locs) (hdg : decode cc pc = .ok (.getfield 19, 3)) (k : W p l e R s m args below meth c H locs cells slots Q (F0 m (pc + 3) ls (.ref (q 3) :: rest))) : W p l e R s m args below meth c H locs cells slots Q (F0 m pc ls (.ref h :: rest)) := m_get hC hI 3 (by decide) q222 rfl rfl hdg k
theorem m_get_k (hC : mX p m c cc nL s args D dA) (hI : mI D h q dA kk A s.heap u H locs) (hdg : decode cc pc = .ok (.getfield 23, 3)) (k : W p l e R s m args below meth c H locs cells slots Q (F0 m (pc + 3) ls (.int (nI kk) :: rest))) : W p l e R s m args below meth c H locs cells slots Q (F0 m pc ls (.ref h :: rest)) := m_get hC hI 4 (by decide) q223 rfl rfl hdg k
theorem m_ld_word (hC : mX p m c cc nL s args D dA) (hI : mI D h q dA kk A s.heap u H locs) {i : Nat} (hdg : decode cc pc = .ok (.iaload, 1)) (k : W p l e R s m args below meth c H locs cells slots Q (F0 m (pc + 1) ls (.int (nI (u.1 i)) :: rest))) (h1 : i < 5 := by omega) : W p l e R s m args below meth c H locs cells slots Q (F0 m pc ls (.int (nI i) :: .ref (q 0) :: rest)) :=
  va_iald hC.1.1 hC.1.2.1 hC.2 hI.1 1 0 rfl rfl (vp_in_nI h1 (by decide)) hdg (by rw [nI_clamp (Nat.lt_trans h1 (by decide))]; exact k)
theorem m_st_word (hC : mX p m c cc nL s args D dA) (hI : mI D h q dA kk A s.heap u H locs) {i : Nat} {x : Nat} (hdg : decode cc pc = .ok (.iastore, 1)) (k : ∀ (u' : MS) (H1 : Heap) (locs1 : List Loc), u'.1 = up u.1 i x → u'.2 = u.2 → mI D h q dA kk A s.heap u' H1 locs1 → W p l e R s m args below meth c H1 locs1 cells slots Q (F0 m (pc + 1) ls rest)) (h1 : i < 5 := by omega) : W p l e R s m args below meth c H locs cells slots Q (F0 m pc ls (.int (nI x) :: .int (nI i) :: .ref (q 0) :: rest)) := by
  refine va_iast hC.1.1 hC.1.2.1 hC.2 hI.1 hI.2.1 hI.2.2.1 1 0 rfl rfl (vp_in_nI h1 (by decide)) hdg (fun H1 locs1 hP hD hS => ?_)
  rw [nI_clamp (Nat.lt_trans h1 (by decide)), nA_upd] at hP hD
  exact k (up u.1 i x, u.2) H1 locs1 rfl rfl ⟨hP, hD, hS, hI.2.2.2⟩
theorem m_ld_code (hC : mX p m c cc nL s args D dA) (hI : mI D h q dA kk A s.heap u H locs) {i : Nat} (hdg : decode cc pc = .ok (.iaload, 1)) (k : W p l e R s m args below meth c H locs cells slots Q (F0 m (pc + 1) ls (.int (nI (u.2.1 i)) :: rest))) (h1 : i < 5 := by omega) : W p l e R s m args below meth c H locs cells slots Q (F0 m pc ls (.int (nI i) :: .ref (q 1) :: rest)) :=
  va_iald hC.1.1 hC.1.2.1 hC.2 hI.1 2 0 rfl rfl (vp_in_nI h1 (by decide)) hdg (by rw [nI_clamp (Nat.lt_trans h1 (by decide))]; exact k)
theorem m_st_code (hC : mX p m c cc nL s args D dA) (hI : mI D h q dA kk A s.heap u H locs) {i : Nat} {x : Nat} (hdg : decode cc pc = .ok (.iastore, 1)) (k : ∀ (u' : MS) (H1 : Heap) (locs1 : List Loc), u'.2.1 = up u.2.1 i x → u'.1 = u.1 → u'.2.2 = u.2.2 → mI D h q dA kk A s.heap u' H1 locs1 → W p l e R s m args below meth c H1 locs1 cells slots Q (F0 m (pc + 1) ls rest)) (h1 : i < 5 := by omega) : W p l e R s m args below meth c H locs cells slots Q (F0 m pc ls (.int (nI x) :: .int (nI i) :: .ref (q 1) :: rest)) := by
  refine va_iast hC.1.1 hC.1.2.1 hC.2 hI.1 hI.2.1 hI.2.2.1 2 0 rfl rfl (vp_in_nI h1 (by decide)) hdg (fun H1 locs1 hP hD hS => ?_)
  rw [nI_clamp (Nat.lt_trans h1 (by decide)), nA_upd] at hP hD
  exact k (u.1, up u.2.1 i x, u.2.2) H1 locs1 rfl rfl rfl ⟨hP, hD, hS, hI.2.2.2⟩
theorem m_ld_sum (hC : mX p m c cc nL s args D dA) (hI : mI D h q dA kk A s.heap u H locs) {i : Nat} (hdg : decode cc pc = .ok (.iaload, 1)) (k : W p l e R s m args below meth c H locs cells slots Q (F0 m (pc + 1) ls (.int (nI (u.2.2.1 i)) :: rest))) (h1 : i < 5 := by omega) : W p l e R s m args below meth c H locs cells slots Q (F0 m pc ls (.int (nI i) :: .ref (q 2) :: rest)) :=
  va_iald hC.1.1 hC.1.2.1 hC.2 hI.1 3 0 rfl rfl (vp_in_nI h1 (by decide)) hdg (by rw [nI_clamp (Nat.lt_trans h1 (by decide))]; exact k)
theorem m_st_sum (hC : mX p m c cc nL s args D dA) (hI : mI D h q dA kk A s.heap u H locs) {i : Nat} {x : Nat} (hdg : decode cc pc = .ok (.iastore, 1)) (k : ∀ (u' : MS) (H1 : Heap) (locs1 : List Loc), u'.2.2.1 = up u.2.2.1 i x → u'.1 = u.1 → u'.2.1 = u.2.1 → u'.2.2.2 = u.2.2.2 → mI D h q dA kk A s.heap u' H1 locs1 → W p l e R s m args below meth c H1 locs1 cells slots Q (F0 m (pc + 1) ls rest)) (h1 : i < 5 := by omega) : W p l e R s m args below meth c H locs cells slots Q (F0 m pc ls (.int (nI x) :: .int (nI i) :: .ref (q 2) :: rest)) := by
  refine va_iast hC.1.1 hC.1.2.1 hC.2 hI.1 hI.2.1 hI.2.2.1 3 0 rfl rfl (vp_in_nI h1 (by decide)) hdg (fun H1 locs1 hP hD hS => ?_)
  rw [nI_clamp (Nat.lt_trans h1 (by decide)), nA_upd] at hP hD
  exact k (u.1, u.2.1, up u.2.2.1 i x, u.2.2.2) H1 locs1 rfl rfl rfl rfl ⟨hP, hD, hS, hI.2.2.2⟩
theorem m_ld_changed (hC : mX p m c cc nL s args D dA) (hI : mI D h q dA kk A s.heap u H locs) {i : Nat} (hdg : decode cc pc = .ok (.baload, 1)) (k : W p l e R s m args below meth c H locs cells slots Q (F0 m (pc + 1) ls (.int (nI (u.2.2.2 i)) :: rest))) (h1 : i < 32 := by omega) : W p l e R s m args below meth c H locs cells slots Q (F0 m pc ls (.int (nI i) :: .ref (q 3) :: rest)) :=
  va_zald hC.1.1 hC.1.2.1 hC.2 hI.1 4 1 rfl rfl (vp_in_nI h1 (by decide)) hdg (by rw [nI_clamp (Nat.lt_trans h1 (by decide))]; exact k)
theorem m_st_changed (hC : mX p m c cc nL s args D dA) (hI : mI D h q dA kk A s.heap u H locs) {i : Nat} {x : Nat} (hdg : decode cc pc = .ok (.bastore, 1)) (k : ∀ (u' : MS) (H1 : Heap) (locs1 : List Loc), u'.2.2.2 = up u.2.2.2 i x → u'.1 = u.1 → u'.2.1 = u.2.1 → u'.2.2.1 = u.2.2.1 → mI D h q dA kk A s.heap u' H1 locs1 → W p l e R s m args below meth c H1 locs1 cells slots Q (F0 m (pc + 1) ls rest)) (h1 : i < 32 := by omega) (h2 : x < 2 := by omega) : W p l e R s m args below meth c H locs cells slots Q (F0 m pc ls (.int (nI x) :: .int (nI i) :: .ref (q 3) :: rest)) := by
  refine va_zast hC.1.1 hC.1.2.1 hC.2 hI.1 hI.2.1 hI.2.2.1 4 1 rfl rfl (vp_in_nI h1 (by decide)) hdg (fun H1 locs1 hP hD hS => ?_)
  rw [nI_clamp (Nat.lt_trans h1 (by decide)), z_nar h2, nA_upd] at hP hD
  exact k (u.1, u.2.1, u.2.2.1, up u.2.2.2 i x) H1 locs1 rfl rfl rfl rfl ⟨hP, hD, hS, hI.2.2.2⟩
theorem mMi_of {y : MethodName} {cc : ByteArray} {nL : Nat} {ty : FieldType} {rm : Room} {As : List Value} {lv : List (Nat × Value)} {post : Int32 → MS → Prop} (hy : plainName y.cls = true) (hcl : y.cls = RX2) (hlen : (lg_sl (.ref h :: As)).length ≤ nL) (hlv : lv_args 0 (.ref h :: As) = lv)
    (body : ∀ (p : Program) (e : Env) (s : State) (m : MethodId) (args : Array Value) (below : List Frame) (meth : Method) (c : Code) (A : Nat → Prop) (Q : State → Prop) (ls : Array Slot), mX p m c cc nL s args D dA → mI D h q dA kk A s.heap u s.heap [] → lv_has ls nL lv →
      (∀ (pc : Nat) (ls : Array Slot) (r : Int32) (u' : MS) (H : Heap) (locs : List Loc), decode cc pc = .ok (.ireturn, 1) → narrow ty (.int r) = .int r → post r u' → mI D h q dA kk A s.heap u' H locs → W p l e rm s m args below meth c H locs 0 0 Q (F0 m pc ls [.int r])) →
      W p l e rm s m args below meth c s.heap [] 0 0 Q (F0 m 0 ls [])) : mMi l y (ws_ y cc nL (some ty)) rm D h q dA kk As u post := by
  intro sz
  refine Met.ofW (cc := cc) (maxL := nL) (ret := some ty) hy rfl ?_
  intro p e s m args below meth c s₁ B hml hv
  obtain ⟨rfl, hsz, hP, hK, hD0⟩ := hv
  have hts := atoms_spec (ws := ws_ y cc nL (some ty)) B.pre
  have hts : ∀ w ∈ lw_all, w.before _ s = true := fun w h => hts w (List.mem_cons_of_mem _ h)
  have hown : s.vm.findClass y.cls = some m.cls := findClass_of_methodNamed B.named
  rw [hcl] at hown
  have hlocks := B.notSynchronized
  have hr := B.returns
  subst hsz
  have hD := hD0.self (sz := s.heap.size)
  have hl := lv_entry (.ref h :: As) (n := nL) hlen
  rw [lg_entry_eq]
  rw [hlv] at hl
  refine body p e s m _ below meth c _ _ _ ⟨⟨B.exec, B.bytes, hml, hown, hts⟩, hK⟩ ⟨hP, hD, va_S.rf, fun z hz => Or.inr hz⟩ hl ?_
  intro pc ls r u' H locs hdg hnr hpost hI
  exact W.zret B.exec B.bytes hr hnr (fun t ht hW => ⟨⟨r, u', rfl, hpost, by rw [ht]; exact hI.1, va_K.moved hW.alike hK, hI.2.1⟩, hI.2.2.1.F ht⟩) hI.2.2.1.2.2 hdg hlocks
theorem m_calli (hC : mX p m c cc nL s args D dA) (hI : mI D h q dA kk A s.heap u H locs) {y : MethodName} {bytes : ByteArray} {maxL n index : Nat} {ret : Option FieldType} {rm : Room} {As st : List Value} {post : Int32 → MS → Prop} (hM : mMi l y (ws_ y bytes maxL ret) rm D h q dA kk As u post) (hT : GoodIn lw_all (wsV RX2 index RX2 y (ws_ y bytes maxL ret)))
    (hd : y.cls = RX2 ∧ y.cls ≠ "java/lang/invoke/MethodHandle" ∧ y.cls ≠ "java/lang/invoke/VarHandle" ∧ (parseMethodDescriptor y.desc).map (fun d => d.parameters.length) = some n) (hz : rm.cells = 0 ∧ rm.slots = 0) (hR : rm.frames + 1 ≤ R.frames ∧ 8 + (maxL + 11) + rm.locals ≤ R.locals) (hn : As.length = n) (hsz : ls.size = nL) (hst : st = As.reverse ++ .ref h :: rest) (hrest : (rest.map fun v => v.category).sum ≤ 8) (hcs : cells ≤ R.cells ∧ slots ≤ R.slots) (hdg : decode cc pc = .ok (.invokevirtual index, 3))
    (kk2 : ∀ (r : Int32) (u' : MS) (H1 : Heap) (locs1 : List Loc), post r u' → mI D h q dA kk A s.heap u' H1 locs1 → W p l e R s m args below meth c H1 locs1 cells slots Q (F0 m (pc + 3) ls (.int r :: rest))) : W p l e R s m args below meth c H locs cells slots Q (F0 m pc ls st) := by
  have hPc := hI.1
  have hDc := hI.2.1
  have hFc := va_free (wc := mW h q dA kk u) hI.2.1 hI.2.2.1 hI.2.2.2 [0, 1, 2, 3, 4] rfl
  refine va_calli (va_runV (As := As) (rest := rest) (index := index) hC.1 (hM H.size) (cwV n hC.1.2.2.2.2 hT rfl hz.1 hz.2 hd hR) ⟨fun a U g mk z => by obtain ⟨q0, q1, qP, qK, qD⟩ := z; exact ⟨q0, q1, qP, va_K.moved (u := U) (U := U.calling g mk a) (Vm.Alike.refl U.vm) qK, qD⟩, va_recv hC.2 hPc (ci := 1) (q0 := 0) rfl rfl, fun U hU hW => ⟨rfl, by rw [hU], by rw [hU]; exact hPc, va_K.moved hW.alike hC.2, hDc.weaken (fun _ _ _ _ => trivial)⟩⟩ rfl hn hsz hst (lv_room hrest) hdg hcs) hI.2.2.1 (fun z _ h => hFc z h) hFc (fun r u' t H1 locs1 ht hvm hp hB hz1 hk1 hS => ?_)
  obtain ⟨hP1, hK1, hD1⟩ := hB
  rw [ht] at hP1
  exact kk2 r u' H1 locs1 hp ⟨hP1, hD1.weaken (fun _ z _ h => hFc z.1 h), hS, hI.2.2.2⟩
theorem mMv_of {y : MethodName} {cc : ByteArray} {nL : Nat} {rm : Room} {As : List Value} {lv : List (Nat × Value)} {post : MS → Prop} (hy : plainName y.cls = true) (hcl : y.cls = RX2) (hlen : (lg_sl (.ref h :: As)).length ≤ nL) (hlv : lv_args 0 (.ref h :: As) = lv)
    (body : ∀ (p : Program) (e : Env) (s : State) (m : MethodId) (args : Array Value) (below : List Frame) (meth : Method) (c : Code) (A : Nat → Prop) (Q : State → Prop) (ls : Array Slot), mX p m c cc nL s args D dA → mI D h q dA kk A s.heap u s.heap [] → lv_has ls nL lv →
      (∀ (pc : Nat) (ls : Array Slot) (u' : MS) (H : Heap) (locs : List Loc), decode cc pc = .ok (.return_, 1) → post u' → mI D h q dA kk A s.heap u' H locs → W p l e rm s m args below meth c H locs 0 0 Q (F0 m pc ls [])) →
      W p l e rm s m args below meth c s.heap [] 0 0 Q (F0 m 0 ls [])) : mMv l y (ws_ y cc nL (none)) rm D h q dA kk As u post := by
  intro sz
  refine Met.ofW (cc := cc) (maxL := nL) (ret := none) hy rfl ?_
  intro p e s m args below meth c s₁ B hml hv
  obtain ⟨rfl, hsz, hP, hK, hD0⟩ := hv
  have hts := atoms_spec (ws := ws_ y cc nL (none)) B.pre
  have hts : ∀ w ∈ lw_all, w.before _ s = true := fun w h => hts w (List.mem_cons_of_mem _ h)
  have hown : s.vm.findClass y.cls = some m.cls := findClass_of_methodNamed B.named
  rw [hcl] at hown
  have hlocks := B.notSynchronized
  have hr := B.returns
  subst hsz
  have hD := hD0.self (sz := s.heap.size)
  have hl := lv_entry (.ref h :: As) (n := nL) hlen
  rw [lg_entry_eq]
  rw [hlv] at hl
  refine body p e s m _ below meth c _ _ _ ⟨⟨B.exec, B.bytes, hml, hown, hts⟩, hK⟩ ⟨hP, hD, va_S.rf, fun z hz => Or.inr hz⟩ hl ?_
  intro pc ls u' H locs hdg hpost hI
  exact W.vret B.exec B.bytes hr (fun t ht hW => ⟨⟨u', rfl, hpost, by rw [ht]; exact hI.1, va_K.moved hW.alike hK, hI.2.1⟩, hI.2.2.1.F ht⟩) hI.2.2.1.2.2 hdg hlocks
theorem m_callv (hC : mX p m c cc nL s args D dA) (hI : mI D h q dA kk A s.heap u H locs) {y : MethodName} {bytes : ByteArray} {maxL n index : Nat} {ret : Option FieldType} {rm : Room} {As st : List Value} {post : MS → Prop} (hM : mMv l y (ws_ y bytes maxL ret) rm D h q dA kk As u post) (hT : GoodIn lw_all (wsV RX2 index RX2 y (ws_ y bytes maxL ret)))
    (hd : y.cls = RX2 ∧ y.cls ≠ "java/lang/invoke/MethodHandle" ∧ y.cls ≠ "java/lang/invoke/VarHandle" ∧ (parseMethodDescriptor y.desc).map (fun d => d.parameters.length) = some n) (hz : rm.cells = 0 ∧ rm.slots = 0) (hR : rm.frames + 1 ≤ R.frames ∧ 8 + (maxL + 11) + rm.locals ≤ R.locals) (hn : As.length = n) (hsz : ls.size = nL) (hst : st = As.reverse ++ .ref h :: rest) (hrest : (rest.map fun v => v.category).sum ≤ 8) (hcs : cells ≤ R.cells ∧ slots ≤ R.slots) (hdg : decode cc pc = .ok (.invokevirtual index, 3))
    (kk2 : ∀ (u' : MS) (H1 : Heap) (locs1 : List Loc), post u' → mI D h q dA kk A s.heap u' H1 locs1 → W p l e R s m args below meth c H1 locs1 cells slots Q (F0 m (pc + 3) ls (rest))) : W p l e R s m args below meth c H locs cells slots Q (F0 m pc ls st) := by
  have hPc := hI.1
  have hDc := hI.2.1
  have hFc := va_free (wc := mW h q dA kk u) hI.2.1 hI.2.2.1 hI.2.2.2 [0, 1, 2, 3, 4] rfl
  refine va_callv (va_runV (As := As) (rest := rest) (index := index) hC.1 (hM H.size) (cwV n hC.1.2.2.2.2 hT rfl hz.1 hz.2 hd hR) ⟨fun a U g mk z => by obtain ⟨q0, q1, qP, qK, qD⟩ := z; exact ⟨q0, q1, qP, va_K.moved (u := U) (U := U.calling g mk a) (Vm.Alike.refl U.vm) qK, qD⟩, va_recv hC.2 hPc (ci := 1) (q0 := 0) rfl rfl, fun U hU hW => ⟨rfl, by rw [hU], by rw [hU]; exact hPc, va_K.moved hW.alike hC.2, hDc.weaken (fun _ _ _ _ => trivial)⟩⟩ rfl hn hsz hst (lv_room hrest) hdg hcs) hI.2.2.1 (fun z _ h => hFc z h) hFc (fun u' t H1 locs1 ht hvm hp hB hz1 hk1 hS => ?_)
  obtain ⟨hP1, hK1, hD1⟩ := hB
  rw [ht] at hP1
  exact kk2 u' H1 locs1 hp ⟨hP1, hD1.weaken (fun _ z _ h => hFc z.1 h), hS, hI.2.2.2⟩
end MROWS
end
section
set_option maxRecDepth 100000
/-! the field of 32 elements, by the tables of powers and logarithms -/
def oB (x : Int32) : Bool := decide (x < 0) || !decide (x ≤ nI 31)
theorem oB_lt {x : Int32} (h : x < 0) : oB x = true := by simp [oB, h]
theorem oB_gt {x : Int32} (h : ¬ x ≤ nI 31) : oB x = true := by simp [oB, h]
theorem oB_in {x : Int32} (h1 : ¬ x < 0) (h2 : x ≤ nI 31) : oB x = false := by simp [oB, h1, h2]
theorem oB_ex {x : Int32} (h : oB x = false) : ∃ j, j < 32 ∧ x = nI j := by
  by_cases h1 : x < 0
  · rw [oB_lt h1] at h; cases h
  · by_cases h2 : x ≤ nI 31
    · obtain ⟨j, hj, e⟩ := nI_of2 (M := nI 31) (n := 31) (by decide +kernel) h1 h2
      exact ⟨j, by omega, e⟩
    · rw [oB_gt h2] at h; cases h
theorem oB_nI {j : Nat} (h : j < 32) : oB (nI j) = false := oB_in (nI_pos (by omega)) (nI_le (by omega) (by omega))
theorem bt_0 {b : Bool} (h : b.toNat = 0) : b = false := by cases b; rfl; cases h
theorem bt_1 {b : Bool} (h : ¬ b.toNat = 0) : b = true := by cases b; exact absurd rfl h; rfl
theorem bt_lt (b : Bool) : b.toNat < 2 := by cases b <;> decide
theorem LG_30 (j : Nat) : LG j ≤ 30 := by
  by_cases h : j < 32
  · exact (by decide +kernel : ∀ j, j < 32 → LG j ≤ 30) j h
  · have : LG j = 0 := by
      unfold LG
      rw [List.getD_eq_getElem?_getD, List.getElem?_eq_none (show LGl.length ≤ j by show 32 ≤ j; omega)]
      rfl
    omega
theorem LG_add (a b : Nat) : LG a + LG b < 64 := by have := LG_30 a; have := LG_30 b; omega
theorem LG_le (a b : Nat) : LG b ≤ LG a + 31 := by have := LG_30 a; have := LG_30 b; omega
theorem LG_sub (a b : Nat) : LG a + 31 - LG b < 64 := by have := LG_30 a; have := LG_30 b; omega
def gm (a b : Nat) : Nat := if a = 0 ∨ b = 0 then 0 else PW (LG a + LG b)
def gd (a b : Nat) : Nat := if a = 0 then 0 else PW (LG a + 31 - LG b)
theorem gm_0 {a b : Nat} (h : a = 0 ∨ b = 0) : gm a b = 0 := by simp [gm, h]
theorem gm_n {a b : Nat} (h1 : ¬ a = 0) (h2 : ¬ b = 0) : gm a b = PW (LG a + LG b) := by simp [gm, h1, h2]
theorem gd_0 {a b : Nat} (h : a = 0) : gd a b = 0 := by simp [gd, h]
theorem gd_n {a b : Nat} (h : ¬ a = 0) : gd a b = PW (LG a + 31 - LG b) := by simp [gd, h]
theorem PW_lt (j : Nat) : PW j < 32 := by
  by_cases h : j < 62
  · exact (by decide +kernel : ∀ j, j < 62 → PW j < 32) j h
  · have : PW j = 0 := by
      unfold PW
      rw [List.getD_eq_getElem?_getD, List.getElem?_eq_none (show PWl.length ≤ j by show 62 ≤ j; omega)]
      rfl
    omega
theorem gm_lt (a b : Nat) : gm a b < 32 := by
  unfold gm
  split
  · omega
  · exact PW_lt _
theorem gd_lt (a b : Nat) : gd a b < 32 := by
  unfold gd
  split
  · omega
  · exact PW_lt _
theorem x_lt {a b : Nat} (ha : a < 32) (hb : b < 32) : a ^^^ b < 32 := Nat.xor_lt_two_pow (n := 5) ha hb
/-- a squared n times -/
def fr (a : Nat) : Nat → Nat
  | 0 => a
  | n + 1 => gm (fr a n) (fr a n)
theorem fr_lt {a : Nat} (h : a < 32) : ∀ n, fr a n < 32
  | 0 => h
  | _ + 1 => gm_lt _ _
theorem p5 {i : Nat} (h : i < 5) : 2 ^ i < 32 := (by decide : ∀ i, i < 5 → 2 ^ i < 32) i h
/-- symbol i of the code word of m0, m1 -/
def vl (m0 m1 i : Nat) : Nat := gm m0 (2 ^ i) ^^^ gm m1 (gm (2 ^ i) (2 ^ i))
theorem vl_lt (m0 m1 i : Nat) : vl m0 m1 i < 32 := x_lt (gm_lt _ _) (gm_lt _ _)
def b32 (w : Nat → Nat) : Prop := ∀ j, w j < 32
theorem up_b32 {w : Nat → Nat} (h : b32 w) (k : Nat) {x : Nat} (hx : x < 32) : b32 (up w k x) := by
  intro j
  unfold up
  split
  · exact hx
  · exact h j
end
section
set_option maxRecDepth 100000
abbrev rmX1_size : Room := { frames := 0, cells := 0, slots := 0, locals := 0 }
theorem hdX1_size : yX1_size.cls = RX1 ∧ yX1_size.cls ≠ "java/lang/invoke/MethodHandle" ∧ yX1_size.cls ≠ "java/lang/invoke/VarHandle" ∧ (parseMethodDescriptor yX1_size.desc).map (fun d => d.parameters.length) = some 0 := by decide +kernel
set_option maxHeartbeats 4000000 in
set_option maxRecDepth 100000 in
/-- size -/
theorem kX1_size (l : Launch) (D : va_G) (h : Nat) (q : Nat → Nat) (dA : ClassId) (kk : Nat) (u : CS)   : cMi l yX1_size (ws_ yX1_size cX1_size 1 (some .int)) rmX1_size D h q dA kk [] u (fun r u' => r = nI kk ∧ u = u') := by
  refine cMi_of (lv := [(0, .ref h)]) (by decide) rfl (Nat.le_of_ble_eq_true rfl) rfl ?_
  intro p e s m args below meth c A Q ls hC hI hl hret
  refine lv_aload_n hC.1.1 hC.1.2.1 dX1_size_0 rfl (lv_at hl 0 rfl) ?_
  refine c_get_k hC hI dX1_size_1 ?_
  exact hret _ _ _ _ _ _ dX1_size_4 rfl ⟨rfl, rfl⟩ hI
abbrev rmX1_outside : Room := { frames := 0, cells := 0, slots := 0, locals := 0 }
theorem hdX1_outside : yX1_outside.cls = RX1 ∧ yX1_outside.cls ≠ "java/lang/invoke/MethodHandle" ∧ yX1_outside.cls ≠ "java/lang/invoke/VarHandle" ∧ (parseMethodDescriptor yX1_outside.desc).map (fun d => d.parameters.length) = some 1 := by decide +kernel
theorem lkX1_outside : GoodIn lw_all (wsV RX1 45 RX1 yX1_outside (ws_ yX1_outside cX1_outside 2 (some .boolean))) := lw_V q78 q80 qs0 q28 q81
set_option maxHeartbeats 4000000 in
set_option maxRecDepth 100000 in
/-- outside -/
theorem kX1_outside (l : Launch) (D : va_G) (h : Nat) (q : Nat → Nat) (dA : ClassId) (kk : Nat) (u : CS) (x : Int32)  : cMi l yX1_outside (ws_ yX1_outside cX1_outside 2 (some .boolean)) rmX1_outside D h q dA kk [.int x] u (fun r u' => r = nI (oB x).toNat ∧ u = u') := by
  refine cMi_of (lv := [(0, .ref h), (1, .int x)]) (by decide) rfl (Nat.le_of_ble_eq_true rfl) rfl ?_
  intro p e s m args below meth c A Q ls hC hI hl hret
  refine lv_iload_n hC.1.1 hC.1.2.1 dX1_outside_0 rfl (lv_at hl 1 rfl) ?_
  refine lv_if_lt hC.1.1 hC.1.2.1 (tgt := 10) dX1_outside_1 (by decide) (fun c1 => ?_) (fun c1 => ?_)
  · refine lv_iconst (v := (nI 1)) hC.1.1 hC.1.2.1 dX1_outside_10 (by decide +kernel) ?_
    refine lv_goto (tgt := 15) hC.1.1 hC.1.2.1 dX1_outside_11 (by decide) ?_
    exact hret _ _ _ _ _ _ dX1_outside_15 rfl ⟨by first | (rw [oB_lt c1]; rfl) | (rw [oB_gt c7]; rfl) | (rw [oB_in c1 c7]; rfl), rfl⟩ hI
  · refine lv_iload_n hC.1.1 hC.1.2.1 dX1_outside_4 rfl (lv_at hl 1 rfl) ?_
    refine lv_bipush (v := (nI 31)) hC.1.1 hC.1.2.1 dX1_outside_5 (by decide +kernel) ?_
    refine lv_icmp_le hC.1.1 hC.1.2.1 (tgt := 14) dX1_outside_7 (by decide) (fun c7 => ?_) (fun c7 => ?_)
    · refine lv_iconst (v := (nI 0)) hC.1.1 hC.1.2.1 dX1_outside_14 (by decide +kernel) ?_
      exact hret _ _ _ _ _ _ dX1_outside_15 rfl ⟨by first | (rw [oB_lt c1]; rfl) | (rw [oB_gt c7]; rfl) | (rw [oB_in c1 c7]; rfl), rfl⟩ hI
    · refine lv_iconst (v := (nI 1)) hC.1.1 hC.1.2.1 dX1_outside_10 (by decide +kernel) ?_
      refine lv_goto (tgt := 15) hC.1.1 hC.1.2.1 dX1_outside_11 (by decide) ?_
      exact hret _ _ _ _ _ _ dX1_outside_15 rfl ⟨by first | (rw [oB_lt c1]; rfl) | (rw [oB_gt c7]; rfl) | (rw [oB_in c1 c7]; rfl), rfl⟩ hI
abbrev rmX1_mul : Room := { frames := 0, cells := 0, slots := 0, locals := 0 }
theorem hdX1_mul : yX1_mul.cls = RX1 ∧ yX1_mul.cls ≠ "java/lang/invoke/MethodHandle" ∧ yX1_mul.cls ≠ "java/lang/invoke/VarHandle" ∧ (parseMethodDescriptor yX1_mul.desc).map (fun d => d.parameters.length) = some 2 := by decide +kernel
theorem lkX1_mul : GoodIn lw_all (wsV RX1 41 RX1 yX1_mul (ws_ yX1_mul cX1_mul 3 (some .int))) := lw_V q82 q84 qs1 q28 q85
set_option maxHeartbeats 4000000 in
set_option maxRecDepth 100000 in
/-- mul -/
theorem kX1_mul (l : Launch) (D : va_G) (h : Nat) (q : Nat → Nat) (dA : ClassId) (kk : Nat) (u : CS) (a b : Nat) (ha : a < 32) (hb : b < 32) : cMi l yX1_mul (ws_ yX1_mul cX1_mul 3 (some .int)) rmX1_mul D h q dA kk [.int (nI a), .int (nI b)] u (fun r u' => r = nI (gm a b) ∧ u = u') := by
  refine cMi_of (lv := [(0, .ref h), (1, .int (nI a)), (2, .int (nI b))]) (by decide) rfl (Nat.le_of_ble_eq_true rfl) rfl ?_
  intro p e s m args below meth c A Q ls hC hI hl hret
  refine lv_iload_n hC.1.1 hC.1.2.1 dX1_mul_0 rfl (lv_at hl 1 rfl) ?_
  refine n_if_eq hC.1 (tgt := 8) dX1_mul_1 (by decide) (fun c1 => ?_) (fun c1 => ?_)
  · refine lv_iconst (v := (nI 0)) hC.1.1 hC.1.2.1 dX1_mul_8 (by decide +kernel) ?_
    exact hret _ _ _ _ _ _ dX1_mul_9 rfl ⟨by rw [gm_0 (by omega)], rfl⟩ hI
  · refine lv_iload_n hC.1.1 hC.1.2.1 dX1_mul_4 rfl (lv_at hl 2 rfl) ?_
    refine n_if_ne hC.1 (tgt := 10) dX1_mul_5 (by decide) (fun c5 => ?_) (fun c5 => ?_)
    · refine lv_aload_n hC.1.1 hC.1.2.1 dX1_mul_10 rfl (lv_at hl 0 rfl) ?_
      refine c_get_power hC hI dX1_mul_11 ?_
      refine lv_aload_n hC.1.1 hC.1.2.1 dX1_mul_14 rfl (lv_at hl 0 rfl) ?_
      refine c_get_log hC hI dX1_mul_15 ?_
      refine lv_iload_n hC.1.1 hC.1.2.1 dX1_mul_18 rfl (lv_at hl 1 rfl) ?_
      refine c_ld_log hC hI dX1_mul_19 ?_
      refine lv_aload_n hC.1.1 hC.1.2.1 dX1_mul_20 rfl (lv_at hl 0 rfl) ?_
      refine c_get_log hC hI dX1_mul_21 ?_
      refine lv_iload_n hC.1.1 hC.1.2.1 dX1_mul_24 rfl (lv_at hl 2 rfl) ?_
      refine c_ld_log hC hI dX1_mul_25 ?_
      refine n_iadd hC.1 dX1_mul_26 ?_
      refine c_ld_power hC hI dX1_mul_27 ?_ (LG_add _ _)
      exact hret _ _ _ _ _ _ dX1_mul_28 rfl ⟨by rw [gm_n c1 c5], rfl⟩ hI
    · refine lv_iconst (v := (nI 0)) hC.1.1 hC.1.2.1 dX1_mul_8 (by decide +kernel) ?_
      exact hret _ _ _ _ _ _ dX1_mul_9 rfl ⟨by rw [gm_0 (by omega)], rfl⟩ hI
abbrev rmX1_div : Room := { frames := 0, cells := 0, slots := 0, locals := 0 }
theorem hdX1_div : yX1_div.cls = RX1 ∧ yX1_div.cls ≠ "java/lang/invoke/MethodHandle" ∧ yX1_div.cls ≠ "java/lang/invoke/VarHandle" ∧ (parseMethodDescriptor yX1_div.desc).map (fun d => d.parameters.length) = some 2 := by decide +kernel
theorem lkX1_div : GoodIn lw_all (wsV RX1 49 RX1 yX1_div (ws_ yX1_div cX1_div 3 (some .int))) := lw_V q90 q92 qs2 q28 q93
set_option maxHeartbeats 4000000 in
set_option maxRecDepth 100000 in
/-- div -/
theorem kX1_div (l : Launch) (D : va_G) (h : Nat) (q : Nat → Nat) (dA : ClassId) (kk : Nat) (u : CS) (a b : Nat) (ha : a < 32) (hb : b < 32) : cMi l yX1_div (ws_ yX1_div cX1_div 3 (some .int)) rmX1_div D h q dA kk [.int (nI a), .int (nI b)] u (fun r u' => r = nI (gd a b) ∧ u = u') := by
  refine cMi_of (lv := [(0, .ref h), (1, .int (nI a)), (2, .int (nI b))]) (by decide) rfl (Nat.le_of_ble_eq_true rfl) rfl ?_
  intro p e s m args below meth c A Q ls hC hI hl hret
  refine lv_iload_n hC.1.1 hC.1.2.1 dX1_div_0 rfl (lv_at hl 1 rfl) ?_
  refine n_if_ne hC.1 (tgt := 6) dX1_div_1 (by decide) (fun c1 => ?_) (fun c1 => ?_)
  · refine lv_aload_n hC.1.1 hC.1.2.1 dX1_div_6 rfl (lv_at hl 0 rfl) ?_
    refine c_get_power hC hI dX1_div_7 ?_
    refine lv_aload_n hC.1.1 hC.1.2.1 dX1_div_10 rfl (lv_at hl 0 rfl) ?_
    refine c_get_log hC hI dX1_div_11 ?_
    refine lv_iload_n hC.1.1 hC.1.2.1 dX1_div_14 rfl (lv_at hl 1 rfl) ?_
    refine c_ld_log hC hI dX1_div_15 ?_
    refine lv_bipush (v := (nI 31)) hC.1.1 hC.1.2.1 dX1_div_16 (by decide +kernel) ?_
    refine n_iadd hC.1 dX1_div_18 ?_
    refine lv_aload_n hC.1.1 hC.1.2.1 dX1_div_19 rfl (lv_at hl 0 rfl) ?_
    refine c_get_log hC hI dX1_div_20 ?_
    refine lv_iload_n hC.1.1 hC.1.2.1 dX1_div_23 rfl (lv_at hl 2 rfl) ?_
    refine c_ld_log hC hI dX1_div_24 ?_
    refine n_isub hC.1 dX1_div_25 ?_ (LG_le _ _)
    refine c_ld_power hC hI dX1_div_26 ?_ (LG_sub _ _)
    exact hret _ _ _ _ _ _ dX1_div_27 rfl ⟨by rw [gd_n c1], rfl⟩ hI
  · refine lv_iconst (v := (nI 0)) hC.1.1 hC.1.2.1 dX1_div_4 (by decide +kernel) ?_
    exact hret _ _ _ _ _ _ dX1_div_5 rfl ⟨by rw [gd_0 c1], rfl⟩ hI
abbrev rmX1_frobenius : Room := { frames := 1, cells := 0, slots := 0, locals := 22 }
theorem hdX1_frobenius : yX1_frobenius.cls = RX1 ∧ yX1_frobenius.cls ≠ "java/lang/invoke/MethodHandle" ∧ yX1_frobenius.cls ≠ "java/lang/invoke/VarHandle" ∧ (parseMethodDescriptor yX1_frobenius.desc).map (fun d => d.parameters.length) = some 2 := by decide +kernel
theorem lkX1_frobenius : GoodIn lw_all (wsV RX1 70 RX1 yX1_frobenius (ws_ yX1_frobenius cX1_frobenius 5 (some .int))) := lw_V q144 q146 qs8 q28 q147
set_option maxHeartbeats 4000000 in
set_option maxRecDepth 100000 in
/-- frobenius -/
theorem kX1_frobenius (l : Launch) (D : va_G) (h : Nat) (q : Nat → Nat) (dA : ClassId) (kk : Nat) (u : CS) (a t : Nat) (ha : a < 32) (ht : t < 2 ^ 31) : cMi l yX1_frobenius (ws_ yX1_frobenius cX1_frobenius 5 (some .int)) rmX1_frobenius D h q dA kk [.int (nI a), .int (nI t)] u (fun r u' => r = nI (fr a t) ∧ u = u') := by
  refine cMi_of (lv := [(0, .ref h), (1, .int (nI a)), (2, .int (nI t))]) (by decide) rfl (Nat.le_of_ble_eq_true rfl) rfl ?_
  intro p e s m args below meth c A Q ls hC hI hl hret
  refine lv_iload_n hC.1.1 hC.1.2.1 dX1_frobenius_0 rfl (lv_at hl 1 rfl) ?_
  refine lv_istore_n (lv' := [(3, .int (nI a)), (0, .ref h), (1, .int (nI a)), (2, .int (nI t))]) hC.1.1 hC.1.2.1 dX1_frobenius_1 rfl hl (by decide) rfl (fun ls hl => ?_)
  refine lv_iconst (v := (nI 0)) hC.1.1 hC.1.2.1 dX1_frobenius_2 (by decide +kernel) ?_
  refine lv_istore (lv' := [(4, .int (nI 0)), (3, .int (nI a)), (0, .ref h), (1, .int (nI a)), (2, .int (nI t))]) hC.1.1 hC.1.2.1 dX1_frobenius_3 hl (by decide) rfl (fun ls hl => ?_)
  have lp5 : ∀ (n : Nat) (i : Nat) (x : Nat) (u5 : CS) (H : Heap) (locs : List Loc) (ls : Array Slot), i ≤ t → t < i + n → x = fr a i → u = u5 → cI D h q dA kk A s.heap u5 H locs → lv_has ls 5 [(4, .int (nI i)), (3, .int (nI x)), (0, .ref h), (1, .int (nI a)), (2, .int (nI t))] → W p l e rmX1_frobenius s m args below meth c H locs 0 0 Q (F0 m 5 ls []) := by
    intro n
    induction n with
    | zero => intro i x u5 H locs ls hi hn hx hu; exfalso; omega
    | succ n ih =>
      intro i x u5 H locs ls hi hn hx hu hI hl
      have ih5 := ih
      clear ih
      refine lv_iload hC.1.1 hC.1.2.1 dX1_frobenius_5 (lv_at hl 0 rfl) ?_
      refine lv_iload_n hC.1.1 hC.1.2.1 dX1_frobenius_7 rfl (lv_at hl 4 rfl) ?_
      refine n_icmp_ge hC.1 (tgt := 24) dX1_frobenius_8 (by decide) (fun c8 => ?_) (fun c8 => ?_)
      · refine lv_iload_n hC.1.1 hC.1.2.1 dX1_frobenius_24 rfl (lv_at hl 1 rfl) ?_
        exact hret _ _ _ _ _ _ dX1_frobenius_25 rfl ⟨by rw [hx, show i = t by omega], hu⟩ hI
      · refine lv_aload_n hC.1.1 hC.1.2.1 dX1_frobenius_11 rfl (lv_at hl 2 rfl) ?_
        refine lv_iload_n hC.1.1 hC.1.2.1 dX1_frobenius_12 rfl (lv_at hl 1 rfl) ?_
        refine lv_iload_n hC.1.1 hC.1.2.1 dX1_frobenius_13 rfl (lv_at hl 1 rfl) ?_
        refine c_calli (rest := []) hC hI (kX1_mul l D h q dA kk u5 x x (by rw [hx]; exact fr_lt ha i) (by rw [hx]; exact fr_lt ha i)) lkX1_mul hdX1_mul ⟨rfl, rfl⟩ ⟨Nat.le_of_ble_eq_true rfl, Nat.le_of_ble_eq_true rfl⟩ rfl hl.1 rfl (Nat.le_of_ble_eq_true rfl) ⟨Nat.le_of_ble_eq_true rfl, Nat.le_of_ble_eq_true rfl⟩ dX1_frobenius_14 (fun r14 v14 H locs hp14 hI => ?_)
        obtain ⟨rfl, rfl⟩ := hp14
        refine lv_istore_n (lv' := [(3, .int (nI (gm x x))), (4, .int (nI i)), (0, .ref h), (1, .int (nI a)), (2, .int (nI t))]) hC.1.1 hC.1.2.1 dX1_frobenius_17 rfl hl (by decide) rfl (fun ls hl => ?_)
        refine lv_iinc (v := (nI (i + 1))) (lv' := [(4, .int (nI (i + 1))), (3, .int (nI (gm x x))), (0, .ref h), (1, .int (nI a)), (2, .int (nI t))]) hC.1.1 hC.1.2.1 dX1_frobenius_18 hl (k := 1) rfl (ni_inc i) (by decide) rfl (fun ls hl => ?_)
        refine lv_goto (tgt := 5) hC.1.1 hC.1.2.1 dX1_frobenius_21 (by decide) ?_
        exact ih5 (i + 1) (gm x x) u5 _ _ _ (by omega) (by omega) (by rw [hx]; rfl) hu hI (lv_sub hl [0, 1, 2, 3, 4] rfl)
  exact lp5 (t + 1) 0 a u _ _ _ (by omega) (by omega) rfl rfl hI (lv_sub hl [0, 1, 2, 3, 4] rfl)
abbrev rmX1_value : Room := { frames := 1, cells := 0, slots := 0, locals := 22 }
theorem hdX1_value : yX1_value.cls = RX1 ∧ yX1_value.cls ≠ "java/lang/invoke/MethodHandle" ∧ yX1_value.cls ≠ "java/lang/invoke/VarHandle" ∧ (parseMethodDescriptor yX1_value.desc).map (fun d => d.parameters.length) = some 3 := by decide +kernel
theorem lkX1_value : GoodIn lw_all (wsV RX1 56 RX1 yX1_value (ws_ yX1_value cX1_value 8 (some .int))) := lw_V q102 q104 qs4 q28 q105
set_option maxHeartbeats 4000000 in
set_option maxRecDepth 100000 in
/-- value -/
theorem kX1_value (l : Launch) (D : va_G) (h : Nat) (q : Nat → Nat) (dA : ClassId) (kk : Nat) (u : CS) (a b i : Nat) (ha : a < 32) (hb : b < 32) (hi : i < 5) : cMi l yX1_value (ws_ yX1_value cX1_value 8 (some .int)) rmX1_value D h q dA kk [.int (nI a), .int (nI b), .int (nI i)] u (fun r u' => r = nI (vl a b i) ∧ u = u') := by
  refine cMi_of (lv := [(0, .ref h), (1, .int (nI a)), (2, .int (nI b)), (3, .int (nI i))]) (by decide) rfl (Nat.le_of_ble_eq_true rfl) rfl ?_
  intro p e s m args below meth c A Q ls hC hI hl hret
  refine lv_iconst (v := (nI 1)) hC.1.1 hC.1.2.1 dX1_value_0 (by decide +kernel) ?_
  refine lv_iload_n hC.1.1 hC.1.2.1 dX1_value_1 rfl (lv_at hl 3 rfl) ?_
  refine n_ishl1 hC.1 dX1_value_2 ?_
  refine lv_istore (lv' := [(4, .int (nI (2 ^ i))), (0, .ref h), (1, .int (nI a)), (2, .int (nI b)), (3, .int (nI i))]) hC.1.1 hC.1.2.1 dX1_value_3 hl (by decide) rfl (fun ls hl => ?_)
  refine lv_aload_n hC.1.1 hC.1.2.1 dX1_value_5 rfl (lv_at hl 1 rfl) ?_
  refine lv_iload hC.1.1 hC.1.2.1 dX1_value_6 (lv_at hl 0 rfl) ?_
  refine lv_iload hC.1.1 hC.1.2.1 dX1_value_8 (lv_at hl 0 rfl) ?_
  refine c_calli (rest := []) hC hI (kX1_mul l D h q dA kk u (2 ^ i) (2 ^ i) (p5 hi) (p5 hi)) lkX1_mul hdX1_mul ⟨rfl, rfl⟩ ⟨Nat.le_of_ble_eq_true rfl, Nat.le_of_ble_eq_true rfl⟩ rfl hl.1 rfl (Nat.le_of_ble_eq_true rfl) ⟨Nat.le_of_ble_eq_true rfl, Nat.le_of_ble_eq_true rfl⟩ dX1_value_10 (fun r10 v10 H locs hp10 hI => ?_)
  obtain ⟨rfl, rfl⟩ := hp10
  refine lv_istore (lv' := [(5, .int (nI (gm (2 ^ i) (2 ^ i)))), (4, .int (nI (2 ^ i))), (0, .ref h), (1, .int (nI a)), (2, .int (nI b)), (3, .int (nI i))]) hC.1.1 hC.1.2.1 dX1_value_13 hl (by decide) rfl (fun ls hl => ?_)
  refine lv_aload_n hC.1.1 hC.1.2.1 dX1_value_15 rfl (lv_at hl 2 rfl) ?_
  refine lv_iload_n hC.1.1 hC.1.2.1 dX1_value_16 rfl (lv_at hl 3 rfl) ?_
  refine lv_iload hC.1.1 hC.1.2.1 dX1_value_17 (lv_at hl 1 rfl) ?_
  refine c_calli (rest := []) hC hI (kX1_mul l D h q dA kk u a (2 ^ i) ha (p5 hi)) lkX1_mul hdX1_mul ⟨rfl, rfl⟩ ⟨Nat.le_of_ble_eq_true rfl, Nat.le_of_ble_eq_true rfl⟩ rfl hl.1 rfl (Nat.le_of_ble_eq_true rfl) ⟨Nat.le_of_ble_eq_true rfl, Nat.le_of_ble_eq_true rfl⟩ dX1_value_19 (fun r19 v19 H locs hp19 hI => ?_)
  obtain ⟨rfl, rfl⟩ := hp19
  refine lv_istore (lv' := [(6, .int (nI (gm a (2 ^ i)))), (5, .int (nI (gm (2 ^ i) (2 ^ i)))), (4, .int (nI (2 ^ i))), (0, .ref h), (1, .int (nI a)), (2, .int (nI b)), (3, .int (nI i))]) hC.1.1 hC.1.2.1 dX1_value_22 hl (by decide) rfl (fun ls hl => ?_)
  refine lv_aload_n hC.1.1 hC.1.2.1 dX1_value_24 rfl (lv_at hl 3 rfl) ?_
  refine lv_iload_n hC.1.1 hC.1.2.1 dX1_value_25 rfl (lv_at hl 5 rfl) ?_
  refine lv_iload hC.1.1 hC.1.2.1 dX1_value_26 (lv_at hl 1 rfl) ?_
  refine c_calli (rest := []) hC hI (kX1_mul l D h q dA kk u b (gm (2 ^ i) (2 ^ i)) hb (gm_lt _ _)) lkX1_mul hdX1_mul ⟨rfl, rfl⟩ ⟨Nat.le_of_ble_eq_true rfl, Nat.le_of_ble_eq_true rfl⟩ rfl hl.1 rfl (Nat.le_of_ble_eq_true rfl) ⟨Nat.le_of_ble_eq_true rfl, Nat.le_of_ble_eq_true rfl⟩ dX1_value_28 (fun r28 v28 H locs hp28 hI => ?_)
  obtain ⟨rfl, rfl⟩ := hp28
  refine lv_istore (lv' := [(7, .int (nI (gm b (gm (2 ^ i) (2 ^ i))))), (6, .int (nI (gm a (2 ^ i)))), (5, .int (nI (gm (2 ^ i) (2 ^ i)))), (4, .int (nI (2 ^ i))), (0, .ref h), (1, .int (nI a)), (2, .int (nI b)), (3, .int (nI i))]) hC.1.1 hC.1.2.1 dX1_value_31 hl (by decide) rfl (fun ls hl => ?_)
  refine lv_iload hC.1.1 hC.1.2.1 dX1_value_33 (lv_at hl 1 rfl) ?_
  refine lv_iload hC.1.1 hC.1.2.1 dX1_value_35 (lv_at hl 0 rfl) ?_
  refine n_ixor hC.1 dX1_value_37 ?_
  exact hret _ _ _ _ _ _ dX1_value_38 rfl ⟨rfl, rfl⟩ hI
end
section
set_option maxRecDepth 100000
/-! what the component's methods compute, in plain numbers -/
def tN (x : Int32) : Nat := x.toNatClampNeg
theorem tN_nI {j : Nat} (h : j < 32) : tN (nI j) = j := nI_clamp (by omega)
def o4 (x : Int32) : Bool := decide (x < 0) || decide (nI 4 < x)
theorem o4_lt {x : Int32} (h : x < 0) : o4 x = true := by simp [o4, h]
theorem o4_gt {x : Int32} (h : nI 4 < x) : o4 x = true := by simp [o4, h]
theorem i_nle {x y : Int32} : ¬ x ≤ y ↔ y < x := by rw [Int32.le_iff_toInt_le, Int32.lt_iff_toInt_lt]; omega
theorem i_nlt {x y : Int32} : ¬ x < y ↔ y ≤ x := by rw [Int32.le_iff_toInt_le, Int32.lt_iff_toInt_lt]; omega
theorem o4_gt' {x : Int32} (h : ¬ x ≤ nI 4) : o4 x = true := o4_gt (i_nle.mp h)
theorem o4_in {x : Int32} (h1 : ¬ x < 0) (h2 : ¬ nI 4 < x) : o4 x = false := by simp [o4, h1, h2]
theorem o4_in' {x : Int32} (h1 : ¬ x < 0) (h2 : x ≤ nI 4) : o4 x = false := o4_in h1 (i_nlt.mpr h2)
theorem o4_ex {x : Int32} (h : o4 x = false) : ∃ j, j < 5 ∧ x = nI j := by
  by_cases h1 : x < 0
  · rw [o4_lt h1] at h; cases h
  · by_cases h2 : nI 4 < x
    · rw [o4_gt h2] at h; cases h
    · obtain ⟨j, hj, e⟩ := nI_of2 (M := nI 4) (n := 4) (by decide +kernel) h1 (i_nlt.mp h2)
      exact ⟨j, by omega, e⟩
theorem o4_nI {j : Nat} (h : j < 5) : o4 (nI j) = false := o4_in' (nI_pos (by omega)) (nI_le (by omega) (by omega))
/-- no message -/
def bM (kk : Nat) (a b : Int32) : Bool := oB a || oB b || (decide (kk = 1) && !decide (b = 0))
theorem bM_ex {kk : Nat} {a b : Int32} (h : bM kk a b = false) : ∃ i j, i < 32 ∧ j < 32 ∧ a = nI i ∧ b = nI j ∧ (kk = 1 → j = 0) := by
  unfold bM at h
  simp only [Bool.or_eq_false_iff] at h
  obtain ⟨⟨h1, h2⟩, h3⟩ := h
  obtain ⟨i, hi, rfl⟩ := oB_ex h1
  obtain ⟨j, hj, rfl⟩ := oB_ex h2
  refine ⟨i, j, hi, hj, rfl, rfl, fun hk => ?_⟩
  simp [hk] at h3
  exact (nI_eq (by omega) (by omega)).mp (by rw [h3]; exact nI_0.symm)
theorem bM_nI {kk i j : Nat} (hi : i < 32) (hj : j < 32) (h : kk = 1 → j = 0) : bM kk (nI i) (nI j) = false := by
  unfold bM
  rw [oB_nI hi, oB_nI hj]
  by_cases hk : kk = 1
  · rw [h hk]; simp [hk]; exact nI_0
  · simp [hk]
def sTimes (a b : Int32) : Int32 := if (oB a || oB b) = true then pI 0 else nI (gm (tN a) (tN b))
def sOver (a b : Int32) : Int32 := if (oB a || oB b || decide (b = 0)) = true then pI 0 else nI (gd (tN a) (tN b))
/-- the first i places of w are f's -/
def ov (w f : Nat → Nat) (i : Nat) : Nat → Nat := fun j => if j < i then f j else w j
theorem ov_s (w f : Nat → Nat) (i : Nat) : up (ov w f i) i (f i) = ov w f (i + 1) := by
  funext j
  unfold up ov
  by_cases h : j = i
  · subst h; rw [if_pos rfl, if_pos (by omega)]
  · rw [if_neg h]
    by_cases h2 : j < i
    · rw [if_pos h2, if_pos (by omega)]
    · rw [if_neg h2, if_neg (by omega)]
theorem ov_k {w f : Nat → Nat} {i : Nat} (h : f i = w i) : ov w f i = ov w f (i + 1) := by
  funext j
  unfold ov
  by_cases h1 : j = i
  · subst h1; rw [if_neg (by omega), if_pos (by omega), h]
  · by_cases h2 : j < i
    · rw [if_pos h2, if_pos (by omega)]
    · rw [if_neg h2, if_neg (by omega)]
theorem ov_eq {w f : Nat → Nat} {i : Nat} (h : ∀ j, j < i → f j = w j) : ov w f i = w := by
  funext j
  unfold ov
  split
  · exact h j ‹_›
  · rfl
theorem ov_0 (w f : Nat → Nat) : ov w f 0 = w := ov_eq (fun j h => by omega)
theorem ov_ge {w f : Nat → Nat} {i j : Nat} (h : i ≤ j) : ov w f i j = w j := by unfold ov; rw [if_neg (by omega)]
theorem ov_lt {w f : Nat → Nat} {i j : Nat} (h : j < i) : ov w f i j = f j := by unfold ov; rw [if_pos h]
theorem ov_b32 {w f : Nat → Nat} (h1 : b32 w) (h2 : b32 f) (i : Nat) : b32 (ov w f i) := by
  intro j
  unfold ov
  split
  · exact h2 j
  · exact h1 j
theorem ov_b32' {w f : Nat → Nat} {i : Nat} (h1 : b32 w) (h2 : ∀ j, j < i → f j < 32) : b32 (ov w f i) := by
  intro j
  unfold ov
  split
  · exact h2 j ‹_›
  · exact h1 j
/-- disturb -/
def dF (w : Nat → Nat) (a z : Nat) : Nat → Nat := fun j => if z.testBit j = true then w j ^^^ a else w j
/-- the least index from j on, of n, with P, plus 1; or 0 -/
def lo (P : Nat → Bool) : Nat → Nat → Nat
  | _, 0 => 0
  | j, n + 1 => if P j = true then j + 1 else lo P (j + 1) n
theorem lo_le (P : Nat → Bool) : ∀ n j, lo P j n ≤ j + n
  | 0, j => Nat.zero_le _
  | n + 1, j => by
    unfold lo
    split
    · omega
    · have := lo_le P n (j + 1); omega
theorem lo_0 (P : Nat → Bool) : ∀ n j, lo P j n = 0 → ∀ i, j ≤ i → i < j + n → P i = false
  | 0, j => fun _ i h1 h2 => by omega
  | n + 1, j => fun h i h1 h2 => by
    unfold lo at h
    split at h
    · omega
    · by_cases hi : i = j
      · subst hi; exact Bool.eq_false_iff.mpr ‹_›
      · exact lo_0 P n (j + 1) h i (by omega) (by omega)
theorem lo_1 (P : Nat → Bool) : ∀ n j a, lo P j n = a + 1 → j ≤ a ∧ a < j + n ∧ P a = true ∧ ∀ i, j ≤ i → i < a → P i = false
  | 0, j => fun a h => by cases h
  | n + 1, j => fun a h => by
    unfold lo at h
    split at h
    · have : j = a := by omega
      subst this
      exact ⟨by omega, by omega, ‹_›, fun i h1 h2 => by omega⟩
    · obtain ⟨h1, h2, h3, h4⟩ := lo_1 P n (j + 1) a h
      refine ⟨by omega, by omega, h3, fun i g1 g2 => ?_⟩
      by_cases hi : i = j
      · subst hi; exact Bool.eq_false_iff.mpr ‹_›
      · exact h4 i (by omega) g2
theorem lo_t {P : Nat → Bool} {j m : Nat} (h : P j = true) (hm : m = 5 - (j + 1)) (hj : j < 5) : lo P j (5 - j) = j + 1 := by
  rw [show 5 - j = m + 1 by omega]; unfold lo; rw [if_pos h]
theorem lo_f {P : Nat → Bool} {j : Nat} (h : ¬ P j = true) (hj : j < 5) : lo P j (5 - j) = lo P (j + 1) (5 - (j + 1)) := by
  rw [show 5 - j = (5 - (j + 1)) + 1 by omega]
  show (if P j = true then _ else _) = _
  rw [if_neg h]
/-- clearBit -/
def sw (d : Nat → Nat) (a f : Nat) : Nat → Nat := up (up d a (d f)) f (d a)
def eg (d : Nat → Nat) (row b f : Nat) : Nat → Nat := fun j => if f ≤ j ∧ (d j).testBit b = true then d j ^^^ row else d j
def cbP (d : Nat → Nat) (b : Nat) : Nat → Bool := fun i => (d i).testBit b
def cb (d : Nat → Nat) (f b : Nat) : Nat × (Nat → Nat) :=
  if lo (cbP d b) f (5 - f) = 0 then (0, d) else (1, ov (sw d (lo (cbP d b) f (5 - f) - 1) f) (eg (sw d (lo (cbP d b) f (5 - f) - 1) f) (d (lo (cbP d b) f (5 - f) - 1)) b (f + 1)) 5)
theorem cb_0 {d : Nat → Nat} {f b : Nat} (h : lo (cbP d b) f (5 - f) = 0) : cb d f b = (0, d) := by unfold cb; rw [if_pos h]
theorem cb_1 {d : Nat → Nat} {f b z : Nat} (h : lo (cbP d b) f (5 - f) = z + 1) : cb d f b = (1, ov (sw d z f) (eg (sw d z f) (d z) b (f + 1)) 5) := by
  unfold cb
  rw [if_neg (by omega), h]
  rfl
theorem cb_le (d : Nat → Nat) (f b : Nat) : (cb d f b).1 ≤ 1 := by
  unfold cb
  split <;> simp
theorem sw_b32 {d : Nat → Nat} (h : b32 d) (a f : Nat) : b32 (sw d a f) := up_b32 (up_b32 h _ (h _)) _ (h _)
theorem eg_b32 {d : Nat → Nat} (h : b32 d) {row : Nat} (hr : row < 32) (b f : Nat) : b32 (eg d row b f) := by
  intro j
  unfold eg
  split
  · exact x_lt (h j) hr
  · exact h j
theorem cb_b32 {d : Nat → Nat} (h : b32 d) (f b : Nat) : b32 (cb d f b).2 := by
  unfold cb
  split
  · exact h
  · exact ov_b32 (sw_b32 h _ _) (eg_b32 (sw_b32 h _ _) (h _) _ _) _
/-- the rank by elimination: (rank, rows) after so many bits -/
def dst (d : Nat → Nat) : Nat → Nat × (Nat → Nat)
  | 0 => (0, d)
  | b + 1 => ((dst d b).1 + (cb (dst d b).2 (dst d b).1 b).1, (cb (dst d b).2 (dst d b).1 b).2)
theorem dst_le (d : Nat → Nat) : ∀ b, (dst d b).1 ≤ b
  | 0 => Nat.le_refl _
  | b + 1 => by
    have := dst_le d b
    have := cb_le (dst d b).2 (dst d b).1 b
    show (dst d b).1 + (cb (dst d b).2 (dst d b).1 b).1 ≤ b + 1
    omega
theorem dst_b32 {d : Nat → Nat} (h : b32 d) : ∀ b, b32 (dst d b).2
  | 0 => h
  | b + 1 => cb_b32 (dst_b32 h b) _ _
def rkC (d : Nat → Nat) : Nat := (dst d 5).1
/-- the word's difference to a code word -/
def df (w : Nat → Nat) (a b : Nat) : Nat → Nat := fun j => w j ^^^ vl a b j
theorem df_b32 {w : Nat → Nat} (h : b32 w) (a b : Nat) : b32 (df w a b) := fun j => x_lt (h j) (vl_lt _ _ _)
/-- matches -/
def mt (w : Nat → Nat) (a b z : Nat) : Nat → Bool
  | 0 => true
  | n + 1 => if z.testBit n = true then (mt w a b z n && decide (vl a b n = w n)) else mt w a b z n
def zP (z : Nat) : Nat → Bool := fun i => z.testBit i
def cl (s i : Nat) : Nat := s &&& (31 ^^^ 2 ^ i)
theorem cl_e : ∀ s, s < 32 → ∀ i, i < 5 → nI s &&& (nI (2 ^ i) ^^^ pI 0) = nI (cl s i) := by decide +kernel
theorem cl_lt {s : Nat} (h : s < 32) (i : Nat) : cl s i < 32 := Nat.lt_of_le_of_lt Nat.and_le_left h
theorem co_e : ∀ s, s < 32 → nI 31 &&& (nI s ^^^ pI 0) = nI (31 ^^^ s) := by decide +kernel
/-- agrees -/
def ag (kk : Nat) (w : Nat → Nat) (s : Nat) : Bool :=
  if lo (zP s) 0 5 = 0 then true else
  if kk = 1 then mt w (gd (w (lo (zP s) 0 5 - 1)) (2 ^ (lo (zP s) 0 5 - 1))) 0 (cl s (lo (zP s) 0 5 - 1)) 5 else
  if lo (zP (cl s (lo (zP s) 0 5 - 1))) 0 5 = 0 then true else
  mt w (gd (w (lo (zP s) 0 5 - 1)) (2 ^ (lo (zP s) 0 5 - 1)) ^^^ gm (gd (gd (w (lo (zP s) 0 5 - 1)) (2 ^ (lo (zP s) 0 5 - 1)) ^^^ gd (w (lo (zP (cl s (lo (zP s) 0 5 - 1))) 0 5 - 1)) (2 ^ (lo (zP (cl s (lo (zP s) 0 5 - 1))) 0 5 - 1))) (2 ^ (lo (zP s) 0 5 - 1) ^^^ 2 ^ (lo (zP (cl s (lo (zP s) 0 5 - 1))) 0 5 - 1))) (2 ^ (lo (zP s) 0 5 - 1)))
    (gd (gd (w (lo (zP s) 0 5 - 1)) (2 ^ (lo (zP s) 0 5 - 1)) ^^^ gd (w (lo (zP (cl s (lo (zP s) 0 5 - 1))) 0 5 - 1)) (2 ^ (lo (zP (cl s (lo (zP s) 0 5 - 1))) 0 5 - 1))) (2 ^ (lo (zP s) 0 5 - 1) ^^^ 2 ^ (lo (zP (cl s (lo (zP s) 0 5 - 1))) 0 5 - 1))) (cl s (lo (zP s) 0 5 - 1)) 5
/-- coverings -/
def cv (kk : Nat) (w : Nat → Nat) : Nat → Nat
  | 0 => 0
  | n + 1 => cv kk w n + (ag kk w (31 ^^^ n)).toNat
theorem cv_le (kk : Nat) (w : Nat → Nat) : ∀ n, cv kk w n ≤ n
  | 0 => Nat.le_refl _
  | n + 1 => by
    have := cv_le kk w n
    have := bt_lt (ag kk w (31 ^^^ n))
    show cv kk w n + _ ≤ _
    omega
end
section
set_option maxRecDepth 100000
theorem lo_congr {P P' : Nat → Bool} : ∀ n j, (∀ i, j ≤ i → i < j + n → P i = P' i) → lo P j n = lo P' j n
  | 0, _ => fun _ => rfl
  | n + 1, j => fun h => by
    unfold lo
    rw [h j (by omega) (by omega), lo_congr n (j + 1) (fun i h1 h2 => h i (by omega) (by omega))]
theorem cb_congr {d e : Nat → Nat} {f : Nat} (h : ∀ j, j < 5 → d j = e j) (hf : f < 5) (b : Nat) : (cb d f b).1 = (cb e f b).1 ∧ ∀ j, j < 5 → (cb d f b).2 j = (cb e f b).2 j := by
  have hlo : lo (cbP d b) f (5 - f) = lo (cbP e b) f (5 - f) := lo_congr _ _ (fun i h1 h2 => by unfold cbP; rw [h i (by omega)])
  cases ha : lo (cbP d b) f (5 - f) with
  | zero =>
    rw [cb_0 ha, cb_0 (hlo.symm.trans ha)]
    exact ⟨rfl, h⟩
  | succ z =>
    rw [cb_1 ha, cb_1 (hlo.symm.trans ha)]
    obtain ⟨h1, h2, -, -⟩ := lo_1 _ _ _ _ ha
    refine ⟨rfl, fun j hj => ?_⟩
    have hs : ∀ j, j < 5 → sw d z f j = sw e z f j := by
      intro j hj
      unfold sw up
      split
      · exact h z (by omega)
      · split
        · exact h f hf
        · exact h j hj
    show ov (sw d z f) _ 5 j = ov (sw e z f) _ 5 j
    rw [ov_lt hj, ov_lt hj]
    unfold eg
    rw [hs j hj, h z (by omega)]
theorem dst_congr {d e : Nat → Nat} (h : ∀ j, j < 5 → d j = e j) : ∀ b, b ≤ 5 → (dst d b).1 = (dst e b).1 ∧ ∀ j, j < 5 → (dst d b).2 j = (dst e b).2 j
  | 0 => fun _ => ⟨rfl, h⟩
  | b + 1 => fun hb => by
    obtain ⟨h1, h2⟩ := dst_congr h b (by omega)
    have hl := dst_le e b
    have hc := cb_congr (f := (dst e b).1) h2 (by omega) b
    refine ⟨?_, ?_⟩
    · show (dst d b).1 + (cb (dst d b).2 (dst d b).1 b).1 = (dst e b).1 + (cb (dst e b).2 (dst e b).1 b).1
      rw [h1, hc.1]
    · show ∀ j, j < 5 → (cb (dst d b).2 (dst d b).1 b).2 j = (cb (dst e b).2 (dst e b).1 b).2 j
      rw [h1]
      exact hc.2
theorem rkC_congr {d e : Nat → Nat} (h : ∀ j, j < 5 → d j = e j) : rkC d = rkC e := (dst_congr h 5 (by omega)).1
def sDist (kk : Nat) (w : Nat → Nat) (a b : Int32) : Int32 := if bM kk a b = true then pI 0 else nI (rkC (df w (tN a) (tN b)))
theorem sDist_t {kk : Nat} {w : Nat → Nat} {a b : Int32} (h : bM kk a b = true) : sDist kk w a b = pI 0 := by unfold sDist; rw [if_pos h]
theorem sDist_n {kk i j : Nat} {w : Nat → Nat} (hi : i < 32) (hj : j < 32) (h : kk = 1 → j = 0) : sDist kk w (nI i) (nI j) = nI (rkC (df w i j)) := by
  unfold sDist
  rw [bM_nI hi hj h, tN_nI hi, tN_nI hj]
  rfl
def wDis (w : Nat → Nat) (a z : Int32) : Nat → Nat := if (oB a || oB z) = true then w else ov w (dF w (tN a) (tN z)) 5
def sDis (w : Nat → Nat) (a z : Int32) : Int32 := if (oB a || oB z) = true then pI 0 else nI (rkC (df (wDis w a z) 0 0))
def wEnc (kk : Nat) (w : Nat → Nat) (a b : Int32) : Nat → Nat := if bM kk a b = true then w else ov w (vl (tN a) (tN b)) 5
def sEnc (kk : Nat) (a b : Int32) : Int32 := if bM kk a b = true then pI 0 else nI 0
def wPut (w : Nat → Nat) (i c : Int32) : Nat → Nat := if (o4 i || oB c) = true then w else up w (tN i) (tN c)
def sPut (w : Nat → Nat) (i c : Int32) : Int32 := if (o4 i || oB c) = true then pI 0 else nI (w (tN i))
def sSym (w : Nat → Nat) (i : Int32) : Int32 := if o4 i = true then pI 0 else nI (w (tN i))
theorem tN_nI5 {j : Nat} (h : j < 5) : tN (nI j) = j := nI_clamp (by omega)
theorem mt_t {w : Nat → Nat} {a b z i : Nat} (h : z.testBit i = true) : mt w a b z (i + 1) = (mt w a b z i && decide (vl a b i = w i)) := by
  show (if z.testBit i = true then _ else _) = _
  rw [if_pos h]
theorem mt_f {w : Nat → Nat} {a b z i : Nat} (h : ¬ z.testBit i = true) : mt w a b z (i + 1) = mt w a b z i := by
  show (if z.testBit i = true then _ else _) = _
  rw [if_neg h]
theorem ag_0 {kk : Nat} {w : Nat → Nat} {s : Nat} (h : lo (zP s) 0 5 = 0) : ag kk w s = true := by unfold ag; rw [if_pos h]
theorem ag_1 {kk : Nat} {w : Nat → Nat} {s i : Nat} (h : lo (zP s) 0 5 = i + 1) (hk : kk = 1) : ag kk w s = mt w (gd (w i) (2 ^ i)) 0 (cl s i) 5 := by
  unfold ag
  rw [if_neg (by omega), if_pos hk, h]
  rfl
theorem ag_2 {kk : Nat} {w : Nat → Nat} {s i : Nat} (h : lo (zP s) 0 5 = i + 1) (hk : ¬ kk = 1) (h2 : lo (zP (cl s i)) 0 5 = 0) : ag kk w s = true := by
  unfold ag
  simp only [h, Nat.add_sub_cancel]
  rw [if_neg (by omega), if_neg hk, if_pos h2]
theorem ag_3 {kk : Nat} {w : Nat → Nat} {s i j : Nat} (h : lo (zP s) 0 5 = i + 1) (hk : ¬ kk = 1) (h2 : lo (zP (cl s i)) 0 5 = j + 1) : ag kk w s = mt w (gd (w i) (2 ^ i) ^^^ gm (gd (gd (w i) (2 ^ i) ^^^ gd (w j) (2 ^ j)) (2 ^ i ^^^ 2 ^ j)) (2 ^ i)) (gd (gd (w i) (2 ^ i) ^^^ gd (w j) (2 ^ j)) (2 ^ i ^^^ 2 ^ j)) (cl s i) 5 := by
  unfold ag
  simp only [h, Nat.add_sub_cancel]
  rw [if_neg (by omega), if_neg hk, if_neg (by omega), h2]
  rfl
abbrev rmX1_times : Room := { frames := 1, cells := 0, slots := 0, locals := 22 }
theorem hdX1_times : yX1_times.cls = RX1 ∧ yX1_times.cls ≠ "java/lang/invoke/MethodHandle" ∧ yX1_times.cls ≠ "java/lang/invoke/VarHandle" ∧ (parseMethodDescriptor yX1_times.desc).map (fun d => d.parameters.length) = some 2 := by decide +kernel
set_option maxHeartbeats 4000000 in
set_option maxRecDepth 100000 in
/-- times -/
theorem kX1_times (l : Launch) (D : va_G) (h : Nat) (q : Nat → Nat) (dA : ClassId) (kk : Nat) (u : CS) (a b : Int32)  : cMi l yX1_times (ws_ yX1_times cX1_times 3 (some .int)) rmX1_times D h q dA kk [.int a, .int b] u (fun r u' => r = sTimes a b ∧ u = u') := by
  refine cMi_of (lv := [(0, .ref h), (1, .int a), (2, .int b)]) (by decide) rfl (Nat.le_of_ble_eq_true rfl) rfl ?_
  intro p e s m args below meth c A Q ls hC hI hl hret
  refine lv_aload_n hC.1.1 hC.1.2.1 dX1_times_0 rfl (lv_at hl 0 rfl) ?_
  refine lv_iload_n hC.1.1 hC.1.2.1 dX1_times_1 rfl (lv_at hl 1 rfl) ?_
  refine c_calli (rest := []) hC hI (kX1_outside l D h q dA kk u a) lkX1_outside hdX1_outside ⟨rfl, rfl⟩ ⟨Nat.le_of_ble_eq_true rfl, Nat.le_of_ble_eq_true rfl⟩ rfl hl.1 rfl (Nat.le_of_ble_eq_true rfl) ⟨Nat.le_of_ble_eq_true rfl, Nat.le_of_ble_eq_true rfl⟩ dX1_times_2 (fun r2 v2 H locs hp2 hI => ?_)
  obtain ⟨rfl, rfl⟩ := hp2
  refine n_if_ne hC.1 (tgt := 16) dX1_times_5 (by decide) (fun c5 => ?_) (fun c5 => ?_) (Nat.lt_trans (bt_lt _) (by decide))
  · refine lv_iconst (v := (pI 0)) hC.1.1 hC.1.2.1 dX1_times_16 (by decide +kernel) ?_
    exact hret _ _ _ _ _ _ dX1_times_17 rfl ⟨by unfold sTimes; rw [if_pos (by first | rw [bt_1 c5, Bool.true_or] | rw [bt_1 c13, Bool.or_true])], rfl⟩ hI
  · refine lv_aload_n hC.1.1 hC.1.2.1 dX1_times_8 rfl (lv_at hl 0 rfl) ?_
    refine lv_iload_n hC.1.1 hC.1.2.1 dX1_times_9 rfl (lv_at hl 2 rfl) ?_
    refine c_calli (rest := []) hC hI (kX1_outside l D h q dA kk u b) lkX1_outside hdX1_outside ⟨rfl, rfl⟩ ⟨Nat.le_of_ble_eq_true rfl, Nat.le_of_ble_eq_true rfl⟩ rfl hl.1 rfl (Nat.le_of_ble_eq_true rfl) ⟨Nat.le_of_ble_eq_true rfl, Nat.le_of_ble_eq_true rfl⟩ dX1_times_10 (fun r10 v10 H locs hp10 hI => ?_)
    obtain ⟨rfl, rfl⟩ := hp10
    refine n_if_eq hC.1 (tgt := 18) dX1_times_13 (by decide) (fun c13 => ?_) (fun c13 => ?_) (Nat.lt_trans (bt_lt _) (by decide))
    · obtain ⟨i, hi, rfl⟩ := oB_ex (bt_0 c5)
      obtain ⟨j, hj, rfl⟩ := oB_ex (bt_0 c13)
      refine lv_aload_n hC.1.1 hC.1.2.1 dX1_times_18 rfl (lv_at hl 0 rfl) ?_
      refine lv_iload_n hC.1.1 hC.1.2.1 dX1_times_19 rfl (lv_at hl 1 rfl) ?_
      refine lv_iload_n hC.1.1 hC.1.2.1 dX1_times_20 rfl (lv_at hl 2 rfl) ?_
      refine c_calli (rest := []) hC hI (kX1_mul l D h q dA kk u i j hi hj) lkX1_mul hdX1_mul ⟨rfl, rfl⟩ ⟨Nat.le_of_ble_eq_true rfl, Nat.le_of_ble_eq_true rfl⟩ rfl hl.1 rfl (Nat.le_of_ble_eq_true rfl) ⟨Nat.le_of_ble_eq_true rfl, Nat.le_of_ble_eq_true rfl⟩ dX1_times_21 (fun r21 v21 H locs hp21 hI => ?_)
      obtain ⟨rfl, rfl⟩ := hp21
      exact hret _ _ _ _ _ _ dX1_times_24 rfl ⟨by unfold sTimes; rw [oB_nI hi, oB_nI hj, tN_nI hi, tN_nI hj]; rfl, rfl⟩ hI
    · refine lv_iconst (v := (pI 0)) hC.1.1 hC.1.2.1 dX1_times_16 (by decide +kernel) ?_
      exact hret _ _ _ _ _ _ dX1_times_17 rfl ⟨by unfold sTimes; rw [if_pos (by first | rw [bt_1 c5, Bool.true_or] | rw [bt_1 c13, Bool.or_true])], rfl⟩ hI
abbrev rmX1_over : Room := { frames := 1, cells := 0, slots := 0, locals := 22 }
theorem hdX1_over : yX1_over.cls = RX1 ∧ yX1_over.cls ≠ "java/lang/invoke/MethodHandle" ∧ yX1_over.cls ≠ "java/lang/invoke/VarHandle" ∧ (parseMethodDescriptor yX1_over.desc).map (fun d => d.parameters.length) = some 2 := by decide +kernel
set_option maxHeartbeats 4000000 in
set_option maxRecDepth 100000 in
/-- over -/
theorem kX1_over (l : Launch) (D : va_G) (h : Nat) (q : Nat → Nat) (dA : ClassId) (kk : Nat) (u : CS) (a b : Int32)  : cMi l yX1_over (ws_ yX1_over cX1_over 3 (some .int)) rmX1_over D h q dA kk [.int a, .int b] u (fun r u' => r = sOver a b ∧ u = u') := by
  refine cMi_of (lv := [(0, .ref h), (1, .int a), (2, .int b)]) (by decide) rfl (Nat.le_of_ble_eq_true rfl) rfl ?_
  intro p e s m args below meth c A Q ls hC hI hl hret
  refine lv_aload_n hC.1.1 hC.1.2.1 dX1_over_0 rfl (lv_at hl 0 rfl) ?_
  refine lv_iload_n hC.1.1 hC.1.2.1 dX1_over_1 rfl (lv_at hl 1 rfl) ?_
  refine c_calli (rest := []) hC hI (kX1_outside l D h q dA kk u a) lkX1_outside hdX1_outside ⟨rfl, rfl⟩ ⟨Nat.le_of_ble_eq_true rfl, Nat.le_of_ble_eq_true rfl⟩ rfl hl.1 rfl (Nat.le_of_ble_eq_true rfl) ⟨Nat.le_of_ble_eq_true rfl, Nat.le_of_ble_eq_true rfl⟩ dX1_over_2 (fun r2 v2 H locs hp2 hI => ?_)
  obtain ⟨rfl, rfl⟩ := hp2
  refine n_if_ne hC.1 (tgt := 20) dX1_over_5 (by decide) (fun c5 => ?_) (fun c5 => ?_) (Nat.lt_trans (bt_lt _) (by decide))
  · refine lv_iconst (v := (pI 0)) hC.1.1 hC.1.2.1 dX1_over_20 (by decide +kernel) ?_
    exact hret _ _ _ _ _ _ dX1_over_21 rfl ⟨by unfold sOver; rw [if_pos (by first | (rw [bt_1 c5]; rfl) | (rw [bt_1 c13, Bool.or_true]; rfl) | (rw [decide_eq_true c17, Bool.or_true]))], rfl⟩ hI
  · refine lv_aload_n hC.1.1 hC.1.2.1 dX1_over_8 rfl (lv_at hl 0 rfl) ?_
    refine lv_iload_n hC.1.1 hC.1.2.1 dX1_over_9 rfl (lv_at hl 2 rfl) ?_
    refine c_calli (rest := []) hC hI (kX1_outside l D h q dA kk u b) lkX1_outside hdX1_outside ⟨rfl, rfl⟩ ⟨Nat.le_of_ble_eq_true rfl, Nat.le_of_ble_eq_true rfl⟩ rfl hl.1 rfl (Nat.le_of_ble_eq_true rfl) ⟨Nat.le_of_ble_eq_true rfl, Nat.le_of_ble_eq_true rfl⟩ dX1_over_10 (fun r10 v10 H locs hp10 hI => ?_)
    obtain ⟨rfl, rfl⟩ := hp10
    refine n_if_ne hC.1 (tgt := 20) dX1_over_13 (by decide) (fun c13 => ?_) (fun c13 => ?_) (Nat.lt_trans (bt_lt _) (by decide))
    · refine lv_iconst (v := (pI 0)) hC.1.1 hC.1.2.1 dX1_over_20 (by decide +kernel) ?_
      exact hret _ _ _ _ _ _ dX1_over_21 rfl ⟨by unfold sOver; rw [if_pos (by first | (rw [bt_1 c5]; rfl) | (rw [bt_1 c13, Bool.or_true]; rfl) | (rw [decide_eq_true c17, Bool.or_true]))], rfl⟩ hI
    · refine lv_iload_n hC.1.1 hC.1.2.1 dX1_over_16 rfl (lv_at hl 2 rfl) ?_
      refine lv_if_ne hC.1.1 hC.1.2.1 (tgt := 22) dX1_over_17 (by decide) (fun c17 => ?_) (fun c17 => ?_)
      · obtain ⟨i, hi, rfl⟩ := oB_ex (bt_0 c5)
        obtain ⟨j, hj, rfl⟩ := oB_ex (bt_0 c13)
        refine lv_aload_n hC.1.1 hC.1.2.1 dX1_over_22 rfl (lv_at hl 0 rfl) ?_
        refine lv_iload_n hC.1.1 hC.1.2.1 dX1_over_23 rfl (lv_at hl 1 rfl) ?_
        refine lv_iload_n hC.1.1 hC.1.2.1 dX1_over_24 rfl (lv_at hl 2 rfl) ?_
        refine c_calli (rest := []) hC hI (kX1_div l D h q dA kk u i j hi hj) lkX1_div hdX1_div ⟨rfl, rfl⟩ ⟨Nat.le_of_ble_eq_true rfl, Nat.le_of_ble_eq_true rfl⟩ rfl hl.1 rfl (Nat.le_of_ble_eq_true rfl) ⟨Nat.le_of_ble_eq_true rfl, Nat.le_of_ble_eq_true rfl⟩ dX1_over_25 (fun r25 v25 H locs hp25 hI => ?_)
        obtain ⟨rfl, rfl⟩ := hp25
        exact hret _ _ _ _ _ _ dX1_over_28 rfl ⟨by unfold sOver; rw [oB_nI hi, oB_nI hj, tN_nI hi, tN_nI hj, decide_eq_false c17]; rfl, rfl⟩ hI
      · refine lv_iconst (v := (pI 0)) hC.1.1 hC.1.2.1 dX1_over_20 (by decide +kernel) ?_
        exact hret _ _ _ _ _ _ dX1_over_21 rfl ⟨by unfold sOver; rw [if_pos (by first | (rw [bt_1 c5]; rfl) | (rw [bt_1 c13, Bool.or_true]; rfl) | (rw [decide_eq_true c17, Bool.or_true]))], rfl⟩ hI
abbrev rmX1_badMessage : Room := { frames := 1, cells := 0, slots := 0, locals := 21 }
theorem hdX1_badMessage : yX1_badMessage.cls = RX1 ∧ yX1_badMessage.cls ≠ "java/lang/invoke/MethodHandle" ∧ yX1_badMessage.cls ≠ "java/lang/invoke/VarHandle" ∧ (parseMethodDescriptor yX1_badMessage.desc).map (fun d => d.parameters.length) = some 2 := by decide +kernel
theorem lkX1_badMessage : GoodIn lw_all (wsV RX1 52 RX1 yX1_badMessage (ws_ yX1_badMessage cX1_badMessage 3 (some .boolean))) := lw_V q98 q100 qs3 q28 q101
set_option maxHeartbeats 4000000 in
set_option maxRecDepth 100000 in
/-- badMessage -/
theorem kX1_badMessage (l : Launch) (D : va_G) (h : Nat) (q : Nat → Nat) (dA : ClassId) (kk : Nat) (u : CS) (a b : Int32) (hk : kk = 1 ∨ kk = 2) : cMi l yX1_badMessage (ws_ yX1_badMessage cX1_badMessage 3 (some .boolean)) rmX1_badMessage D h q dA kk [.int a, .int b] u (fun r u' => r = nI (bM kk a b).toNat ∧ u = u') := by
  refine cMi_of (lv := [(0, .ref h), (1, .int a), (2, .int b)]) (by decide) rfl (Nat.le_of_ble_eq_true rfl) rfl ?_
  intro p e s m args below meth c A Q ls hC hI hl hret
  refine lv_aload_n hC.1.1 hC.1.2.1 dX1_badMessage_0 rfl (lv_at hl 0 rfl) ?_
  refine lv_iload_n hC.1.1 hC.1.2.1 dX1_badMessage_1 rfl (lv_at hl 1 rfl) ?_
  refine c_calli (rest := []) hC hI (kX1_outside l D h q dA kk u a) lkX1_outside hdX1_outside ⟨rfl, rfl⟩ ⟨Nat.le_of_ble_eq_true rfl, Nat.le_of_ble_eq_true rfl⟩ rfl hl.1 rfl (Nat.le_of_ble_eq_true rfl) ⟨Nat.le_of_ble_eq_true rfl, Nat.le_of_ble_eq_true rfl⟩ dX1_badMessage_2 (fun r2 v2 H locs hp2 hI => ?_)
  obtain ⟨rfl, rfl⟩ := hp2
  refine n_if_ne hC.1 (tgt := 28) dX1_badMessage_5 (by decide) (fun c5 => ?_) (fun c5 => ?_) (Nat.lt_trans (bt_lt _) (by decide))
  · refine lv_iconst (v := (nI 1)) hC.1.1 hC.1.2.1 dX1_badMessage_28 (by decide +kernel) ?_
    refine lv_goto (tgt := 33) hC.1.1 hC.1.2.1 dX1_badMessage_29 (by decide) ?_
    exact hret _ _ _ _ _ _ dX1_badMessage_33 rfl ⟨by unfold bM; first | (rw [bt_1 c5]; rfl) | (rw [bt_1 c13, Bool.or_true]; rfl) | (rw [bt_0 c5, bt_0 c13, decide_eq_false c21]; rfl) | (rw [bt_0 c5, bt_0 c13, decide_eq_true c21, decide_eq_true c25]; rfl) | (rw [bt_0 c5, bt_0 c13, decide_eq_true c21, decide_eq_false c25]; rfl), rfl⟩ hI
  · refine lv_aload_n hC.1.1 hC.1.2.1 dX1_badMessage_8 rfl (lv_at hl 0 rfl) ?_
    refine lv_iload_n hC.1.1 hC.1.2.1 dX1_badMessage_9 rfl (lv_at hl 2 rfl) ?_
    refine c_calli (rest := []) hC hI (kX1_outside l D h q dA kk u b) lkX1_outside hdX1_outside ⟨rfl, rfl⟩ ⟨Nat.le_of_ble_eq_true rfl, Nat.le_of_ble_eq_true rfl⟩ rfl hl.1 rfl (Nat.le_of_ble_eq_true rfl) ⟨Nat.le_of_ble_eq_true rfl, Nat.le_of_ble_eq_true rfl⟩ dX1_badMessage_10 (fun r10 v10 H locs hp10 hI => ?_)
    obtain ⟨rfl, rfl⟩ := hp10
    refine n_if_ne hC.1 (tgt := 28) dX1_badMessage_13 (by decide) (fun c13 => ?_) (fun c13 => ?_) (Nat.lt_trans (bt_lt _) (by decide))
    · refine lv_iconst (v := (nI 1)) hC.1.1 hC.1.2.1 dX1_badMessage_28 (by decide +kernel) ?_
      refine lv_goto (tgt := 33) hC.1.1 hC.1.2.1 dX1_badMessage_29 (by decide) ?_
      exact hret _ _ _ _ _ _ dX1_badMessage_33 rfl ⟨by unfold bM; first | (rw [bt_1 c5]; rfl) | (rw [bt_1 c13, Bool.or_true]; rfl) | (rw [bt_0 c5, bt_0 c13, decide_eq_false c21]; rfl) | (rw [bt_0 c5, bt_0 c13, decide_eq_true c21, decide_eq_true c25]; rfl) | (rw [bt_0 c5, bt_0 c13, decide_eq_true c21, decide_eq_false c25]; rfl), rfl⟩ hI
    · refine lv_aload_n hC.1.1 hC.1.2.1 dX1_badMessage_16 rfl (lv_at hl 0 rfl) ?_
      refine c_get_k hC hI dX1_badMessage_17 ?_
      refine lv_iconst (v := (nI 1)) hC.1.1 hC.1.2.1 dX1_badMessage_20 (by decide +kernel) ?_
      refine n_icmp_ne hC.1 (tgt := 32) dX1_badMessage_21 (by decide) (fun c21 => ?_) (fun c21 => ?_)
      · refine lv_iconst (v := (nI 0)) hC.1.1 hC.1.2.1 dX1_badMessage_32 (by decide +kernel) ?_
        exact hret _ _ _ _ _ _ dX1_badMessage_33 rfl ⟨by unfold bM; first | (rw [bt_1 c5]; rfl) | (rw [bt_1 c13, Bool.or_true]; rfl) | (rw [bt_0 c5, bt_0 c13, decide_eq_false c21]; rfl) | (rw [bt_0 c5, bt_0 c13, decide_eq_true c21, decide_eq_true c25]; rfl) | (rw [bt_0 c5, bt_0 c13, decide_eq_true c21, decide_eq_false c25]; rfl), rfl⟩ hI
      · refine lv_iload_n hC.1.1 hC.1.2.1 dX1_badMessage_24 rfl (lv_at hl 2 rfl) ?_
        refine lv_if_eq hC.1.1 hC.1.2.1 (tgt := 32) dX1_badMessage_25 (by decide) (fun c25 => ?_) (fun c25 => ?_)
        · refine lv_iconst (v := (nI 0)) hC.1.1 hC.1.2.1 dX1_badMessage_32 (by decide +kernel) ?_
          exact hret _ _ _ _ _ _ dX1_badMessage_33 rfl ⟨by unfold bM; first | (rw [bt_1 c5]; rfl) | (rw [bt_1 c13, Bool.or_true]; rfl) | (rw [bt_0 c5, bt_0 c13, decide_eq_false c21]; rfl) | (rw [bt_0 c5, bt_0 c13, decide_eq_true c21, decide_eq_true c25]; rfl) | (rw [bt_0 c5, bt_0 c13, decide_eq_true c21, decide_eq_false c25]; rfl), rfl⟩ hI
        · refine lv_iconst (v := (nI 1)) hC.1.1 hC.1.2.1 dX1_badMessage_28 (by decide +kernel) ?_
          refine lv_goto (tgt := 33) hC.1.1 hC.1.2.1 dX1_badMessage_29 (by decide) ?_
          exact hret _ _ _ _ _ _ dX1_badMessage_33 rfl ⟨by unfold bM; first | (rw [bt_1 c5]; rfl) | (rw [bt_1 c13, Bool.or_true]; rfl) | (rw [bt_0 c5, bt_0 c13, decide_eq_false c21]; rfl) | (rw [bt_0 c5, bt_0 c13, decide_eq_true c21, decide_eq_true c25]; rfl) | (rw [bt_0 c5, bt_0 c13, decide_eq_true c21, decide_eq_false c25]; rfl), rfl⟩ hI
abbrev rmX1_encode : Room := { frames := 2, cells := 0, slots := 0, locals := 49 }
theorem hdX1_encode : yX1_encode.cls = RX1 ∧ yX1_encode.cls ≠ "java/lang/invoke/MethodHandle" ∧ yX1_encode.cls ≠ "java/lang/invoke/VarHandle" ∧ (parseMethodDescriptor yX1_encode.desc).map (fun d => d.parameters.length) = some 2 := by decide +kernel
theorem lkX1_encode : GoodIn lw_all (wsV RX1 104 RX1 yX1_encode (ws_ yX1_encode cX1_encode 4 (some .int))) := lw_V q181 q95 q96 q28 q97
set_option maxHeartbeats 4000000 in
set_option maxRecDepth 100000 in
/-- encode -/
theorem kX1_encode (l : Launch) (D : va_G) (h : Nat) (q : Nat → Nat) (dA : ClassId) (kk : Nat) (u : CS) (a b : Int32) (hk : kk = 1 ∨ kk = 2) : cMi l yX1_encode (ws_ yX1_encode cX1_encode 4 (some .int)) rmX1_encode D h q dA kk [.int a, .int b] u (fun r u' => r = sEnc kk a b ∧ u'.1 = wEnc kk u.1 a b ∧ u'.2 = u.2) := by
  refine cMi_of (lv := [(0, .ref h), (1, .int a), (2, .int b)]) (by decide) rfl (Nat.le_of_ble_eq_true rfl) rfl ?_
  intro p e s m args below meth c A Q ls hC hI hl hret
  refine lv_aload_n hC.1.1 hC.1.2.1 dX1_encode_0 rfl (lv_at hl 0 rfl) ?_
  refine lv_iload_n hC.1.1 hC.1.2.1 dX1_encode_1 rfl (lv_at hl 1 rfl) ?_
  refine lv_iload_n hC.1.1 hC.1.2.1 dX1_encode_2 rfl (lv_at hl 2 rfl) ?_
  refine c_calli (rest := []) hC hI (kX1_badMessage l D h q dA kk u a b hk) lkX1_badMessage hdX1_badMessage ⟨rfl, rfl⟩ ⟨Nat.le_of_ble_eq_true rfl, Nat.le_of_ble_eq_true rfl⟩ rfl hl.1 rfl (Nat.le_of_ble_eq_true rfl) ⟨Nat.le_of_ble_eq_true rfl, Nat.le_of_ble_eq_true rfl⟩ dX1_encode_3 (fun r3 v3 H locs hp3 hI => ?_)
  obtain ⟨rfl, rfl⟩ := hp3
  refine n_if_eq hC.1 (tgt := 11) dX1_encode_6 (by decide) (fun c6 => ?_) (fun c6 => ?_) (Nat.lt_trans (bt_lt _) (by decide))
  · obtain ⟨x0, x1, h0, h1, rfl, rfl, hz⟩ := bM_ex (bt_0 c6)
    refine lv_iconst (v := (nI 0)) hC.1.1 hC.1.2.1 dX1_encode_11 (by decide +kernel) ?_
    refine lv_istore_n (lv' := [(3, .int (nI 0)), (0, .ref h), (1, .int (nI x0)), (2, .int (nI x1))]) hC.1.1 hC.1.2.1 dX1_encode_12 rfl hl (by decide) rfl (fun ls hl => ?_)
    have lp13 : ∀ (n : Nat) (i : Nat) (u13 : CS) (H : Heap) (locs : List Loc) (ls : Array Slot), i ≤ 5 → 5 < i + n → u13.1 = ov u.1 (vl x0 x1) i → u13.2 = u.2 → cI D h q dA kk A s.heap u13 H locs → lv_has ls 4 [(3, .int (nI i)), (0, .ref h), (1, .int (nI x0)), (2, .int (nI x1))] → W p l e rmX1_encode s m args below meth c H locs 0 0 Q (F0 m 13 ls []) := by
      intro n
      induction n with
      | zero => intro i u13 H locs ls hi hn hu1 hu2; exfalso; omega
      | succ n ih =>
        intro i u13 H locs ls hi hn hu1 hu2 hI hl
        have ih13 := ih
        clear ih
        refine lv_iload_n hC.1.1 hC.1.2.1 dX1_encode_13 rfl (lv_at hl 0 rfl) ?_
        refine lv_iconst (v := (nI 5)) hC.1.1 hC.1.2.1 dX1_encode_14 (by decide +kernel) ?_
        refine n_icmp_ge hC.1 (tgt := 37) dX1_encode_15 (by decide) (fun c15 => ?_) (fun c15 => ?_)
        · refine lv_iconst (v := (nI 0)) hC.1.1 hC.1.2.1 dX1_encode_37 (by decide +kernel) ?_
          exact hret _ _ _ _ _ _ dX1_encode_38 rfl ⟨by unfold sEnc; rw [bM_nI h0 h1 hz]; rfl, by unfold wEnc; rw [bM_nI h0 h1 hz, tN_nI h0, tN_nI h1, hu1, show i = 5 by omega]; rfl, hu2⟩ hI
        · refine lv_aload_n hC.1.1 hC.1.2.1 dX1_encode_18 rfl (lv_at hl 1 rfl) ?_
          refine c_get_word hC hI dX1_encode_19 ?_
          refine lv_iload_n hC.1.1 hC.1.2.1 dX1_encode_22 rfl (lv_at hl 0 rfl) ?_
          refine lv_aload_n hC.1.1 hC.1.2.1 dX1_encode_23 rfl (lv_at hl 1 rfl) ?_
          refine lv_iload_n hC.1.1 hC.1.2.1 dX1_encode_24 rfl (lv_at hl 2 rfl) ?_
          refine lv_iload_n hC.1.1 hC.1.2.1 dX1_encode_25 rfl (lv_at hl 3 rfl) ?_
          refine lv_iload_n hC.1.1 hC.1.2.1 dX1_encode_26 rfl (lv_at hl 0 rfl) ?_
          refine c_calli (rest := [.int (nI i), .ref (q 4)]) hC hI (kX1_value l D h q dA kk u13 x0 x1 i h0 h1 (by omega)) lkX1_value hdX1_value ⟨rfl, rfl⟩ ⟨Nat.le_of_ble_eq_true rfl, Nat.le_of_ble_eq_true rfl⟩ rfl hl.1 rfl (Nat.le_of_ble_eq_true rfl) ⟨Nat.le_of_ble_eq_true rfl, Nat.le_of_ble_eq_true rfl⟩ dX1_encode_27 (fun r27 v27 H locs hp27 hI => ?_)
          obtain ⟨rfl, rfl⟩ := hp27
          refine c_st_word (x := vl x0 x1 i) hC hI dX1_encode_30 (fun v30 H locs v30_0 v30_1 hI => ?_)
          refine lv_iinc (v := (nI (i + 1))) (lv' := [(3, .int (nI (i + 1))), (0, .ref h), (1, .int (nI x0)), (2, .int (nI x1))]) hC.1.1 hC.1.2.1 dX1_encode_31 hl (k := 0) rfl (ni_inc i) (by decide) rfl (fun ls hl => ?_)
          refine lv_goto (tgt := 13) hC.1.1 hC.1.2.1 dX1_encode_34 (by decide) ?_
          exact ih13 (i + 1) v30 _ _ _ (by omega) (by omega) (by rw [v30_0, hu1, ov_s]) (by rw [v30_1, hu2]) hI (lv_sub hl [0, 1, 2, 3] rfl)
    exact lp13 (6) 0 u _ _ _ (by omega) (by omega) (ov_0 _ _).symm rfl hI (lv_sub hl [0, 1, 2, 3] rfl)
  · refine lv_iconst (v := (pI 0)) hC.1.1 hC.1.2.1 dX1_encode_9 (by decide +kernel) ?_
    exact hret _ _ _ _ _ _ dX1_encode_10 rfl ⟨by unfold sEnc; rw [if_pos (bt_1 c6)], by unfold wEnc; rw [if_pos (bt_1 c6)], rfl⟩ hI
abbrev rmX1_put : Room := { frames := 1, cells := 0, slots := 0, locals := 21 }
theorem hdX1_put : yX1_put.cls = RX1 ∧ yX1_put.cls ≠ "java/lang/invoke/MethodHandle" ∧ yX1_put.cls ≠ "java/lang/invoke/VarHandle" ∧ (parseMethodDescriptor yX1_put.desc).map (fun d => d.parameters.length) = some 2 := by decide +kernel
set_option maxHeartbeats 4000000 in
set_option maxRecDepth 100000 in
/-- put -/
theorem kX1_put (l : Launch) (D : va_G) (h : Nat) (q : Nat → Nat) (dA : ClassId) (kk : Nat) (u : CS) (a b : Int32)  : cMi l yX1_put (ws_ yX1_put cX1_put 4 (some .int)) rmX1_put D h q dA kk [.int a, .int b] u (fun r u' => r = sPut u.1 a b ∧ u'.1 = wPut u.1 a b ∧ u'.2 = u.2) := by
  refine cMi_of (lv := [(0, .ref h), (1, .int a), (2, .int b)]) (by decide) rfl (Nat.le_of_ble_eq_true rfl) rfl ?_
  intro p e s m args below meth c A Q ls hC hI hl hret
  refine lv_iload_n hC.1.1 hC.1.2.1 dX1_put_0 rfl (lv_at hl 1 rfl) ?_
  refine lv_if_lt hC.1.1 hC.1.2.1 (tgt := 17) dX1_put_1 (by decide) (fun c1 => ?_) (fun c1 => ?_)
  · refine lv_iconst (v := (pI 0)) hC.1.1 hC.1.2.1 dX1_put_17 (by decide +kernel) ?_
    exact hret _ _ _ _ _ _ dX1_put_18 rfl ⟨by unfold sPut; rw [if_pos (by first | rw [o4_lt c1, Bool.true_or] | rw [o4_gt c6, Bool.true_or] | rw [bt_1 c14, Bool.or_true])], by unfold wPut; rw [if_pos (by first | rw [o4_lt c1, Bool.true_or] | rw [o4_gt c6, Bool.true_or] | rw [bt_1 c14, Bool.or_true])], rfl⟩ hI
  · refine lv_iload_n hC.1.1 hC.1.2.1 dX1_put_4 rfl (lv_at hl 1 rfl) ?_
    refine lv_iconst (v := (nI 4)) hC.1.1 hC.1.2.1 dX1_put_5 (by decide +kernel) ?_
    refine lv_icmp_gt hC.1.1 hC.1.2.1 (tgt := 17) dX1_put_6 (by decide) (fun c6 => ?_) (fun c6 => ?_)
    · refine lv_iconst (v := (pI 0)) hC.1.1 hC.1.2.1 dX1_put_17 (by decide +kernel) ?_
      exact hret _ _ _ _ _ _ dX1_put_18 rfl ⟨by unfold sPut; rw [if_pos (by first | rw [o4_lt c1, Bool.true_or] | rw [o4_gt c6, Bool.true_or] | rw [bt_1 c14, Bool.or_true])], by unfold wPut; rw [if_pos (by first | rw [o4_lt c1, Bool.true_or] | rw [o4_gt c6, Bool.true_or] | rw [bt_1 c14, Bool.or_true])], rfl⟩ hI
    · refine lv_aload_n hC.1.1 hC.1.2.1 dX1_put_9 rfl (lv_at hl 0 rfl) ?_
      refine lv_iload_n hC.1.1 hC.1.2.1 dX1_put_10 rfl (lv_at hl 2 rfl) ?_
      refine c_calli (rest := []) hC hI (kX1_outside l D h q dA kk u b) lkX1_outside hdX1_outside ⟨rfl, rfl⟩ ⟨Nat.le_of_ble_eq_true rfl, Nat.le_of_ble_eq_true rfl⟩ rfl hl.1 rfl (Nat.le_of_ble_eq_true rfl) ⟨Nat.le_of_ble_eq_true rfl, Nat.le_of_ble_eq_true rfl⟩ dX1_put_11 (fun r11 v11 H locs hp11 hI => ?_)
      obtain ⟨rfl, rfl⟩ := hp11
      refine n_if_eq hC.1 (tgt := 19) dX1_put_14 (by decide) (fun c14 => ?_) (fun c14 => ?_) (Nat.lt_trans (bt_lt _) (by decide))
      · obtain ⟨i, hi, rfl⟩ := o4_ex (o4_in c1 c6)
        obtain ⟨j, hj, rfl⟩ := oB_ex (bt_0 c14)
        refine lv_aload_n hC.1.1 hC.1.2.1 dX1_put_19 rfl (lv_at hl 0 rfl) ?_
        refine c_get_word hC hI dX1_put_20 ?_
        refine lv_iload_n hC.1.1 hC.1.2.1 dX1_put_23 rfl (lv_at hl 1 rfl) ?_
        refine c_ld_word hC hI dX1_put_24 ?_
        refine lv_istore_n (lv' := [(3, .int (nI (u.1 i))), (0, .ref h), (1, .int (nI i)), (2, .int (nI j))]) hC.1.1 hC.1.2.1 dX1_put_25 rfl hl (by decide) rfl (fun ls hl => ?_)
        refine lv_aload_n hC.1.1 hC.1.2.1 dX1_put_26 rfl (lv_at hl 1 rfl) ?_
        refine c_get_word hC hI dX1_put_27 ?_
        refine lv_iload_n hC.1.1 hC.1.2.1 dX1_put_30 rfl (lv_at hl 2 rfl) ?_
        refine lv_iload_n hC.1.1 hC.1.2.1 dX1_put_31 rfl (lv_at hl 3 rfl) ?_
        refine c_st_word (x := j) hC hI dX1_put_32 (fun v32 H locs v32_0 v32_1 hI => ?_)
        refine lv_iload_n hC.1.1 hC.1.2.1 dX1_put_33 rfl (lv_at hl 0 rfl) ?_
        exact hret _ _ _ _ _ _ dX1_put_34 rfl ⟨by unfold sPut; rw [o4_nI hi, oB_nI hj, tN_nI5 hi]; rfl, by unfold wPut; rw [o4_nI hi, oB_nI hj, tN_nI5 hi, tN_nI hj, v32_0]; rfl, v32_1⟩ hI
      · refine lv_iconst (v := (pI 0)) hC.1.1 hC.1.2.1 dX1_put_17 (by decide +kernel) ?_
        exact hret _ _ _ _ _ _ dX1_put_18 rfl ⟨by unfold sPut; rw [if_pos (by first | rw [o4_lt c1, Bool.true_or] | rw [o4_gt c6, Bool.true_or] | rw [bt_1 c14, Bool.or_true])], by unfold wPut; rw [if_pos (by first | rw [o4_lt c1, Bool.true_or] | rw [o4_gt c6, Bool.true_or] | rw [bt_1 c14, Bool.or_true])], rfl⟩ hI
abbrev rmX1_symbol : Room := { frames := 0, cells := 0, slots := 0, locals := 0 }
theorem hdX1_symbol : yX1_symbol.cls = RX1 ∧ yX1_symbol.cls ≠ "java/lang/invoke/MethodHandle" ∧ yX1_symbol.cls ≠ "java/lang/invoke/VarHandle" ∧ (parseMethodDescriptor yX1_symbol.desc).map (fun d => d.parameters.length) = some 1 := by decide +kernel
set_option maxHeartbeats 4000000 in
set_option maxRecDepth 100000 in
/-- symbol -/
theorem kX1_symbol (l : Launch) (D : va_G) (h : Nat) (q : Nat → Nat) (dA : ClassId) (kk : Nat) (u : CS) (a : Int32)  : cMi l yX1_symbol (ws_ yX1_symbol cX1_symbol 2 (some .int)) rmX1_symbol D h q dA kk [.int a] u (fun r u' => r = sSym u.1 a ∧ u = u') := by
  refine cMi_of (lv := [(0, .ref h), (1, .int a)]) (by decide) rfl (Nat.le_of_ble_eq_true rfl) rfl ?_
  intro p e s m args below meth c A Q ls hC hI hl hret
  refine lv_iload_n hC.1.1 hC.1.2.1 dX1_symbol_0 rfl (lv_at hl 1 rfl) ?_
  refine lv_if_lt hC.1.1 hC.1.2.1 (tgt := 9) dX1_symbol_1 (by decide) (fun c1 => ?_) (fun c1 => ?_)
  · refine lv_iconst (v := (pI 0)) hC.1.1 hC.1.2.1 dX1_symbol_9 (by decide +kernel) ?_
    exact hret _ _ _ _ _ _ dX1_symbol_10 rfl ⟨by unfold sSym; rw [if_pos (by first | exact o4_lt c1 | exact o4_gt' c6)], rfl⟩ hI
  · refine lv_iload_n hC.1.1 hC.1.2.1 dX1_symbol_4 rfl (lv_at hl 1 rfl) ?_
    refine lv_iconst (v := (nI 4)) hC.1.1 hC.1.2.1 dX1_symbol_5 (by decide +kernel) ?_
    refine lv_icmp_le hC.1.1 hC.1.2.1 (tgt := 11) dX1_symbol_6 (by decide) (fun c6 => ?_) (fun c6 => ?_)
    · obtain ⟨i, hi, rfl⟩ := o4_ex (o4_in' c1 c6)
      refine lv_aload_n hC.1.1 hC.1.2.1 dX1_symbol_11 rfl (lv_at hl 0 rfl) ?_
      refine c_get_word hC hI dX1_symbol_12 ?_
      refine lv_iload_n hC.1.1 hC.1.2.1 dX1_symbol_15 rfl (lv_at hl 1 rfl) ?_
      refine c_ld_word hC hI dX1_symbol_16 ?_
      exact hret _ _ _ _ _ _ dX1_symbol_17 rfl ⟨by unfold sSym; rw [o4_nI hi, tN_nI5 hi]; rfl, rfl⟩ hI
    · refine lv_iconst (v := (pI 0)) hC.1.1 hC.1.2.1 dX1_symbol_9 (by decide +kernel) ?_
      exact hret _ _ _ _ _ _ dX1_symbol_10 rfl ⟨by unfold sSym; rw [if_pos (by first | exact o4_lt c1 | exact o4_gt' c6)], rfl⟩ hI
theorem eg_s {d : Nat → Nat} {row b f i : Nat} (h : (d i).testBit b = true) (hf : f ≤ i) : up (ov d (eg d row b f) i) i (d i ^^^ row) = ov d (eg d row b f) (i + 1) := by
  rw [← ov_s]
  unfold eg
  rw [if_pos ⟨hf, h⟩]
theorem eg_k {d : Nat → Nat} {row b f i : Nat} (h : ¬ (d i).testBit b = true) : ov d (eg d row b f) i = ov d (eg d row b f) (i + 1) := by
  refine ov_k ?_
  unfold eg
  rw [if_neg (fun q => h q.2)]
abbrev rmX1_clearBit : Room := { frames := 0, cells := 0, slots := 0, locals := 0 }
theorem hdX1_clearBit : yX1_clearBit.cls = RX1 ∧ yX1_clearBit.cls ≠ "java/lang/invoke/MethodHandle" ∧ yX1_clearBit.cls ≠ "java/lang/invoke/VarHandle" ∧ (parseMethodDescriptor yX1_clearBit.desc).map (fun d => d.parameters.length) = some 2 := by decide +kernel
theorem lkX1_clearBit : GoodIn lw_all (wsV RX1 67 RX1 yX1_clearBit (ws_ yX1_clearBit cX1_clearBit 6 (some .boolean))) := lw_V q126 q128 qs5 q28 q129
set_option maxHeartbeats 4000000 in
set_option maxRecDepth 100000 in
/-- clearBit -/
theorem kX1_clearBit (l : Launch) (D : va_G) (h : Nat) (q : Nat → Nat) (dA : ClassId) (kk : Nat) (u : CS) (f b : Nat) (hf : f < 5) (hb : b < 5) (hd : b32 u.2.1) : cMi l yX1_clearBit (ws_ yX1_clearBit cX1_clearBit 6 (some .boolean)) rmX1_clearBit D h q dA kk [.int (nI f), .int (nI b)] u (fun r u' => r = nI (cb u.2.1 f b).1 ∧ u'.2.1 = (cb u.2.1 f b).2 ∧ u'.1 = u.1 ∧ u'.2.2 = u.2.2) := by
  refine cMi_of (lv := [(0, .ref h), (1, .int (nI f)), (2, .int (nI b))]) (by decide) rfl (Nat.le_of_ble_eq_true rfl) rfl ?_
  intro p e s m args below meth c A Q ls hC hI hl hret
  refine lv_iconst (v := (pI 0)) hC.1.1 hC.1.2.1 dX1_clearBit_0 (by decide +kernel) ?_
  refine lv_istore_n (lv' := [(3, .int (pI 0)), (0, .ref h), (1, .int (nI f)), (2, .int (nI b))]) hC.1.1 hC.1.2.1 dX1_clearBit_1 rfl hl (by decide) rfl (fun ls hl => ?_)
  refine lv_iconst (v := (nI 4)) hC.1.1 hC.1.2.1 dX1_clearBit_2 (by decide +kernel) ?_
  refine lv_istore (lv' := [(4, .int (nI 4)), (3, .int (pI 0)), (0, .ref h), (1, .int (nI f)), (2, .int (nI b))]) hC.1.1 hC.1.2.1 dX1_clearBit_3 hl (by decide) rfl (fun ls hl => ?_)
  have lp5 : ∀ (n : Nat) (j : Nat) (a : Nat) (H : Heap) (locs : List Loc) (ls : Array Slot), j ≤ 5 → j < n → f ≤ j → a = lo (cbP u.2.1 b) j (5 - j) → cI D h q dA kk A s.heap u H locs → lv_has ls 6 [(4, .int (pI j)), (3, .int (pI a)), (0, .ref h), (1, .int (nI f)), (2, .int (nI b))] → W p l e rmX1_clearBit s m args below meth c H locs 0 0 Q (F0 m 5 ls []) := by
    intro n
    induction n with
    | zero => intro j a  H locs ls hj hn hf2 ha; exfalso; omega
    | succ n ih =>
      intro j a  H locs ls hj hn hf2 ha hI hl
      have ih5 := ih
      clear ih
      refine lv_iload hC.1.1 hC.1.2.1 dX1_clearBit_5 (lv_at hl 0 rfl) ?_
      refine lv_iload_n hC.1.1 hC.1.2.1 dX1_clearBit_7 rfl (lv_at hl 3 rfl) ?_
      refine p_icmp_lt hC.1 (tgt := 35) dX1_clearBit_8 (by decide) (fun c8 => ?_) (fun c8 => ?_)
      · refine lv_iload_n hC.1.1 hC.1.2.1 dX1_clearBit_35 rfl (lv_at hl 1 rfl) ?_
        refine p_if_ge hC.1 (tgt := 41) dX1_clearBit_36 (by decide) (fun c36 => ?_) (fun c36 => ?_) (by have := lo_le (cbP u.2.1 b) (5 - j) j; omega)
        · have ej : j = f := by omega
          subst ej
          have hal := lo_le (cbP u.2.1 b) (5 - j) j
          obtain ⟨z, rfl⟩ : ∃ z, a = z + 1 := ⟨a - 1, by omega⟩
          have hz : z < 5 := by omega
          have hl : lv_has ls 6 [(4, .int (pI j)), (3, .int (nI z)), (0, .ref h), (1, .int (nI j)), (2, .int (nI b))] := hl
          refine lv_aload_n hC.1.1 hC.1.2.1 dX1_clearBit_41 rfl (lv_at hl 2 rfl) ?_
          refine c_get_diff hC hI dX1_clearBit_42 ?_
          refine lv_iload_n hC.1.1 hC.1.2.1 dX1_clearBit_45 rfl (lv_at hl 1 rfl) ?_
          refine c_ld_diff hC hI dX1_clearBit_46 ?_
          refine lv_istore (lv' := [(4, .int (nI (u.2.1 z))), (3, .int (nI z)), (0, .ref h), (1, .int (nI j)), (2, .int (nI b))]) hC.1.1 hC.1.2.1 dX1_clearBit_47 hl (by decide) rfl (fun ls hl => ?_)
          refine lv_aload_n hC.1.1 hC.1.2.1 dX1_clearBit_49 rfl (lv_at hl 2 rfl) ?_
          refine c_get_diff hC hI dX1_clearBit_50 ?_
          refine lv_iload_n hC.1.1 hC.1.2.1 dX1_clearBit_53 rfl (lv_at hl 1 rfl) ?_
          refine lv_aload_n hC.1.1 hC.1.2.1 dX1_clearBit_54 rfl (lv_at hl 2 rfl) ?_
          refine c_get_diff hC hI dX1_clearBit_55 ?_
          refine lv_iload_n hC.1.1 hC.1.2.1 dX1_clearBit_58 rfl (lv_at hl 3 rfl) ?_
          refine c_ld_diff hC hI dX1_clearBit_59 ?_
          refine c_st_diff (x := u.2.1 j) hC hI dX1_clearBit_60 (fun v60 H locs v60_0 v60_1 v60_2 hI => ?_)
          refine lv_aload_n hC.1.1 hC.1.2.1 dX1_clearBit_61 rfl (lv_at hl 2 rfl) ?_
          refine c_get_diff hC hI dX1_clearBit_62 ?_
          refine lv_iload_n hC.1.1 hC.1.2.1 dX1_clearBit_65 rfl (lv_at hl 3 rfl) ?_
          refine lv_iload hC.1.1 hC.1.2.1 dX1_clearBit_66 (lv_at hl 0 rfl) ?_
          refine c_st_diff (x := u.2.1 z) hC hI dX1_clearBit_68 (fun v68 H locs v68_0 v68_1 v68_2 hI => ?_)
          refine lv_iload_n hC.1.1 hC.1.2.1 dX1_clearBit_69 rfl (lv_at hl 3 rfl) ?_
          refine lv_iconst (v := (nI 1)) hC.1.1 hC.1.2.1 dX1_clearBit_70 (by decide +kernel) ?_
          refine n_iadd hC.1 dX1_clearBit_71 ?_
          refine lv_istore (lv' := [(5, .int (nI (j + 1))), (4, .int (nI (u.2.1 z))), (3, .int (nI z)), (0, .ref h), (1, .int (nI j)), (2, .int (nI b))]) hC.1.1 hC.1.2.1 dX1_clearBit_72 hl (by decide) rfl (fun ls hl => ?_)
          have lp74 : ∀ (n : Nat) (i : Nat) (u74 : CS) (H : Heap) (locs : List Loc) (ls : Array Slot), i ≤ 5 → 5 < i + n → j + 1 ≤ i → u74.2.1 = ov (sw u.2.1 z j) (eg (sw u.2.1 z j) (u.2.1 z) b (j + 1)) i → u74.1 = u.1 → u74.2.2 = u.2.2 → cI D h q dA kk A s.heap u74 H locs → lv_has ls 6 [(5, .int (nI i)), (4, .int (nI (u.2.1 z))), (0, .ref h), (1, .int (nI j)), (2, .int (nI b))] → W p l e rmX1_clearBit s m args below meth c H locs 0 0 Q (F0 m 74 ls []) := by
            intro n
            induction n with
            | zero => intro i u74 H locs ls hi hn hi2 hu1 hu2 hu3; exfalso; omega
            | succ n ih =>
              intro i u74 H locs ls hi hn hi2 hu1 hu2 hu3 hI hl
              have ih74 := ih
              clear ih
              refine lv_iload hC.1.1 hC.1.2.1 dX1_clearBit_74 (lv_at hl 0 rfl) ?_
              refine lv_iconst (v := (nI 5)) hC.1.1 hC.1.2.1 dX1_clearBit_76 (by decide +kernel) ?_
              refine n_icmp_ge hC.1 (tgt := 118) dX1_clearBit_77 (by decide) (fun c77 => ?_) (fun c77 => ?_)
              · refine lv_iconst (v := (nI 1)) hC.1.1 hC.1.2.1 dX1_clearBit_118 (by decide +kernel) ?_
                exact hret _ _ _ _ _ _ dX1_clearBit_119 rfl ⟨by rw [cb_1 ha.symm], by rw [cb_1 ha.symm, hu1, show i = 5 by omega], hu2, hu3⟩ hI
              · refine lv_aload_n hC.1.1 hC.1.2.1 dX1_clearBit_80 rfl (lv_at hl 2 rfl) ?_
                refine c_get_diff hC hI dX1_clearBit_81 ?_
                refine lv_iload hC.1.1 hC.1.2.1 dX1_clearBit_84 (lv_at hl 0 rfl) ?_
                refine c_ld_diff hC hI dX1_clearBit_86 ?_
                refine lv_iload_n hC.1.1 hC.1.2.1 dX1_clearBit_87 rfl (lv_at hl 4 rfl) ?_
                refine n_ishr hC.1 dX1_clearBit_88 ?_ (by rw [hu1, ov_ge (Nat.le_refl _)]; exact Nat.lt_trans (sw_b32 hd _ _ _) (by decide))
                refine lv_iconst (v := (nI 1)) hC.1.1 hC.1.2.1 dX1_clearBit_89 (by decide +kernel) ?_
                refine n_iand hC.1 dX1_clearBit_90 ?_
                refine lv_iconst (v := (nI 1)) hC.1.1 hC.1.2.1 dX1_clearBit_91 (by decide +kernel) ?_
                refine n_icmp_ne hC.1 (tgt := 112) dX1_clearBit_92 (by decide) (fun c92 => ?_) (fun c92 => ?_) (Nat.lt_of_le_of_lt Nat.and_le_right (by decide))
                · refine lv_iinc (v := (nI (i + 1))) (lv' := [(5, .int (nI (i + 1))), (4, .int (nI (u.2.1 z))), (0, .ref h), (1, .int (nI j)), (2, .int (nI b))]) hC.1.1 hC.1.2.1 dX1_clearBit_112 hl (k := 0) rfl (ni_inc i) (by decide) rfl (fun ls hl => ?_)
                  refine lv_goto (tgt := 74) hC.1.1 hC.1.2.1 dX1_clearBit_115 (by decide) ?_
                  exact ih74 (i + 1) u74 _ _ _ (by omega) (by omega) (by omega) (by rw [hu1]; exact eg_k (fun q => c92 (by rw [hu1, ov_ge (Nat.le_refl _)]; exact (n_tb _ _).mpr q))) hu2 hu3 hI (lv_sub hl [0, 1, 2, 3, 4] rfl)
                · refine lv_aload_n hC.1.1 hC.1.2.1 dX1_clearBit_95 rfl (lv_at hl 2 rfl) ?_
                  refine c_get_diff hC hI dX1_clearBit_96 ?_
                  refine lv_iload hC.1.1 hC.1.2.1 dX1_clearBit_99 (lv_at hl 0 rfl) ?_
                  refine lv_aload_n hC.1.1 hC.1.2.1 dX1_clearBit_101 rfl (lv_at hl 2 rfl) ?_
                  refine c_get_diff hC hI dX1_clearBit_102 ?_
                  refine lv_iload hC.1.1 hC.1.2.1 dX1_clearBit_105 (lv_at hl 0 rfl) ?_
                  refine c_ld_diff hC hI dX1_clearBit_107 ?_
                  refine lv_iload hC.1.1 hC.1.2.1 dX1_clearBit_108 (lv_at hl 1 rfl) ?_
                  refine n_ixor hC.1 dX1_clearBit_110 ?_
                  refine c_st_diff (x := (u74.2.1 i) ^^^ (u.2.1 z)) hC hI dX1_clearBit_111 (fun v111 H locs v111_0 v111_1 v111_2 hI => ?_)
                  refine lv_iinc (v := (nI (i + 1))) (lv' := [(5, .int (nI (i + 1))), (4, .int (nI (u.2.1 z))), (0, .ref h), (1, .int (nI j)), (2, .int (nI b))]) hC.1.1 hC.1.2.1 dX1_clearBit_112 hl (k := 0) rfl (ni_inc i) (by decide) rfl (fun ls hl => ?_)
                  refine lv_goto (tgt := 74) hC.1.1 hC.1.2.1 dX1_clearBit_115 (by decide) ?_
                  exact ih74 (i + 1) v111 _ _ _ (by omega) (by omega) (by omega) (by rw [hu1, ov_ge (Nat.le_refl _)] at c92; rw [v111_0, hu1, ov_ge (Nat.le_refl _)]; exact eg_s ((n_tb _ _).mp c92) hi2) (by rw [v111_1, hu2]) (by rw [v111_2, hu3]) hI (lv_sub hl [0, 1, 2, 3, 4] rfl)
          exact lp74 (6) (j + 1) v68 _ _ _ (by omega) (by omega) (by omega) (by rw [v68_0, v60_0, ov_eq (fun y hy => by unfold eg; rw [if_neg (by omega)])]; rfl) (by rw [v68_1, v60_1]) (by rw [v68_2, v60_2]) hI (lv_sub hl [0, 1, 3, 4, 5] rfl)
        · refine lv_iconst (v := (nI 0)) hC.1.1 hC.1.2.1 dX1_clearBit_39 (by decide +kernel) ?_
          exact hret _ _ _ _ _ _ dX1_clearBit_40 rfl ⟨by rw [cb_0 (by rw [← c36, ha, show j = f by omega])], by rw [cb_0 (by rw [← c36, ha, show j = f by omega])], rfl, rfl⟩ hI
      · obtain ⟨j1, rfl⟩ : ∃ z, j = z + 1 := ⟨j - 1, by omega⟩
        have hl : lv_has ls 6 [(4, .int (nI j1)), (3, .int (pI a)), (0, .ref h), (1, .int (nI f)), (2, .int (nI b))] := hl
        refine lv_aload_n hC.1.1 hC.1.2.1 dX1_clearBit_11 rfl (lv_at hl 2 rfl) ?_
        refine c_get_diff hC hI dX1_clearBit_12 ?_
        refine lv_iload hC.1.1 hC.1.2.1 dX1_clearBit_15 (lv_at hl 0 rfl) ?_
        refine c_ld_diff hC hI dX1_clearBit_17 ?_
        refine lv_iload_n hC.1.1 hC.1.2.1 dX1_clearBit_18 rfl (lv_at hl 4 rfl) ?_
        refine n_ishr hC.1 dX1_clearBit_19 ?_ (Nat.lt_trans (hd _) (by decide))
        refine lv_iconst (v := (nI 1)) hC.1.1 hC.1.2.1 dX1_clearBit_20 (by decide +kernel) ?_
        refine n_iand hC.1 dX1_clearBit_21 ?_
        refine lv_iconst (v := (nI 1)) hC.1.1 hC.1.2.1 dX1_clearBit_22 (by decide +kernel) ?_
        refine n_icmp_ne hC.1 (tgt := 29) dX1_clearBit_23 (by decide) (fun c23 => ?_) (fun c23 => ?_) (Nat.lt_of_le_of_lt Nat.and_le_right (by decide))
        · refine lv_iinc (v := (pI j1)) (lv' := [(4, .int (pI j1)), (3, .int (pI a)), (0, .ref h), (1, .int (nI f)), (2, .int (nI b))]) hC.1.1 hC.1.2.1 dX1_clearBit_29 hl (k := 0) rfl (pi_dec j1) (by decide) rfl (fun ls hl => ?_)
          refine lv_goto (tgt := 5) hC.1.1 hC.1.2.1 dX1_clearBit_32 (by decide) ?_
          exact ih5 j1 a  _ _ _ (by omega) (by omega) (by omega) (by first | exact (lo_t (P := cbP u.2.1 b) ((n_tb _ _).mp c23) rfl (by omega)).symm | (rw [ha]; exact (lo_f (P := cbP u.2.1 b) (fun q => c23 ((n_tb _ _).mpr q)) (by omega)).symm)) hI (lv_sub hl [0, 1, 2, 3, 4] rfl)
        · refine lv_iload hC.1.1 hC.1.2.1 dX1_clearBit_26 (lv_at hl 0 rfl) ?_
          refine lv_istore_n (lv' := [(3, .int (nI j1)), (4, .int (nI j1)), (0, .ref h), (1, .int (nI f)), (2, .int (nI b))]) hC.1.1 hC.1.2.1 dX1_clearBit_28 rfl hl (by decide) rfl (fun ls hl => ?_)
          refine lv_iinc (v := (pI j1)) (lv' := [(4, .int (pI j1)), (3, .int (nI j1)), (0, .ref h), (1, .int (nI f)), (2, .int (nI b))]) hC.1.1 hC.1.2.1 dX1_clearBit_29 hl (k := 1) rfl (pi_dec j1) (by decide) rfl (fun ls hl => ?_)
          refine lv_goto (tgt := 5) hC.1.1 hC.1.2.1 dX1_clearBit_32 (by decide) ?_
          exact ih5 j1 (j1 + 1)  _ _ _ (by omega) (by omega) (by omega) (by first | exact (lo_t (P := cbP u.2.1 b) ((n_tb _ _).mp c23) rfl (by omega)).symm | (rw [ha]; exact (lo_f (P := cbP u.2.1 b) (fun q => c23 ((n_tb _ _).mpr q)) (by omega)).symm)) hI (lv_sub hl [0, 1, 2, 3, 4] rfl)
  exact lp5 (6) (4 + 1) 0  _ _ _ (by omega) (by omega) (by omega) rfl hI (lv_sub hl [0, 1, 2, 3, 4] rfl)
end
section
set_option maxRecDepth 100000
abbrev rmX1_distance : Room := { frames := 2, cells := 0, slots := 0, locals := 49 }
theorem hdX1_distance : yX1_distance.cls = RX1 ∧ yX1_distance.cls ≠ "java/lang/invoke/MethodHandle" ∧ yX1_distance.cls ≠ "java/lang/invoke/VarHandle" ∧ (parseMethodDescriptor yX1_distance.desc).map (fun d => d.parameters.length) = some 2 := by decide +kernel
theorem lkX1_distance : GoodIn lw_all (wsV RX1 64 RX1 yX1_distance (ws_ yX1_distance cX1_distance 6 (some .int))) := lw_V q122 q123 q124 q28 q125
set_option maxHeartbeats 4000000 in
set_option maxRecDepth 100000 in
/-- distance -/
theorem kX1_distance (l : Launch) (D : va_G) (h : Nat) (q : Nat → Nat) (dA : ClassId) (kk : Nat) (u : CS) (a b : Int32) (hk : kk = 1 ∨ kk = 2) (hw : b32 u.1) (hd : b32 u.2.1) : cMi l yX1_distance (ws_ yX1_distance cX1_distance 6 (some .int)) rmX1_distance D h q dA kk [.int a, .int b] u (fun r u' => r = sDist kk u.1 a b ∧ u'.1 = u.1 ∧ u'.2.2 = u.2.2 ∧ b32 u'.2.1) := by
  refine cMi_of (lv := [(0, .ref h), (1, .int a), (2, .int b)]) (by decide) rfl (Nat.le_of_ble_eq_true rfl) rfl ?_
  intro p e s m args below meth c A Q ls hC hI hl hret
  refine lv_aload_n hC.1.1 hC.1.2.1 dX1_distance_0 rfl (lv_at hl 0 rfl) ?_
  refine lv_iload_n hC.1.1 hC.1.2.1 dX1_distance_1 rfl (lv_at hl 1 rfl) ?_
  refine lv_iload_n hC.1.1 hC.1.2.1 dX1_distance_2 rfl (lv_at hl 2 rfl) ?_
  refine c_calli (rest := []) hC hI (kX1_badMessage l D h q dA kk u a b hk) lkX1_badMessage hdX1_badMessage ⟨rfl, rfl⟩ ⟨Nat.le_of_ble_eq_true rfl, Nat.le_of_ble_eq_true rfl⟩ rfl hl.1 rfl (Nat.le_of_ble_eq_true rfl) ⟨Nat.le_of_ble_eq_true rfl, Nat.le_of_ble_eq_true rfl⟩ dX1_distance_3 (fun r3 v3 H locs hp3 hI => ?_)
  obtain ⟨rfl, rfl⟩ := hp3
  refine n_if_eq hC.1 (tgt := 11) dX1_distance_6 (by decide) (fun c6 => ?_) (fun c6 => ?_) (Nat.lt_trans (bt_lt _) (by decide))
  · obtain ⟨x0, x1, h0, h1, rfl, rfl, hz⟩ := bM_ex (bt_0 c6)
    refine lv_iconst (v := (nI 0)) hC.1.1 hC.1.2.1 dX1_distance_11 (by decide +kernel) ?_
    refine lv_istore_n (lv' := [(3, .int (nI 0)), (0, .ref h), (1, .int (nI x0)), (2, .int (nI x1))]) hC.1.1 hC.1.2.1 dX1_distance_12 rfl hl (by decide) rfl (fun ls hl => ?_)
    have lp13 : ∀ (n : Nat) (i : Nat) (u13 : CS) (H : Heap) (locs : List Loc) (ls : Array Slot), i ≤ 5 → 5 < i + n → u13.2.1 = ov u.2.1 (df u.1 x0 x1) i → u13.1 = u.1 → u13.2.2 = u.2.2 → cI D h q dA kk A s.heap u13 H locs → lv_has ls 6 [(3, .int (nI i)), (0, .ref h), (1, .int (nI x0)), (2, .int (nI x1))] → W p l e rmX1_distance s m args below meth c H locs 0 0 Q (F0 m 13 ls []) := by
      intro n
      induction n with
      | zero => intro i u13 H locs ls hi hn hu1 hu2 hu3; exfalso; omega
      | succ n ih =>
        intro i u13 H locs ls hi hn hu1 hu2 hu3 hI hl
        have ih13 := ih
        clear ih
        refine lv_iload_n hC.1.1 hC.1.2.1 dX1_distance_13 rfl (lv_at hl 0 rfl) ?_
        refine lv_iconst (v := (nI 5)) hC.1.1 hC.1.2.1 dX1_distance_14 (by decide +kernel) ?_
        refine n_icmp_ge hC.1 (tgt := 48) dX1_distance_15 (by decide) (fun c15 => ?_) (fun c15 => ?_)
        · refine lv_iconst (v := (nI 0)) hC.1.1 hC.1.2.1 dX1_distance_48 (by decide +kernel) ?_
          refine lv_istore_n (lv' := [(3, .int (nI 0)), (0, .ref h), (1, .int (nI x0)), (2, .int (nI x1))]) hC.1.1 hC.1.2.1 dX1_distance_49 rfl hl (by decide) rfl (fun ls hl => ?_)
          refine lv_iconst (v := (nI 0)) hC.1.1 hC.1.2.1 dX1_distance_50 (by decide +kernel) ?_
          refine lv_istore (lv' := [(4, .int (nI 0)), (3, .int (nI 0)), (0, .ref h), (1, .int (nI x0)), (2, .int (nI x1))]) hC.1.1 hC.1.2.1 dX1_distance_51 hl (by decide) rfl (fun ls hl => ?_)
          have lp53 : ∀ (n : Nat) (b : Nat) (r : Nat) (u53 : CS) (H : Heap) (locs : List Loc) (ls : Array Slot), b ≤ 5 → 5 < b + n → r = (dst (ov u.2.1 (df u.1 x0 x1) 5) b).1 → u53.2.1 = (dst (ov u.2.1 (df u.1 x0 x1) 5) b).2 → u53.1 = u.1 → u53.2.2 = u.2.2 → cI D h q dA kk A s.heap u53 H locs → lv_has ls 6 [(4, .int (nI b)), (3, .int (nI r)), (0, .ref h), (1, .int (nI x0)), (2, .int (nI x1))] → W p l e rmX1_distance s m args below meth c H locs 0 0 Q (F0 m 53 ls []) := by
            intro n
            induction n with
            | zero => intro b r u53 H locs ls hb hn hr hu1 hu2 hu3; exfalso; omega
            | succ n ih =>
              intro b r u53 H locs ls hb hn hr hu1 hu2 hu3 hI hl
              have ih53 := ih
              clear ih
              refine lv_iload hC.1.1 hC.1.2.1 dX1_distance_53 (lv_at hl 0 rfl) ?_
              refine lv_iconst (v := (nI 5)) hC.1.1 hC.1.2.1 dX1_distance_55 (by decide +kernel) ?_
              refine n_icmp_ge hC.1 (tgt := 82) dX1_distance_56 (by decide) (fun c56 => ?_) (fun c56 => ?_) (by omega) (by omega)
              · refine lv_iload_n hC.1.1 hC.1.2.1 dX1_distance_82 rfl (lv_at hl 1 rfl) ?_
                exact hret _ _ _ _ _ _ dX1_distance_83 rfl ⟨by rw [sDist_n h0 h1 hz, hr, show b = 5 by omega]; exact congrArg nI (rkC_congr (fun j hj => ov_lt hj)), hu2, hu3, by rw [hu1]; exact dst_b32 (ov_b32 hd (df_b32 hw _ _) _) b⟩ hI
              · have hrb : r ≤ b := by rw [hr]; exact dst_le _ b
                refine lv_aload_n hC.1.1 hC.1.2.1 dX1_distance_59 rfl (lv_at hl 2 rfl) ?_
                refine lv_iload_n hC.1.1 hC.1.2.1 dX1_distance_60 rfl (lv_at hl 1 rfl) ?_
                refine lv_iload hC.1.1 hC.1.2.1 dX1_distance_61 (lv_at hl 0 rfl) ?_
                refine c_calli (rest := []) hC hI (kX1_clearBit l D h q dA kk u53 r b (by omega) (by omega) (by rw [hu1]; exact dst_b32 (ov_b32 hd (df_b32 hw _ _) _) b)) lkX1_clearBit hdX1_clearBit ⟨rfl, rfl⟩ ⟨Nat.le_of_ble_eq_true rfl, Nat.le_of_ble_eq_true rfl⟩ rfl hl.1 rfl (Nat.le_of_ble_eq_true rfl) ⟨Nat.le_of_ble_eq_true rfl, Nat.le_of_ble_eq_true rfl⟩ dX1_distance_63 (fun r63 v63 H locs hp63 hI => ?_)
                obtain ⟨rfl, v63_0, v63_1, v63_2⟩ := hp63
                refine lv_istore (lv' := [(5, .int (nI ((cb u53.2.1 r b).1))), (4, .int (nI b)), (3, .int (nI r)), (0, .ref h), (1, .int (nI x0)), (2, .int (nI x1))]) hC.1.1 hC.1.2.1 dX1_distance_66 hl (by decide) rfl (fun ls hl => ?_)
                refine lv_iload hC.1.1 hC.1.2.1 dX1_distance_68 (lv_at hl 0 rfl) ?_
                refine n_if_eq hC.1 (tgt := 76) dX1_distance_70 (by decide) (fun c70 => ?_) (fun c70 => ?_) (Nat.lt_of_le_of_lt (cb_le _ _ _) (by decide))
                · refine lv_iinc (v := (nI (b + 1))) (lv' := [(4, .int (nI (b + 1))), (5, .int (nI ((cb u53.2.1 r b).1))), (3, .int (nI r)), (0, .ref h), (1, .int (nI x0)), (2, .int (nI x1))]) hC.1.1 hC.1.2.1 dX1_distance_76 hl (k := 1) rfl (ni_inc b) (by decide) rfl (fun ls hl => ?_)
                  refine lv_goto (tgt := 53) hC.1.1 hC.1.2.1 dX1_distance_79 (by decide) ?_
                  exact ih53 (b + 1) r v63 _ _ _ (by omega) (by omega) (by rw [hu1, hr] at c70; show _ = (dst (ov u.2.1 (df u.1 x0 x1) 5) b).1 + (cb (dst (ov u.2.1 (df u.1 x0 x1) 5) b).2 (dst (ov u.2.1 (df u.1 x0 x1) 5) b).1 b).1; have := cb_le (dst (ov u.2.1 (df u.1 x0 x1) 5) b).2 (dst (ov u.2.1 (df u.1 x0 x1) 5) b).1 b; omega) (by rw [v63_0, hu1, hr]; rfl) (by rw [v63_1, hu2]) (by rw [v63_2, hu3]) hI (lv_sub hl [0, 2, 3, 4, 5] rfl)
                · refine lv_iinc (v := (nI (r + 1))) (lv' := [(3, .int (nI (r + 1))), (5, .int (nI ((cb u53.2.1 r b).1))), (4, .int (nI b)), (0, .ref h), (1, .int (nI x0)), (2, .int (nI x1))]) hC.1.1 hC.1.2.1 dX1_distance_73 hl (k := 2) rfl (ni_inc r) (by decide) rfl (fun ls hl => ?_)
                  refine lv_iinc (v := (nI (b + 1))) (lv' := [(4, .int (nI (b + 1))), (3, .int (nI (r + 1))), (5, .int (nI ((cb u53.2.1 r b).1))), (0, .ref h), (1, .int (nI x0)), (2, .int (nI x1))]) hC.1.1 hC.1.2.1 dX1_distance_76 hl (k := 2) rfl (ni_inc b) (by decide) rfl (fun ls hl => ?_)
                  refine lv_goto (tgt := 53) hC.1.1 hC.1.2.1 dX1_distance_79 (by decide) ?_
                  exact ih53 (b + 1) (r + 1) v63 _ _ _ (by omega) (by omega) (by rw [hu1, hr] at c70; show _ = (dst (ov u.2.1 (df u.1 x0 x1) 5) b).1 + (cb (dst (ov u.2.1 (df u.1 x0 x1) 5) b).2 (dst (ov u.2.1 (df u.1 x0 x1) 5) b).1 b).1; have := cb_le (dst (ov u.2.1 (df u.1 x0 x1) 5) b).2 (dst (ov u.2.1 (df u.1 x0 x1) 5) b).1 b; omega) (by rw [v63_0, hu1, hr]; rfl) (by rw [v63_1, hu2]) (by rw [v63_2, hu3]) hI (lv_sub hl [0, 1, 3, 4, 5] rfl)
          exact lp53 (6) 0 0 u13 _ _ _ (by omega) (by omega) rfl (by rw [hu1, show i = 5 by omega]; rfl) hu2 hu3 hI (lv_sub hl [0, 1, 2, 3, 4] rfl)
        · refine lv_aload_n hC.1.1 hC.1.2.1 dX1_distance_18 rfl (lv_at hl 1 rfl) ?_
          refine lv_iload_n hC.1.1 hC.1.2.1 dX1_distance_19 rfl (lv_at hl 2 rfl) ?_
          refine lv_iload_n hC.1.1 hC.1.2.1 dX1_distance_20 rfl (lv_at hl 3 rfl) ?_
          refine lv_iload_n hC.1.1 hC.1.2.1 dX1_distance_21 rfl (lv_at hl 0 rfl) ?_
          refine c_calli (rest := []) hC hI (kX1_value l D h q dA kk u13 x0 x1 i h0 h1 (by omega)) lkX1_value hdX1_value ⟨rfl, rfl⟩ ⟨Nat.le_of_ble_eq_true rfl, Nat.le_of_ble_eq_true rfl⟩ rfl hl.1 rfl (Nat.le_of_ble_eq_true rfl) ⟨Nat.le_of_ble_eq_true rfl, Nat.le_of_ble_eq_true rfl⟩ dX1_distance_22 (fun r22 v22 H locs hp22 hI => ?_)
          obtain ⟨rfl, rfl⟩ := hp22
          refine lv_istore (lv' := [(4, .int (nI (vl x0 x1 i))), (3, .int (nI i)), (0, .ref h), (1, .int (nI x0)), (2, .int (nI x1))]) hC.1.1 hC.1.2.1 dX1_distance_25 hl (by decide) rfl (fun ls hl => ?_)
          refine lv_aload_n hC.1.1 hC.1.2.1 dX1_distance_27 rfl (lv_at hl 2 rfl) ?_
          refine c_get_diff hC hI dX1_distance_28 ?_
          refine lv_iload_n hC.1.1 hC.1.2.1 dX1_distance_31 rfl (lv_at hl 1 rfl) ?_
          refine lv_aload_n hC.1.1 hC.1.2.1 dX1_distance_32 rfl (lv_at hl 2 rfl) ?_
          refine c_get_word hC hI dX1_distance_33 ?_
          refine lv_iload_n hC.1.1 hC.1.2.1 dX1_distance_36 rfl (lv_at hl 1 rfl) ?_
          refine c_ld_word hC hI dX1_distance_37 ?_
          refine lv_iload hC.1.1 hC.1.2.1 dX1_distance_38 (lv_at hl 0 rfl) ?_
          refine n_ixor hC.1 dX1_distance_40 ?_
          refine c_st_diff (x := (u13.1 i) ^^^ (vl x0 x1 i)) hC hI dX1_distance_41 (fun v41 H locs v41_0 v41_1 v41_2 hI => ?_)
          refine lv_iinc (v := (nI (i + 1))) (lv' := [(3, .int (nI (i + 1))), (4, .int (nI (vl x0 x1 i))), (0, .ref h), (1, .int (nI x0)), (2, .int (nI x1))]) hC.1.1 hC.1.2.1 dX1_distance_42 hl (k := 1) rfl (ni_inc i) (by decide) rfl (fun ls hl => ?_)
          refine lv_goto (tgt := 13) hC.1.1 hC.1.2.1 dX1_distance_45 (by decide) ?_
          exact ih13 (i + 1) v41 _ _ _ (by omega) (by omega) (by rw [v41_0, hu1, hu2]; exact ov_s _ (df u.1 x0 x1) i) (by rw [v41_1, hu2]) (by rw [v41_2, hu3]) hI (lv_sub hl [0, 2, 3, 4] rfl)
    exact lp13 (6) 0 u _ _ _ (by omega) (by omega) (ov_0 _ _).symm rfl rfl hI (lv_sub hl [0, 1, 2, 3] rfl)
  · refine lv_iconst (v := (pI 0)) hC.1.1 hC.1.2.1 dX1_distance_9 (by decide +kernel) ?_
    exact hret _ _ _ _ _ _ dX1_distance_10 rfl ⟨(sDist_t (bt_1 c6)).symm, rfl, rfl, hd⟩ hI
abbrev rmX1_rank : Room := { frames := 3, cells := 0, slots := 0, locals := 74 }
theorem hdX1_rank : yX1_rank.cls = RX1 ∧ yX1_rank.cls ≠ "java/lang/invoke/MethodHandle" ∧ yX1_rank.cls ≠ "java/lang/invoke/VarHandle" ∧ (parseMethodDescriptor yX1_rank.desc).map (fun d => d.parameters.length) = some 0 := by decide +kernel
theorem lkX1_rank : GoodIn lw_all (wsV RX1 60 RX1 yX1_rank (ws_ yX1_rank cX1_rank 1 (some .int))) := lw_V q118 q119 q120 q28 q121
set_option maxHeartbeats 4000000 in
set_option maxRecDepth 100000 in
/-- rank -/
theorem kX1_rank (l : Launch) (D : va_G) (h : Nat) (q : Nat → Nat) (dA : ClassId) (kk : Nat) (u : CS)  (hk : kk = 1 ∨ kk = 2) (hw : b32 u.1) (hd : b32 u.2.1) : cMi l yX1_rank (ws_ yX1_rank cX1_rank 1 (some .int)) rmX1_rank D h q dA kk [] u (fun r u' => r = nI (rkC (df u.1 0 0)) ∧ u'.1 = u.1 ∧ u'.2.2 = u.2.2 ∧ b32 u'.2.1) := by
  refine cMi_of (lv := [(0, .ref h)]) (by decide) rfl (Nat.le_of_ble_eq_true rfl) rfl ?_
  intro p e s m args below meth c A Q ls hC hI hl hret
  refine lv_aload_n hC.1.1 hC.1.2.1 dX1_rank_0 rfl (lv_at hl 0 rfl) ?_
  refine lv_iconst (v := (nI 0)) hC.1.1 hC.1.2.1 dX1_rank_1 (by decide +kernel) ?_
  refine lv_iconst (v := (nI 0)) hC.1.1 hC.1.2.1 dX1_rank_2 (by decide +kernel) ?_
  refine c_calli (rest := []) hC hI (kX1_distance l D h q dA kk u ((nI 0)) ((nI 0)) hk hw hd) lkX1_distance hdX1_distance ⟨rfl, rfl⟩ ⟨Nat.le_of_ble_eq_true rfl, Nat.le_of_ble_eq_true rfl⟩ rfl hl.1 rfl (Nat.le_of_ble_eq_true rfl) ⟨Nat.le_of_ble_eq_true rfl, Nat.le_of_ble_eq_true rfl⟩ dX1_rank_3 (fun r3 v3 H locs hp3 hI => ?_)
  obtain ⟨rfl, v3_0, v3_1, v3_2⟩ := hp3
  exact hret _ _ _ _ _ _ dX1_rank_6 rfl ⟨sDist_n (by omega) (by omega) (fun _ => rfl), v3_0, v3_1, v3_2⟩ hI
theorem dF_b32 {w : Nat → Nat} (h : b32 w) {a : Nat} (ha : a < 32) (z : Nat) : b32 (dF w a z) := by
  intro j
  unfold dF
  split
  · exact x_lt (h j) ha
  · exact h j
theorem wDis_n {w : Nat → Nat} {i j : Nat} (hi : i < 32) (hj : j < 32) : wDis w (nI i) (nI j) = ov w (dF w i j) 5 := by
  unfold wDis
  rw [oB_nI hi, oB_nI hj, tN_nI hi, tN_nI hj]
  rfl
theorem sDis_n {w : Nat → Nat} {i j : Nat} (hi : i < 32) (hj : j < 32) : sDis w (nI i) (nI j) = nI (rkC (df (ov w (dF w i j) 5) 0 0)) := by
  unfold sDis
  rw [wDis_n hi hj, oB_nI hi, oB_nI hj]
  rfl
abbrev rmX1_disturb : Room := { frames := 4, cells := 0, slots := 0, locals := 94 }
theorem hdX1_disturb : yX1_disturb.cls = RX1 ∧ yX1_disturb.cls ≠ "java/lang/invoke/MethodHandle" ∧ yX1_disturb.cls ≠ "java/lang/invoke/VarHandle" ∧ (parseMethodDescriptor yX1_disturb.desc).map (fun d => d.parameters.length) = some 2 := by decide +kernel
set_option maxHeartbeats 4000000 in
set_option maxRecDepth 100000 in
/-- disturb -/
theorem kX1_disturb (l : Launch) (D : va_G) (h : Nat) (q : Nat → Nat) (dA : ClassId) (kk : Nat) (u : CS) (a z : Int32) (hk : kk = 1 ∨ kk = 2) (hw : b32 u.1) (hd : b32 u.2.1) : cMi l yX1_disturb (ws_ yX1_disturb cX1_disturb 4 (some .int)) rmX1_disturb D h q dA kk [.int a, .int z] u (fun r u' => r = sDis u.1 a z ∧ u'.1 = wDis u.1 a z ∧ u'.2.2 = u.2.2 ∧ b32 u'.2.1) := by
  refine cMi_of (lv := [(0, .ref h), (1, .int a), (2, .int z)]) (by decide) rfl (Nat.le_of_ble_eq_true rfl) rfl ?_
  intro p e s m args below meth c A Q ls hC hI hl hret
  refine lv_aload_n hC.1.1 hC.1.2.1 dX1_disturb_0 rfl (lv_at hl 0 rfl) ?_
  refine lv_iload_n hC.1.1 hC.1.2.1 dX1_disturb_1 rfl (lv_at hl 1 rfl) ?_
  refine c_calli (rest := []) hC hI (kX1_outside l D h q dA kk u a) lkX1_outside hdX1_outside ⟨rfl, rfl⟩ ⟨Nat.le_of_ble_eq_true rfl, Nat.le_of_ble_eq_true rfl⟩ rfl hl.1 rfl (Nat.le_of_ble_eq_true rfl) ⟨Nat.le_of_ble_eq_true rfl, Nat.le_of_ble_eq_true rfl⟩ dX1_disturb_2 (fun r2 v2 H locs hp2 hI => ?_)
  obtain ⟨rfl, rfl⟩ := hp2
  refine n_if_ne hC.1 (tgt := 16) dX1_disturb_5 (by decide) (fun c5 => ?_) (fun c5 => ?_) (Nat.lt_trans (bt_lt _) (by decide))
  · refine lv_iconst (v := (pI 0)) hC.1.1 hC.1.2.1 dX1_disturb_16 (by decide +kernel) ?_
    exact hret _ _ _ _ _ _ dX1_disturb_17 rfl ⟨by unfold sDis; rw [if_pos (by first | rw [bt_1 c5, Bool.true_or] | rw [bt_1 c13, Bool.or_true])], by unfold wDis; rw [if_pos (by first | rw [bt_1 c5, Bool.true_or] | rw [bt_1 c13, Bool.or_true])], rfl, hd⟩ hI
  · refine lv_aload_n hC.1.1 hC.1.2.1 dX1_disturb_8 rfl (lv_at hl 0 rfl) ?_
    refine lv_iload_n hC.1.1 hC.1.2.1 dX1_disturb_9 rfl (lv_at hl 2 rfl) ?_
    refine c_calli (rest := []) hC hI (kX1_outside l D h q dA kk u z) lkX1_outside hdX1_outside ⟨rfl, rfl⟩ ⟨Nat.le_of_ble_eq_true rfl, Nat.le_of_ble_eq_true rfl⟩ rfl hl.1 rfl (Nat.le_of_ble_eq_true rfl) ⟨Nat.le_of_ble_eq_true rfl, Nat.le_of_ble_eq_true rfl⟩ dX1_disturb_10 (fun r10 v10 H locs hp10 hI => ?_)
    obtain ⟨rfl, rfl⟩ := hp10
    refine n_if_eq hC.1 (tgt := 18) dX1_disturb_13 (by decide) (fun c13 => ?_) (fun c13 => ?_) (Nat.lt_trans (bt_lt _) (by decide))
    · obtain ⟨i, hi, rfl⟩ := oB_ex (bt_0 c5)
      obtain ⟨j, hj, rfl⟩ := oB_ex (bt_0 c13)
      refine lv_iconst (v := (nI 0)) hC.1.1 hC.1.2.1 dX1_disturb_18 (by decide +kernel) ?_
      refine lv_istore_n (lv' := [(3, .int (nI 0)), (0, .ref h), (1, .int (nI i)), (2, .int (nI j))]) hC.1.1 hC.1.2.1 dX1_disturb_19 rfl hl (by decide) rfl (fun ls hl => ?_)
      have lp20 : ∀ (n : Nat) (k : Nat) (u20 : CS) (H : Heap) (locs : List Loc) (ls : Array Slot), k ≤ 5 → 5 < k + n → u20.1 = ov u.1 (dF u.1 i j) k → u20.2 = u.2 → cI D h q dA kk A s.heap u20 H locs → lv_has ls 4 [(3, .int (nI k)), (0, .ref h), (1, .int (nI i)), (2, .int (nI j))] → W p l e rmX1_disturb s m args below meth c H locs 0 0 Q (F0 m 20 ls []) := by
        intro n
        induction n with
        | zero => intro k u20 H locs ls hk5 hn hu1 hu2; exfalso; omega
        | succ n ih =>
          intro k u20 H locs ls hk5 hn hu1 hu2 hI hl
          have ih20 := ih
          clear ih
          refine lv_iload_n hC.1.1 hC.1.2.1 dX1_disturb_20 rfl (lv_at hl 0 rfl) ?_
          refine lv_iconst (v := (nI 5)) hC.1.1 hC.1.2.1 dX1_disturb_21 (by decide +kernel) ?_
          refine n_icmp_ge hC.1 (tgt := 54) dX1_disturb_22 (by decide) (fun c22 => ?_) (fun c22 => ?_)
          · refine lv_aload_n hC.1.1 hC.1.2.1 dX1_disturb_54 rfl (lv_at hl 1 rfl) ?_
            refine c_calli (rest := []) hC hI (kX1_rank l D h q dA kk u20 hk (by rw [hu1]; exact ov_b32 hw (dF_b32 hw hi _) _) (by rw [hu2]; exact hd)) lkX1_rank hdX1_rank ⟨rfl, rfl⟩ ⟨Nat.le_of_ble_eq_true rfl, Nat.le_of_ble_eq_true rfl⟩ rfl hl.1 rfl (Nat.le_of_ble_eq_true rfl) ⟨Nat.le_of_ble_eq_true rfl, Nat.le_of_ble_eq_true rfl⟩ dX1_disturb_55 (fun r55 v55 H locs hp55 hI => ?_)
            obtain ⟨rfl, v55_0, v55_1, v55_2⟩ := hp55
            exact hret _ _ _ _ _ _ dX1_disturb_58 rfl ⟨by rw [sDis_n hi hj, hu1, show k = 5 by omega], by rw [wDis_n hi hj, v55_0, hu1, show k = 5 by omega], by rw [v55_1, hu2], v55_2⟩ hI
          · refine lv_iload_n hC.1.1 hC.1.2.1 dX1_disturb_25 rfl (lv_at hl 3 rfl) ?_
            refine lv_iload_n hC.1.1 hC.1.2.1 dX1_disturb_26 rfl (lv_at hl 0 rfl) ?_
            refine n_ishr hC.1 dX1_disturb_27 ?_
            refine lv_iconst (v := (nI 1)) hC.1.1 hC.1.2.1 dX1_disturb_28 (by decide +kernel) ?_
            refine n_iand hC.1 dX1_disturb_29 ?_
            refine lv_iconst (v := (nI 1)) hC.1.1 hC.1.2.1 dX1_disturb_30 (by decide +kernel) ?_
            refine n_icmp_ne hC.1 (tgt := 48) dX1_disturb_31 (by decide) (fun c31 => ?_) (fun c31 => ?_) (Nat.lt_of_le_of_lt Nat.and_le_right (by decide))
            · refine lv_iinc (v := (nI (k + 1))) (lv' := [(3, .int (nI (k + 1))), (0, .ref h), (1, .int (nI i)), (2, .int (nI j))]) hC.1.1 hC.1.2.1 dX1_disturb_48 hl (k := 0) rfl (ni_inc k) (by decide) rfl (fun ls hl => ?_)
              refine lv_goto (tgt := 20) hC.1.1 hC.1.2.1 dX1_disturb_51 (by decide) ?_
              exact ih20 (k + 1) u20 _ _ _ (by omega) (by omega) (by rw [hu1]; exact ov_k (by unfold dF; rw [if_neg (fun q => c31 ((n_tb _ _).mpr q))])) hu2 hI (lv_sub hl [0, 1, 2, 3] rfl)
            · refine lv_aload_n hC.1.1 hC.1.2.1 dX1_disturb_34 rfl (lv_at hl 1 rfl) ?_
              refine c_get_word hC hI dX1_disturb_35 ?_
              refine lv_iload_n hC.1.1 hC.1.2.1 dX1_disturb_38 rfl (lv_at hl 0 rfl) ?_
              refine lv_aload_n hC.1.1 hC.1.2.1 dX1_disturb_39 rfl (lv_at hl 1 rfl) ?_
              refine c_get_word hC hI dX1_disturb_40 ?_
              refine lv_iload_n hC.1.1 hC.1.2.1 dX1_disturb_43 rfl (lv_at hl 0 rfl) ?_
              refine c_ld_word hC hI dX1_disturb_44 ?_
              refine lv_iload_n hC.1.1 hC.1.2.1 dX1_disturb_45 rfl (lv_at hl 2 rfl) ?_
              refine n_ixor hC.1 dX1_disturb_46 ?_
              refine c_st_word (x := (u20.1 k) ^^^ i) hC hI dX1_disturb_47 (fun v47 H locs v47_0 v47_1 hI => ?_)
              refine lv_iinc (v := (nI (k + 1))) (lv' := [(3, .int (nI (k + 1))), (0, .ref h), (1, .int (nI i)), (2, .int (nI j))]) hC.1.1 hC.1.2.1 dX1_disturb_48 hl (k := 0) rfl (ni_inc k) (by decide) rfl (fun ls hl => ?_)
              refine lv_goto (tgt := 20) hC.1.1 hC.1.2.1 dX1_disturb_51 (by decide) ?_
              exact ih20 (k + 1) v47 _ _ _ (by omega) (by omega) (by rw [v47_0, hu1, ov_ge (Nat.le_refl _), ← ov_s]; unfold dF; rw [if_pos ((n_tb _ _).mp c31)]) (by rw [v47_1, hu2]) hI (lv_sub hl [0, 1, 2, 3] rfl)
      exact lp20 (6) 0 u _ _ _ (by omega) (by omega) (ov_0 _ _).symm rfl hI (lv_sub hl [0, 1, 2, 3] rfl)
    · refine lv_iconst (v := (pI 0)) hC.1.1 hC.1.2.1 dX1_disturb_16 (by decide +kernel) ?_
      exact hret _ _ _ _ _ _ dX1_disturb_17 rfl ⟨by unfold sDis; rw [if_pos (by first | rw [bt_1 c5, Bool.true_or] | rw [bt_1 c13, Bool.or_true])], by unfold wDis; rw [if_pos (by first | rw [bt_1 c5, Bool.true_or] | rw [bt_1 c13, Bool.or_true])], rfl, hd⟩ hI
abbrev rmX1_lowestOf : Room := { frames := 0, cells := 0, slots := 0, locals := 0 }
theorem hdX1_lowestOf : yX1_lowestOf.cls = RX1 ∧ yX1_lowestOf.cls ≠ "java/lang/invoke/MethodHandle" ∧ yX1_lowestOf.cls ≠ "java/lang/invoke/VarHandle" ∧ (parseMethodDescriptor yX1_lowestOf.desc).map (fun d => d.parameters.length) = some 1 := by decide +kernel
theorem lkX1_lowestOf : GoodIn lw_all (wsV RX1 110 RX1 yX1_lowestOf (ws_ yX1_lowestOf cX1_lowestOf 4 (some .int))) := lw_V q190 q192 qs16 q28 q193
set_option maxHeartbeats 4000000 in
set_option maxRecDepth 100000 in
/-- lowestOf -/
theorem kX1_lowestOf (l : Launch) (D : va_G) (h : Nat) (q : Nat → Nat) (dA : ClassId) (kk : Nat) (u : CS) (z : Nat) (hz : z < 32) : cMi l yX1_lowestOf (ws_ yX1_lowestOf cX1_lowestOf 4 (some .int)) rmX1_lowestOf D h q dA kk [.int (nI z)] u (fun r u' => r = pI (lo (zP z) 0 5) ∧ u = u') := by
  refine cMi_of (lv := [(0, .ref h), (1, .int (nI z))]) (by decide) rfl (Nat.le_of_ble_eq_true rfl) rfl ?_
  intro p e s m args below meth c A Q ls hC hI hl hret
  refine lv_iconst (v := (pI 0)) hC.1.1 hC.1.2.1 dX1_lowestOf_0 (by decide +kernel) ?_
  refine lv_istore_n (lv' := [(2, .int (pI 0)), (0, .ref h), (1, .int (nI z))]) hC.1.1 hC.1.2.1 dX1_lowestOf_1 rfl hl (by decide) rfl (fun ls hl => ?_)
  refine lv_iconst (v := (nI 4)) hC.1.1 hC.1.2.1 dX1_lowestOf_2 (by decide +kernel) ?_
  refine lv_istore_n (lv' := [(3, .int (nI 4)), (2, .int (pI 0)), (0, .ref h), (1, .int (nI z))]) hC.1.1 hC.1.2.1 dX1_lowestOf_3 rfl hl (by decide) rfl (fun ls hl => ?_)
  have lp4 : ∀ (n : Nat) (j : Nat) (a : Nat) (H : Heap) (locs : List Loc) (ls : Array Slot), j ≤ 5 → j < n → a = lo (zP z) j (5 - j) → cI D h q dA kk A s.heap u H locs → lv_has ls 4 [(3, .int (pI j)), (2, .int (pI a)), (0, .ref h), (1, .int (nI z))] → W p l e rmX1_lowestOf s m args below meth c H locs 0 0 Q (F0 m 4 ls []) := by
    intro n
    induction n with
    | zero => intro j a  H locs ls hj hn ha; exfalso; omega
    | succ n ih =>
      intro j a  H locs ls hj hn ha hI hl
      have ih4 := ih
      clear ih
      refine lv_iload_n hC.1.1 hC.1.2.1 dX1_lowestOf_4 rfl (lv_at hl 0 rfl) ?_
      refine p_if_lt hC.1 (tgt := 25) dX1_lowestOf_5 (by decide) (fun c5 => ?_) (fun c5 => ?_)
      · refine lv_iload_n hC.1.1 hC.1.2.1 dX1_lowestOf_25 rfl (lv_at hl 1 rfl) ?_
        exact hret _ _ _ _ _ _ dX1_lowestOf_26 rfl ⟨by rw [ha, c5], rfl⟩ hI
      · obtain ⟨j1, rfl⟩ : ∃ z, j = z + 1 := ⟨j - 1, by omega⟩
        have hl : lv_has ls 4 [(3, .int (nI j1)), (2, .int (pI a)), (0, .ref h), (1, .int (nI z))] := hl
        refine lv_iload_n hC.1.1 hC.1.2.1 dX1_lowestOf_8 rfl (lv_at hl 3 rfl) ?_
        refine lv_iload_n hC.1.1 hC.1.2.1 dX1_lowestOf_9 rfl (lv_at hl 0 rfl) ?_
        refine n_ishr hC.1 dX1_lowestOf_10 ?_
        refine lv_iconst (v := (nI 1)) hC.1.1 hC.1.2.1 dX1_lowestOf_11 (by decide +kernel) ?_
        refine n_iand hC.1 dX1_lowestOf_12 ?_
        refine lv_iconst (v := (nI 1)) hC.1.1 hC.1.2.1 dX1_lowestOf_13 (by decide +kernel) ?_
        refine n_icmp_ne hC.1 (tgt := 19) dX1_lowestOf_14 (by decide) (fun c14 => ?_) (fun c14 => ?_) (Nat.lt_of_le_of_lt Nat.and_le_right (by decide))
        · refine lv_iinc (v := (pI j1)) (lv' := [(3, .int (pI j1)), (2, .int (pI a)), (0, .ref h), (1, .int (nI z))]) hC.1.1 hC.1.2.1 dX1_lowestOf_19 hl (k := 0) rfl (pi_dec j1) (by decide) rfl (fun ls hl => ?_)
          refine lv_goto (tgt := 4) hC.1.1 hC.1.2.1 dX1_lowestOf_22 (by decide) ?_
          exact ih4 j1 a  _ _ _ (by omega) (by omega) (by first | exact (lo_t (P := zP z) ((n_tb _ _).mp c14) rfl (by omega)).symm | (rw [ha]; exact (lo_f (P := zP z) (fun q => c14 ((n_tb _ _).mpr q)) (by omega)).symm)) hI (lv_sub hl [0, 1, 2, 3] rfl)
        · refine lv_iload_n hC.1.1 hC.1.2.1 dX1_lowestOf_17 rfl (lv_at hl 0 rfl) ?_
          refine lv_istore_n (lv' := [(2, .int (nI j1)), (3, .int (nI j1)), (0, .ref h), (1, .int (nI z))]) hC.1.1 hC.1.2.1 dX1_lowestOf_18 rfl hl (by decide) rfl (fun ls hl => ?_)
          refine lv_iinc (v := (pI j1)) (lv' := [(3, .int (pI j1)), (2, .int (nI j1)), (0, .ref h), (1, .int (nI z))]) hC.1.1 hC.1.2.1 dX1_lowestOf_19 hl (k := 1) rfl (pi_dec j1) (by decide) rfl (fun ls hl => ?_)
          refine lv_goto (tgt := 4) hC.1.1 hC.1.2.1 dX1_lowestOf_22 (by decide) ?_
          exact ih4 j1 (j1 + 1)  _ _ _ (by omega) (by omega) (by first | exact (lo_t (P := zP z) ((n_tb _ _).mp c14) rfl (by omega)).symm | (rw [ha]; exact (lo_f (P := zP z) (fun q => c14 ((n_tb _ _).mpr q)) (by omega)).symm)) hI (lv_sub hl [0, 1, 2, 3] rfl)
  exact lp4 (6) (4 + 1) 0  _ _ _ (by omega) (by omega) rfl hI (lv_sub hl [0, 1, 2, 3] rfl)
abbrev rmX1_matches : Room := { frames := 2, cells := 0, slots := 0, locals := 49 }
theorem hdX1_matches : yX1_matches.cls = RX1 ∧ yX1_matches.cls ≠ "java/lang/invoke/MethodHandle" ∧ yX1_matches.cls ≠ "java/lang/invoke/VarHandle" ∧ (parseMethodDescriptor yX1_matches.desc).map (fun d => d.parameters.length) = some 3 := by decide +kernel
theorem lkX1_matches : GoodIn lw_all (wsV RX1 114 RX1 yX1_matches (ws_ yX1_matches cX1_matches 7 (some .boolean))) := lw_V q194 q196 qs17 q28 q197
set_option maxHeartbeats 4000000 in
set_option maxRecDepth 100000 in
/-- matches -/
theorem kX1_matches (l : Launch) (D : va_G) (h : Nat) (q : Nat → Nat) (dA : ClassId) (kk : Nat) (u : CS) (a b z : Nat) (ha : a < 32) (hb : b < 32) (hz : z < 32) (hw : b32 u.1) : cMi l yX1_matches (ws_ yX1_matches cX1_matches 7 (some .boolean)) rmX1_matches D h q dA kk [.int (nI a), .int (nI b), .int (nI z)] u (fun r u' => r = nI (mt u.1 a b z 5).toNat ∧ u = u') := by
  refine cMi_of (lv := [(0, .ref h), (1, .int (nI a)), (2, .int (nI b)), (3, .int (nI z))]) (by decide) rfl (Nat.le_of_ble_eq_true rfl) rfl ?_
  intro p e s m args below meth c A Q ls hC hI hl hret
  refine lv_iconst (v := (nI 1)) hC.1.1 hC.1.2.1 dX1_matches_0 (by decide +kernel) ?_
  refine lv_istore (lv' := [(4, .int (nI 1)), (0, .ref h), (1, .int (nI a)), (2, .int (nI b)), (3, .int (nI z))]) hC.1.1 hC.1.2.1 dX1_matches_1 hl (by decide) rfl (fun ls hl => ?_)
  refine lv_iconst (v := (nI 0)) hC.1.1 hC.1.2.1 dX1_matches_3 (by decide +kernel) ?_
  refine lv_istore (lv' := [(5, .int (nI 0)), (4, .int (nI 1)), (0, .ref h), (1, .int (nI a)), (2, .int (nI b)), (3, .int (nI z))]) hC.1.1 hC.1.2.1 dX1_matches_4 hl (by decide) rfl (fun ls hl => ?_)
  have lp6 : ∀ (n : Nat) (i : Nat) (g : Nat) (H : Heap) (locs : List Loc) (ls : Array Slot), i ≤ 5 → 5 < i + n → g = (mt u.1 a b z i).toNat → cI D h q dA kk A s.heap u H locs → lv_has ls 7 [(5, .int (nI i)), (4, .int (nI g)), (0, .ref h), (1, .int (nI a)), (2, .int (nI b)), (3, .int (nI z))] → W p l e rmX1_matches s m args below meth c H locs 0 0 Q (F0 m 6 ls []) := by
    intro n
    induction n with
    | zero => intro i g  H locs ls hi hn hg; exfalso; omega
    | succ n ih =>
      intro i g  H locs ls hi hn hg hI hl
      have ih6 := ih
      clear ih
      refine lv_iload hC.1.1 hC.1.2.1 dX1_matches_6 (lv_at hl 0 rfl) ?_
      refine lv_iconst (v := (nI 5)) hC.1.1 hC.1.2.1 dX1_matches_8 (by decide +kernel) ?_
      refine n_icmp_ge hC.1 (tgt := 62) dX1_matches_9 (by decide) (fun c9 => ?_) (fun c9 => ?_)
      · refine lv_iload hC.1.1 hC.1.2.1 dX1_matches_62 (lv_at hl 1 rfl) ?_
        exact hret _ _ _ _ _ _ dX1_matches_64 (by rw [hg]; exact n_nar _) ⟨by rw [hg, show i = 5 by omega], rfl⟩ hI
      · refine lv_iload_n hC.1.1 hC.1.2.1 dX1_matches_12 rfl (lv_at hl 5 rfl) ?_
        refine lv_iload hC.1.1 hC.1.2.1 dX1_matches_13 (lv_at hl 0 rfl) ?_
        refine n_ishr hC.1 dX1_matches_15 ?_
        refine lv_iconst (v := (nI 1)) hC.1.1 hC.1.2.1 dX1_matches_16 (by decide +kernel) ?_
        refine n_iand hC.1 dX1_matches_17 ?_
        refine lv_iconst (v := (nI 1)) hC.1.1 hC.1.2.1 dX1_matches_18 (by decide +kernel) ?_
        refine n_icmp_ne hC.1 (tgt := 56) dX1_matches_19 (by decide) (fun c19 => ?_) (fun c19 => ?_) (Nat.lt_of_le_of_lt Nat.and_le_right (by decide))
        · refine lv_iinc (v := (nI (i + 1))) (lv' := [(5, .int (nI (i + 1))), (4, .int (nI g)), (0, .ref h), (1, .int (nI a)), (2, .int (nI b)), (3, .int (nI z))]) hC.1.1 hC.1.2.1 dX1_matches_56 hl (k := 0) rfl (ni_inc i) (by decide) rfl (fun ls hl => ?_)
          refine lv_goto (tgt := 6) hC.1.1 hC.1.2.1 dX1_matches_59 (by decide) ?_
          exact ih6 (i + 1) g  _ _ _ (by omega) (by omega) (by first | (rw [mt_f (fun q => c19 ((n_tb _ _).mpr q))]; exact hg) | (rw [mt_t ((n_tb _ _).mp c19), bt_0 (hg.symm.trans c34)]; rfl) | (rw [mt_t ((n_tb _ _).mp c19), bt_1 (fun q => c34 (hg.trans q)), decide_eq_true c46]; rfl) | (rw [mt_t ((n_tb _ _).mp c19), bt_1 (fun q => c34 (hg.trans q)), decide_eq_false c46]; rfl)) hI (lv_sub hl [0, 1, 2, 3, 4, 5] rfl)
        · refine lv_aload_n hC.1.1 hC.1.2.1 dX1_matches_22 rfl (lv_at hl 2 rfl) ?_
          refine lv_iload_n hC.1.1 hC.1.2.1 dX1_matches_23 rfl (lv_at hl 3 rfl) ?_
          refine lv_iload_n hC.1.1 hC.1.2.1 dX1_matches_24 rfl (lv_at hl 4 rfl) ?_
          refine lv_iload hC.1.1 hC.1.2.1 dX1_matches_25 (lv_at hl 0 rfl) ?_
          refine c_calli (rest := []) hC hI (kX1_value l D h q dA kk u a b i ha hb (by omega)) lkX1_value hdX1_value ⟨rfl, rfl⟩ ⟨Nat.le_of_ble_eq_true rfl, Nat.le_of_ble_eq_true rfl⟩ rfl hl.1 rfl (Nat.le_of_ble_eq_true rfl) ⟨Nat.le_of_ble_eq_true rfl, Nat.le_of_ble_eq_true rfl⟩ dX1_matches_27 (fun r27 v27 H locs hp27 hI => ?_)
          obtain ⟨rfl, rfl⟩ := hp27
          refine lv_istore (lv' := [(6, .int (nI (vl a b i))), (5, .int (nI i)), (4, .int (nI g)), (0, .ref h), (1, .int (nI a)), (2, .int (nI b)), (3, .int (nI z))]) hC.1.1 hC.1.2.1 dX1_matches_30 hl (by decide) rfl (fun ls hl => ?_)
          refine lv_iload hC.1.1 hC.1.2.1 dX1_matches_32 (lv_at hl 2 rfl) ?_
          refine n_if_eq hC.1 (tgt := 53) dX1_matches_34 (by decide) (fun c34 => ?_) (fun c34 => ?_) (by rw [hg]; exact Nat.lt_trans (bt_lt _) (by decide))
          · refine lv_iconst (v := (nI 0)) hC.1.1 hC.1.2.1 dX1_matches_53 (by decide +kernel) ?_
            refine lv_istore (lv' := [(4, .int (nI 0)), (6, .int (nI (vl a b i))), (5, .int (nI i)), (0, .ref h), (1, .int (nI a)), (2, .int (nI b)), (3, .int (nI z))]) hC.1.1 hC.1.2.1 dX1_matches_54 hl (by decide) rfl (fun ls hl => ?_)
            refine lv_iinc (v := (nI (i + 1))) (lv' := [(5, .int (nI (i + 1))), (4, .int (nI 0)), (6, .int (nI (vl a b i))), (0, .ref h), (1, .int (nI a)), (2, .int (nI b)), (3, .int (nI z))]) hC.1.1 hC.1.2.1 dX1_matches_56 hl (k := 2) rfl (ni_inc i) (by decide) rfl (fun ls hl => ?_)
            refine lv_goto (tgt := 6) hC.1.1 hC.1.2.1 dX1_matches_59 (by decide) ?_
            exact ih6 (i + 1) 0  _ _ _ (by omega) (by omega) (by first | (rw [mt_f (fun q => c19 ((n_tb _ _).mpr q))]; exact hg) | (rw [mt_t ((n_tb _ _).mp c19), bt_0 (hg.symm.trans c34)]; rfl) | (rw [mt_t ((n_tb _ _).mp c19), bt_1 (fun q => c34 (hg.trans q)), decide_eq_true c46]; rfl) | (rw [mt_t ((n_tb _ _).mp c19), bt_1 (fun q => c34 (hg.trans q)), decide_eq_false c46]; rfl)) hI (lv_sub hl [0, 1, 3, 4, 5, 6] rfl)
          · refine lv_iload hC.1.1 hC.1.2.1 dX1_matches_37 (lv_at hl 0 rfl) ?_
            refine lv_aload_n hC.1.1 hC.1.2.1 dX1_matches_39 rfl (lv_at hl 3 rfl) ?_
            refine c_get_word hC hI dX1_matches_40 ?_
            refine lv_iload hC.1.1 hC.1.2.1 dX1_matches_43 (lv_at hl 1 rfl) ?_
            refine c_ld_word hC hI dX1_matches_45 ?_
            refine n_icmp_ne hC.1 (tgt := 53) dX1_matches_46 (by decide) (fun c46 => ?_) (fun c46 => ?_) (Nat.lt_trans (vl_lt _ _ _) (by decide)) (Nat.lt_trans (hw _) (by decide))
            · refine lv_iconst (v := (nI 0)) hC.1.1 hC.1.2.1 dX1_matches_53 (by decide +kernel) ?_
              refine lv_istore (lv' := [(4, .int (nI 0)), (6, .int (nI (vl a b i))), (5, .int (nI i)), (0, .ref h), (1, .int (nI a)), (2, .int (nI b)), (3, .int (nI z))]) hC.1.1 hC.1.2.1 dX1_matches_54 hl (by decide) rfl (fun ls hl => ?_)
              refine lv_iinc (v := (nI (i + 1))) (lv' := [(5, .int (nI (i + 1))), (4, .int (nI 0)), (6, .int (nI (vl a b i))), (0, .ref h), (1, .int (nI a)), (2, .int (nI b)), (3, .int (nI z))]) hC.1.1 hC.1.2.1 dX1_matches_56 hl (k := 2) rfl (ni_inc i) (by decide) rfl (fun ls hl => ?_)
              refine lv_goto (tgt := 6) hC.1.1 hC.1.2.1 dX1_matches_59 (by decide) ?_
              exact ih6 (i + 1) 0  _ _ _ (by omega) (by omega) (by first | (rw [mt_f (fun q => c19 ((n_tb _ _).mpr q))]; exact hg) | (rw [mt_t ((n_tb _ _).mp c19), bt_0 (hg.symm.trans c34)]; rfl) | (rw [mt_t ((n_tb _ _).mp c19), bt_1 (fun q => c34 (hg.trans q)), decide_eq_true c46]; rfl) | (rw [mt_t ((n_tb _ _).mp c19), bt_1 (fun q => c34 (hg.trans q)), decide_eq_false c46]; rfl)) hI (lv_sub hl [0, 1, 3, 4, 5, 6] rfl)
            · refine lv_iconst (v := (nI 1)) hC.1.1 hC.1.2.1 dX1_matches_49 (by decide +kernel) ?_
              refine lv_goto (tgt := 54) hC.1.1 hC.1.2.1 dX1_matches_50 (by decide) ?_
              refine lv_istore (lv' := [(4, .int (nI 1)), (6, .int (nI (vl a b i))), (5, .int (nI i)), (0, .ref h), (1, .int (nI a)), (2, .int (nI b)), (3, .int (nI z))]) hC.1.1 hC.1.2.1 dX1_matches_54 hl (by decide) rfl (fun ls hl => ?_)
              refine lv_iinc (v := (nI (i + 1))) (lv' := [(5, .int (nI (i + 1))), (4, .int (nI 1)), (6, .int (nI (vl a b i))), (0, .ref h), (1, .int (nI a)), (2, .int (nI b)), (3, .int (nI z))]) hC.1.1 hC.1.2.1 dX1_matches_56 hl (k := 2) rfl (ni_inc i) (by decide) rfl (fun ls hl => ?_)
              refine lv_goto (tgt := 6) hC.1.1 hC.1.2.1 dX1_matches_59 (by decide) ?_
              exact ih6 (i + 1) 1  _ _ _ (by omega) (by omega) (by first | (rw [mt_f (fun q => c19 ((n_tb _ _).mpr q))]; exact hg) | (rw [mt_t ((n_tb _ _).mp c19), bt_0 (hg.symm.trans c34)]; rfl) | (rw [mt_t ((n_tb _ _).mp c19), bt_1 (fun q => c34 (hg.trans q)), decide_eq_true c46]; rfl) | (rw [mt_t ((n_tb _ _).mp c19), bt_1 (fun q => c34 (hg.trans q)), decide_eq_false c46]; rfl)) hI (lv_sub hl [0, 1, 3, 4, 5, 6] rfl)
  exact lp6 (6) 0 1  _ _ _ (by omega) (by omega) rfl hI (lv_sub hl [0, 1, 2, 3, 4, 5] rfl)
abbrev rmX1_agrees : Room := { frames := 3, cells := 0, slots := 0, locals := 75 }
theorem hdX1_agrees : yX1_agrees.cls = RX1 ∧ yX1_agrees.cls ≠ "java/lang/invoke/MethodHandle" ∧ yX1_agrees.cls ≠ "java/lang/invoke/VarHandle" ∧ (parseMethodDescriptor yX1_agrees.desc).map (fun d => d.parameters.length) = some 1 := by decide +kernel
theorem lkX1_agrees : GoodIn lw_all (wsV RX1 107 RX1 yX1_agrees (ws_ yX1_agrees cX1_agrees 11 (some .boolean))) := lw_V q186 q188 qs15 q28 q189
set_option maxHeartbeats 4000000 in
set_option maxRecDepth 100000 in
/-- agrees -/
theorem kX1_agrees (l : Launch) (D : va_G) (h : Nat) (q : Nat → Nat) (dA : ClassId) (kk : Nat) (u : CS) (z : Nat) (hk : kk = 1 ∨ kk = 2) (hz : z < 32) (hw : b32 u.1) : cMi l yX1_agrees (ws_ yX1_agrees cX1_agrees 11 (some .boolean)) rmX1_agrees D h q dA kk [.int (nI z)] u (fun r u' => r = nI (ag kk u.1 z).toNat ∧ u = u') := by
  refine cMi_of (lv := [(0, .ref h), (1, .int (nI z))]) (by decide) rfl (Nat.le_of_ble_eq_true rfl) rfl ?_
  intro p e s m args below meth c A Q ls hC hI hl hret
  refine lv_aload_n hC.1.1 hC.1.2.1 dX1_agrees_0 rfl (lv_at hl 0 rfl) ?_
  refine lv_iload_n hC.1.1 hC.1.2.1 dX1_agrees_1 rfl (lv_at hl 1 rfl) ?_
  refine c_calli (rest := []) hC hI (kX1_lowestOf l D h q dA kk u z hz) lkX1_lowestOf hdX1_lowestOf ⟨rfl, rfl⟩ ⟨Nat.le_of_ble_eq_true rfl, Nat.le_of_ble_eq_true rfl⟩ rfl hl.1 rfl (Nat.le_of_ble_eq_true rfl) ⟨Nat.le_of_ble_eq_true rfl, Nat.le_of_ble_eq_true rfl⟩ dX1_agrees_2 (fun r2 v2 H locs hp2 hI => ?_)
  obtain ⟨rfl, rfl⟩ := hp2
  refine lv_istore_n (lv' := [(2, .int (pI (lo (zP z) 0 5))), (0, .ref h), (1, .int (nI z))]) hC.1.1 hC.1.2.1 dX1_agrees_5 rfl hl (by decide) rfl (fun ls hl => ?_)
  refine lv_iload_n hC.1.1 hC.1.2.1 dX1_agrees_6 rfl (lv_at hl 0 rfl) ?_
  refine p_if_ge hC.1 (tgt := 12) dX1_agrees_7 (by decide) (fun c7 => ?_) (fun c7 => ?_) (Nat.lt_of_le_of_lt (lo_le _ _ _) (by decide))
  · obtain ⟨i, ei⟩ : ∃ i, lo (zP z) 0 5 = i + 1 := ⟨lo (zP z) 0 5 - 1, by omega⟩
    have hi : i < 5 := by have := lo_le (zP z) 5 0; omega
    rw [ei] at hl
    have hl : lv_has ls 11 [(2, .int (nI i)), (0, .ref h), (1, .int (nI z))] := hl
    refine lv_iload_n hC.1.1 hC.1.2.1 dX1_agrees_12 rfl (lv_at hl 2 rfl) ?_
    refine lv_iconst (v := (nI 1)) hC.1.1 hC.1.2.1 dX1_agrees_13 (by decide +kernel) ?_
    refine lv_iload_n hC.1.1 hC.1.2.1 dX1_agrees_14 rfl (lv_at hl 0 rfl) ?_
    refine n_ishl1 hC.1 dX1_agrees_15 ?_
    refine lv_iconst (v := (pI 0)) hC.1.1 hC.1.2.1 dX1_agrees_16 (by decide +kernel) ?_
    refine lv_ixor hC.1.1 hC.1.2.1 dX1_agrees_17 ?_
    refine lv_iand hC.1.1 hC.1.2.1 dX1_agrees_18 ?_
    refine n_top (y := (nI (cl z i))) (cl_e z hz i hi) ?_
    refine lv_istore_n (lv' := [(3, .int (nI (cl z i))), (2, .int (nI i)), (0, .ref h), (1, .int (nI z))]) hC.1.1 hC.1.2.1 dX1_agrees_19 rfl hl (by decide) rfl (fun ls hl => ?_)
    refine lv_aload_n hC.1.1 hC.1.2.1 dX1_agrees_20 rfl (lv_at hl 2 rfl) ?_
    refine c_get_k hC hI dX1_agrees_21 ?_
    refine lv_iconst (v := (nI 1)) hC.1.1 hC.1.2.1 dX1_agrees_24 (by decide +kernel) ?_
    refine n_icmp_ne hC.1 (tgt := 52) dX1_agrees_25 (by decide) (fun c25 => ?_) (fun c25 => ?_)
    · refine lv_aload_n hC.1.1 hC.1.2.1 dX1_agrees_52 rfl (lv_at hl 2 rfl) ?_
      refine lv_iload_n hC.1.1 hC.1.2.1 dX1_agrees_53 rfl (lv_at hl 0 rfl) ?_
      refine c_calli (rest := []) hC hI (kX1_lowestOf l D h q dA kk u (cl z i) (cl_lt hz i)) lkX1_lowestOf hdX1_lowestOf ⟨rfl, rfl⟩ ⟨Nat.le_of_ble_eq_true rfl, Nat.le_of_ble_eq_true rfl⟩ rfl hl.1 rfl (Nat.le_of_ble_eq_true rfl) ⟨Nat.le_of_ble_eq_true rfl, Nat.le_of_ble_eq_true rfl⟩ dX1_agrees_54 (fun r54 v54 H locs hp54 hI => ?_)
      obtain ⟨rfl, rfl⟩ := hp54
      refine lv_istore (lv' := [(4, .int (pI (lo (zP (cl z i)) 0 5))), (3, .int (nI (cl z i))), (2, .int (nI i)), (0, .ref h), (1, .int (nI z))]) hC.1.1 hC.1.2.1 dX1_agrees_57 hl (by decide) rfl (fun ls hl => ?_)
      refine lv_iload hC.1.1 hC.1.2.1 dX1_agrees_59 (lv_at hl 0 rfl) ?_
      refine p_if_ge hC.1 (tgt := 66) dX1_agrees_61 (by decide) (fun c61 => ?_) (fun c61 => ?_) (Nat.lt_of_le_of_lt (lo_le _ _ _) (by decide))
      · obtain ⟨j, ej⟩ : ∃ j, lo (zP (cl z i)) 0 5 = j + 1 := ⟨lo (zP (cl z i)) 0 5 - 1, by omega⟩
        have hj : j < 5 := by have := lo_le (zP (cl z i)) 5 0; omega
        rw [ej] at hl
        have hl : lv_has ls 11 [(4, .int (nI j)), (3, .int (nI (cl z i))), (2, .int (nI i)), (0, .ref h), (1, .int (nI z))] := hl
        refine lv_iconst (v := (nI 1)) hC.1.1 hC.1.2.1 dX1_agrees_66 (by decide +kernel) ?_
        refine lv_iload_n hC.1.1 hC.1.2.1 dX1_agrees_67 rfl (lv_at hl 2 rfl) ?_
        refine n_ishl1 hC.1 dX1_agrees_68 ?_
        refine lv_istore (lv' := [(5, .int (nI (2 ^ i))), (4, .int (nI j)), (3, .int (nI (cl z i))), (2, .int (nI i)), (0, .ref h), (1, .int (nI z))]) hC.1.1 hC.1.2.1 dX1_agrees_69 hl (by decide) rfl (fun ls hl => ?_)
        refine lv_iconst (v := (nI 1)) hC.1.1 hC.1.2.1 dX1_agrees_71 (by decide +kernel) ?_
        refine lv_iload hC.1.1 hC.1.2.1 dX1_agrees_72 (lv_at hl 1 rfl) ?_
        refine n_ishl1 hC.1 dX1_agrees_74 ?_
        refine lv_istore (lv' := [(6, .int (nI (2 ^ j))), (5, .int (nI (2 ^ i))), (4, .int (nI j)), (3, .int (nI (cl z i))), (2, .int (nI i)), (0, .ref h), (1, .int (nI z))]) hC.1.1 hC.1.2.1 dX1_agrees_75 hl (by decide) rfl (fun ls hl => ?_)
        refine lv_aload_n hC.1.1 hC.1.2.1 dX1_agrees_77 rfl (lv_at hl 5 rfl) ?_
        refine lv_aload_n hC.1.1 hC.1.2.1 dX1_agrees_78 rfl (lv_at hl 5 rfl) ?_
        refine c_get_word hC hI dX1_agrees_79 ?_
        refine lv_iload_n hC.1.1 hC.1.2.1 dX1_agrees_82 rfl (lv_at hl 4 rfl) ?_
        refine c_ld_word hC hI dX1_agrees_83 ?_
        refine lv_iload hC.1.1 hC.1.2.1 dX1_agrees_84 (lv_at hl 1 rfl) ?_
        refine c_calli (rest := []) hC hI (kX1_div l D h q dA kk u (u.1 i) (2 ^ i) (hw _) (p5 hi)) lkX1_div hdX1_div ⟨rfl, rfl⟩ ⟨Nat.le_of_ble_eq_true rfl, Nat.le_of_ble_eq_true rfl⟩ rfl hl.1 rfl (Nat.le_of_ble_eq_true rfl) ⟨Nat.le_of_ble_eq_true rfl, Nat.le_of_ble_eq_true rfl⟩ dX1_agrees_86 (fun r86 v86 H locs hp86 hI => ?_)
        obtain ⟨rfl, rfl⟩ := hp86
        refine lv_istore (lv' := [(7, .int (nI (gd (u.1 i) (2 ^ i)))), (6, .int (nI (2 ^ j))), (5, .int (nI (2 ^ i))), (4, .int (nI j)), (3, .int (nI (cl z i))), (2, .int (nI i)), (0, .ref h), (1, .int (nI z))]) hC.1.1 hC.1.2.1 dX1_agrees_89 hl (by decide) rfl (fun ls hl => ?_)
        refine lv_aload_n hC.1.1 hC.1.2.1 dX1_agrees_91 rfl (lv_at hl 6 rfl) ?_
        refine lv_aload_n hC.1.1 hC.1.2.1 dX1_agrees_92 rfl (lv_at hl 6 rfl) ?_
        refine c_get_word hC hI dX1_agrees_93 ?_
        refine lv_iload hC.1.1 hC.1.2.1 dX1_agrees_96 (lv_at hl 3 rfl) ?_
        refine c_ld_word hC hI dX1_agrees_98 ?_
        refine lv_iload hC.1.1 hC.1.2.1 dX1_agrees_99 (lv_at hl 1 rfl) ?_
        refine c_calli (rest := []) hC hI (kX1_div l D h q dA kk u (u.1 j) (2 ^ j) (hw _) (p5 hj)) lkX1_div hdX1_div ⟨rfl, rfl⟩ ⟨Nat.le_of_ble_eq_true rfl, Nat.le_of_ble_eq_true rfl⟩ rfl hl.1 rfl (Nat.le_of_ble_eq_true rfl) ⟨Nat.le_of_ble_eq_true rfl, Nat.le_of_ble_eq_true rfl⟩ dX1_agrees_101 (fun r101 v101 H locs hp101 hI => ?_)
        obtain ⟨rfl, rfl⟩ := hp101
        refine lv_istore (lv' := [(8, .int (nI (gd (u.1 j) (2 ^ j)))), (7, .int (nI (gd (u.1 i) (2 ^ i)))), (6, .int (nI (2 ^ j))), (5, .int (nI (2 ^ i))), (4, .int (nI j)), (3, .int (nI (cl z i))), (2, .int (nI i)), (0, .ref h), (1, .int (nI z))]) hC.1.1 hC.1.2.1 dX1_agrees_104 hl (by decide) rfl (fun ls hl => ?_)
        refine lv_aload_n hC.1.1 hC.1.2.1 dX1_agrees_106 rfl (lv_at hl 7 rfl) ?_
        refine lv_iload hC.1.1 hC.1.2.1 dX1_agrees_107 (lv_at hl 1 rfl) ?_
        refine lv_iload hC.1.1 hC.1.2.1 dX1_agrees_109 (lv_at hl 0 rfl) ?_
        refine n_ixor hC.1 dX1_agrees_111 ?_
        refine lv_iload hC.1.1 hC.1.2.1 dX1_agrees_112 (lv_at hl 3 rfl) ?_
        refine lv_iload hC.1.1 hC.1.2.1 dX1_agrees_114 (lv_at hl 2 rfl) ?_
        refine n_ixor hC.1 dX1_agrees_116 ?_
        refine c_calli (rest := []) hC hI (kX1_div l D h q dA kk u ((gd (u.1 i) (2 ^ i)) ^^^ (gd (u.1 j) (2 ^ j))) ((2 ^ i) ^^^ (2 ^ j)) (x_lt (gd_lt _ _) (gd_lt _ _)) (x_lt (p5 hi) (p5 hj))) lkX1_div hdX1_div ⟨rfl, rfl⟩ ⟨Nat.le_of_ble_eq_true rfl, Nat.le_of_ble_eq_true rfl⟩ rfl hl.1 rfl (Nat.le_of_ble_eq_true rfl) ⟨Nat.le_of_ble_eq_true rfl, Nat.le_of_ble_eq_true rfl⟩ dX1_agrees_117 (fun r117 v117 H locs hp117 hI => ?_)
        obtain ⟨rfl, rfl⟩ := hp117
        refine lv_istore (lv' := [(9, .int (nI (gd ((gd (u.1 i) (2 ^ i)) ^^^ (gd (u.1 j) (2 ^ j))) ((2 ^ i) ^^^ (2 ^ j))))), (8, .int (nI (gd (u.1 j) (2 ^ j)))), (7, .int (nI (gd (u.1 i) (2 ^ i)))), (6, .int (nI (2 ^ j))), (5, .int (nI (2 ^ i))), (4, .int (nI j)), (3, .int (nI (cl z i))), (2, .int (nI i)), (0, .ref h), (1, .int (nI z))]) hC.1.1 hC.1.2.1 dX1_agrees_120 hl (by decide) rfl (fun ls hl => ?_)
        refine lv_aload_n hC.1.1 hC.1.2.1 dX1_agrees_122 rfl (lv_at hl 8 rfl) ?_
        refine lv_iload hC.1.1 hC.1.2.1 dX1_agrees_123 (lv_at hl 0 rfl) ?_
        refine lv_iload hC.1.1 hC.1.2.1 dX1_agrees_125 (lv_at hl 4 rfl) ?_
        refine c_calli (rest := []) hC hI (kX1_mul l D h q dA kk u (gd ((gd (u.1 i) (2 ^ i)) ^^^ (gd (u.1 j) (2 ^ j))) ((2 ^ i) ^^^ (2 ^ j))) (2 ^ i) (gd_lt _ _) (p5 hi)) lkX1_mul hdX1_mul ⟨rfl, rfl⟩ ⟨Nat.le_of_ble_eq_true rfl, Nat.le_of_ble_eq_true rfl⟩ rfl hl.1 rfl (Nat.le_of_ble_eq_true rfl) ⟨Nat.le_of_ble_eq_true rfl, Nat.le_of_ble_eq_true rfl⟩ dX1_agrees_127 (fun r127 v127 H locs hp127 hI => ?_)
        obtain ⟨rfl, rfl⟩ := hp127
        refine lv_istore (lv' := [(10, .int (nI (gm (gd ((gd (u.1 i) (2 ^ i)) ^^^ (gd (u.1 j) (2 ^ j))) ((2 ^ i) ^^^ (2 ^ j))) (2 ^ i)))), (9, .int (nI (gd ((gd (u.1 i) (2 ^ i)) ^^^ (gd (u.1 j) (2 ^ j))) ((2 ^ i) ^^^ (2 ^ j))))), (8, .int (nI (gd (u.1 j) (2 ^ j)))), (7, .int (nI (gd (u.1 i) (2 ^ i)))), (6, .int (nI (2 ^ j))), (5, .int (nI (2 ^ i))), (4, .int (nI j)), (3, .int (nI (cl z i))), (2, .int (nI i)), (0, .ref h), (1, .int (nI z))]) hC.1.1 hC.1.2.1 dX1_agrees_130 hl (by decide) rfl (fun ls hl => ?_)
        refine lv_aload_n hC.1.1 hC.1.2.1 dX1_agrees_132 rfl (lv_at hl 9 rfl) ?_
        refine lv_iload hC.1.1 hC.1.2.1 dX1_agrees_133 (lv_at hl 3 rfl) ?_
        refine lv_iload hC.1.1 hC.1.2.1 dX1_agrees_135 (lv_at hl 0 rfl) ?_
        refine n_ixor hC.1 dX1_agrees_137 ?_
        refine lv_iload hC.1.1 hC.1.2.1 dX1_agrees_138 (lv_at hl 1 rfl) ?_
        refine lv_iload_n hC.1.1 hC.1.2.1 dX1_agrees_140 rfl (lv_at hl 7 rfl) ?_
        refine c_calli (rest := []) hC hI (kX1_matches l D h q dA kk u ((gd (u.1 i) (2 ^ i)) ^^^ (gm (gd ((gd (u.1 i) (2 ^ i)) ^^^ (gd (u.1 j) (2 ^ j))) ((2 ^ i) ^^^ (2 ^ j))) (2 ^ i))) (gd ((gd (u.1 i) (2 ^ i)) ^^^ (gd (u.1 j) (2 ^ j))) ((2 ^ i) ^^^ (2 ^ j))) (cl z i) (x_lt (gd_lt _ _) (gm_lt _ _)) (gd_lt _ _) (cl_lt hz i) hw) lkX1_matches hdX1_matches ⟨rfl, rfl⟩ ⟨Nat.le_of_ble_eq_true rfl, Nat.le_of_ble_eq_true rfl⟩ rfl hl.1 rfl (Nat.le_of_ble_eq_true rfl) ⟨Nat.le_of_ble_eq_true rfl, Nat.le_of_ble_eq_true rfl⟩ dX1_agrees_141 (fun r141 v141 H locs hp141 hI => ?_)
        obtain ⟨rfl, rfl⟩ := hp141
        exact hret _ _ _ _ _ _ dX1_agrees_144 (n_nar _) ⟨by rw [ag_3 ei c25 ej], rfl⟩ hI
      · refine lv_iconst (v := (nI 1)) hC.1.1 hC.1.2.1 dX1_agrees_64 (by decide +kernel) ?_
        exact hret _ _ _ _ _ _ dX1_agrees_65 rfl ⟨by rw [ag_2 ei c25 c61]; rfl, rfl⟩ hI
    · refine lv_aload_n hC.1.1 hC.1.2.1 dX1_agrees_28 rfl (lv_at hl 2 rfl) ?_
      refine lv_aload_n hC.1.1 hC.1.2.1 dX1_agrees_29 rfl (lv_at hl 2 rfl) ?_
      refine c_get_word hC hI dX1_agrees_30 ?_
      refine lv_iload_n hC.1.1 hC.1.2.1 dX1_agrees_33 rfl (lv_at hl 1 rfl) ?_
      refine c_ld_word hC hI dX1_agrees_34 ?_
      refine lv_iconst (v := (nI 1)) hC.1.1 hC.1.2.1 dX1_agrees_35 (by decide +kernel) ?_
      refine lv_iload_n hC.1.1 hC.1.2.1 dX1_agrees_36 rfl (lv_at hl 1 rfl) ?_
      refine n_ishl1 hC.1 dX1_agrees_37 ?_
      refine c_calli (rest := []) hC hI (kX1_div l D h q dA kk u (u.1 i) (2 ^ i) (hw _) (p5 hi)) lkX1_div hdX1_div ⟨rfl, rfl⟩ ⟨Nat.le_of_ble_eq_true rfl, Nat.le_of_ble_eq_true rfl⟩ rfl hl.1 rfl (Nat.le_of_ble_eq_true rfl) ⟨Nat.le_of_ble_eq_true rfl, Nat.le_of_ble_eq_true rfl⟩ dX1_agrees_38 (fun r38 v38 H locs hp38 hI => ?_)
      obtain ⟨rfl, rfl⟩ := hp38
      refine lv_istore (lv' := [(4, .int (nI (gd (u.1 i) (2 ^ i)))), (3, .int (nI (cl z i))), (2, .int (nI i)), (0, .ref h), (1, .int (nI z))]) hC.1.1 hC.1.2.1 dX1_agrees_41 hl (by decide) rfl (fun ls hl => ?_)
      refine lv_aload_n hC.1.1 hC.1.2.1 dX1_agrees_43 rfl (lv_at hl 3 rfl) ?_
      refine lv_iload hC.1.1 hC.1.2.1 dX1_agrees_44 (lv_at hl 0 rfl) ?_
      refine lv_iconst (v := (nI 0)) hC.1.1 hC.1.2.1 dX1_agrees_46 (by decide +kernel) ?_
      refine lv_iload_n hC.1.1 hC.1.2.1 dX1_agrees_47 rfl (lv_at hl 1 rfl) ?_
      refine c_calli (rest := []) hC hI (kX1_matches l D h q dA kk u (gd (u.1 i) (2 ^ i)) 0 (cl z i) (gd_lt _ _) (by decide) (cl_lt hz i) hw) lkX1_matches hdX1_matches ⟨rfl, rfl⟩ ⟨Nat.le_of_ble_eq_true rfl, Nat.le_of_ble_eq_true rfl⟩ rfl hl.1 rfl (Nat.le_of_ble_eq_true rfl) ⟨Nat.le_of_ble_eq_true rfl, Nat.le_of_ble_eq_true rfl⟩ dX1_agrees_48 (fun r48 v48 H locs hp48 hI => ?_)
      obtain ⟨rfl, rfl⟩ := hp48
      exact hret _ _ _ _ _ _ dX1_agrees_51 (n_nar _) ⟨by rw [ag_1 ei c25], rfl⟩ hI
  · refine lv_iconst (v := (nI 1)) hC.1.1 hC.1.2.1 dX1_agrees_10 (by decide +kernel) ?_
    exact hret _ _ _ _ _ _ dX1_agrees_11 rfl ⟨by rw [ag_0 c7]; rfl, rfl⟩ hI
abbrev rmX1_clean : Room := { frames := 4, cells := 0, slots := 0, locals := 105 }
theorem hdX1_clean : yX1_clean.cls = RX1 ∧ yX1_clean.cls ≠ "java/lang/invoke/MethodHandle" ∧ yX1_clean.cls ≠ "java/lang/invoke/VarHandle" ∧ (parseMethodDescriptor yX1_clean.desc).map (fun d => d.parameters.length) = some 0 := by decide +kernel
set_option maxHeartbeats 4000000 in
set_option maxRecDepth 100000 in
/-- clean -/
theorem kX1_clean (l : Launch) (D : va_G) (h : Nat) (q : Nat → Nat) (dA : ClassId) (kk : Nat) (u : CS)  (hk : kk = 1 ∨ kk = 2) (hw : b32 u.1) : cMi l yX1_clean (ws_ yX1_clean cX1_clean 1 (some .boolean)) rmX1_clean D h q dA kk [] u (fun r u' => r = nI (ag kk u.1 31).toNat ∧ u = u') := by
  refine cMi_of (lv := [(0, .ref h)]) (by decide) rfl (Nat.le_of_ble_eq_true rfl) rfl ?_
  intro p e s m args below meth c A Q ls hC hI hl hret
  refine lv_aload_n hC.1.1 hC.1.2.1 dX1_clean_0 rfl (lv_at hl 0 rfl) ?_
  refine lv_bipush (v := (nI 31)) hC.1.1 hC.1.2.1 dX1_clean_1 (by decide +kernel) ?_
  refine c_calli (rest := []) hC hI (kX1_agrees l D h q dA kk u 31 hk (by decide) hw) lkX1_agrees hdX1_agrees ⟨rfl, rfl⟩ ⟨Nat.le_of_ble_eq_true rfl, Nat.le_of_ble_eq_true rfl⟩ rfl hl.1 rfl (Nat.le_of_ble_eq_true rfl) ⟨Nat.le_of_ble_eq_true rfl, Nat.le_of_ble_eq_true rfl⟩ dX1_clean_3 (fun r3 v3 H locs hp3 hI => ?_)
  obtain ⟨rfl, rfl⟩ := hp3
  exact hret _ _ _ _ _ _ dX1_clean_6 (n_nar _) ⟨rfl, rfl⟩ hI
abbrev rmX1_coverings : Room := { frames := 4, cells := 0, slots := 0, locals := 105 }
theorem hdX1_coverings : yX1_coverings.cls = RX1 ∧ yX1_coverings.cls ≠ "java/lang/invoke/MethodHandle" ∧ yX1_coverings.cls ≠ "java/lang/invoke/VarHandle" ∧ (parseMethodDescriptor yX1_coverings.desc).map (fun d => d.parameters.length) = some 0 := by decide +kernel
set_option maxHeartbeats 4000000 in
set_option maxRecDepth 100000 in
/-- coverings -/
theorem kX1_coverings (l : Launch) (D : va_G) (h : Nat) (q : Nat → Nat) (dA : ClassId) (kk : Nat) (u : CS)  (hk : kk = 1 ∨ kk = 2) (hw : b32 u.1) : cMi l yX1_coverings (ws_ yX1_coverings cX1_coverings 3 (some .int)) rmX1_coverings D h q dA kk [] u (fun r u' => r = nI (cv kk u.1 32) ∧ u = u') := by
  refine cMi_of (lv := [(0, .ref h)]) (by decide) rfl (Nat.le_of_ble_eq_true rfl) rfl ?_
  intro p e s m args below meth c A Q ls hC hI hl hret
  refine lv_iconst (v := (nI 0)) hC.1.1 hC.1.2.1 dX1_coverings_0 (by decide +kernel) ?_
  refine lv_istore_n (lv' := [(1, .int (nI 0)), (0, .ref h)]) hC.1.1 hC.1.2.1 dX1_coverings_1 rfl hl (by decide) rfl (fun ls hl => ?_)
  refine lv_iconst (v := (nI 0)) hC.1.1 hC.1.2.1 dX1_coverings_2 (by decide +kernel) ?_
  refine lv_istore_n (lv' := [(2, .int (nI 0)), (1, .int (nI 0)), (0, .ref h)]) hC.1.1 hC.1.2.1 dX1_coverings_3 rfl hl (by decide) rfl (fun ls hl => ?_)
  have lp4 : ∀ (n : Nat) (i : Nat) (g : Nat) (H : Heap) (locs : List Loc) (ls : Array Slot), i ≤ 32 → 32 < i + n → g = cv kk u.1 i → cI D h q dA kk A s.heap u H locs → lv_has ls 3 [(2, .int (nI i)), (1, .int (nI g)), (0, .ref h)] → W p l e rmX1_coverings s m args below meth c H locs 0 0 Q (F0 m 4 ls []) := by
    intro n
    induction n with
    | zero => intro i g  H locs ls hi hn hg; exfalso; omega
    | succ n ih =>
      intro i g  H locs ls hi hn hg hI hl
      have ih4 := ih
      clear ih
      refine lv_iload_n hC.1.1 hC.1.2.1 dX1_coverings_4 rfl (lv_at hl 0 rfl) ?_
      refine lv_bipush (v := (nI 32)) hC.1.1 hC.1.2.1 dX1_coverings_5 (by decide +kernel) ?_
      refine n_icmp_ge hC.1 (tgt := 32) dX1_coverings_7 (by decide) (fun c7 => ?_) (fun c7 => ?_)
      · refine lv_iload_n hC.1.1 hC.1.2.1 dX1_coverings_32 rfl (lv_at hl 1 rfl) ?_
        exact hret _ _ _ _ _ _ dX1_coverings_33 rfl ⟨by rw [hg, show i = 32 by omega], rfl⟩ hI
      · refine lv_aload_n hC.1.1 hC.1.2.1 dX1_coverings_10 rfl (lv_at hl 2 rfl) ?_
        refine lv_bipush (v := (nI 31)) hC.1.1 hC.1.2.1 dX1_coverings_11 (by decide +kernel) ?_
        refine lv_iload_n hC.1.1 hC.1.2.1 dX1_coverings_13 rfl (lv_at hl 0 rfl) ?_
        refine lv_iconst (v := (pI 0)) hC.1.1 hC.1.2.1 dX1_coverings_14 (by decide +kernel) ?_
        refine lv_ixor hC.1.1 hC.1.2.1 dX1_coverings_15 ?_
        refine lv_iand hC.1.1 hC.1.2.1 dX1_coverings_16 ?_
        refine n_top (y := (nI (31 ^^^ i))) (co_e i (by omega)) ?_
        refine c_calli (rest := []) hC hI (kX1_agrees l D h q dA kk u (31 ^^^ i) hk (x_lt (by decide) (by omega)) hw) lkX1_agrees hdX1_agrees ⟨rfl, rfl⟩ ⟨Nat.le_of_ble_eq_true rfl, Nat.le_of_ble_eq_true rfl⟩ rfl hl.1 rfl (Nat.le_of_ble_eq_true rfl) ⟨Nat.le_of_ble_eq_true rfl, Nat.le_of_ble_eq_true rfl⟩ dX1_coverings_17 (fun r17 v17 H locs hp17 hI => ?_)
        obtain ⟨rfl, rfl⟩ := hp17
        refine n_if_eq hC.1 (tgt := 26) dX1_coverings_20 (by decide) (fun c20 => ?_) (fun c20 => ?_) (Nat.lt_trans (bt_lt _) (by decide))
        · refine lv_iinc (v := (nI (i + 1))) (lv' := [(2, .int (nI (i + 1))), (1, .int (nI g)), (0, .ref h)]) hC.1.1 hC.1.2.1 dX1_coverings_26 hl (k := 0) rfl (ni_inc i) (by decide) rfl (fun ls hl => ?_)
          refine lv_goto (tgt := 4) hC.1.1 hC.1.2.1 dX1_coverings_29 (by decide) ?_
          exact ih4 (i + 1) g  _ _ _ (by omega) (by omega) (by show _ = cv kk u.1 i + (ag kk u.1 (31 ^^^ i)).toNat; have := bt_lt (ag kk u.1 (31 ^^^ i)); omega) hI (lv_sub hl [0, 1, 2] rfl)
        · refine lv_iinc (v := (nI (g + 1))) (lv' := [(1, .int (nI (g + 1))), (2, .int (nI i)), (0, .ref h)]) hC.1.1 hC.1.2.1 dX1_coverings_23 hl (k := 1) rfl (ni_inc g) (by decide) rfl (fun ls hl => ?_)
          refine lv_iinc (v := (nI (i + 1))) (lv' := [(2, .int (nI (i + 1))), (1, .int (nI (g + 1))), (0, .ref h)]) hC.1.1 hC.1.2.1 dX1_coverings_26 hl (k := 1) rfl (ni_inc i) (by decide) rfl (fun ls hl => ?_)
          refine lv_goto (tgt := 4) hC.1.1 hC.1.2.1 dX1_coverings_29 (by decide) ?_
          exact ih4 (i + 1) (g + 1)  _ _ _ (by omega) (by omega) (by show _ = cv kk u.1 i + (ag kk u.1 (31 ^^^ i)).toNat; have := bt_lt (ag kk u.1 (31 ^^^ i)); omega) hI (lv_sub hl [0, 1, 2] rfl)
  exact lp4 (33) 0 0  _ _ _ (by omega) (by omega) rfl hI (lv_sub hl [0, 1, 2] rfl)
end
section
set_option maxRecDepth 100000
/-! the equations and their solution, in plain numbers: a table of rows of 6 places, flat -/
theorem lo_tn {P : Nat → Bool} {j n : Nat} (h : P j = true) (hj : j < n) : lo P j (n - j) = j + 1 := by
  rw [show n - j = (n - (j + 1)) + 1 by omega]; unfold lo; rw [if_pos h]
theorem lo_fn {P : Nat → Bool} {j n : Nat} (h : ¬ P j = true) (hj : j < n) : lo P j (n - j) = lo P (j + 1) (n - (j + 1)) := by
  rw [show n - j = (n - (j + 1)) + 1 by omega]
  show (if P j = true then _ else _) = _
  rw [if_neg h]
theorem d6 {i x : Nat} (h : x < 6) : (i * 6 + x) / 6 = i := by omega
theorem m6 {i x : Nat} (h : x < 6) : (i * 6 + x) % 6 = x := by omega
/-- swapRows, after x columns -/
def swp (c : Nat → Nat) (i j x : Nat) : Nat → Nat := fun k => if k % 6 < x then (if k / 6 = i then c (j * 6 + k % 6) else if k / 6 = j then c (i * 6 + k % 6) else c k) else c k
theorem swp_at {c : Nat → Nat} {i j x r : Nat} (h : x < 6) : swp c i j x (r * 6 + x) = c (r * 6 + x) := by
  unfold swp
  rw [m6 h, if_neg (by omega)]
theorem swp_s {c : Nat → Nat} {i j x : Nat} (h : x < 6) : up (up (swp c i j x) (i * 6 + x) (c (j * 6 + x))) (j * 6 + x) (c (i * 6 + x)) = swp c i j (x + 1) := by
  funext k
  unfold up
  by_cases h1 : k = j * 6 + x
  · rw [if_pos h1]
    unfold swp
    rw [h1, m6 h, d6 h, if_pos (by omega)]
    by_cases hij : j = i
    · rw [if_pos hij, hij]
    · rw [if_neg hij, if_pos rfl]
  · rw [if_neg h1]
    by_cases h2 : k = i * 6 + x
    · rw [if_pos h2]
      unfold swp
      rw [h2, m6 h, d6 h, if_pos (by omega), if_pos rfl]
    · rw [if_neg h2]
      unfold swp
      by_cases h3 : k % 6 < x
      · rw [if_pos h3, if_pos (show k % 6 < x + 1 by omega)]
      · rw [if_neg h3]
        by_cases h4 : k % 6 < x + 1
        · rw [if_pos h4, if_neg (by omega), if_neg (by omega)]
        · rw [if_neg h4]
theorem swp_0 (c : Nat → Nat) (i j : Nat) : swp c i j 0 = c := by
  funext k
  unfold swp
  rw [if_neg (by omega)]
theorem swp_b32 {c : Nat → Nat} (h : b32 c) (i j x : Nat) : b32 (swp c i j x) := by
  intro k
  unfold swp
  split
  · split
    · exact h _
    · split
      · exact h _
      · exact h _
  · exact h _
/-- divideRow, after x columns -/
def dvr (c : Nat → Nat) (i b x : Nat) : Nat → Nat := fun k => if k / 6 = i ∧ k % 6 < x then gd (c k) b else c k
theorem dvr_0 (c : Nat → Nat) (i b : Nat) : dvr c i b 0 = c := by
  funext k
  unfold dvr
  rw [if_neg (by omega)]
theorem dvr_at {c : Nat → Nat} {i b x r : Nat} (h : x < 6) : dvr c i b x (r * 6 + x) = c (r * 6 + x) := by
  unfold dvr
  rw [m6 h, if_neg (by omega)]
theorem dvr_s {c : Nat → Nat} {i b x : Nat} (h : x < 6) : up (dvr c i b x) (i * 6 + x) (gd (c (i * 6 + x)) b) = dvr c i b (x + 1) := by
  funext k
  unfold up dvr
  by_cases h1 : k = i * 6 + x
  · rw [if_pos h1, h1, m6 h, d6 h, if_pos ⟨rfl, by omega⟩]
  · rw [if_neg h1]
    by_cases h2 : k / 6 = i ∧ k % 6 < x
    · rw [if_pos h2, if_pos ⟨h2.1, by omega⟩]
    · rw [if_neg h2, if_neg (by omega)]
theorem dvr_b32 {c : Nat → Nat} (h : b32 c) (i b x : Nat) : b32 (dvr c i b x) := by
  intro k
  unfold dvr
  split
  · exact gd_lt _ _
  · exact h _
/-- addRow, after x columns -/
def adr (c : Nat → Nat) (i j f x : Nat) : Nat → Nat := fun k => if k / 6 = j ∧ k % 6 < x then c k ^^^ gm (c (i * 6 + k % 6)) f else c k
theorem adr_0 (c : Nat → Nat) (i j f : Nat) : adr c i j f 0 = c := by
  funext k
  unfold adr
  rw [if_neg (by omega)]
theorem adr_at {c : Nat → Nat} {i j f x r : Nat} (h : x < 6) : adr c i j f x (r * 6 + x) = c (r * 6 + x) := by
  unfold adr
  rw [m6 h, if_neg (by omega)]
theorem adr_s {c : Nat → Nat} {i j f x : Nat} (h : x < 6) : up (adr c i j f x) (j * 6 + x) (c (j * 6 + x) ^^^ gm (c (i * 6 + x)) f) = adr c i j f (x + 1) := by
  funext k
  unfold up adr
  by_cases h1 : k = j * 6 + x
  · rw [if_pos h1, h1, m6 h, d6 h, if_pos ⟨rfl, by omega⟩]
  · rw [if_neg h1]
    by_cases h2 : k / 6 = j ∧ k % 6 < x
    · rw [if_pos h2, if_pos ⟨h2.1, by omega⟩]
    · rw [if_neg h2, if_neg (by omega)]
theorem adr_b32 {c : Nat → Nat} (h : b32 c) (i j f x : Nat) : b32 (adr c i j f x) := by
  intro k
  unfold adr
  split
  · exact x_lt (h _) (gm_lt _ _)
  · exact h _
/-- reduce, its loop, after i rows; c: row r divided -/
def rdc (c : Nat → Nat) (r col i : Nat) : Nat → Nat := fun k => if ¬ k / 6 = r ∧ k / 6 < i then c k ^^^ gm (c (r * 6 + k % 6)) (c (k / 6 * 6 + col)) else c k
theorem rdc_0 (c : Nat → Nat) (r col : Nat) : rdc c r col 0 = c := by
  funext k
  unfold rdc
  rw [if_neg (by omega)]
theorem rdc_at {c : Nat → Nat} {r col i x : Nat} (hx : x < 6) : rdc c r col i (i * 6 + x) = c (i * 6 + x) := by
  unfold rdc
  rw [d6 hx, if_neg (by omega)]
theorem rdc_r {c : Nat → Nat} {r col i x : Nat} (hx : x < 6) : rdc c r col i (r * 6 + x) = c (r * 6 + x) := by
  unfold rdc
  rw [d6 hx, if_neg (by omega)]
theorem rdc_s {c : Nat → Nat} {r col i : Nat} (h : ¬ i = r) (hc : col < 6) : adr (rdc c r col i) r i (c (i * 6 + col)) 6 = rdc c r col (i + 1) := by
  funext k
  have hm : k % 6 < 6 := Nat.mod_lt _ (by decide)
  unfold adr
  by_cases h1 : k / 6 = i
  · rw [if_pos ⟨h1, hm⟩, rdc_r hm]
    unfold rdc
    rw [if_neg (by omega), if_pos (by omega), h1]
  · rw [if_neg (by omega)]
    unfold rdc
    by_cases h2 : ¬ k / 6 = r ∧ k / 6 < i
    · rw [if_pos h2, if_pos (by omega)]
    · rw [if_neg h2, if_neg (by omega)]
theorem rdc_k {c : Nat → Nat} {r col i : Nat} (h : i = r ∨ c (i * 6 + col) = 0) : rdc c r col i = rdc c r col (i + 1) := by
  funext k
  unfold rdc
  by_cases h1 : k / 6 = i
  · rw [if_neg (by omega)]
    by_cases h2 : i = r
    · rw [if_neg (by omega)]
    · rw [if_pos (by omega), h1, show c (i * 6 + col) = 0 from h.resolve_left h2, gm_0 (Or.inr rfl), Nat.xor_zero]
  · by_cases h2 : ¬ k / 6 = r ∧ k / 6 < i
    · rw [if_pos h2, if_pos (by omega)]
    · rw [if_neg h2, if_neg (by omega)]
theorem rdc_b32 {c : Nat → Nat} (h : b32 c) (r col i : Nat) : b32 (rdc c r col i) := by
  intro k
  unfold rdc
  split
  · exact x_lt (h _) (gm_lt _ _)
  · exact h _
def red (c : Nat → Nat) (r col : Nat) : Nat → Nat := rdc (dvr c r (c (r * 6 + col)) 6) r col 5
theorem red_b32 {c : Nat → Nat} (h : b32 c) (r col : Nat) : b32 (red c r col) := rdc_b32 (dvr_b32 h _ _ _) _ _ _
/-- the equation of symbol i -/
def er (w : Nat → Nat) (kk i c : Nat) : Nat := if c ≤ 3 - kk then fr (w i) c else fr (2 ^ i) (c - (4 - kk))
theorem er_1 {w : Nat → Nat} {kk i c : Nat} (h : c ≤ 3 - kk) : er w kk i c = fr (w i) c := by unfold er; rw [if_pos h]
theorem er_2 {w : Nat → Nat} {kk i b : Nat} (hk : kk = 1 ∨ kk = 2) : er w kk i (4 - kk + b) = fr (2 ^ i) b := by
  unfold er
  rw [if_neg (by omega), Nat.add_sub_cancel_left]
theorem er_lt {w : Nat → Nat} (hw : b32 w) {kk i : Nat} (hi : i < 5) (c : Nat) : er w kk i c < 32 := by
  unfold er
  split
  · exact fr_lt (hw _) _
  · exact fr_lt (p5 hi) _
def eqr (c w : Nat → Nat) (kk i x : Nat) : Nat → Nat := fun k => if k / 6 = i ∧ k % 6 < x then er w kk i (k % 6) else c k
theorem eqr_0 (c w : Nat → Nat) (kk i : Nat) : eqr c w kk i 0 = c := by
  funext k
  unfold eqr
  rw [if_neg (by omega)]
theorem eqr_s {c w : Nat → Nat} {kk i x : Nat} (h : x < 6) : up (eqr c w kk i x) (i * 6 + x) (er w kk i x) = eqr c w kk i (x + 1) := by
  funext k
  unfold up eqr
  by_cases h1 : k = i * 6 + x
  · rw [if_pos h1, h1, m6 h, d6 h, if_pos ⟨rfl, by omega⟩]
  · rw [if_neg h1]
    by_cases h2 : k / 6 = i ∧ k % 6 < x
    · rw [if_pos h2, if_pos ⟨h2.1, by omega⟩]
    · rw [if_neg h2, if_neg (by omega)]
def eqa (c w : Nat → Nat) (kk n : Nat) : Nat → Nat := fun k => if k / 6 < n ∧ k % 6 < 7 - kk then er w kk (k / 6) (k % 6) else c k
theorem eqa_0 (c w : Nat → Nat) (kk : Nat) : eqa c w kk 0 = c := by
  funext k
  unfold eqa
  rw [if_neg (by omega)]
theorem eqa_s {c w : Nat → Nat} {kk i : Nat} : eqr (eqa c w kk i) w kk i (7 - kk) = eqa c w kk (i + 1) := by
  funext k
  unfold eqr eqa
  by_cases h1 : k / 6 = i ∧ k % 6 < 7 - kk
  · rw [if_pos h1, if_pos (by omega), h1.1]
  · rw [if_neg h1]
    by_cases h2 : k / 6 < i ∧ k % 6 < 7 - kk
    · rw [if_pos h2, if_pos (by omega)]
    · rw [if_neg h2, if_neg (by omega)]
theorem eqa_b32 {c w : Nat → Nat} (hc : b32 c) (hw : b32 w) (kk : Nat) {n : Nat} (hn : n ≤ 5) : b32 (eqa c w kk n) := by
  intro k
  unfold eqa
  split
  · exact er_lt hw (by omega) _
  · exact hc _
/-- solve: (rows, free + 1 or 0, pivots + 1 or 0, table) after so many columns -/
def nzP (c : Nat → Nat) (x : Nat) : Nat → Bool := fun i => !decide (c (i * 6 + x) = 0)
abbrev SS : Type := Nat × Nat × (Nat → Nat) × (Nat → Nat)
def sst (S : SS) (c : Nat) : SS :=
  if lo (nzP S.2.2.2 c) S.1 (5 - S.1) = 0 then (S.1, (if S.2.1 = 0 then c + 1 else S.2.1), up S.2.2.1 c 0, S.2.2.2)
  else (S.1 + 1, S.2.1, up (up S.2.2.1 c 0) c (S.1 + 1), red (swp S.2.2.2 (lo (nzP S.2.2.2 c) S.1 (5 - S.1) - 1) S.1 6) S.1 c)
theorem sst_0 {r f c : Nat} {pv C : Nat → Nat} (h : lo (nzP C c) r (5 - r) = 0) : sst (r, f, pv, C) c = (r, (if f = 0 then c + 1 else f), up pv c 0, C) := by
  unfold sst
  rw [if_pos h]
theorem sst_1 {r f c z : Nat} {pv C : Nat → Nat} (h : lo (nzP C c) r (5 - r) = z + 1) : sst (r, f, pv, C) c = (r + 1, f, up (up pv c 0) c (r + 1), red (swp C z r 6) r c) := by
  unfold sst
  rw [if_neg (by show ¬ lo (nzP C c) r (5 - r) = 0; omega)]
  show (r + 1, f, _, red (swp C (lo (nzP C c) r (5 - r) - 1) r 6) r c) = _
  rw [h]
  rfl
def slv (pv C : Nat → Nat) : Nat → SS
  | 0 => (0, 0, pv, C)
  | c + 1 => sst (slv pv C c) c
/-- what holds all along -/
theorem slv_ok (pv : Nat → Nat) {C : Nat → Nat} (h : b32 C) : ∀ c, (slv pv C c).1 ≤ 5 ∧ (slv pv C c).2.1 ≤ c ∧ (∀ x, x < c → (slv pv C c).2.2.1 x ≤ (slv pv C c).1) ∧ b32 (slv pv C c).2.2.2
  | 0 => ⟨Nat.zero_le _, Nat.le_refl _, fun x hx => by omega, h⟩
  | c + 1 => by
    obtain ⟨h1, h2, h3, h4⟩ := slv_ok pv h c
    show (sst (slv pv C c) c).1 ≤ 5 ∧ (sst (slv pv C c) c).2.1 ≤ c + 1 ∧ (∀ x, x < c + 1 → (sst (slv pv C c) c).2.2.1 x ≤ (sst (slv pv C c) c).1) ∧ b32 (sst (slv pv C c) c).2.2.2
    generalize slv pv C c = S at h1 h2 h3 h4 ⊢
    obtain ⟨r, f, pw, D⟩ := S
    dsimp only at h1 h2 h3 h4
    cases hl : lo (nzP D c) r (5 - r) with
    | zero =>
      rw [sst_0 hl]
      refine ⟨h1, ?_, fun x hx => ?_, h4⟩
      · show (if f = 0 then c + 1 else f) ≤ c + 1
        split <;> omega
      · show up pw c 0 x ≤ r
        unfold up
        split
        · omega
        · exact h3 x (by omega)
    | succ z =>
      rw [sst_1 hl]
      obtain ⟨g1, g2, -, -⟩ := lo_1 _ _ _ _ hl
      refine ⟨by show r + 1 ≤ 5; omega, by show f ≤ c + 1; omega, fun x hx => ?_, red_b32 (swp_b32 h4 _ _ _) _ _⟩
      show up (up pw c 0) c (r + 1) x ≤ r + 1
      unfold up
      split
      · omega
      · have := h3 x (by omega)
        omega
def rtF (pv C : Nat → Nat) (f : Nat) : Nat → Nat := fun c => if pv c = 0 then 0 else C ((pv c - 1) * 6 + f)
theorem rtF_b32 (pv : Nat → Nat) {C : Nat → Nat} (h : b32 C) (f : Nat) : b32 (rtF pv C f) := by
  intro c
  unfold rtF
  split
  · omega
  · exact h _
/-- divide -/
def rP (r : Nat → Nat) : Nat → Bool := fun a => !decide (r a = 0)
def rs (r : Nat → Nat) (kk w : Nat) (f : Nat → Nat) (b : Nat) : Nat := if b = 1 ∧ w < 3 - kk then r (4 - kk + w + b) ^^^ gm (r (w + 1)) (fr (f 0) (w + 1)) else r (4 - kk + w + b)
theorem rs_lt {r : Nat → Nat} (h : b32 r) (kk w : Nat) (f : Nat → Nat) (b : Nat) : rs r kk w f b < 32 := by
  unfold rs
  split
  · exact x_lt (h _) (gm_lt _ _)
  · exact h _
def fdv (r : Nat → Nat) (kk w : Nat) (f : Nat → Nat) : Nat → Nat → Nat
  | 0 => up f 1 0
  | b + 1 => up (fdv r kk w f b) b (fr (gd (rs r kk w (fdv r kk w f b) b) (r w)) (5 - w))
theorem fdv_b32 {r f : Nat → Nat} (hf : b32 f) (kk w : Nat) : ∀ b, b32 (fdv r kk w f b)
  | 0 => up_b32 hf _ (by decide)
  | b + 1 => up_b32 (fdv_b32 hf kk w b) _ (fr_lt (gd_lt _ _) _)
end
section
set_option maxRecDepth 100000
abbrev rmX1_swapRows : Room := { frames := 0, cells := 0, slots := 0, locals := 0 }
theorem hdX1_swapRows : yX1_swapRows.cls = RX1 ∧ yX1_swapRows.cls ≠ "java/lang/invoke/MethodHandle" ∧ yX1_swapRows.cls ≠ "java/lang/invoke/VarHandle" ∧ (parseMethodDescriptor yX1_swapRows.desc).map (fun d => d.parameters.length) = some 2 := by decide +kernel
theorem lkX1_swapRows : GoodIn lw_all (wsV RX1 73 RX1 yX1_swapRows (ws_ yX1_swapRows cX1_swapRows 5 none)) := lw_V q152 q154 qs10 q28 q155
set_option maxHeartbeats 4000000 in
set_option maxRecDepth 100000 in
/-- swapRows -/
theorem kX1_swapRows (l : Launch) (D : va_G) (h : Nat) (q : Nat → Nat) (dA : ClassId) (kk : Nat) (u : CS) (i j : Nat) (hi : i < 5) (hj : j < 5) : cMv l yX1_swapRows (ws_ yX1_swapRows cX1_swapRows 5 none) rmX1_swapRows D h q dA kk [.int (nI i), .int (nI j)] u (fun u' => u'.2.2.1 = swp u.2.2.1 i j 6 ∧ u'.1 = u.1 ∧ u'.2.1 = u.2.1 ∧ u'.2.2.2 = u.2.2.2) := by
  refine cMv_of (lv := [(0, .ref h), (1, .int (nI i)), (2, .int (nI j))]) (by decide) rfl (Nat.le_of_ble_eq_true rfl) rfl ?_
  intro p e s m args below meth c A Q ls hC hI hl hret
  refine lv_iconst (v := (nI 0)) hC.1.1 hC.1.2.1 dX1_swapRows_0 (by decide +kernel) ?_
  refine lv_istore_n (lv' := [(3, .int (nI 0)), (0, .ref h), (1, .int (nI i)), (2, .int (nI j))]) hC.1.1 hC.1.2.1 dX1_swapRows_1 rfl hl (by decide) rfl (fun ls hl => ?_)
  have lp2 : ∀ (n : Nat) (x : Nat) (u2 : CS) (H : Heap) (locs : List Loc) (ls : Array Slot), x ≤ 6 → 6 < x + n → u2.2.2.1 = swp u.2.2.1 i j x → u2.1 = u.1 → u2.2.1 = u.2.1 → u2.2.2.2 = u.2.2.2 → cI D h q dA kk A s.heap u2 H locs → lv_has ls 5 [(3, .int (nI x)), (0, .ref h), (1, .int (nI i)), (2, .int (nI j))] → W p l e rmX1_swapRows s m args below meth c H locs 0 0 Q (F0 m 2 ls []) := by
    intro n
    induction n with
    | zero => intro x u2 H locs ls hx hn hu1 hu2 hu3 hu4; exfalso; omega
    | succ n ih =>
      intro x u2 H locs ls hx hn hu1 hu2 hu3 hu4 hI hl
      have ih2 := ih
      clear ih
      refine lv_iload_n hC.1.1 hC.1.2.1 dX1_swapRows_2 rfl (lv_at hl 0 rfl) ?_
      refine lv_bipush (v := (nI 6)) hC.1.1 hC.1.2.1 dX1_swapRows_3 (by decide +kernel) ?_
      refine n_icmp_ge hC.1 (tgt := 62) dX1_swapRows_5 (by decide) (fun c5 => ?_) (fun c5 => ?_)
      · exact hret _ _ _ _ _ dX1_swapRows_62 ⟨by rw [hu1, show x = 6 by omega], hu2, hu3, hu4⟩ hI
      · refine lv_aload_n hC.1.1 hC.1.2.1 dX1_swapRows_8 rfl (lv_at hl 1 rfl) ?_
        refine c_get_cell hC hI dX1_swapRows_9 ?_
        refine lv_iload_n hC.1.1 hC.1.2.1 dX1_swapRows_12 rfl (lv_at hl 2 rfl) ?_
        refine lv_bipush (v := (nI 6)) hC.1.1 hC.1.2.1 dX1_swapRows_13 (by decide +kernel) ?_
        refine n_imul hC.1 dX1_swapRows_15 ?_
        refine lv_iload_n hC.1.1 hC.1.2.1 dX1_swapRows_16 rfl (lv_at hl 0 rfl) ?_
        refine n_iadd hC.1 dX1_swapRows_17 ?_
        refine c_ld_cell hC hI dX1_swapRows_18 ?_
        refine lv_istore (lv' := [(4, .int (nI (u2.2.2.1 ((i * 6) + x)))), (3, .int (nI x)), (0, .ref h), (1, .int (nI i)), (2, .int (nI j))]) hC.1.1 hC.1.2.1 dX1_swapRows_19 hl (by decide) rfl (fun ls hl => ?_)
        refine lv_aload_n hC.1.1 hC.1.2.1 dX1_swapRows_21 rfl (lv_at hl 2 rfl) ?_
        refine c_get_cell hC hI dX1_swapRows_22 ?_
        refine lv_iload_n hC.1.1 hC.1.2.1 dX1_swapRows_25 rfl (lv_at hl 3 rfl) ?_
        refine lv_bipush (v := (nI 6)) hC.1.1 hC.1.2.1 dX1_swapRows_26 (by decide +kernel) ?_
        refine n_imul hC.1 dX1_swapRows_28 ?_
        refine lv_iload_n hC.1.1 hC.1.2.1 dX1_swapRows_29 rfl (lv_at hl 1 rfl) ?_
        refine n_iadd hC.1 dX1_swapRows_30 ?_
        refine lv_aload_n hC.1.1 hC.1.2.1 dX1_swapRows_31 rfl (lv_at hl 2 rfl) ?_
        refine c_get_cell hC hI dX1_swapRows_32 ?_
        refine lv_iload_n hC.1.1 hC.1.2.1 dX1_swapRows_35 rfl (lv_at hl 4 rfl) ?_
        refine lv_bipush (v := (nI 6)) hC.1.1 hC.1.2.1 dX1_swapRows_36 (by decide +kernel) ?_
        refine n_imul hC.1 dX1_swapRows_38 ?_
        refine lv_iload_n hC.1.1 hC.1.2.1 dX1_swapRows_39 rfl (lv_at hl 1 rfl) ?_
        refine n_iadd hC.1 dX1_swapRows_40 ?_
        refine c_ld_cell hC hI dX1_swapRows_41 ?_
        refine c_st_cell (x := u2.2.2.1 ((j * 6) + x)) hC hI dX1_swapRows_42 (fun v42 H locs v42_0 v42_1 v42_2 v42_3 hI => ?_)
        refine lv_aload_n hC.1.1 hC.1.2.1 dX1_swapRows_43 rfl (lv_at hl 2 rfl) ?_
        refine c_get_cell hC hI dX1_swapRows_44 ?_
        refine lv_iload_n hC.1.1 hC.1.2.1 dX1_swapRows_47 rfl (lv_at hl 4 rfl) ?_
        refine lv_bipush (v := (nI 6)) hC.1.1 hC.1.2.1 dX1_swapRows_48 (by decide +kernel) ?_
        refine n_imul hC.1 dX1_swapRows_50 ?_
        refine lv_iload_n hC.1.1 hC.1.2.1 dX1_swapRows_51 rfl (lv_at hl 1 rfl) ?_
        refine n_iadd hC.1 dX1_swapRows_52 ?_
        refine lv_iload hC.1.1 hC.1.2.1 dX1_swapRows_53 (lv_at hl 0 rfl) ?_
        refine c_st_cell (x := u2.2.2.1 ((i * 6) + x)) hC hI dX1_swapRows_55 (fun v55 H locs v55_0 v55_1 v55_2 v55_3 hI => ?_)
        refine lv_iinc (v := (nI (x + 1))) (lv' := [(3, .int (nI (x + 1))), (4, .int (nI (u2.2.2.1 ((i * 6) + x)))), (0, .ref h), (1, .int (nI i)), (2, .int (nI j))]) hC.1.1 hC.1.2.1 dX1_swapRows_56 hl (k := 1) rfl (ni_inc x) (by decide) rfl (fun ls hl => ?_)
        refine lv_goto (tgt := 2) hC.1.1 hC.1.2.1 dX1_swapRows_59 (by decide) ?_
        exact ih2 (x + 1) v55 _ _ _ (by omega) (by omega) (by rw [v55_0, v42_0, hu1, swp_at (by omega), swp_at (by omega)]; exact swp_s (by omega)) (by rw [v55_1, v42_1, hu2]) (by rw [v55_2, v42_2, hu3]) (by rw [v55_3, v42_3, hu4]) hI (lv_sub hl [0, 2, 3, 4] rfl)
  exact lp2 (7) 0 u _ _ _ (by omega) (by omega) (swp_0 _ _ _).symm rfl rfl rfl hI (lv_sub hl [0, 1, 2, 3] rfl)
abbrev rmX1_divideRow : Room := { frames := 1, cells := 0, slots := 0, locals := 22 }
theorem hdX1_divideRow : yX1_divideRow.cls = RX1 ∧ yX1_divideRow.cls ≠ "java/lang/invoke/MethodHandle" ∧ yX1_divideRow.cls ≠ "java/lang/invoke/VarHandle" ∧ (parseMethodDescriptor yX1_divideRow.desc).map (fun d => d.parameters.length) = some 2 := by decide +kernel
theorem lkX1_divideRow : GoodIn lw_all (wsV RX1 80 RX1 yX1_divideRow (ws_ yX1_divideRow cX1_divideRow 4 none)) := lw_V q160 q162 qs12 q28 q163
set_option maxHeartbeats 4000000 in
set_option maxRecDepth 100000 in
/-- divideRow -/
theorem kX1_divideRow (l : Launch) (D : va_G) (h : Nat) (q : Nat → Nat) (dA : ClassId) (kk : Nat) (u : CS) (i b : Nat) (hi : i < 5) (hb : b < 32) (hc : b32 u.2.2.1) : cMv l yX1_divideRow (ws_ yX1_divideRow cX1_divideRow 4 none) rmX1_divideRow D h q dA kk [.int (nI i), .int (nI b)] u (fun u' => u'.2.2.1 = dvr u.2.2.1 i b 6 ∧ u'.1 = u.1 ∧ u'.2.1 = u.2.1 ∧ u'.2.2.2 = u.2.2.2) := by
  refine cMv_of (lv := [(0, .ref h), (1, .int (nI i)), (2, .int (nI b))]) (by decide) rfl (Nat.le_of_ble_eq_true rfl) rfl ?_
  intro p e s m args below meth c A Q ls hC hI hl hret
  refine lv_iconst (v := (nI 0)) hC.1.1 hC.1.2.1 dX1_divideRow_0 (by decide +kernel) ?_
  refine lv_istore_n (lv' := [(3, .int (nI 0)), (0, .ref h), (1, .int (nI i)), (2, .int (nI b))]) hC.1.1 hC.1.2.1 dX1_divideRow_1 rfl hl (by decide) rfl (fun ls hl => ?_)
  have lp2 : ∀ (n : Nat) (x : Nat) (u2 : CS) (H : Heap) (locs : List Loc) (ls : Array Slot), x ≤ 6 → 6 < x + n → u2.2.2.1 = dvr u.2.2.1 i b x → u2.1 = u.1 → u2.2.1 = u.2.1 → u2.2.2.2 = u.2.2.2 → cI D h q dA kk A s.heap u2 H locs → lv_has ls 4 [(3, .int (nI x)), (0, .ref h), (1, .int (nI i)), (2, .int (nI b))] → W p l e rmX1_divideRow s m args below meth c H locs 0 0 Q (F0 m 2 ls []) := by
    intro n
    induction n with
    | zero => intro x u2 H locs ls hx hn hu1 hu2 hu3 hu4; exfalso; omega
    | succ n ih =>
      intro x u2 H locs ls hx hn hu1 hu2 hu3 hu4 hI hl
      have ih2 := ih
      clear ih
      refine lv_iload_n hC.1.1 hC.1.2.1 dX1_divideRow_2 rfl (lv_at hl 0 rfl) ?_
      refine lv_bipush (v := (nI 6)) hC.1.1 hC.1.2.1 dX1_divideRow_3 (by decide +kernel) ?_
      refine n_icmp_ge hC.1 (tgt := 41) dX1_divideRow_5 (by decide) (fun c5 => ?_) (fun c5 => ?_)
      · exact hret _ _ _ _ _ dX1_divideRow_41 ⟨by rw [hu1, show x = 6 by omega], hu2, hu3, hu4⟩ hI
      · refine lv_aload_n hC.1.1 hC.1.2.1 dX1_divideRow_8 rfl (lv_at hl 1 rfl) ?_
        refine c_get_cell hC hI dX1_divideRow_9 ?_
        refine lv_iload_n hC.1.1 hC.1.2.1 dX1_divideRow_12 rfl (lv_at hl 2 rfl) ?_
        refine lv_bipush (v := (nI 6)) hC.1.1 hC.1.2.1 dX1_divideRow_13 (by decide +kernel) ?_
        refine n_imul hC.1 dX1_divideRow_15 ?_
        refine lv_iload_n hC.1.1 hC.1.2.1 dX1_divideRow_16 rfl (lv_at hl 0 rfl) ?_
        refine n_iadd hC.1 dX1_divideRow_17 ?_
        refine lv_aload_n hC.1.1 hC.1.2.1 dX1_divideRow_18 rfl (lv_at hl 1 rfl) ?_
        refine lv_aload_n hC.1.1 hC.1.2.1 dX1_divideRow_19 rfl (lv_at hl 1 rfl) ?_
        refine c_get_cell hC hI dX1_divideRow_20 ?_
        refine lv_iload_n hC.1.1 hC.1.2.1 dX1_divideRow_23 rfl (lv_at hl 2 rfl) ?_
        refine lv_bipush (v := (nI 6)) hC.1.1 hC.1.2.1 dX1_divideRow_24 (by decide +kernel) ?_
        refine n_imul hC.1 dX1_divideRow_26 ?_
        refine lv_iload_n hC.1.1 hC.1.2.1 dX1_divideRow_27 rfl (lv_at hl 0 rfl) ?_
        refine n_iadd hC.1 dX1_divideRow_28 ?_
        refine c_ld_cell hC hI dX1_divideRow_29 ?_
        refine lv_iload_n hC.1.1 hC.1.2.1 dX1_divideRow_30 rfl (lv_at hl 3 rfl) ?_
        refine c_calli (rest := [.int (nI ((i * 6) + x)), .ref (q 6)]) hC hI (kX1_div l D h q dA kk u2 (u2.2.2.1 ((i * 6) + x)) b (by rw [hu1]; exact dvr_b32 hc _ _ _ _) hb) lkX1_div hdX1_div ⟨rfl, rfl⟩ ⟨Nat.le_of_ble_eq_true rfl, Nat.le_of_ble_eq_true rfl⟩ rfl hl.1 rfl (Nat.le_of_ble_eq_true rfl) ⟨Nat.le_of_ble_eq_true rfl, Nat.le_of_ble_eq_true rfl⟩ dX1_divideRow_31 (fun r31 v31 H locs hp31 hI => ?_)
        obtain ⟨rfl, rfl⟩ := hp31
        refine c_st_cell (x := gd (u2.2.2.1 ((i * 6) + x)) b) hC hI dX1_divideRow_34 (fun v34 H locs v34_0 v34_1 v34_2 v34_3 hI => ?_)
        refine lv_iinc (v := (nI (x + 1))) (lv' := [(3, .int (nI (x + 1))), (0, .ref h), (1, .int (nI i)), (2, .int (nI b))]) hC.1.1 hC.1.2.1 dX1_divideRow_35 hl (k := 0) rfl (ni_inc x) (by decide) rfl (fun ls hl => ?_)
        refine lv_goto (tgt := 2) hC.1.1 hC.1.2.1 dX1_divideRow_38 (by decide) ?_
        exact ih2 (x + 1) v34 _ _ _ (by omega) (by omega) (by rw [v34_0, hu1, dvr_at (by omega)]; exact dvr_s (by omega)) (by rw [v34_1, hu2]) (by rw [v34_2, hu3]) (by rw [v34_3, hu4]) hI (lv_sub hl [0, 1, 2, 3] rfl)
  exact lp2 (7) 0 u _ _ _ (by omega) (by omega) (dvr_0 _ _ _).symm rfl rfl rfl hI (lv_sub hl [0, 1, 2, 3] rfl)
abbrev rmX1_addRow : Room := { frames := 1, cells := 0, slots := 0, locals := 22 }
theorem hdX1_addRow : yX1_addRow.cls = RX1 ∧ yX1_addRow.cls ≠ "java/lang/invoke/MethodHandle" ∧ yX1_addRow.cls ≠ "java/lang/invoke/VarHandle" ∧ (parseMethodDescriptor yX1_addRow.desc).map (fun d => d.parameters.length) = some 3 := by decide +kernel
theorem lkX1_addRow : GoodIn lw_all (wsV RX1 83 RX1 yX1_addRow (ws_ yX1_addRow cX1_addRow 6 none)) := lw_V q164 q166 qs13 q28 q167
set_option maxHeartbeats 4000000 in
set_option maxRecDepth 100000 in
/-- addRow -/
theorem kX1_addRow (l : Launch) (D : va_G) (h : Nat) (q : Nat → Nat) (dA : ClassId) (kk : Nat) (u : CS) (i j f : Nat) (hi : i < 5) (hj : j < 5) (hf : f < 32) (hij : ¬ i = j) (hc : b32 u.2.2.1) : cMv l yX1_addRow (ws_ yX1_addRow cX1_addRow 6 none) rmX1_addRow D h q dA kk [.int (nI i), .int (nI j), .int (nI f)] u (fun u' => u'.2.2.1 = adr u.2.2.1 i j f 6 ∧ u'.1 = u.1 ∧ u'.2.1 = u.2.1 ∧ u'.2.2.2 = u.2.2.2) := by
  refine cMv_of (lv := [(0, .ref h), (1, .int (nI i)), (2, .int (nI j)), (3, .int (nI f))]) (by decide) rfl (Nat.le_of_ble_eq_true rfl) rfl ?_
  intro p e s m args below meth c A Q ls hC hI hl hret
  refine lv_iconst (v := (nI 0)) hC.1.1 hC.1.2.1 dX1_addRow_0 (by decide +kernel) ?_
  refine lv_istore (lv' := [(4, .int (nI 0)), (0, .ref h), (1, .int (nI i)), (2, .int (nI j)), (3, .int (nI f))]) hC.1.1 hC.1.2.1 dX1_addRow_1 hl (by decide) rfl (fun ls hl => ?_)
  have lp3 : ∀ (n : Nat) (x : Nat) (u2 : CS) (H : Heap) (locs : List Loc) (ls : Array Slot), x ≤ 6 → 6 < x + n → u2.2.2.1 = adr u.2.2.1 i j f x → u2.1 = u.1 → u2.2.1 = u.2.1 → u2.2.2.2 = u.2.2.2 → cI D h q dA kk A s.heap u2 H locs → lv_has ls 6 [(4, .int (nI x)), (0, .ref h), (1, .int (nI i)), (2, .int (nI j)), (3, .int (nI f))] → W p l e rmX1_addRow s m args below meth c H locs 0 0 Q (F0 m 3 ls []) := by
    intro n
    induction n with
    | zero => intro x u2 H locs ls hx hn hu1 hu2 hu3 hu4; exfalso; omega
    | succ n ih =>
      intro x u2 H locs ls hx hn hu1 hu2 hu3 hu4 hI hl
      have ih3 := ih
      clear ih
      refine lv_iload hC.1.1 hC.1.2.1 dX1_addRow_3 (lv_at hl 0 rfl) ?_
      refine lv_bipush (v := (nI 6)) hC.1.1 hC.1.2.1 dX1_addRow_5 (by decide +kernel) ?_
      refine n_icmp_ge hC.1 (tgt := 62) dX1_addRow_7 (by decide) (fun c7 => ?_) (fun c7 => ?_)
      · exact hret _ _ _ _ _ dX1_addRow_62 ⟨by rw [hu1, show x = 6 by omega], hu2, hu3, hu4⟩ hI
      · refine lv_aload_n hC.1.1 hC.1.2.1 dX1_addRow_10 rfl (lv_at hl 1 rfl) ?_
        refine lv_aload_n hC.1.1 hC.1.2.1 dX1_addRow_11 rfl (lv_at hl 1 rfl) ?_
        refine c_get_cell hC hI dX1_addRow_12 ?_
        refine lv_iload_n hC.1.1 hC.1.2.1 dX1_addRow_15 rfl (lv_at hl 2 rfl) ?_
        refine lv_bipush (v := (nI 6)) hC.1.1 hC.1.2.1 dX1_addRow_16 (by decide +kernel) ?_
        refine n_imul hC.1 dX1_addRow_18 ?_
        refine lv_iload hC.1.1 hC.1.2.1 dX1_addRow_19 (lv_at hl 0 rfl) ?_
        refine n_iadd hC.1 dX1_addRow_21 ?_
        refine c_ld_cell hC hI dX1_addRow_22 ?_
        refine lv_iload_n hC.1.1 hC.1.2.1 dX1_addRow_23 rfl (lv_at hl 4 rfl) ?_
        refine c_calli (rest := []) hC hI (kX1_mul l D h q dA kk u2 (u2.2.2.1 ((i * 6) + x)) f (by rw [hu1]; exact adr_b32 hc _ _ _ _ _) hf) lkX1_mul hdX1_mul ⟨rfl, rfl⟩ ⟨Nat.le_of_ble_eq_true rfl, Nat.le_of_ble_eq_true rfl⟩ rfl hl.1 rfl (Nat.le_of_ble_eq_true rfl) ⟨Nat.le_of_ble_eq_true rfl, Nat.le_of_ble_eq_true rfl⟩ dX1_addRow_24 (fun r24 v24 H locs hp24 hI => ?_)
        obtain ⟨rfl, rfl⟩ := hp24
        refine lv_istore (lv' := [(5, .int (nI (gm (u2.2.2.1 ((i * 6) + x)) f))), (4, .int (nI x)), (0, .ref h), (1, .int (nI i)), (2, .int (nI j)), (3, .int (nI f))]) hC.1.1 hC.1.2.1 dX1_addRow_27 hl (by decide) rfl (fun ls hl => ?_)
        refine lv_aload_n hC.1.1 hC.1.2.1 dX1_addRow_29 rfl (lv_at hl 2 rfl) ?_
        refine c_get_cell hC hI dX1_addRow_30 ?_
        refine lv_iload_n hC.1.1 hC.1.2.1 dX1_addRow_33 rfl (lv_at hl 4 rfl) ?_
        refine lv_bipush (v := (nI 6)) hC.1.1 hC.1.2.1 dX1_addRow_34 (by decide +kernel) ?_
        refine n_imul hC.1 dX1_addRow_36 ?_
        refine lv_iload hC.1.1 hC.1.2.1 dX1_addRow_37 (lv_at hl 1 rfl) ?_
        refine n_iadd hC.1 dX1_addRow_39 ?_
        refine lv_aload_n hC.1.1 hC.1.2.1 dX1_addRow_40 rfl (lv_at hl 2 rfl) ?_
        refine c_get_cell hC hI dX1_addRow_41 ?_
        refine lv_iload_n hC.1.1 hC.1.2.1 dX1_addRow_44 rfl (lv_at hl 4 rfl) ?_
        refine lv_bipush (v := (nI 6)) hC.1.1 hC.1.2.1 dX1_addRow_45 (by decide +kernel) ?_
        refine n_imul hC.1 dX1_addRow_47 ?_
        refine lv_iload hC.1.1 hC.1.2.1 dX1_addRow_48 (lv_at hl 1 rfl) ?_
        refine n_iadd hC.1 dX1_addRow_50 ?_
        refine c_ld_cell hC hI dX1_addRow_51 ?_
        refine lv_iload hC.1.1 hC.1.2.1 dX1_addRow_52 (lv_at hl 0 rfl) ?_
        refine n_ixor hC.1 dX1_addRow_54 ?_
        refine c_st_cell (x := (u2.2.2.1 ((j * 6) + x)) ^^^ (gm (u2.2.2.1 ((i * 6) + x)) f)) hC hI dX1_addRow_55 (fun v55 H locs v55_0 v55_1 v55_2 v55_3 hI => ?_)
        refine lv_iinc (v := (nI (x + 1))) (lv' := [(4, .int (nI (x + 1))), (5, .int (nI (gm (u2.2.2.1 ((i * 6) + x)) f))), (0, .ref h), (1, .int (nI i)), (2, .int (nI j)), (3, .int (nI f))]) hC.1.1 hC.1.2.1 dX1_addRow_56 hl (k := 1) rfl (ni_inc x) (by decide) rfl (fun ls hl => ?_)
        refine lv_goto (tgt := 3) hC.1.1 hC.1.2.1 dX1_addRow_59 (by decide) ?_
        exact ih3 (x + 1) v55 _ _ _ (by omega) (by omega) (by rw [v55_0, hu1, adr_at (by omega), adr_at (by omega)]; exact adr_s (by omega)) (by rw [v55_1, hu2]) (by rw [v55_2, hu3]) (by rw [v55_3, hu4]) hI (lv_sub hl [0, 2, 3, 4, 5] rfl)
  exact lp3 (7) 0 u _ _ _ (by omega) (by omega) (adr_0 _ _ _ _).symm rfl rfl rfl hI (lv_sub hl [0, 1, 2, 3, 4] rfl)
abbrev rmX1_reduce : Room := { frames := 2, cells := 0, slots := 0, locals := 47 }
theorem hdX1_reduce : yX1_reduce.cls = RX1 ∧ yX1_reduce.cls ≠ "java/lang/invoke/MethodHandle" ∧ yX1_reduce.cls ≠ "java/lang/invoke/VarHandle" ∧ (parseMethodDescriptor yX1_reduce.desc).map (fun d => d.parameters.length) = some 2 := by decide +kernel
theorem lkX1_reduce : GoodIn lw_all (wsV RX1 77 RX1 yX1_reduce (ws_ yX1_reduce cX1_reduce 4 none)) := lw_V q156 q158 qs11 q28 q159
set_option maxHeartbeats 4000000 in
set_option maxRecDepth 100000 in
/-- reduce -/
theorem kX1_reduce (l : Launch) (D : va_G) (h : Nat) (q : Nat → Nat) (dA : ClassId) (kk : Nat) (u : CS) (r x : Nat) (hr : r < 5) (hx : x < 6) (hc : b32 u.2.2.1) : cMv l yX1_reduce (ws_ yX1_reduce cX1_reduce 4 none) rmX1_reduce D h q dA kk [.int (nI r), .int (nI x)] u (fun u' => u'.2.2.1 = red u.2.2.1 r x ∧ u'.1 = u.1 ∧ u'.2.1 = u.2.1 ∧ u'.2.2.2 = u.2.2.2) := by
  refine cMv_of (lv := [(0, .ref h), (1, .int (nI r)), (2, .int (nI x))]) (by decide) rfl (Nat.le_of_ble_eq_true rfl) rfl ?_
  intro p e s m args below meth c A Q ls hC hI hl hret
  refine lv_aload_n hC.1.1 hC.1.2.1 dX1_reduce_0 rfl (lv_at hl 0 rfl) ?_
  refine lv_iload_n hC.1.1 hC.1.2.1 dX1_reduce_1 rfl (lv_at hl 1 rfl) ?_
  refine lv_aload_n hC.1.1 hC.1.2.1 dX1_reduce_2 rfl (lv_at hl 0 rfl) ?_
  refine c_get_cell hC hI dX1_reduce_3 ?_
  refine lv_iload_n hC.1.1 hC.1.2.1 dX1_reduce_6 rfl (lv_at hl 1 rfl) ?_
  refine lv_bipush (v := (nI 6)) hC.1.1 hC.1.2.1 dX1_reduce_7 (by decide +kernel) ?_
  refine n_imul hC.1 dX1_reduce_9 ?_
  refine lv_iload_n hC.1.1 hC.1.2.1 dX1_reduce_10 rfl (lv_at hl 2 rfl) ?_
  refine n_iadd hC.1 dX1_reduce_11 ?_
  refine c_ld_cell hC hI dX1_reduce_12 ?_
  refine c_callv (rest := []) hC hI (kX1_divideRow l D h q dA kk u r (u.2.2.1 ((r * 6) + x)) hr (hc _) hc) lkX1_divideRow hdX1_divideRow ⟨rfl, rfl⟩ ⟨Nat.le_of_ble_eq_true rfl, Nat.le_of_ble_eq_true rfl⟩ rfl hl.1 rfl (Nat.le_of_ble_eq_true rfl) ⟨Nat.le_of_ble_eq_true rfl, Nat.le_of_ble_eq_true rfl⟩ dX1_reduce_13 (fun v13 H locs hp13 hI => ?_)
  obtain ⟨v13_0, v13_1, v13_2, v13_3⟩ := hp13
  refine lv_iconst (v := (nI 0)) hC.1.1 hC.1.2.1 dX1_reduce_16 (by decide +kernel) ?_
  refine lv_istore_n (lv' := [(3, .int (nI 0)), (0, .ref h), (1, .int (nI r)), (2, .int (nI x))]) hC.1.1 hC.1.2.1 dX1_reduce_17 rfl hl (by decide) rfl (fun ls hl => ?_)
  have lp18 : ∀ (n : Nat) (i : Nat) (u18 : CS) (H : Heap) (locs : List Loc) (ls : Array Slot), i ≤ 5 → 5 < i + n → u18.2.2.1 = rdc (dvr u.2.2.1 r (u.2.2.1 (r * 6 + x)) 6) r x i → u18.1 = u.1 → u18.2.1 = u.2.1 → u18.2.2.2 = u.2.2.2 → cI D h q dA kk A s.heap u18 H locs → lv_has ls 4 [(3, .int (nI i)), (0, .ref h), (1, .int (nI r)), (2, .int (nI x))] → W p l e rmX1_reduce s m args below meth c H locs 0 0 Q (F0 m 18 ls []) := by
    intro n
    induction n with
    | zero => intro i u18 H locs ls hi hn hu1 hu2 hu3 hu4; exfalso; omega
    | succ n ih =>
      intro i u18 H locs ls hi hn hu1 hu2 hu3 hu4 hI hl
      have ih18 := ih
      clear ih
      refine lv_iload_n hC.1.1 hC.1.2.1 dX1_reduce_18 rfl (lv_at hl 0 rfl) ?_
      refine lv_iconst (v := (nI 5)) hC.1.1 hC.1.2.1 dX1_reduce_19 (by decide +kernel) ?_
      refine n_icmp_ge hC.1 (tgt := 65) dX1_reduce_20 (by decide) (fun c20 => ?_) (fun c20 => ?_)
      · exact hret _ _ _ _ _ dX1_reduce_65 ⟨by rw [hu1, show i = 5 by omega]; rfl, hu2, hu3, hu4⟩ hI
      · refine lv_iload_n hC.1.1 hC.1.2.1 dX1_reduce_23 rfl (lv_at hl 0 rfl) ?_
        refine lv_iload_n hC.1.1 hC.1.2.1 dX1_reduce_24 rfl (lv_at hl 2 rfl) ?_
        refine n_icmp_eq hC.1 (tgt := 59) dX1_reduce_25 (by decide) (fun c25 => ?_) (fun c25 => ?_)
        · refine lv_iinc (v := (nI (i + 1))) (lv' := [(3, .int (nI (i + 1))), (0, .ref h), (1, .int (nI r)), (2, .int (nI x))]) hC.1.1 hC.1.2.1 dX1_reduce_59 hl (k := 0) rfl (ni_inc i) (by decide) rfl (fun ls hl => ?_)
          refine lv_goto (tgt := 18) hC.1.1 hC.1.2.1 dX1_reduce_62 (by decide) ?_
          exact ih18 (i + 1) u18 _ _ _ (by omega) (by omega) (by rw [hu1]; exact rdc_k (by first | exact Or.inl c25 | (right; rw [hu1, rdc_at hx] at c39; exact c39))) hu2 hu3 hu4 hI (lv_sub hl [0, 1, 2, 3] rfl)
        · refine lv_aload_n hC.1.1 hC.1.2.1 dX1_reduce_28 rfl (lv_at hl 1 rfl) ?_
          refine c_get_cell hC hI dX1_reduce_29 ?_
          refine lv_iload_n hC.1.1 hC.1.2.1 dX1_reduce_32 rfl (lv_at hl 0 rfl) ?_
          refine lv_bipush (v := (nI 6)) hC.1.1 hC.1.2.1 dX1_reduce_33 (by decide +kernel) ?_
          refine n_imul hC.1 dX1_reduce_35 ?_
          refine lv_iload_n hC.1.1 hC.1.2.1 dX1_reduce_36 rfl (lv_at hl 3 rfl) ?_
          refine n_iadd hC.1 dX1_reduce_37 ?_
          refine c_ld_cell hC hI dX1_reduce_38 ?_
          refine n_if_eq hC.1 (tgt := 59) dX1_reduce_39 (by decide) (fun c39 => ?_) (fun c39 => ?_) (by rw [hu1]; exact Nat.lt_trans (rdc_b32 (dvr_b32 hc _ _ _) _ _ _ _) (by decide))
          · refine lv_iinc (v := (nI (i + 1))) (lv' := [(3, .int (nI (i + 1))), (0, .ref h), (1, .int (nI r)), (2, .int (nI x))]) hC.1.1 hC.1.2.1 dX1_reduce_59 hl (k := 0) rfl (ni_inc i) (by decide) rfl (fun ls hl => ?_)
            refine lv_goto (tgt := 18) hC.1.1 hC.1.2.1 dX1_reduce_62 (by decide) ?_
            exact ih18 (i + 1) u18 _ _ _ (by omega) (by omega) (by rw [hu1]; exact rdc_k (by first | exact Or.inl c25 | (right; rw [hu1, rdc_at hx] at c39; exact c39))) hu2 hu3 hu4 hI (lv_sub hl [0, 1, 2, 3] rfl)
          · refine lv_aload_n hC.1.1 hC.1.2.1 dX1_reduce_42 rfl (lv_at hl 1 rfl) ?_
            refine lv_iload_n hC.1.1 hC.1.2.1 dX1_reduce_43 rfl (lv_at hl 2 rfl) ?_
            refine lv_iload_n hC.1.1 hC.1.2.1 dX1_reduce_44 rfl (lv_at hl 0 rfl) ?_
            refine lv_aload_n hC.1.1 hC.1.2.1 dX1_reduce_45 rfl (lv_at hl 1 rfl) ?_
            refine c_get_cell hC hI dX1_reduce_46 ?_
            refine lv_iload_n hC.1.1 hC.1.2.1 dX1_reduce_49 rfl (lv_at hl 0 rfl) ?_
            refine lv_bipush (v := (nI 6)) hC.1.1 hC.1.2.1 dX1_reduce_50 (by decide +kernel) ?_
            refine n_imul hC.1 dX1_reduce_52 ?_
            refine lv_iload_n hC.1.1 hC.1.2.1 dX1_reduce_53 rfl (lv_at hl 3 rfl) ?_
            refine n_iadd hC.1 dX1_reduce_54 ?_
            refine c_ld_cell hC hI dX1_reduce_55 ?_
            refine c_callv (rest := []) hC hI (kX1_addRow l D h q dA kk u18 r i (u18.2.2.1 ((i * 6) + x)) hr (by omega) (by rw [hu1]; exact rdc_b32 (dvr_b32 hc _ _ _) _ _ _ _) (fun q => c25 q.symm) (by rw [hu1]; exact rdc_b32 (dvr_b32 hc _ _ _) _ _ _)) lkX1_addRow hdX1_addRow ⟨rfl, rfl⟩ ⟨Nat.le_of_ble_eq_true rfl, Nat.le_of_ble_eq_true rfl⟩ rfl hl.1 rfl (Nat.le_of_ble_eq_true rfl) ⟨Nat.le_of_ble_eq_true rfl, Nat.le_of_ble_eq_true rfl⟩ dX1_reduce_56 (fun v56 H locs hp56 hI => ?_)
            obtain ⟨v56_0, v56_1, v56_2, v56_3⟩ := hp56
            refine lv_iinc (v := (nI (i + 1))) (lv' := [(3, .int (nI (i + 1))), (0, .ref h), (1, .int (nI r)), (2, .int (nI x))]) hC.1.1 hC.1.2.1 dX1_reduce_59 hl (k := 0) rfl (ni_inc i) (by decide) rfl (fun ls hl => ?_)
            refine lv_goto (tgt := 18) hC.1.1 hC.1.2.1 dX1_reduce_62 (by decide) ?_
            exact ih18 (i + 1) v56 _ _ _ (by omega) (by omega) (by rw [v56_0, hu1, rdc_at hx]; exact rdc_s c25 hx) (by rw [v56_1, hu2]) (by rw [v56_2, hu3]) (by rw [v56_3, hu4]) hI (lv_sub hl [0, 1, 2, 3] rfl)
  exact lp18 (6) 0 v13 _ _ _ (by omega) (by omega) (by rw [v13_0, rdc_0]) v13_1 v13_2 v13_3 hI (lv_sub hl [0, 1, 2, 3] rfl)
abbrev rmX1_equation : Room := { frames := 2, cells := 0, slots := 0, locals := 46 }
theorem hdX1_equation : yX1_equation.cls = RX1 ∧ yX1_equation.cls ≠ "java/lang/invoke/MethodHandle" ∧ yX1_equation.cls ≠ "java/lang/invoke/VarHandle" ∧ (parseMethodDescriptor yX1_equation.desc).map (fun d => d.parameters.length) = some 1 := by decide +kernel
theorem lkX1_equation : GoodIn lw_all (wsV RX1 87 RX1 yX1_equation (ws_ yX1_equation cX1_equation 3 none)) := lw_V q140 q142 qs7 q28 q143
set_option maxHeartbeats 4000000 in
set_option maxRecDepth 100000 in
/-- equation -/
theorem kX1_equation (l : Launch) (D : va_G) (h : Nat) (q : Nat → Nat) (dA : ClassId) (kk : Nat) (u : CS) (i : Nat) (hk : kk = 1 ∨ kk = 2) (hi : i < 5) (hw : b32 u.1) : cMv l yX1_equation (ws_ yX1_equation cX1_equation 3 none) rmX1_equation D h q dA kk [.int (nI i)] u (fun u' => u'.2.2.1 = eqr u.2.2.1 u.1 kk i (7 - kk) ∧ u'.1 = u.1 ∧ u'.2.1 = u.2.1 ∧ u'.2.2.2 = u.2.2.2) := by
  refine cMv_of (lv := [(0, .ref h), (1, .int (nI i))]) (by decide) rfl (Nat.le_of_ble_eq_true rfl) rfl ?_
  intro p e s m args below meth c A Q ls hC hI hl hret
  refine lv_iconst (v := (nI 0)) hC.1.1 hC.1.2.1 dX1_equation_0 (by decide +kernel) ?_
  refine lv_istore_n (lv' := [(2, .int (nI 0)), (0, .ref h), (1, .int (nI i))]) hC.1.1 hC.1.2.1 dX1_equation_1 rfl hl (by decide) rfl (fun ls hl => ?_)
  have lp2 : ∀ (n : Nat) (a : Nat) (u2 : CS) (H : Heap) (locs : List Loc) (ls : Array Slot), a ≤ 4 - kk → 4 - kk < a + n → u2.2.2.1 = eqr u.2.2.1 u.1 kk i a → u2.1 = u.1 → u2.2.1 = u.2.1 → u2.2.2.2 = u.2.2.2 → cI D h q dA kk A s.heap u2 H locs → lv_has ls 3 [(2, .int (nI a)), (0, .ref h), (1, .int (nI i))] → W p l e rmX1_equation s m args below meth c H locs 0 0 Q (F0 m 2 ls []) := by
    intro n
    induction n with
    | zero => intro a u2 H locs ls ha hn hu1 hu2 hu3 hu4; exfalso; omega
    | succ n ih =>
      intro a u2 H locs ls ha hn hu1 hu2 hu3 hu4 hI hl
      have ih2 := ih
      clear ih
      refine lv_iload_n hC.1.1 hC.1.2.1 dX1_equation_2 rfl (lv_at hl 0 rfl) ?_
      refine lv_aload_n hC.1.1 hC.1.2.1 dX1_equation_3 rfl (lv_at hl 1 rfl) ?_
      refine c_get_t hC hI dX1_equation_4 ?_
      refine n_icmp_gt hC.1 (tgt := 38) dX1_equation_7 (by decide) (fun c7 => ?_) (fun c7 => ?_)
      · refine lv_iconst (v := (nI 0)) hC.1.1 hC.1.2.1 dX1_equation_38 (by decide +kernel) ?_
        refine lv_istore_n (lv' := [(2, .int (nI 0)), (0, .ref h), (1, .int (nI i))]) hC.1.1 hC.1.2.1 dX1_equation_39 rfl hl (by decide) rfl (fun ls hl => ?_)
        have lp40 : ∀ (n : Nat) (b : Nat) (u40 : CS) (H : Heap) (locs : List Loc) (ls : Array Slot), b ≤ 3 → 3 < b + n → u40.2.2.1 = eqr u.2.2.1 u.1 kk i (4 - kk + b) → u40.1 = u.1 → u40.2.1 = u.2.1 → u40.2.2.2 = u.2.2.2 → cI D h q dA kk A s.heap u40 H locs → lv_has ls 3 [(2, .int (nI b)), (0, .ref h), (1, .int (nI i))] → W p l e rmX1_equation s m args below meth c H locs 0 0 Q (F0 m 40 ls []) := by
          intro n
          induction n with
          | zero => intro b u40 H locs ls hb hn hu1 hu2 hu3 hu4; exfalso; omega
          | succ n ih =>
            intro b u40 H locs ls hb hn hu1 hu2 hu3 hu4 hI hl
            have ih40 := ih
            clear ih
            refine lv_iload_n hC.1.1 hC.1.2.1 dX1_equation_40 rfl (lv_at hl 0 rfl) ?_
            refine lv_aload_n hC.1.1 hC.1.2.1 dX1_equation_41 rfl (lv_at hl 1 rfl) ?_
            refine c_get_t hC hI dX1_equation_42 ?_
            refine lv_aload_n hC.1.1 hC.1.2.1 dX1_equation_45 rfl (lv_at hl 1 rfl) ?_
            refine c_get_k hC hI dX1_equation_46 ?_
            refine n_iadd hC.1 dX1_equation_49 ?_
            refine n_icmp_ge hC.1 (tgt := 85) dX1_equation_50 (by decide) (fun c50 => ?_) (fun c50 => ?_)
            · exact hret _ _ _ _ _ dX1_equation_85 ⟨by rw [hu1]; exact congrArg _ (by omega), hu2, hu3, hu4⟩ hI
            · refine lv_aload_n hC.1.1 hC.1.2.1 dX1_equation_53 rfl (lv_at hl 1 rfl) ?_
              refine c_get_cell hC hI dX1_equation_54 ?_
              refine lv_iload_n hC.1.1 hC.1.2.1 dX1_equation_57 rfl (lv_at hl 2 rfl) ?_
              refine lv_bipush (v := (nI 6)) hC.1.1 hC.1.2.1 dX1_equation_58 (by decide +kernel) ?_
              refine n_imul hC.1 dX1_equation_60 ?_
              refine lv_aload_n hC.1.1 hC.1.2.1 dX1_equation_61 rfl (lv_at hl 1 rfl) ?_
              refine c_get_t hC hI dX1_equation_62 ?_
              refine n_iadd hC.1 dX1_equation_65 ?_
              refine lv_iconst (v := (nI 1)) hC.1.1 hC.1.2.1 dX1_equation_66 (by decide +kernel) ?_
              refine n_iadd hC.1 dX1_equation_67 ?_
              refine lv_iload_n hC.1.1 hC.1.2.1 dX1_equation_68 rfl (lv_at hl 0 rfl) ?_
              refine n_iadd hC.1 dX1_equation_69 ?_
              refine n_top (y := (nI (i * 6 + (4 - kk + b)))) (congrArg nI (by omega)) ?_
              refine lv_aload_n hC.1.1 hC.1.2.1 dX1_equation_70 rfl (lv_at hl 1 rfl) ?_
              refine lv_iconst (v := (nI 1)) hC.1.1 hC.1.2.1 dX1_equation_71 (by decide +kernel) ?_
              refine lv_iload_n hC.1.1 hC.1.2.1 dX1_equation_72 rfl (lv_at hl 2 rfl) ?_
              refine n_ishl1 hC.1 dX1_equation_73 ?_
              refine lv_iload_n hC.1.1 hC.1.2.1 dX1_equation_74 rfl (lv_at hl 0 rfl) ?_
              refine c_calli (rest := [.int (nI (i * 6 + (4 - kk + b))), .ref (q 6)]) hC hI (kX1_frobenius l D h q dA kk u40 (2 ^ i) b (p5 hi) (by omega)) lkX1_frobenius hdX1_frobenius ⟨rfl, rfl⟩ ⟨Nat.le_of_ble_eq_true rfl, Nat.le_of_ble_eq_true rfl⟩ rfl hl.1 rfl (Nat.le_of_ble_eq_true rfl) ⟨Nat.le_of_ble_eq_true rfl, Nat.le_of_ble_eq_true rfl⟩ dX1_equation_75 (fun r75 v75 H locs hp75 hI => ?_)
              obtain ⟨rfl, rfl⟩ := hp75
              refine c_st_cell (x := fr (2 ^ i) b) hC hI dX1_equation_78 (fun v78 H locs v78_0 v78_1 v78_2 v78_3 hI => ?_)
              refine lv_iinc (v := (nI (b + 1))) (lv' := [(2, .int (nI (b + 1))), (0, .ref h), (1, .int (nI i))]) hC.1.1 hC.1.2.1 dX1_equation_79 hl (k := 0) rfl (ni_inc b) (by decide) rfl (fun ls hl => ?_)
              refine lv_goto (tgt := 40) hC.1.1 hC.1.2.1 dX1_equation_82 (by decide) ?_
              exact ih40 (b + 1) v78 _ _ _ (by omega) (by omega) (by rw [v78_0, hu1, ← er_2 (w := u.1) hk]; exact eqr_s (by omega)) (by rw [v78_1, hu2]) (by rw [v78_2, hu3]) (by rw [v78_3, hu4]) hI (lv_sub hl [0, 1, 2] rfl)
        exact lp40 (6) 0 u2 _ _ _ (by omega) (by omega) (by rw [hu1]; exact congrArg _ (by omega)) hu2 hu3 hu4 hI (lv_sub hl [0, 1, 2] rfl)
      · refine lv_aload_n hC.1.1 hC.1.2.1 dX1_equation_10 rfl (lv_at hl 1 rfl) ?_
        refine c_get_cell hC hI dX1_equation_11 ?_
        refine lv_iload_n hC.1.1 hC.1.2.1 dX1_equation_14 rfl (lv_at hl 2 rfl) ?_
        refine lv_bipush (v := (nI 6)) hC.1.1 hC.1.2.1 dX1_equation_15 (by decide +kernel) ?_
        refine n_imul hC.1 dX1_equation_17 ?_
        refine lv_iload_n hC.1.1 hC.1.2.1 dX1_equation_18 rfl (lv_at hl 0 rfl) ?_
        refine n_iadd hC.1 dX1_equation_19 ?_
        refine lv_aload_n hC.1.1 hC.1.2.1 dX1_equation_20 rfl (lv_at hl 1 rfl) ?_
        refine lv_aload_n hC.1.1 hC.1.2.1 dX1_equation_21 rfl (lv_at hl 1 rfl) ?_
        refine c_get_word hC hI dX1_equation_22 ?_
        refine lv_iload_n hC.1.1 hC.1.2.1 dX1_equation_25 rfl (lv_at hl 2 rfl) ?_
        refine c_ld_word hC hI dX1_equation_26 ?_
        refine lv_iload_n hC.1.1 hC.1.2.1 dX1_equation_27 rfl (lv_at hl 0 rfl) ?_
        refine c_calli (rest := [.int (nI ((i * 6) + a)), .ref (q 6)]) hC hI (kX1_frobenius l D h q dA kk u2 (u2.1 i) a (by rw [hu2]; exact hw _) (by omega)) lkX1_frobenius hdX1_frobenius ⟨rfl, rfl⟩ ⟨Nat.le_of_ble_eq_true rfl, Nat.le_of_ble_eq_true rfl⟩ rfl hl.1 rfl (Nat.le_of_ble_eq_true rfl) ⟨Nat.le_of_ble_eq_true rfl, Nat.le_of_ble_eq_true rfl⟩ dX1_equation_28 (fun r28 v28 H locs hp28 hI => ?_)
        obtain ⟨rfl, rfl⟩ := hp28
        refine c_st_cell (x := fr (u2.1 i) a) hC hI dX1_equation_31 (fun v31 H locs v31_0 v31_1 v31_2 v31_3 hI => ?_)
        refine lv_iinc (v := (nI (a + 1))) (lv' := [(2, .int (nI (a + 1))), (0, .ref h), (1, .int (nI i))]) hC.1.1 hC.1.2.1 dX1_equation_32 hl (k := 0) rfl (ni_inc a) (by decide) rfl (fun ls hl => ?_)
        refine lv_goto (tgt := 2) hC.1.1 hC.1.2.1 dX1_equation_35 (by decide) ?_
        exact ih2 (a + 1) v31 _ _ _ (by omega) (by omega) (by rw [v31_0, hu1, hu2, ← er_1 (kk := kk) (by omega)]; exact eqr_s (by omega)) (by rw [v31_1, hu2]) (by rw [v31_2, hu3]) (by rw [v31_3, hu4]) hI (lv_sub hl [0, 1, 2] rfl)
  exact lp2 (7) 0 u _ _ _ (by omega) (by omega) (eqr_0 _ _ _ _).symm rfl rfl rfl hI (lv_sub hl [0, 1, 2] rfl)
end
section
set_option maxRecDepth 100000
theorem rtF_0 {pv C : Nat → Nat} {f x : Nat} (h : pv x = 0) : rtF pv C f x = 0 := by unfold rtF; rw [if_pos h]
theorem rtF_1 {pv C : Nat → Nat} {f x z : Nat} (h : pv x = z + 1) : rtF pv C f x = C (z * 6 + f) := by unfold rtF; rw [if_neg (by omega), h]; rfl
theorem rs_t {r : Nat → Nat} {kk w : Nat} {f : Nat → Nat} {b : Nat} (h : b = 1 ∧ w < 3 - kk) : rs r kk w f b = r (4 - kk + w + b) ^^^ gm (r (w + 1)) (fr (f 0) (w + 1)) := by unfold rs; rw [if_pos h]
theorem rs_f {r : Nat → Nat} {kk w : Nat} {f : Nat → Nat} {b : Nat} (h : ¬ (b = 1 ∧ w < 3 - kk)) : rs r kk w f b = r (4 - kk + w + b) := by unfold rs; rw [if_neg h]
/-- the numbers of subspaces, and the census -/
def upP (a : Nat) : Nat → Nat
  | 0 => 1
  | i + 1 => upP a i * (2 ^ (a - i) - 1)
def dnP : Nat → Nat
  | 0 => 1
  | i + 1 => dnP i * (2 ^ (i + 1) - 1)
theorem upP_lt : ∀ a, a < 6 → ∀ i, i < 6 → upP a i < 2147483648 := by decide +kernel
theorem dnP_lt : ∀ i, i < 6 → dnP i < 2147483648 ∧ 0 < dnP i := by decide +kernel
def sb (a b : Nat) : Nat := upP a b / dnP b
def tm (kk j v : Nat) : Int32 := nI (sb j v * (2 ^ (5 * (v - (6 - kk) + 1)) - 1)) <<< ((nI (j - v) * (nI (j - v) - nI 1)) / nI 2 &&& 31)
def smF (kk j : Nat) : Nat → Int32
  | 0 => nI 0
  | e + 1 => if (j - (6 - kk + e)) &&& 1 = 0 then smF kk j e + tm kk j (6 - kk + e) else smF kk j e - tm kk j (6 - kk + e)
theorem smF_s {kk j v : Nat} (h : 6 - kk ≤ v) : smF kk j (v + 1 - (6 - kk)) = if (j - v) &&& 1 = 0 then smF kk j (v - (6 - kk)) + tm kk j v else smF kk j (v - (6 - kk)) - tm kk j v := by
  rw [show v + 1 - (6 - kk) = (v - (6 - kk)) + 1 by omega]
  show (if (j - (6 - kk + (v - (6 - kk)))) &&& 1 = 0 then _ else _) = _
  rw [show 6 - kk + (v - (6 - kk)) = v by omega]
def cenN (kk j : Nat) : Int32 := if j = 0 then nI 1 else nI (sb 5 j) * smF kk j (j + 1 - (6 - kk))
def o5 (x : Int32) : Bool := decide (x < 0) || !decide (x ≤ nI 5)
def sCen (kk : Nat) (x : Int32) : Int32 := if o5 x = true then nI 0 else cenN kk (tN x)
theorem o5_nI {j : Nat} (h : j < 6) : o5 (nI j) = false := by
  unfold o5
  rw [decide_eq_false (nI_pos (by omega)), decide_eq_true (nI_le (a := j) (b := 5) (by omega) (by omega))]
  rfl
theorem sCen_n {kk j : Nat} (h : j < 6) : sCen kk (nI j) = cenN kk j := by
  unfold sCen tN
  rw [o5_nI h, nI_clamp (by omega)]
  rfl
abbrev rmX1_solve : Room := { frames := 3, cells := 0, slots := 0, locals := 70 }
theorem hdX1_solve : yX1_solve.cls = RX1 ∧ yX1_solve.cls ≠ "java/lang/invoke/MethodHandle" ∧ yX1_solve.cls ≠ "java/lang/invoke/VarHandle" ∧ (parseMethodDescriptor yX1_solve.desc).map (fun d => d.parameters.length) = some 0 := by decide +kernel
theorem lkX1_solve : GoodIn lw_all (wsV RX1 91 RX1 yX1_solve (ws_ yX1_solve cX1_solve 7 (some .boolean))) := lw_V q148 q150 qs9 q28 q151
set_option maxHeartbeats 4000000 in
set_option maxRecDepth 100000 in
/-- solve -/
theorem kX1_solve (l : Launch) (D : va_G) (h : Nat) (q : Nat → Nat) (dA : ClassId) (kk : Nat) (u : CS)  (hk : kk = 1 ∨ kk = 2) (hcb : b32 u.2.2.1) (hrb : b32 u.2.2.2.2.1) : cMi l yX1_solve (ws_ yX1_solve cX1_solve 7 (some .boolean)) rmX1_solve D h q dA kk [] u (fun r u' => ((slv u.2.2.2.1 u.2.2.1 (7 - kk)).2.1 = 0 ∧ r = nI 0 ∨ ∃ f, (slv u.2.2.2.1 u.2.2.1 (7 - kk)).2.1 = f + 1 ∧ r = nI 1 ∧ u'.2.2.2.2.1 = up (ov u.2.2.2.2.1 (rtF (slv u.2.2.2.1 u.2.2.1 (7 - kk)).2.2.1 (slv u.2.2.2.1 u.2.2.1 (7 - kk)).2.2.2 f) (7 - kk)) f 1) ∧ u'.1 = u.1 ∧ u'.2.1 = u.2.1 ∧ u'.2.2.2.2.2 = u.2.2.2.2.2 ∧ b32 u'.2.2.1 ∧ b32 u'.2.2.2.2.1) := by
  refine cMi_of (lv := [(0, .ref h)]) (by decide) rfl (Nat.le_of_ble_eq_true rfl) rfl ?_
  intro p e s m args below meth c A Q ls hC hI hl hret
  refine lv_iconst (v := (nI 2)) hC.1.1 hC.1.2.1 dX1_solve_0 (by decide +kernel) ?_
  refine lv_aload_n hC.1.1 hC.1.2.1 dX1_solve_1 rfl (lv_at hl 0 rfl) ?_
  refine c_get_t hC hI dX1_solve_2 ?_
  refine n_imul hC.1 dX1_solve_5 ?_
  refine lv_aload_n hC.1.1 hC.1.2.1 dX1_solve_6 rfl (lv_at hl 0 rfl) ?_
  refine c_get_k hC hI dX1_solve_7 ?_
  refine n_iadd hC.1 dX1_solve_10 ?_
  refine lv_iconst (v := (nI 1)) hC.1.1 hC.1.2.1 dX1_solve_11 (by decide +kernel) ?_
  refine n_iadd hC.1 dX1_solve_12 ?_
  refine n_top (y := (nI (7 - kk))) (congrArg nI (by omega)) ?_
  refine lv_istore_n (lv' := [(1, .int (nI (7 - kk))), (0, .ref h)]) hC.1.1 hC.1.2.1 dX1_solve_13 rfl hl (by decide) rfl (fun ls hl => ?_)
  refine lv_iconst (v := (nI 0)) hC.1.1 hC.1.2.1 dX1_solve_14 (by decide +kernel) ?_
  refine lv_istore_n (lv' := [(2, .int (nI 0)), (1, .int (nI (7 - kk))), (0, .ref h)]) hC.1.1 hC.1.2.1 dX1_solve_15 rfl hl (by decide) rfl (fun ls hl => ?_)
  refine lv_iconst (v := (pI 0)) hC.1.1 hC.1.2.1 dX1_solve_16 (by decide +kernel) ?_
  refine lv_istore_n (lv' := [(3, .int (pI 0)), (2, .int (nI 0)), (1, .int (nI (7 - kk))), (0, .ref h)]) hC.1.1 hC.1.2.1 dX1_solve_17 rfl hl (by decide) rfl (fun ls hl => ?_)
  refine lv_iconst (v := (nI 0)) hC.1.1 hC.1.2.1 dX1_solve_18 (by decide +kernel) ?_
  refine lv_istore (lv' := [(4, .int (nI 0)), (3, .int (pI 0)), (2, .int (nI 0)), (1, .int (nI (7 - kk))), (0, .ref h)]) hC.1.1 hC.1.2.1 dX1_solve_19 hl (by decide) rfl (fun ls hl => ?_)
  have lp21 : ∀ (n : Nat) (co : Nat) (rows : Nat) (f : Nat) (u21 : CS) (H : Heap) (locs : List Loc) (ls : Array Slot), co ≤ 7 - kk → 7 - kk < co + n → slv u.2.2.2.1 u.2.2.1 co = (rows, f, u21.2.2.2.1, u21.2.2.1) → u21.1 = u.1 → u21.2.1 = u.2.1 → u21.2.2.2.2 = u.2.2.2.2 → cI D h q dA kk A s.heap u21 H locs → lv_has ls 7 [(4, .int (nI co)), (1, .int (nI (7 - kk))), (2, .int (nI rows)), (3, .int (pI f)), (0, .ref h)] → W p l e rmX1_solve s m args below meth c H locs 0 0 Q (F0 m 21 ls []) := by
    intro n
    induction n with
    | zero => intro co rows f u21 H locs ls hc hn hS hu1 hu2 hu3; exfalso; omega
    | succ n ih =>
      intro co rows f u21 H locs ls hc hn hS hu1 hu2 hu3 hI hl
      have ih21 := ih
      clear ih
      refine lv_iload hC.1.1 hC.1.2.1 dX1_solve_21 (lv_at hl 0 rfl) ?_
      refine lv_iload_n hC.1.1 hC.1.2.1 dX1_solve_23 rfl (lv_at hl 1 rfl) ?_
      refine n_icmp_ge hC.1 (tgt := 119) dX1_solve_24 (by decide) (fun c24 => ?_) (fun c24 => ?_)
      · obtain ⟨ok1, ok2, ok3, ok4⟩ : rows ≤ 5 ∧ f ≤ co ∧ (∀ x, x < co → u21.2.2.2.1 x ≤ rows) ∧ b32 u21.2.2.1 := by have hok := slv_ok u.2.2.2.1 hcb co; rw [hS] at hok; exact hok
        have hc7 : co = 7 - kk := by omega
        refine lv_iload_n hC.1.1 hC.1.2.1 dX1_solve_119 rfl (lv_at hl 3 rfl) ?_
        refine p_if_ge hC.1 (tgt := 125) dX1_solve_120 (by decide) (fun c120 => ?_) (fun c120 => ?_) (by omega)
        · obtain ⟨f0, rfl⟩ : ∃ z, f = z + 1 := ⟨f - 1, by omega⟩
          have hl : lv_has ls 7 [(4, .int (nI co)), (1, .int (nI (7 - kk))), (2, .int (nI rows)), (3, .int (nI f0)), (0, .ref h)] := hl
          refine lv_iconst (v := (nI 0)) hC.1.1 hC.1.2.1 dX1_solve_125 (by decide +kernel) ?_
          refine lv_istore (lv' := [(4, .int (nI 0)), (1, .int (nI (7 - kk))), (2, .int (nI rows)), (3, .int (nI f0)), (0, .ref h)]) hC.1.1 hC.1.2.1 dX1_solve_126 hl (by decide) rfl (fun ls hl => ?_)
          have lp128 : ∀ (n : Nat) (x : Nat) (u128 : CS) (H : Heap) (locs : List Loc) (ls : Array Slot), x ≤ 7 - kk → 7 - kk < x + n → u128.2.2.2.2.1 = ov u.2.2.2.2.1 (rtF u21.2.2.2.1 u21.2.2.1 f0) x → u128.1 = u.1 → u128.2.1 = u.2.1 → u128.2.2.1 = u21.2.2.1 → u128.2.2.2.1 = u21.2.2.2.1 → u128.2.2.2.2.2 = u.2.2.2.2.2 → cI D h q dA kk A s.heap u128 H locs → lv_has ls 7 [(4, .int (nI x)), (1, .int (nI (7 - kk))), (3, .int (nI f0)), (0, .ref h)] → W p l e rmX1_solve s m args below meth c H locs 0 0 Q (F0 m 128 ls []) := by
            intro n
            induction n with
            | zero => intro x u128 H locs ls hx hnx hv1 hv2 hv3 hv4 hv5 hv6; exfalso; omega
            | succ n ih =>
              intro x u128 H locs ls hx hnx hv1 hv2 hv3 hv4 hv5 hv6 hI hl
              have ih128 := ih
              clear ih
              refine lv_iload hC.1.1 hC.1.2.1 dX1_solve_128 (lv_at hl 0 rfl) ?_
              refine lv_iload_n hC.1.1 hC.1.2.1 dX1_solve_130 rfl (lv_at hl 1 rfl) ?_
              refine n_icmp_ge hC.1 (tgt := 178) dX1_solve_131 (by decide) (fun c131 => ?_) (fun c131 => ?_)
              · refine lv_aload_n hC.1.1 hC.1.2.1 dX1_solve_178 rfl (lv_at hl 3 rfl) ?_
                refine c_get_root hC hI dX1_solve_179 ?_
                refine lv_iload_n hC.1.1 hC.1.2.1 dX1_solve_182 rfl (lv_at hl 2 rfl) ?_
                refine lv_iconst (v := (nI 1)) hC.1.1 hC.1.2.1 dX1_solve_183 (by decide +kernel) ?_
                refine c_st_root (x := 1) hC hI dX1_solve_184 (fun v184 H locs v184_0 v184_1 v184_2 v184_3 v184_4 v184_5 hI => ?_)
                refine lv_iconst (v := (nI 1)) hC.1.1 hC.1.2.1 dX1_solve_185 (by decide +kernel) ?_
                exact hret _ _ _ _ _ _ dX1_solve_186 rfl ⟨Or.inr ⟨f0, by rw [← hc7, hS], rfl, by rw [v184_0, hv1, ← hc7, hS, show x = co by omega]⟩, by rw [v184_1, hv2], by rw [v184_2, hv3], by rw [v184_5, hv6], by rw [v184_3, hv4]; exact ok4, by rw [v184_0, hv1]; exact up_b32 (ov_b32 hrb (rtF_b32 _ ok4 _) _) _ (by decide)⟩ hI
              · refine lv_aload_n hC.1.1 hC.1.2.1 dX1_solve_134 rfl (lv_at hl 3 rfl) ?_
                refine c_get_root hC hI dX1_solve_135 ?_
                refine lv_iload hC.1.1 hC.1.2.1 dX1_solve_138 (lv_at hl 0 rfl) ?_
                refine lv_aload_n hC.1.1 hC.1.2.1 dX1_solve_140 rfl (lv_at hl 3 rfl) ?_
                refine c_get_piv hC hI dX1_solve_141 ?_
                refine lv_iload hC.1.1 hC.1.2.1 dX1_solve_144 (lv_at hl 0 rfl) ?_
                refine c_ld_piv hC hI dX1_solve_146 ?_
                refine p_if_ge hC.1 (tgt := 154) dX1_solve_147 (by decide) (fun c147 => ?_) (fun c147 => ?_) (by rw [hv5]; have := ok3 x (by omega); omega)
                · obtain ⟨z, ez⟩ : ∃ z, u128.2.2.2.1 x = z + 1 := ⟨u128.2.2.2.1 x - 1, by omega⟩
                  have hz : z < 5 := by have := ok3 x (by omega); rw [← hv5] at this; omega
                  refine lv_aload_n hC.1.1 hC.1.2.1 dX1_solve_154 rfl (lv_at hl 3 rfl) ?_
                  refine c_get_cell hC hI dX1_solve_155 ?_
                  refine lv_aload_n hC.1.1 hC.1.2.1 dX1_solve_158 rfl (lv_at hl 3 rfl) ?_
                  refine c_get_piv hC hI dX1_solve_159 ?_
                  refine lv_iload hC.1.1 hC.1.2.1 dX1_solve_162 (lv_at hl 0 rfl) ?_
                  refine c_ld_piv hC hI dX1_solve_164 ?_
                  refine n_top (y := (nI z)) (by rw [ez]; rfl) ?_
                  refine lv_bipush (v := (nI 6)) hC.1.1 hC.1.2.1 dX1_solve_165 (by decide +kernel) ?_
                  refine n_imul hC.1 dX1_solve_167 ?_
                  refine lv_iload_n hC.1.1 hC.1.2.1 dX1_solve_168 rfl (lv_at hl 2 rfl) ?_
                  refine n_iadd hC.1 dX1_solve_169 ?_
                  refine c_ld_cell hC hI dX1_solve_170 ?_
                  refine c_st_root (x := u128.2.2.1 ((z * 6) + f0)) hC hI dX1_solve_171 (fun v171 H locs v171_0 v171_1 v171_2 v171_3 v171_4 v171_5 hI => ?_)
                  refine lv_iinc (v := (nI (x + 1))) (lv' := [(4, .int (nI (x + 1))), (1, .int (nI (7 - kk))), (3, .int (nI f0)), (0, .ref h)]) hC.1.1 hC.1.2.1 dX1_solve_172 hl (k := 0) rfl (ni_inc x) (by decide) rfl (fun ls hl => ?_)
                  refine lv_goto (tgt := 128) hC.1.1 hC.1.2.1 dX1_solve_175 (by decide) ?_
                  exact ih128 (x + 1) v171 _ _ _ (by omega) (by omega) (by rw [v171_0, hv1, ← ov_s]; first | rw [rtF_0 (by rw [← hv5]; exact c147)] | rw [rtF_1 (z := z) (by rw [← hv5]; exact ez), hv4]) (by rw [v171_1, hv2]) (by rw [v171_2, hv3]) (by rw [v171_3, hv4]) (by rw [v171_4, hv5]) (by rw [v171_5, hv6]) hI (lv_sub hl [0, 1, 2, 3] rfl)
                · refine lv_iconst (v := (nI 0)) hC.1.1 hC.1.2.1 dX1_solve_150 (by decide +kernel) ?_
                  refine lv_goto (tgt := 171) hC.1.1 hC.1.2.1 dX1_solve_151 (by decide) ?_
                  refine c_st_root (x := 0) hC hI dX1_solve_171 (fun v171 H locs v171_0 v171_1 v171_2 v171_3 v171_4 v171_5 hI => ?_)
                  refine lv_iinc (v := (nI (x + 1))) (lv' := [(4, .int (nI (x + 1))), (1, .int (nI (7 - kk))), (3, .int (nI f0)), (0, .ref h)]) hC.1.1 hC.1.2.1 dX1_solve_172 hl (k := 0) rfl (ni_inc x) (by decide) rfl (fun ls hl => ?_)
                  refine lv_goto (tgt := 128) hC.1.1 hC.1.2.1 dX1_solve_175 (by decide) ?_
                  exact ih128 (x + 1) v171 _ _ _ (by omega) (by omega) (by rw [v171_0, hv1, ← ov_s]; first | rw [rtF_0 (by rw [← hv5]; exact c147)] | rw [rtF_1 (z := z) (by rw [← hv5]; exact ez), hv4]) (by rw [v171_1, hv2]) (by rw [v171_2, hv3]) (by rw [v171_3, hv4]) (by rw [v171_4, hv5]) (by rw [v171_5, hv6]) hI (lv_sub hl [0, 1, 2, 3] rfl)
          exact lp128 (7) 0 u21 _ _ _ (by omega) (by omega) (by rw [ov_0, hu3]) hu1 hu2 rfl rfl (by rw [hu3]) hI (lv_sub hl [0, 1, 3, 4] rfl)
        · refine lv_iconst (v := (nI 0)) hC.1.1 hC.1.2.1 dX1_solve_123 (by decide +kernel) ?_
          exact hret _ _ _ _ _ _ dX1_solve_124 rfl ⟨Or.inl ⟨by rw [← hc7, hS]; exact c120, rfl⟩, hu1, hu2, by rw [hu3], ok4, by rw [hu3]; exact hrb⟩ hI
      · obtain ⟨ok1, ok2, ok3, ok4⟩ : rows ≤ 5 ∧ f ≤ co ∧ (∀ x, x < co → u21.2.2.2.1 x ≤ rows) ∧ b32 u21.2.2.1 := by have hok := slv_ok u.2.2.2.1 hcb co; rw [hS] at hok; exact hok
        refine lv_aload_n hC.1.1 hC.1.2.1 dX1_solve_27 rfl (lv_at hl 4 rfl) ?_
        refine c_get_piv hC hI dX1_solve_28 ?_
        refine lv_iload hC.1.1 hC.1.2.1 dX1_solve_31 (lv_at hl 0 rfl) ?_
        refine lv_iconst (v := (pI 0)) hC.1.1 hC.1.2.1 dX1_solve_33 (by decide +kernel) ?_
        refine c_st_piv (x := 0) hC hI dX1_solve_34 (fun v34 H locs v34_0 v34_1 v34_2 v34_3 v34_4 hI => ?_)
        refine lv_iconst (v := (pI 0)) hC.1.1 hC.1.2.1 dX1_solve_35 (by decide +kernel) ?_
        refine lv_istore (lv' := [(5, .int (pI 0)), (4, .int (nI co)), (1, .int (nI (7 - kk))), (2, .int (nI rows)), (3, .int (pI f)), (0, .ref h)]) hC.1.1 hC.1.2.1 dX1_solve_36 hl (by decide) rfl (fun ls hl => ?_)
        refine lv_iconst (v := (nI 4)) hC.1.1 hC.1.2.1 dX1_solve_38 (by decide +kernel) ?_
        refine lv_istore (lv' := [(6, .int (nI 4)), (5, .int (pI 0)), (4, .int (nI co)), (1, .int (nI (7 - kk))), (2, .int (nI rows)), (3, .int (pI f)), (0, .ref h)]) hC.1.1 hC.1.2.1 dX1_solve_39 hl (by decide) rfl (fun ls hl => ?_)
        have lp41 : ∀ (n : Nat) (j : Nat) (a : Nat) (H : Heap) (locs : List Loc) (ls : Array Slot), j ≤ 5 → j < n → rows ≤ j → a = lo (nzP v34.2.2.1 co) j (5 - j) → cI D h q dA kk A s.heap v34 H locs → lv_has ls 7 [(6, .int (pI j)), (5, .int (pI a)), (4, .int (nI co)), (1, .int (nI (7 - kk))), (2, .int (nI rows)), (3, .int (pI f)), (0, .ref h)] → W p l e rmX1_solve s m args below meth c H locs 0 0 Q (F0 m 41 ls []) := by
          intro n
          induction n with
          | zero => intro j a  H locs ls hj hnj hrj ha; exfalso; omega
          | succ n ih =>
            intro j a  H locs ls hj hnj hrj ha hI hl
            have ih41 := ih
            clear ih
            refine lv_iload hC.1.1 hC.1.2.1 dX1_solve_41 (lv_at hl 0 rfl) ?_
            refine lv_iload_n hC.1.1 hC.1.2.1 dX1_solve_43 rfl (lv_at hl 4 rfl) ?_
            refine p_icmp_lt hC.1 (tgt := 73) dX1_solve_44 (by decide) (fun c44 => ?_) (fun c44 => ?_)
            · refine lv_iload hC.1.1 hC.1.2.1 dX1_solve_73 (lv_at hl 1 rfl) ?_
              refine p_if_lt hC.1 (tgt := 106) dX1_solve_75 (by decide) (fun c75 => ?_) (fun c75 => ?_) (by rw [ha]; exact Nat.lt_of_le_of_lt (lo_le _ _ _) (by omega))
              · refine lv_iload_n hC.1.1 hC.1.2.1 dX1_solve_106 rfl (lv_at hl 5 rfl) ?_
                refine p_if_ge hC.1 (tgt := 113) dX1_solve_107 (by decide) (fun c107 => ?_) (fun c107 => ?_) (by omega)
                · refine lv_iinc (v := (nI (co + 1))) (lv' := [(4, .int (nI (co + 1))), (6, .int (pI j)), (5, .int (pI a)), (1, .int (nI (7 - kk))), (2, .int (nI rows)), (3, .int (pI f)), (0, .ref h)]) hC.1.1 hC.1.2.1 dX1_solve_113 hl (k := 2) rfl (ni_inc co) (by decide) rfl (fun ls hl => ?_)
                  refine lv_goto (tgt := 21) hC.1.1 hC.1.2.1 dX1_solve_116 (by decide) ?_
                  exact ih21 (co + 1) rows f v34 _ _ _ (by omega) (by omega) (by show sst (slv _ _ co) co = _; rw [hS, sst_0 (by rw [← v34_3, show rows = j by omega, ← ha, c75]), v34_0, v34_3]; first | rw [if_pos c107] | rw [if_neg (by omega)]) (by rw [v34_1, hu1]) (by rw [v34_2, hu2]) (by rw [v34_4, hu3]) hI (lv_sub hl [0, 3, 4, 5, 6] rfl)
                · refine lv_iload hC.1.1 hC.1.2.1 dX1_solve_110 (lv_at hl 2 rfl) ?_
                  refine lv_istore_n (lv' := [(3, .int (nI co)), (6, .int (pI j)), (5, .int (pI a)), (4, .int (nI co)), (1, .int (nI (7 - kk))), (2, .int (nI rows)), (0, .ref h)]) hC.1.1 hC.1.2.1 dX1_solve_112 rfl hl (by decide) rfl (fun ls hl => ?_)
                  refine lv_iinc (v := (nI (co + 1))) (lv' := [(4, .int (nI (co + 1))), (3, .int (nI co)), (6, .int (pI j)), (5, .int (pI a)), (1, .int (nI (7 - kk))), (2, .int (nI rows)), (0, .ref h)]) hC.1.1 hC.1.2.1 dX1_solve_113 hl (k := 3) rfl (ni_inc co) (by decide) rfl (fun ls hl => ?_)
                  refine lv_goto (tgt := 21) hC.1.1 hC.1.2.1 dX1_solve_116 (by decide) ?_
                  exact ih21 (co + 1) rows (co + 1) v34 _ _ _ (by omega) (by omega) (by show sst (slv _ _ co) co = _; rw [hS, sst_0 (by rw [← v34_3, show rows = j by omega, ← ha, c75]), v34_0, v34_3]; first | rw [if_pos c107] | rw [if_neg (by omega)]) (by rw [v34_1, hu1]) (by rw [v34_2, hu2]) (by rw [v34_4, hu3]) hI (lv_sub hl [0, 4, 5, 1, 6] rfl)
              · have ej : rows = j := by omega
                subst ej
                obtain ⟨z, rfl⟩ : ∃ z, a = z + 1 := ⟨a - 1, by omega⟩
                obtain ⟨hz1, hz2, -, -⟩ := lo_1 _ _ _ _ ha.symm
                have hl : lv_has ls 7 [(6, .int (pI rows)), (5, .int (nI z)), (4, .int (nI co)), (1, .int (nI (7 - kk))), (2, .int (nI rows)), (3, .int (pI f)), (0, .ref h)] := hl
                refine lv_aload_n hC.1.1 hC.1.2.1 dX1_solve_78 rfl (lv_at hl 6 rfl) ?_
                refine lv_iload hC.1.1 hC.1.2.1 dX1_solve_79 (lv_at hl 1 rfl) ?_
                refine lv_iload_n hC.1.1 hC.1.2.1 dX1_solve_81 rfl (lv_at hl 4 rfl) ?_
                refine c_callv (rest := []) hC hI (kX1_swapRows l D h q dA kk v34 z rows (by omega) (by omega)) lkX1_swapRows hdX1_swapRows ⟨rfl, rfl⟩ ⟨Nat.le_of_ble_eq_true rfl, Nat.le_of_ble_eq_true rfl⟩ rfl hl.1 rfl (Nat.le_of_ble_eq_true rfl) ⟨Nat.le_of_ble_eq_true rfl, Nat.le_of_ble_eq_true rfl⟩ dX1_solve_82 (fun v82 H locs hp82 hI => ?_)
                obtain ⟨v82_0, v82_1, v82_2, v82_3⟩ := hp82
                refine lv_aload_n hC.1.1 hC.1.2.1 dX1_solve_85 rfl (lv_at hl 6 rfl) ?_
                refine lv_iload_n hC.1.1 hC.1.2.1 dX1_solve_86 rfl (lv_at hl 4 rfl) ?_
                refine lv_iload hC.1.1 hC.1.2.1 dX1_solve_87 (lv_at hl 2 rfl) ?_
                refine c_callv (rest := []) hC hI (kX1_reduce l D h q dA kk v82 rows co (by omega) (by omega) (by rw [v82_0, v34_3]; exact swp_b32 ok4 _ _ _)) lkX1_reduce hdX1_reduce ⟨rfl, rfl⟩ ⟨Nat.le_of_ble_eq_true rfl, Nat.le_of_ble_eq_true rfl⟩ rfl hl.1 rfl (Nat.le_of_ble_eq_true rfl) ⟨Nat.le_of_ble_eq_true rfl, Nat.le_of_ble_eq_true rfl⟩ dX1_solve_89 (fun v89 H locs hp89 hI => ?_)
                obtain ⟨v89_0, v89_1, v89_2, v89_3⟩ := hp89
                refine lv_aload_n hC.1.1 hC.1.2.1 dX1_solve_92 rfl (lv_at hl 6 rfl) ?_
                refine c_get_piv hC hI dX1_solve_93 ?_
                refine lv_iload hC.1.1 hC.1.2.1 dX1_solve_96 (lv_at hl 2 rfl) ?_
                refine lv_iload_n hC.1.1 hC.1.2.1 dX1_solve_98 rfl (lv_at hl 4 rfl) ?_
                refine c_st_piv (x := rows + 1) hC hI dX1_solve_99 (fun v99 H locs v99_0 v99_1 v99_2 v99_3 v99_4 hI => ?_)
                refine lv_iinc (v := (nI (rows + 1))) (lv' := [(2, .int (nI (rows + 1))), (6, .int (pI rows)), (5, .int (nI z)), (4, .int (nI co)), (1, .int (nI (7 - kk))), (3, .int (pI f)), (0, .ref h)]) hC.1.1 hC.1.2.1 dX1_solve_100 hl (k := 4) rfl (ni_inc rows) (by decide) rfl (fun ls hl => ?_)
                refine lv_goto (tgt := 113) hC.1.1 hC.1.2.1 dX1_solve_103 (by decide) ?_
                refine lv_iinc (v := (nI (co + 1))) (lv' := [(4, .int (nI (co + 1))), (2, .int (nI (rows + 1))), (6, .int (pI rows)), (5, .int (nI z)), (1, .int (nI (7 - kk))), (3, .int (pI f)), (0, .ref h)]) hC.1.1 hC.1.2.1 dX1_solve_113 hl (k := 3) rfl (ni_inc co) (by decide) rfl (fun ls hl => ?_)
                refine lv_goto (tgt := 21) hC.1.1 hC.1.2.1 dX1_solve_116 (by decide) ?_
                exact ih21 (co + 1) (rows + 1) f v99 _ _ _ (by omega) (by omega) (by show sst (slv _ _ co) co = _; rw [hS, sst_1 (z := z) (by rw [← v34_3]; exact ha.symm), v99_0, v99_3, v89_0, v82_0, show v89.2.2.2.1 = v34.2.2.2.1 by rw [v89_3, v82_3], v34_0, v34_3]) (by rw [v99_1, v89_1, v82_1, v34_1, hu1]) (by rw [v99_2, v89_2, v82_2, v34_2, hu2]) (by rw [v99_4, show v89.2.2.2.2 = v34.2.2.2.2 by rw [v89_3, v82_3], v34_4, hu3]) hI (lv_sub hl [0, 4, 1, 5, 6] rfl)
            · obtain ⟨j1, rfl⟩ : ∃ z, j = z + 1 := ⟨j - 1, by omega⟩
              have hl : lv_has ls 7 [(6, .int (nI j1)), (5, .int (pI a)), (4, .int (nI co)), (1, .int (nI (7 - kk))), (2, .int (nI rows)), (3, .int (pI f)), (0, .ref h)] := hl
              refine lv_aload_n hC.1.1 hC.1.2.1 dX1_solve_47 rfl (lv_at hl 6 rfl) ?_
              refine c_get_cell hC hI dX1_solve_48 ?_
              refine lv_iload hC.1.1 hC.1.2.1 dX1_solve_51 (lv_at hl 0 rfl) ?_
              refine lv_bipush (v := (nI 6)) hC.1.1 hC.1.2.1 dX1_solve_53 (by decide +kernel) ?_
              refine n_imul hC.1 dX1_solve_55 ?_
              refine lv_iload hC.1.1 hC.1.2.1 dX1_solve_56 (lv_at hl 2 rfl) ?_
              refine n_iadd hC.1 dX1_solve_58 ?_
              refine c_ld_cell hC hI dX1_solve_59 ?_
              refine n_if_eq hC.1 (tgt := 67) dX1_solve_60 (by decide) (fun c60 => ?_) (fun c60 => ?_) (by rw [v34_3]; exact Nat.lt_trans (ok4 _) (by decide))
              · refine lv_iinc (v := (pI j1)) (lv' := [(6, .int (pI j1)), (5, .int (pI a)), (4, .int (nI co)), (1, .int (nI (7 - kk))), (2, .int (nI rows)), (3, .int (pI f)), (0, .ref h)]) hC.1.1 hC.1.2.1 dX1_solve_67 hl (k := 0) rfl (pi_dec j1) (by decide) rfl (fun ls hl => ?_)
                refine lv_goto (tgt := 41) hC.1.1 hC.1.2.1 dX1_solve_70 (by decide) ?_
                exact ih41 j1 a  _ _ _ (by omega) (by omega) (by omega) (by first | exact (lo_tn (P := nzP v34.2.2.1 co) (by unfold nzP; rw [decide_eq_false c60]; rfl) (by omega)).symm | (rw [ha]; exact (lo_fn (P := nzP v34.2.2.1 co) (by unfold nzP; rw [decide_eq_true c60]; decide) (by omega)).symm)) hI (lv_sub hl [0, 1, 2, 3, 4, 5, 6] rfl)
              · refine lv_iload hC.1.1 hC.1.2.1 dX1_solve_63 (lv_at hl 0 rfl) ?_
                refine lv_istore (lv' := [(5, .int (nI j1)), (6, .int (nI j1)), (4, .int (nI co)), (1, .int (nI (7 - kk))), (2, .int (nI rows)), (3, .int (pI f)), (0, .ref h)]) hC.1.1 hC.1.2.1 dX1_solve_65 hl (by decide) rfl (fun ls hl => ?_)
                refine lv_iinc (v := (pI j1)) (lv' := [(6, .int (pI j1)), (5, .int (nI j1)), (4, .int (nI co)), (1, .int (nI (7 - kk))), (2, .int (nI rows)), (3, .int (pI f)), (0, .ref h)]) hC.1.1 hC.1.2.1 dX1_solve_67 hl (k := 1) rfl (pi_dec j1) (by decide) rfl (fun ls hl => ?_)
                refine lv_goto (tgt := 41) hC.1.1 hC.1.2.1 dX1_solve_70 (by decide) ?_
                exact ih41 j1 (j1 + 1)  _ _ _ (by omega) (by omega) (by omega) (by first | exact (lo_tn (P := nzP v34.2.2.1 co) (by unfold nzP; rw [decide_eq_false c60]; rfl) (by omega)).symm | (rw [ha]; exact (lo_fn (P := nzP v34.2.2.1 co) (by unfold nzP; rw [decide_eq_true c60]; decide) (by omega)).symm)) hI (lv_sub hl [0, 1, 2, 3, 4, 5, 6] rfl)
        exact lp41 (6) (4 + 1) 0  _ _ _ (by omega) (by omega) (by omega) rfl hI (lv_sub hl [0, 1, 2, 3, 4, 5, 6] rfl)
  exact lp21 (7) 0 0 0 u _ _ _ (by omega) (by omega) rfl rfl rfl rfl hI (lv_sub hl [0, 3, 2, 1, 4] rfl)
abbrev rmX1_divide : Room := { frames := 2, cells := 0, slots := 0, locals := 46 }
theorem hdX1_divide : yX1_divide.cls = RX1 ∧ yX1_divide.cls ≠ "java/lang/invoke/MethodHandle" ∧ yX1_divide.cls ≠ "java/lang/invoke/VarHandle" ∧ (parseMethodDescriptor yX1_divide.desc).map (fun d => d.parameters.length) = some 0 := by decide +kernel
theorem lkX1_divide : GoodIn lw_all (wsV RX1 95 RX1 yX1_divide (ws_ yX1_divide cX1_divide 6 (some .boolean))) := lw_V q168 q170 qs14 q28 q171
set_option maxHeartbeats 4000000 in
set_option maxRecDepth 100000 in
/-- divide -/
theorem kX1_divide (l : Launch) (D : va_G) (h : Nat) (q : Nat → Nat) (dA : ClassId) (kk : Nat) (u : CS)  (hk : kk = 1 ∨ kk = 2) (hrt : b32 u.2.2.2.2.1) (hfd : b32 u.2.2.2.2.2) : cMi l yX1_divide (ws_ yX1_divide cX1_divide 6 (some .boolean)) rmX1_divide D h q dA kk [] u (fun r u' => (lo (rP u.2.2.2.2.1) 0 (4 - kk) = 0 ∧ r = nI 0 ∧ u = u') ∨ ∃ w, lo (rP u.2.2.2.2.1) 0 (4 - kk) = w + 1 ∧ r = nI 1 ∧ u'.2.2.2.2.2 = fdv u.2.2.2.2.1 kk w u.2.2.2.2.2 kk ∧ u'.1 = u.1 ∧ u'.2.1 = u.2.1 ∧ u'.2.2.1 = u.2.2.1 ∧ u'.2.2.2.2.1 = u.2.2.2.2.1) := by
  refine cMi_of (lv := [(0, .ref h)]) (by decide) rfl (Nat.le_of_ble_eq_true rfl) rfl ?_
  intro p e s m args below meth c A Q ls hC hI hl hret
  refine lv_iconst (v := (pI 0)) hC.1.1 hC.1.2.1 dX1_divide_0 (by decide +kernel) ?_
  refine lv_istore_n (lv' := [(1, .int (pI 0)), (0, .ref h)]) hC.1.1 hC.1.2.1 dX1_divide_1 rfl hl (by decide) rfl (fun ls hl => ?_)
  refine lv_aload_n hC.1.1 hC.1.2.1 dX1_divide_2 rfl (lv_at hl 1 rfl) ?_
  refine c_get_t hC hI dX1_divide_3 ?_
  refine lv_istore_n (lv' := [(2, .int (nI (3 - kk))), (1, .int (pI 0)), (0, .ref h)]) hC.1.1 hC.1.2.1 dX1_divide_6 rfl hl (by decide) rfl (fun ls hl => ?_)
  have lp7 : ∀ (n : Nat) (j : Nat) (a : Nat) (H : Heap) (locs : List Loc) (ls : Array Slot), j ≤ 4 - kk → j < n → a = lo (rP u.2.2.2.2.1) j (4 - kk - j) → cI D h q dA kk A s.heap u H locs → lv_has ls 6 [(2, .int (pI j)), (1, .int (pI a)), (0, .ref h)] → W p l e rmX1_divide s m args below meth c H locs 0 0 Q (F0 m 7 ls []) := by
    intro n
    induction n with
    | zero => intro j a  H locs ls hj hn ha; exfalso; omega
    | succ n ih =>
      intro j a  H locs ls hj hn ha hI hl
      have ih7 := ih
      clear ih
      refine lv_iload_n hC.1.1 hC.1.2.1 dX1_divide_7 rfl (lv_at hl 0 rfl) ?_
      refine p_if_lt hC.1 (tgt := 28) dX1_divide_8 (by decide) (fun c8 => ?_) (fun c8 => ?_)
      · refine lv_iload_n hC.1.1 hC.1.2.1 dX1_divide_28 rfl (lv_at hl 1 rfl) ?_
        refine p_if_ge hC.1 (tgt := 34) dX1_divide_29 (by decide) (fun c29 => ?_) (fun c29 => ?_) (by rw [ha]; exact Nat.lt_of_le_of_lt (lo_le _ _ _) (by omega))
        · obtain ⟨w, rfl⟩ : ∃ z, a = z + 1 := ⟨a - 1, by omega⟩
          have hw4 : w < 4 - kk := by have := lo_le (rP u.2.2.2.2.1) (4 - kk - j) j; omega
          rw [c8] at ha
          have hl : lv_has ls 6 [(2, .int (pI j)), (1, .int (nI w)), (0, .ref h)] := hl
          refine lv_aload_n hC.1.1 hC.1.2.1 dX1_divide_34 rfl (lv_at hl 2 rfl) ?_
          refine c_get_found hC hI dX1_divide_35 ?_
          refine lv_iconst (v := (nI 1)) hC.1.1 hC.1.2.1 dX1_divide_38 (by decide +kernel) ?_
          refine lv_iconst (v := (nI 0)) hC.1.1 hC.1.2.1 dX1_divide_39 (by decide +kernel) ?_
          refine c_st_found (x := 0) hC hI dX1_divide_40 (fun v40 H locs v40_0 v40_1 v40_2 v40_3 v40_4 v40_5 hI => ?_)
          refine lv_iconst (v := (nI 0)) hC.1.1 hC.1.2.1 dX1_divide_41 (by decide +kernel) ?_
          refine lv_istore_n (lv' := [(2, .int (nI 0)), (1, .int (nI w)), (0, .ref h)]) hC.1.1 hC.1.2.1 dX1_divide_42 rfl hl (by decide) rfl (fun ls hl => ?_)
          have lp43 : ∀ (n : Nat) (b : Nat) (u43 : CS) (H : Heap) (locs : List Loc) (ls : Array Slot), b ≤ kk → kk < b + n → u43.2.2.2.2.2 = fdv u.2.2.2.2.1 kk w u.2.2.2.2.2 b → u43.1 = u.1 → u43.2.1 = u.2.1 → u43.2.2.1 = u.2.2.1 → u43.2.2.2.1 = u.2.2.2.1 → u43.2.2.2.2.1 = u.2.2.2.2.1 → cI D h q dA kk A s.heap u43 H locs → lv_has ls 6 [(2, .int (nI b)), (1, .int (nI w)), (0, .ref h)] → W p l e rmX1_divide s m args below meth c H locs 0 0 Q (F0 m 43 ls []) := by
            intro n
            induction n with
            | zero => intro b u43 H locs ls hb hn hv1 hv2 hv3 hv4 hv5 hv6; exfalso; omega
            | succ n ih =>
              intro b u43 H locs ls hb hn hv1 hv2 hv3 hv4 hv5 hv6 hI hl
              have ih43 := ih
              clear ih
              refine lv_iload_n hC.1.1 hC.1.2.1 dX1_divide_43 rfl (lv_at hl 0 rfl) ?_
              refine lv_aload_n hC.1.1 hC.1.2.1 dX1_divide_44 rfl (lv_at hl 2 rfl) ?_
              refine c_get_k hC hI dX1_divide_45 ?_
              refine n_icmp_ge hC.1 (tgt := 150) dX1_divide_48 (by decide) (fun c48 => ?_) (fun c48 => ?_)
              · refine lv_iconst (v := (nI 1)) hC.1.1 hC.1.2.1 dX1_divide_150 (by decide +kernel) ?_
                exact hret _ _ _ _ _ _ dX1_divide_151 rfl (Or.inr ⟨w, ha.symm, rfl, by rw [hv1, show b = kk by omega], hv2, hv3, hv4, hv6⟩) hI
              · refine lv_aload_n hC.1.1 hC.1.2.1 dX1_divide_51 rfl (lv_at hl 2 rfl) ?_
                refine c_get_root hC hI dX1_divide_52 ?_
                refine lv_aload_n hC.1.1 hC.1.2.1 dX1_divide_55 rfl (lv_at hl 2 rfl) ?_
                refine c_get_t hC hI dX1_divide_56 ?_
                refine lv_iconst (v := (nI 1)) hC.1.1 hC.1.2.1 dX1_divide_59 (by decide +kernel) ?_
                refine n_iadd hC.1 dX1_divide_60 ?_
                refine lv_iload_n hC.1.1 hC.1.2.1 dX1_divide_61 rfl (lv_at hl 1 rfl) ?_
                refine n_iadd hC.1 dX1_divide_62 ?_
                refine lv_iload_n hC.1.1 hC.1.2.1 dX1_divide_63 rfl (lv_at hl 0 rfl) ?_
                refine n_iadd hC.1 dX1_divide_64 ?_
                refine n_top (y := (nI (4 - kk + w + b))) (congrArg nI (by omega)) ?_
                refine c_ld_root hC hI dX1_divide_65 ?_
                refine lv_istore_n (lv' := [(3, .int (nI (u43.2.2.2.2.1 (4 - kk + w + b)))), (2, .int (nI b)), (1, .int (nI w)), (0, .ref h)]) hC.1.1 hC.1.2.1 dX1_divide_66 rfl hl (by decide) rfl (fun ls hl => ?_)
                refine lv_iload_n hC.1.1 hC.1.2.1 dX1_divide_67 rfl (lv_at hl 1 rfl) ?_
                refine lv_iconst (v := (nI 1)) hC.1.1 hC.1.2.1 dX1_divide_68 (by decide +kernel) ?_
                refine n_icmp_ne hC.1 (tgt := 116) dX1_divide_69 (by decide) (fun c69 => ?_) (fun c69 => ?_)
                · refine lv_aload_n hC.1.1 hC.1.2.1 dX1_divide_116 rfl (lv_at hl 3 rfl) ?_
                  refine lv_iload_n hC.1.1 hC.1.2.1 dX1_divide_117 rfl (lv_at hl 0 rfl) ?_
                  refine lv_aload_n hC.1.1 hC.1.2.1 dX1_divide_118 rfl (lv_at hl 3 rfl) ?_
                  refine c_get_root hC hI dX1_divide_119 ?_
                  refine lv_iload_n hC.1.1 hC.1.2.1 dX1_divide_122 rfl (lv_at hl 2 rfl) ?_
                  refine c_ld_root hC hI dX1_divide_123 ?_
                  refine c_calli (rest := []) hC hI (kX1_div l D h q dA kk u43 (u43.2.2.2.2.1 (4 - kk + w + b)) (u43.2.2.2.2.1 w) (by rw [hv6]; first | exact hrt _ | exact x_lt (hrt _) (gm_lt _ _)) (by rw [hv6]; exact hrt _)) lkX1_div hdX1_div ⟨rfl, rfl⟩ ⟨Nat.le_of_ble_eq_true rfl, Nat.le_of_ble_eq_true rfl⟩ rfl hl.1 rfl (Nat.le_of_ble_eq_true rfl) ⟨Nat.le_of_ble_eq_true rfl, Nat.le_of_ble_eq_true rfl⟩ dX1_divide_124 (fun r124 v124 H locs hp124 hI => ?_)
                  obtain ⟨rfl, rfl⟩ := hp124
                  refine lv_istore (lv' := [(4, .int (nI (gd (u43.2.2.2.2.1 (4 - kk + w + b)) (u43.2.2.2.2.1 w)))), (3, .int (nI (u43.2.2.2.2.1 (4 - kk + w + b)))), (2, .int (nI b)), (1, .int (nI w)), (0, .ref h)]) hC.1.1 hC.1.2.1 dX1_divide_127 hl (by decide) rfl (fun ls hl => ?_)
                  refine lv_aload_n hC.1.1 hC.1.2.1 dX1_divide_129 rfl (lv_at hl 4 rfl) ?_
                  refine c_get_found hC hI dX1_divide_130 ?_
                  refine lv_iload_n hC.1.1 hC.1.2.1 dX1_divide_133 rfl (lv_at hl 2 rfl) ?_
                  refine lv_aload_n hC.1.1 hC.1.2.1 dX1_divide_134 rfl (lv_at hl 4 rfl) ?_
                  refine lv_iload hC.1.1 hC.1.2.1 dX1_divide_135 (lv_at hl 0 rfl) ?_
                  refine lv_iconst (v := (nI 5)) hC.1.1 hC.1.2.1 dX1_divide_137 (by decide +kernel) ?_
                  refine lv_iload_n hC.1.1 hC.1.2.1 dX1_divide_138 rfl (lv_at hl 3 rfl) ?_
                  refine n_isub hC.1 dX1_divide_139 ?_
                  refine c_calli (rest := [.int (nI b), .ref (q 9)]) hC hI (kX1_frobenius l D h q dA kk u43 (gd (u43.2.2.2.2.1 (4 - kk + w + b)) (u43.2.2.2.2.1 w)) (5 - w) (gd_lt _ _) (by omega)) lkX1_frobenius hdX1_frobenius ⟨rfl, rfl⟩ ⟨Nat.le_of_ble_eq_true rfl, Nat.le_of_ble_eq_true rfl⟩ rfl hl.1 rfl (Nat.le_of_ble_eq_true rfl) ⟨Nat.le_of_ble_eq_true rfl, Nat.le_of_ble_eq_true rfl⟩ dX1_divide_140 (fun r140 v140 H locs hp140 hI => ?_)
                  obtain ⟨rfl, rfl⟩ := hp140
                  refine c_st_found (x := fr (gd (u43.2.2.2.2.1 (4 - kk + w + b)) (u43.2.2.2.2.1 w)) (5 - w)) hC hI dX1_divide_143 (fun v143 H locs v143_0 v143_1 v143_2 v143_3 v143_4 v143_5 hI => ?_)
                  refine lv_iinc (v := (nI (b + 1))) (lv' := [(2, .int (nI (b + 1))), (4, .int (nI (gd (u43.2.2.2.2.1 (4 - kk + w + b)) (u43.2.2.2.2.1 w)))), (3, .int (nI (u43.2.2.2.2.1 (4 - kk + w + b)))), (1, .int (nI w)), (0, .ref h)]) hC.1.1 hC.1.2.1 dX1_divide_144 hl (k := 2) rfl (ni_inc b) (by decide) rfl (fun ls hl => ?_)
                  refine lv_goto (tgt := 43) hC.1.1 hC.1.2.1 dX1_divide_147 (by decide) ?_
                  exact ih43 (b + 1) v143 _ _ _ (by omega) (by omega) (by rw [v143_0, hv1, hv6]; show _ = up (fdv u.2.2.2.2.1 kk w u.2.2.2.2.2 b) b (fr (gd (rs u.2.2.2.2.1 kk w (fdv u.2.2.2.2.1 kk w u.2.2.2.2.2 b) b) (u.2.2.2.2.1 w)) (5 - w)); first | (rw [rs_f (by omega)]; done) | (rw [rs_t (by omega)]; done)) (by rw [v143_1, hv2]) (by rw [v143_2, hv3]) (by rw [v143_3, hv4]) (by rw [v143_4, hv5]) (by rw [v143_5, hv6]) hI (lv_sub hl [0, 3, 4] rfl)
                · refine lv_iload_n hC.1.1 hC.1.2.1 dX1_divide_72 rfl (lv_at hl 2 rfl) ?_
                  refine lv_aload_n hC.1.1 hC.1.2.1 dX1_divide_73 rfl (lv_at hl 3 rfl) ?_
                  refine c_get_t hC hI dX1_divide_74 ?_
                  refine n_icmp_ge hC.1 (tgt := 116) dX1_divide_77 (by decide) (fun c77 => ?_) (fun c77 => ?_)
                  · refine lv_aload_n hC.1.1 hC.1.2.1 dX1_divide_116 rfl (lv_at hl 3 rfl) ?_
                    refine lv_iload_n hC.1.1 hC.1.2.1 dX1_divide_117 rfl (lv_at hl 0 rfl) ?_
                    refine lv_aload_n hC.1.1 hC.1.2.1 dX1_divide_118 rfl (lv_at hl 3 rfl) ?_
                    refine c_get_root hC hI dX1_divide_119 ?_
                    refine lv_iload_n hC.1.1 hC.1.2.1 dX1_divide_122 rfl (lv_at hl 2 rfl) ?_
                    refine c_ld_root hC hI dX1_divide_123 ?_
                    refine c_calli (rest := []) hC hI (kX1_div l D h q dA kk u43 (u43.2.2.2.2.1 (4 - kk + w + b)) (u43.2.2.2.2.1 w) (by rw [hv6]; first | exact hrt _ | exact x_lt (hrt _) (gm_lt _ _)) (by rw [hv6]; exact hrt _)) lkX1_div hdX1_div ⟨rfl, rfl⟩ ⟨Nat.le_of_ble_eq_true rfl, Nat.le_of_ble_eq_true rfl⟩ rfl hl.1 rfl (Nat.le_of_ble_eq_true rfl) ⟨Nat.le_of_ble_eq_true rfl, Nat.le_of_ble_eq_true rfl⟩ dX1_divide_124 (fun r124 v124 H locs hp124 hI => ?_)
                    obtain ⟨rfl, rfl⟩ := hp124
                    refine lv_istore (lv' := [(4, .int (nI (gd (u43.2.2.2.2.1 (4 - kk + w + b)) (u43.2.2.2.2.1 w)))), (3, .int (nI (u43.2.2.2.2.1 (4 - kk + w + b)))), (2, .int (nI b)), (1, .int (nI w)), (0, .ref h)]) hC.1.1 hC.1.2.1 dX1_divide_127 hl (by decide) rfl (fun ls hl => ?_)
                    refine lv_aload_n hC.1.1 hC.1.2.1 dX1_divide_129 rfl (lv_at hl 4 rfl) ?_
                    refine c_get_found hC hI dX1_divide_130 ?_
                    refine lv_iload_n hC.1.1 hC.1.2.1 dX1_divide_133 rfl (lv_at hl 2 rfl) ?_
                    refine lv_aload_n hC.1.1 hC.1.2.1 dX1_divide_134 rfl (lv_at hl 4 rfl) ?_
                    refine lv_iload hC.1.1 hC.1.2.1 dX1_divide_135 (lv_at hl 0 rfl) ?_
                    refine lv_iconst (v := (nI 5)) hC.1.1 hC.1.2.1 dX1_divide_137 (by decide +kernel) ?_
                    refine lv_iload_n hC.1.1 hC.1.2.1 dX1_divide_138 rfl (lv_at hl 3 rfl) ?_
                    refine n_isub hC.1 dX1_divide_139 ?_
                    refine c_calli (rest := [.int (nI b), .ref (q 9)]) hC hI (kX1_frobenius l D h q dA kk u43 (gd (u43.2.2.2.2.1 (4 - kk + w + b)) (u43.2.2.2.2.1 w)) (5 - w) (gd_lt _ _) (by omega)) lkX1_frobenius hdX1_frobenius ⟨rfl, rfl⟩ ⟨Nat.le_of_ble_eq_true rfl, Nat.le_of_ble_eq_true rfl⟩ rfl hl.1 rfl (Nat.le_of_ble_eq_true rfl) ⟨Nat.le_of_ble_eq_true rfl, Nat.le_of_ble_eq_true rfl⟩ dX1_divide_140 (fun r140 v140 H locs hp140 hI => ?_)
                    obtain ⟨rfl, rfl⟩ := hp140
                    refine c_st_found (x := fr (gd (u43.2.2.2.2.1 (4 - kk + w + b)) (u43.2.2.2.2.1 w)) (5 - w)) hC hI dX1_divide_143 (fun v143 H locs v143_0 v143_1 v143_2 v143_3 v143_4 v143_5 hI => ?_)
                    refine lv_iinc (v := (nI (b + 1))) (lv' := [(2, .int (nI (b + 1))), (4, .int (nI (gd (u43.2.2.2.2.1 (4 - kk + w + b)) (u43.2.2.2.2.1 w)))), (3, .int (nI (u43.2.2.2.2.1 (4 - kk + w + b)))), (1, .int (nI w)), (0, .ref h)]) hC.1.1 hC.1.2.1 dX1_divide_144 hl (k := 2) rfl (ni_inc b) (by decide) rfl (fun ls hl => ?_)
                    refine lv_goto (tgt := 43) hC.1.1 hC.1.2.1 dX1_divide_147 (by decide) ?_
                    exact ih43 (b + 1) v143 _ _ _ (by omega) (by omega) (by rw [v143_0, hv1, hv6]; show _ = up (fdv u.2.2.2.2.1 kk w u.2.2.2.2.2 b) b (fr (gd (rs u.2.2.2.2.1 kk w (fdv u.2.2.2.2.1 kk w u.2.2.2.2.2 b) b) (u.2.2.2.2.1 w)) (5 - w)); first | (rw [rs_f (by omega)]; done) | (rw [rs_t (by omega)]; done)) (by rw [v143_1, hv2]) (by rw [v143_2, hv3]) (by rw [v143_3, hv4]) (by rw [v143_4, hv5]) (by rw [v143_5, hv6]) hI (lv_sub hl [0, 3, 4] rfl)
                  · refine lv_aload_n hC.1.1 hC.1.2.1 dX1_divide_80 rfl (lv_at hl 3 rfl) ?_
                    refine lv_aload_n hC.1.1 hC.1.2.1 dX1_divide_81 rfl (lv_at hl 3 rfl) ?_
                    refine c_get_found hC hI dX1_divide_82 ?_
                    refine lv_iconst (v := (nI 0)) hC.1.1 hC.1.2.1 dX1_divide_85 (by decide +kernel) ?_
                    refine c_ld_found hC hI dX1_divide_86 ?_
                    refine lv_iload_n hC.1.1 hC.1.2.1 dX1_divide_87 rfl (lv_at hl 2 rfl) ?_
                    refine lv_iconst (v := (nI 1)) hC.1.1 hC.1.2.1 dX1_divide_88 (by decide +kernel) ?_
                    refine n_iadd hC.1 dX1_divide_89 ?_
                    refine c_calli (rest := []) hC hI (kX1_frobenius l D h q dA kk u43 (u43.2.2.2.2.2 0) (w + 1) (by rw [hv1]; exact fdv_b32 hfd _ _ _ _) (by omega)) lkX1_frobenius hdX1_frobenius ⟨rfl, rfl⟩ ⟨Nat.le_of_ble_eq_true rfl, Nat.le_of_ble_eq_true rfl⟩ rfl hl.1 rfl (Nat.le_of_ble_eq_true rfl) ⟨Nat.le_of_ble_eq_true rfl, Nat.le_of_ble_eq_true rfl⟩ dX1_divide_90 (fun r90 v90 H locs hp90 hI => ?_)
                    obtain ⟨rfl, rfl⟩ := hp90
                    refine lv_istore (lv' := [(4, .int (nI (fr (u43.2.2.2.2.2 0) (w + 1)))), (3, .int (nI (u43.2.2.2.2.1 (4 - kk + w + b)))), (2, .int (nI b)), (1, .int (nI w)), (0, .ref h)]) hC.1.1 hC.1.2.1 dX1_divide_93 hl (by decide) rfl (fun ls hl => ?_)
                    refine lv_aload_n hC.1.1 hC.1.2.1 dX1_divide_95 rfl (lv_at hl 4 rfl) ?_
                    refine lv_aload_n hC.1.1 hC.1.2.1 dX1_divide_96 rfl (lv_at hl 4 rfl) ?_
                    refine c_get_root hC hI dX1_divide_97 ?_
                    refine lv_iload_n hC.1.1 hC.1.2.1 dX1_divide_100 rfl (lv_at hl 3 rfl) ?_
                    refine lv_iconst (v := (nI 1)) hC.1.1 hC.1.2.1 dX1_divide_101 (by decide +kernel) ?_
                    refine n_iadd hC.1 dX1_divide_102 ?_
                    refine c_ld_root hC hI dX1_divide_103 ?_
                    refine lv_iload hC.1.1 hC.1.2.1 dX1_divide_104 (lv_at hl 0 rfl) ?_
                    refine c_calli (rest := []) hC hI (kX1_mul l D h q dA kk u43 (u43.2.2.2.2.1 (w + 1)) (fr (u43.2.2.2.2.2 0) (w + 1)) (by rw [hv6]; exact hrt _) (fr_lt (by rw [hv1]; exact fdv_b32 hfd _ _ _ _) _)) lkX1_mul hdX1_mul ⟨rfl, rfl⟩ ⟨Nat.le_of_ble_eq_true rfl, Nat.le_of_ble_eq_true rfl⟩ rfl hl.1 rfl (Nat.le_of_ble_eq_true rfl) ⟨Nat.le_of_ble_eq_true rfl, Nat.le_of_ble_eq_true rfl⟩ dX1_divide_106 (fun r106 v106 H locs hp106 hI => ?_)
                    obtain ⟨rfl, rfl⟩ := hp106
                    refine lv_istore (lv' := [(5, .int (nI (gm (u43.2.2.2.2.1 (w + 1)) (fr (u43.2.2.2.2.2 0) (w + 1))))), (4, .int (nI (fr (u43.2.2.2.2.2 0) (w + 1)))), (3, .int (nI (u43.2.2.2.2.1 (4 - kk + w + b)))), (2, .int (nI b)), (1, .int (nI w)), (0, .ref h)]) hC.1.1 hC.1.2.1 dX1_divide_109 hl (by decide) rfl (fun ls hl => ?_)
                    refine lv_iload_n hC.1.1 hC.1.2.1 dX1_divide_111 rfl (lv_at hl 2 rfl) ?_
                    refine lv_iload hC.1.1 hC.1.2.1 dX1_divide_112 (lv_at hl 0 rfl) ?_
                    refine n_ixor hC.1 dX1_divide_114 ?_
                    refine lv_istore_n (lv' := [(3, .int (nI ((u43.2.2.2.2.1 (4 - kk + w + b)) ^^^ (gm (u43.2.2.2.2.1 (w + 1)) (fr (u43.2.2.2.2.2 0) (w + 1)))))), (5, .int (nI (gm (u43.2.2.2.2.1 (w + 1)) (fr (u43.2.2.2.2.2 0) (w + 1))))), (4, .int (nI (fr (u43.2.2.2.2.2 0) (w + 1)))), (2, .int (nI b)), (1, .int (nI w)), (0, .ref h)]) hC.1.1 hC.1.2.1 dX1_divide_115 rfl hl (by decide) rfl (fun ls hl => ?_)
                    refine lv_aload_n hC.1.1 hC.1.2.1 dX1_divide_116 rfl (lv_at hl 5 rfl) ?_
                    refine lv_iload_n hC.1.1 hC.1.2.1 dX1_divide_117 rfl (lv_at hl 0 rfl) ?_
                    refine lv_aload_n hC.1.1 hC.1.2.1 dX1_divide_118 rfl (lv_at hl 5 rfl) ?_
                    refine c_get_root hC hI dX1_divide_119 ?_
                    refine lv_iload_n hC.1.1 hC.1.2.1 dX1_divide_122 rfl (lv_at hl 4 rfl) ?_
                    refine c_ld_root hC hI dX1_divide_123 ?_
                    refine c_calli (rest := []) hC hI (kX1_div l D h q dA kk u43 ((u43.2.2.2.2.1 (4 - kk + w + b)) ^^^ (gm (u43.2.2.2.2.1 (w + 1)) (fr (u43.2.2.2.2.2 0) (w + 1)))) (u43.2.2.2.2.1 w) (by rw [hv6]; first | exact hrt _ | exact x_lt (hrt _) (gm_lt _ _)) (by rw [hv6]; exact hrt _)) lkX1_div hdX1_div ⟨rfl, rfl⟩ ⟨Nat.le_of_ble_eq_true rfl, Nat.le_of_ble_eq_true rfl⟩ rfl hl.1 rfl (Nat.le_of_ble_eq_true rfl) ⟨Nat.le_of_ble_eq_true rfl, Nat.le_of_ble_eq_true rfl⟩ dX1_divide_124 (fun r124 v124 H locs hp124 hI => ?_)
                    obtain ⟨rfl, rfl⟩ := hp124
                    refine lv_istore (lv' := [(4, .int (nI (gd ((u43.2.2.2.2.1 (4 - kk + w + b)) ^^^ (gm (u43.2.2.2.2.1 (w + 1)) (fr (u43.2.2.2.2.2 0) (w + 1)))) (u43.2.2.2.2.1 w)))), (3, .int (nI ((u43.2.2.2.2.1 (4 - kk + w + b)) ^^^ (gm (u43.2.2.2.2.1 (w + 1)) (fr (u43.2.2.2.2.2 0) (w + 1)))))), (5, .int (nI (gm (u43.2.2.2.2.1 (w + 1)) (fr (u43.2.2.2.2.2 0) (w + 1))))), (2, .int (nI b)), (1, .int (nI w)), (0, .ref h)]) hC.1.1 hC.1.2.1 dX1_divide_127 hl (by decide) rfl (fun ls hl => ?_)
                    refine lv_aload_n hC.1.1 hC.1.2.1 dX1_divide_129 rfl (lv_at hl 5 rfl) ?_
                    refine c_get_found hC hI dX1_divide_130 ?_
                    refine lv_iload_n hC.1.1 hC.1.2.1 dX1_divide_133 rfl (lv_at hl 3 rfl) ?_
                    refine lv_aload_n hC.1.1 hC.1.2.1 dX1_divide_134 rfl (lv_at hl 5 rfl) ?_
                    refine lv_iload hC.1.1 hC.1.2.1 dX1_divide_135 (lv_at hl 0 rfl) ?_
                    refine lv_iconst (v := (nI 5)) hC.1.1 hC.1.2.1 dX1_divide_137 (by decide +kernel) ?_
                    refine lv_iload_n hC.1.1 hC.1.2.1 dX1_divide_138 rfl (lv_at hl 4 rfl) ?_
                    refine n_isub hC.1 dX1_divide_139 ?_
                    refine c_calli (rest := [.int (nI b), .ref (q 9)]) hC hI (kX1_frobenius l D h q dA kk u43 (gd ((u43.2.2.2.2.1 (4 - kk + w + b)) ^^^ (gm (u43.2.2.2.2.1 (w + 1)) (fr (u43.2.2.2.2.2 0) (w + 1)))) (u43.2.2.2.2.1 w)) (5 - w) (gd_lt _ _) (by omega)) lkX1_frobenius hdX1_frobenius ⟨rfl, rfl⟩ ⟨Nat.le_of_ble_eq_true rfl, Nat.le_of_ble_eq_true rfl⟩ rfl hl.1 rfl (Nat.le_of_ble_eq_true rfl) ⟨Nat.le_of_ble_eq_true rfl, Nat.le_of_ble_eq_true rfl⟩ dX1_divide_140 (fun r140 v140 H locs hp140 hI => ?_)
                    obtain ⟨rfl, rfl⟩ := hp140
                    refine c_st_found (x := fr (gd ((u43.2.2.2.2.1 (4 - kk + w + b)) ^^^ (gm (u43.2.2.2.2.1 (w + 1)) (fr (u43.2.2.2.2.2 0) (w + 1)))) (u43.2.2.2.2.1 w)) (5 - w)) hC hI dX1_divide_143 (fun v143 H locs v143_0 v143_1 v143_2 v143_3 v143_4 v143_5 hI => ?_)
                    refine lv_iinc (v := (nI (b + 1))) (lv' := [(2, .int (nI (b + 1))), (4, .int (nI (gd ((u43.2.2.2.2.1 (4 - kk + w + b)) ^^^ (gm (u43.2.2.2.2.1 (w + 1)) (fr (u43.2.2.2.2.2 0) (w + 1)))) (u43.2.2.2.2.1 w)))), (3, .int (nI ((u43.2.2.2.2.1 (4 - kk + w + b)) ^^^ (gm (u43.2.2.2.2.1 (w + 1)) (fr (u43.2.2.2.2.2 0) (w + 1)))))), (5, .int (nI (gm (u43.2.2.2.2.1 (w + 1)) (fr (u43.2.2.2.2.2 0) (w + 1))))), (1, .int (nI w)), (0, .ref h)]) hC.1.1 hC.1.2.1 dX1_divide_144 hl (k := 3) rfl (ni_inc b) (by decide) rfl (fun ls hl => ?_)
                    refine lv_goto (tgt := 43) hC.1.1 hC.1.2.1 dX1_divide_147 (by decide) ?_
                    exact ih43 (b + 1) v143 _ _ _ (by omega) (by omega) (by rw [v143_0, hv1, hv6]; show _ = up (fdv u.2.2.2.2.1 kk w u.2.2.2.2.2 b) b (fr (gd (rs u.2.2.2.2.1 kk w (fdv u.2.2.2.2.1 kk w u.2.2.2.2.2 b) b) (u.2.2.2.2.1 w)) (5 - w)); first | (rw [rs_f (by omega)]; done) | (rw [rs_t (by omega)]; done)) (by rw [v143_1, hv2]) (by rw [v143_2, hv3]) (by rw [v143_3, hv4]) (by rw [v143_4, hv5]) (by rw [v143_5, hv6]) hI (lv_sub hl [0, 4, 5] rfl)
          exact lp43 (3) 0 v40 _ _ _ (by omega) (by omega) v40_0 v40_1 v40_2 v40_3 v40_4 v40_5 hI (lv_sub hl [0, 1, 2] rfl)
        · refine lv_iconst (v := (nI 0)) hC.1.1 hC.1.2.1 dX1_divide_32 (by decide +kernel) ?_
          exact hret _ _ _ _ _ _ dX1_divide_33 rfl (Or.inl ⟨by rw [c8] at ha; exact ha.symm.trans c29, rfl, rfl⟩) hI
      · obtain ⟨j1, rfl⟩ : ∃ z, j = z + 1 := ⟨j - 1, by omega⟩
        have hl : lv_has ls 6 [(2, .int (nI j1)), (1, .int (pI a)), (0, .ref h)] := hl
        refine lv_aload_n hC.1.1 hC.1.2.1 dX1_divide_11 rfl (lv_at hl 2 rfl) ?_
        refine c_get_root hC hI dX1_divide_12 ?_
        refine lv_iload_n hC.1.1 hC.1.2.1 dX1_divide_15 rfl (lv_at hl 0 rfl) ?_
        refine c_ld_root hC hI dX1_divide_16 ?_
        refine n_if_eq hC.1 (tgt := 22) dX1_divide_17 (by decide) (fun c17 => ?_) (fun c17 => ?_) (Nat.lt_trans (hrt _) (by decide))
        · refine lv_iinc (v := (pI j1)) (lv' := [(2, .int (pI j1)), (1, .int (pI a)), (0, .ref h)]) hC.1.1 hC.1.2.1 dX1_divide_22 hl (k := 0) rfl (pi_dec j1) (by decide) rfl (fun ls hl => ?_)
          refine lv_goto (tgt := 7) hC.1.1 hC.1.2.1 dX1_divide_25 (by decide) ?_
          exact ih7 j1 a  _ _ _ (by omega) (by omega) (by first | exact (lo_tn (P := rP u.2.2.2.2.1) (by unfold rP; rw [decide_eq_false c17]; rfl) (by omega)).symm | (rw [ha]; exact (lo_fn (P := rP u.2.2.2.2.1) (by unfold rP; rw [decide_eq_true c17]; decide) (by omega)).symm)) hI (lv_sub hl [0, 1, 2] rfl)
        · refine lv_iload_n hC.1.1 hC.1.2.1 dX1_divide_20 rfl (lv_at hl 0 rfl) ?_
          refine lv_istore_n (lv' := [(1, .int (nI j1)), (2, .int (nI j1)), (0, .ref h)]) hC.1.1 hC.1.2.1 dX1_divide_21 rfl hl (by decide) rfl (fun ls hl => ?_)
          refine lv_iinc (v := (pI j1)) (lv' := [(2, .int (pI j1)), (1, .int (nI j1)), (0, .ref h)]) hC.1.1 hC.1.2.1 dX1_divide_22 hl (k := 1) rfl (pi_dec j1) (by decide) rfl (fun ls hl => ?_)
          refine lv_goto (tgt := 7) hC.1.1 hC.1.2.1 dX1_divide_25 (by decide) ?_
          exact ih7 j1 (j1 + 1)  _ _ _ (by omega) (by omega) (by first | exact (lo_tn (P := rP u.2.2.2.2.1) (by unfold rP; rw [decide_eq_false c17]; rfl) (by omega)).symm | (rw [ha]; exact (lo_fn (P := rP u.2.2.2.2.1) (by unfold rP; rw [decide_eq_true c17]; decide) (by omega)).symm)) hI (lv_sub hl [0, 1, 2] rfl)
  exact lp7 (6) ((3 - kk) + 1) 0  _ _ _ (by omega) (by omega) (by rw [show 4 - kk - (3 - kk + 1) = 0 by omega]; rfl) hI (lv_sub hl [0, 1, 2] rfl)
abbrev rmX1_subspaces : Room := { frames := 0, cells := 0, slots := 0, locals := 0 }
theorem hdX1_subspaces : yX1_subspaces.cls = RX1 ∧ yX1_subspaces.cls ≠ "java/lang/invoke/MethodHandle" ∧ yX1_subspaces.cls ≠ "java/lang/invoke/VarHandle" ∧ (parseMethodDescriptor yX1_subspaces.desc).map (fun d => d.parameters.length) = some 2 := by decide +kernel
theorem lkX1_subspaces : GoodIn lw_all (wsV RX1 118 RX1 yX1_subspaces (ws_ yX1_subspaces cX1_subspaces 6 (some .int))) := lw_V q206 q208 qs18 q28 q209
set_option maxHeartbeats 4000000 in
set_option maxRecDepth 100000 in
/-- subspaces -/
theorem kX1_subspaces (l : Launch) (D : va_G) (h : Nat) (q : Nat → Nat) (dA : ClassId) (kk : Nat) (u : CS) (a b : Nat) (ha : a < 6) (hb : b ≤ a) : cMi l yX1_subspaces (ws_ yX1_subspaces cX1_subspaces 6 (some .int)) rmX1_subspaces D h q dA kk [.int (nI a), .int (nI b)] u (fun r u' => r = nI (sb a b) ∧ u = u') := by
  refine cMi_of (lv := [(0, .ref h), (1, .int (nI a)), (2, .int (nI b))]) (by decide) rfl (Nat.le_of_ble_eq_true rfl) rfl ?_
  intro p e s m args below meth c A Q ls hC hI hl hret
  refine lv_iconst (v := (nI 1)) hC.1.1 hC.1.2.1 dX1_subspaces_0 (by decide +kernel) ?_
  refine lv_istore_n (lv' := [(3, .int (nI 1)), (0, .ref h), (1, .int (nI a)), (2, .int (nI b))]) hC.1.1 hC.1.2.1 dX1_subspaces_1 rfl hl (by decide) rfl (fun ls hl => ?_)
  refine lv_iconst (v := (nI 1)) hC.1.1 hC.1.2.1 dX1_subspaces_2 (by decide +kernel) ?_
  refine lv_istore (lv' := [(4, .int (nI 1)), (3, .int (nI 1)), (0, .ref h), (1, .int (nI a)), (2, .int (nI b))]) hC.1.1 hC.1.2.1 dX1_subspaces_3 hl (by decide) rfl (fun ls hl => ?_)
  refine lv_iconst (v := (nI 0)) hC.1.1 hC.1.2.1 dX1_subspaces_5 (by decide +kernel) ?_
  refine lv_istore (lv' := [(5, .int (nI 0)), (4, .int (nI 1)), (3, .int (nI 1)), (0, .ref h), (1, .int (nI a)), (2, .int (nI b))]) hC.1.1 hC.1.2.1 dX1_subspaces_6 hl (by decide) rfl (fun ls hl => ?_)
  have lp8 : ∀ (n : Nat) (i : Nat) (x : Nat) (y : Nat) (H : Heap) (locs : List Loc) (ls : Array Slot), i ≤ b → b < i + n → x = upP a i → y = dnP i → cI D h q dA kk A s.heap u H locs → lv_has ls 6 [(5, .int (nI i)), (3, .int (nI x)), (4, .int (nI y)), (0, .ref h), (1, .int (nI a)), (2, .int (nI b))] → W p l e rmX1_subspaces s m args below meth c H locs 0 0 Q (F0 m 8 ls []) := by
    intro n
    induction n with
    | zero => intro i x y  H locs ls hi hn hx hy; exfalso; omega
    | succ n ih =>
      intro i x y  H locs ls hi hn hx hy hI hl
      have ih8 := ih
      clear ih
      refine lv_iload hC.1.1 hC.1.2.1 dX1_subspaces_8 (lv_at hl 0 rfl) ?_
      refine lv_iload_n hC.1.1 hC.1.2.1 dX1_subspaces_10 rfl (lv_at hl 5 rfl) ?_
      refine n_icmp_ge hC.1 (tgt := 44) dX1_subspaces_11 (by decide) (fun c11 => ?_) (fun c11 => ?_)
      · have hd := dnP_lt i (by omega)
        have hu := upP_lt a ha i (by omega)
        rw [← hy] at hd
        rw [← hx] at hu
        refine lv_iload hC.1.1 hC.1.2.1 dX1_subspaces_44 (lv_at hl 2 rfl) ?_
        refine lv_if_le hC.1.1 hC.1.2.1 (tgt := 56) dX1_subspaces_46 (by decide) (fun c46 => ?_) (fun c46 => ?_)
        · exact absurd c46 (nI_nle hd.2 hd.1)
        · refine lv_iload_n hC.1.1 hC.1.2.1 dX1_subspaces_49 rfl (lv_at hl 1 rfl) ?_
          refine lv_iload hC.1.1 hC.1.2.1 dX1_subspaces_50 (lv_at hl 2 rfl) ?_
          refine lv_idiv hC.1.1 hC.1.2.1 dX1_subspaces_52 (nI_ne0 hd.2 hd.1) ?_
          refine n_top (y := (nI (x / y))) (pk_div hu hd.2 hd.1) ?_
          refine lv_goto (tgt := 57) hC.1.1 hC.1.2.1 dX1_subspaces_53 (by decide) ?_
          exact hret _ _ _ _ _ _ dX1_subspaces_57 rfl ⟨by rw [hx, hy, show i = b by omega]; rfl, rfl⟩ hI
      · refine lv_iload_n hC.1.1 hC.1.2.1 dX1_subspaces_14 rfl (lv_at hl 1 rfl) ?_
        refine lv_iconst (v := (nI 1)) hC.1.1 hC.1.2.1 dX1_subspaces_15 (by decide +kernel) ?_
        refine lv_iload_n hC.1.1 hC.1.2.1 dX1_subspaces_16 rfl (lv_at hl 4 rfl) ?_
        refine lv_iload hC.1.1 hC.1.2.1 dX1_subspaces_17 (lv_at hl 0 rfl) ?_
        refine n_isub hC.1 dX1_subspaces_19 ?_
        refine n_ishl1 hC.1 dX1_subspaces_20 ?_
        refine lv_iconst (v := (nI 1)) hC.1.1 hC.1.2.1 dX1_subspaces_21 (by decide +kernel) ?_
        refine n_isub hC.1 dX1_subspaces_22 ?_ Nat.one_le_two_pow
        refine n_imul hC.1 dX1_subspaces_23 ?_
        refine lv_istore_n (lv' := [(3, .int (nI (x * ((2 ^ (a - i)) - 1)))), (5, .int (nI i)), (4, .int (nI y)), (0, .ref h), (1, .int (nI a)), (2, .int (nI b))]) hC.1.1 hC.1.2.1 dX1_subspaces_24 rfl hl (by decide) rfl (fun ls hl => ?_)
        refine lv_iload hC.1.1 hC.1.2.1 dX1_subspaces_25 (lv_at hl 2 rfl) ?_
        refine lv_iconst (v := (nI 1)) hC.1.1 hC.1.2.1 dX1_subspaces_27 (by decide +kernel) ?_
        refine lv_iload hC.1.1 hC.1.2.1 dX1_subspaces_28 (lv_at hl 1 rfl) ?_
        refine lv_iconst (v := (nI 1)) hC.1.1 hC.1.2.1 dX1_subspaces_30 (by decide +kernel) ?_
        refine n_iadd hC.1 dX1_subspaces_31 ?_
        refine n_ishl1 hC.1 dX1_subspaces_32 ?_
        refine lv_iconst (v := (nI 1)) hC.1.1 hC.1.2.1 dX1_subspaces_33 (by decide +kernel) ?_
        refine n_isub hC.1 dX1_subspaces_34 ?_ Nat.one_le_two_pow
        refine n_imul hC.1 dX1_subspaces_35 ?_
        refine lv_istore (lv' := [(4, .int (nI (y * ((2 ^ (i + 1)) - 1)))), (3, .int (nI (x * ((2 ^ (a - i)) - 1)))), (5, .int (nI i)), (0, .ref h), (1, .int (nI a)), (2, .int (nI b))]) hC.1.1 hC.1.2.1 dX1_subspaces_36 hl (by decide) rfl (fun ls hl => ?_)
        refine lv_iinc (v := (nI (i + 1))) (lv' := [(5, .int (nI (i + 1))), (4, .int (nI (y * ((2 ^ (i + 1)) - 1)))), (3, .int (nI (x * ((2 ^ (a - i)) - 1)))), (0, .ref h), (1, .int (nI a)), (2, .int (nI b))]) hC.1.1 hC.1.2.1 dX1_subspaces_38 hl (k := 2) rfl (ni_inc i) (by decide) rfl (fun ls hl => ?_)
        refine lv_goto (tgt := 8) hC.1.1 hC.1.2.1 dX1_subspaces_41 (by decide) ?_
        exact ih8 (i + 1) (x * ((2 ^ (a - i)) - 1)) (y * ((2 ^ (i + 1)) - 1))  _ _ _ (by omega) (by omega) (by rw [hx]; rfl) (by rw [hy]; rfl) hI (lv_sub hl [0, 2, 1, 3, 4, 5] rfl)
  exact lp8 (b + 1) 0 1 1  _ _ _ (by omega) (by omega) rfl rfl hI (lv_sub hl [0, 2, 1, 3, 4, 5] rfl)
abbrev rmX1_census : Room := { frames := 1, cells := 0, slots := 0, locals := 25 }
theorem hdX1_census : yX1_census.cls = RX1 ∧ yX1_census.cls ≠ "java/lang/invoke/MethodHandle" ∧ yX1_census.cls ≠ "java/lang/invoke/VarHandle" ∧ (parseMethodDescriptor yX1_census.desc).map (fun d => d.parameters.length) = some 1 := by decide +kernel
set_option maxHeartbeats 4000000 in
set_option maxRecDepth 100000 in
/-- census -/
theorem kX1_census (l : Launch) (D : va_G) (h : Nat) (q : Nat → Nat) (dA : ClassId) (kk : Nat) (u : CS) (x : Int32) (hk : kk = 1 ∨ kk = 2) : cMi l yX1_census (ws_ yX1_census cX1_census 8 (some .int)) rmX1_census D h q dA kk [.int x] u (fun r u' => r = sCen kk x ∧ u = u') := by
  refine cMi_of (lv := [(0, .ref h), (1, .int x)]) (by decide) rfl (Nat.le_of_ble_eq_true rfl) rfl ?_
  intro p e s m args below meth c A Q ls hC hI hl hret
  refine lv_iload_n hC.1.1 hC.1.2.1 dX1_census_0 rfl (lv_at hl 1 rfl) ?_
  refine lv_if_lt hC.1.1 hC.1.2.1 (tgt := 9) dX1_census_1 (by decide) (fun c1 => ?_) (fun c1 => ?_)
  · refine lv_iconst (v := (nI 0)) hC.1.1 hC.1.2.1 dX1_census_9 (by decide +kernel) ?_
    exact hret _ _ _ _ _ _ dX1_census_10 rfl ⟨by unfold sCen o5; first | (rw [decide_eq_true c1]; rfl) | (rw [decide_eq_false c6, Bool.not_false, Bool.or_true]; rfl), rfl⟩ hI
  · refine lv_iload_n hC.1.1 hC.1.2.1 dX1_census_4 rfl (lv_at hl 1 rfl) ?_
    refine lv_iconst (v := (nI 5)) hC.1.1 hC.1.2.1 dX1_census_5 (by decide +kernel) ?_
    refine lv_icmp_le hC.1.1 hC.1.2.1 (tgt := 11) dX1_census_6 (by decide) (fun c6 => ?_) (fun c6 => ?_)
    · obtain ⟨j, hj, rfl⟩ := nI_of2 (M := nI 5) (n := 5) (by decide +kernel) c1 c6
      refine lv_iload_n hC.1.1 hC.1.2.1 dX1_census_11 rfl (lv_at hl 1 rfl) ?_
      refine n_if_ne hC.1 (tgt := 17) dX1_census_12 (by decide) (fun c12 => ?_) (fun c12 => ?_)
      · refine lv_bipush (v := (nI 6)) hC.1.1 hC.1.2.1 dX1_census_17 (by decide +kernel) ?_
        refine lv_aload_n hC.1.1 hC.1.2.1 dX1_census_19 rfl (lv_at hl 0 rfl) ?_
        refine c_get_k hC hI dX1_census_20 ?_
        refine n_isub hC.1 dX1_census_23 ?_
        refine lv_istore_n (lv' := [(2, .int (nI (6 - kk))), (0, .ref h), (1, .int (nI j))]) hC.1.1 hC.1.2.1 dX1_census_24 rfl hl (by decide) rfl (fun ls hl => ?_)
        refine lv_iconst (v := (nI 0)) hC.1.1 hC.1.2.1 dX1_census_25 (by decide +kernel) ?_
        refine lv_istore_n (lv' := [(3, .int (nI 0)), (2, .int (nI (6 - kk))), (0, .ref h), (1, .int (nI j))]) hC.1.1 hC.1.2.1 dX1_census_26 rfl hl (by decide) rfl (fun ls hl => ?_)
        refine lv_iload_n hC.1.1 hC.1.2.1 dX1_census_27 rfl (lv_at hl 1 rfl) ?_
        refine lv_istore (lv' := [(4, .int (nI (6 - kk))), (3, .int (nI 0)), (2, .int (nI (6 - kk))), (0, .ref h), (1, .int (nI j))]) hC.1.1 hC.1.2.1 dX1_census_28 hl (by decide) rfl (fun ls hl => ?_)
        have lp30 : ∀ (n : Nat) (v : Nat) (sm : Int32) (H : Heap) (locs : List Loc) (ls : Array Slot), 6 - kk ≤ v → 7 < v + n → v ≤ j + 1 ∨ v = 6 - kk → sm = smF kk j (v - (6 - kk)) → cI D h q dA kk A s.heap u H locs → lv_has ls 8 [(4, .int (nI v)), (3, .int sm), (0, .ref h), (1, .int (nI j)), (2, .int (nI (6 - kk)))] → W p l e rmX1_census s m args below meth c H locs 0 0 Q (F0 m 30 ls []) := by
          intro n
          induction n with
          | zero => intro v sm  H locs ls hv hn hv2 hs; exfalso; omega
          | succ n ih =>
            intro v sm  H locs ls hv hn hv2 hs hI hl
            have ih30 := ih
            clear ih
            refine lv_iload hC.1.1 hC.1.2.1 dX1_census_30 (lv_at hl 0 rfl) ?_
            refine lv_iload_n hC.1.1 hC.1.2.1 dX1_census_32 rfl (lv_at hl 3 rfl) ?_
            refine n_icmp_gt hC.1 (tgt := 103) dX1_census_33 (by decide) (fun c33 => ?_) (fun c33 => ?_)
            · refine lv_aload_n hC.1.1 hC.1.2.1 dX1_census_103 rfl (lv_at hl 2 rfl) ?_
              refine lv_iconst (v := (nI 5)) hC.1.1 hC.1.2.1 dX1_census_104 (by decide +kernel) ?_
              refine lv_iload_n hC.1.1 hC.1.2.1 dX1_census_105 rfl (lv_at hl 3 rfl) ?_
              refine c_calli (rest := []) hC hI (kX1_subspaces l D h q dA kk u 5 j (by omega) (by omega)) lkX1_subspaces hdX1_subspaces ⟨rfl, rfl⟩ ⟨Nat.le_of_ble_eq_true rfl, Nat.le_of_ble_eq_true rfl⟩ rfl hl.1 rfl (Nat.le_of_ble_eq_true rfl) ⟨Nat.le_of_ble_eq_true rfl, Nat.le_of_ble_eq_true rfl⟩ dX1_census_106 (fun r106 v106 H locs hp106 hI => ?_)
              obtain ⟨rfl, rfl⟩ := hp106
              refine lv_istore (lv' := [(4, .int (nI (sb 5 j))), (3, .int sm), (0, .ref h), (1, .int (nI j)), (2, .int (nI (6 - kk)))]) hC.1.1 hC.1.2.1 dX1_census_109 hl (by decide) rfl (fun ls hl => ?_)
              refine lv_iload hC.1.1 hC.1.2.1 dX1_census_111 (lv_at hl 0 rfl) ?_
              refine lv_iload_n hC.1.1 hC.1.2.1 dX1_census_113 rfl (lv_at hl 1 rfl) ?_
              refine lv_imul hC.1.1 hC.1.2.1 dX1_census_114 ?_
              exact hret _ _ _ _ _ _ dX1_census_115 rfl ⟨by rw [sCen_n (by omega)]; unfold cenN; rw [if_neg c12, hs, show j + 1 - (6 - kk) = v - (6 - kk) by omega], rfl⟩ hI
            · refine lv_iload_n hC.1.1 hC.1.2.1 dX1_census_36 rfl (lv_at hl 3 rfl) ?_
              refine lv_iload hC.1.1 hC.1.2.1 dX1_census_37 (lv_at hl 0 rfl) ?_
              refine n_isub hC.1 dX1_census_39 ?_
              refine lv_istore (lv' := [(5, .int (nI (j - v))), (4, .int (nI v)), (3, .int sm), (0, .ref h), (1, .int (nI j)), (2, .int (nI (6 - kk)))]) hC.1.1 hC.1.2.1 dX1_census_40 hl (by decide) rfl (fun ls hl => ?_)
              refine lv_aload_n hC.1.1 hC.1.2.1 dX1_census_42 rfl (lv_at hl 3 rfl) ?_
              refine lv_iload_n hC.1.1 hC.1.2.1 dX1_census_43 rfl (lv_at hl 4 rfl) ?_
              refine lv_iload hC.1.1 hC.1.2.1 dX1_census_44 (lv_at hl 1 rfl) ?_
              refine c_calli (rest := []) hC hI (kX1_subspaces l D h q dA kk u j v (by omega) (by omega)) lkX1_subspaces hdX1_subspaces ⟨rfl, rfl⟩ ⟨Nat.le_of_ble_eq_true rfl, Nat.le_of_ble_eq_true rfl⟩ rfl hl.1 rfl (Nat.le_of_ble_eq_true rfl) ⟨Nat.le_of_ble_eq_true rfl, Nat.le_of_ble_eq_true rfl⟩ dX1_census_46 (fun r46 v46 H locs hp46 hI => ?_)
              obtain ⟨rfl, rfl⟩ := hp46
              refine lv_istore (lv' := [(6, .int (nI (sb j v))), (5, .int (nI (j - v))), (4, .int (nI v)), (3, .int sm), (0, .ref h), (1, .int (nI j)), (2, .int (nI (6 - kk)))]) hC.1.1 hC.1.2.1 dX1_census_49 hl (by decide) rfl (fun ls hl => ?_)
              refine lv_iload hC.1.1 hC.1.2.1 dX1_census_51 (lv_at hl 0 rfl) ?_
              refine lv_iconst (v := (nI 1)) hC.1.1 hC.1.2.1 dX1_census_53 (by decide +kernel) ?_
              refine lv_iconst (v := (nI 5)) hC.1.1 hC.1.2.1 dX1_census_54 (by decide +kernel) ?_
              refine lv_iload hC.1.1 hC.1.2.1 dX1_census_55 (lv_at hl 2 rfl) ?_
              refine lv_iload_n hC.1.1 hC.1.2.1 dX1_census_57 rfl (lv_at hl 6 rfl) ?_
              refine n_isub hC.1 dX1_census_58 ?_
              refine lv_iconst (v := (nI 1)) hC.1.1 hC.1.2.1 dX1_census_59 (by decide +kernel) ?_
              refine n_iadd hC.1 dX1_census_60 ?_
              refine n_imul hC.1 dX1_census_61 ?_
              refine n_ishl1 hC.1 dX1_census_62 ?_
              refine lv_iconst (v := (nI 1)) hC.1.1 hC.1.2.1 dX1_census_63 (by decide +kernel) ?_
              refine n_isub hC.1 dX1_census_64 ?_ Nat.one_le_two_pow
              refine n_imul hC.1 dX1_census_65 ?_
              refine lv_iload hC.1.1 hC.1.2.1 dX1_census_66 (lv_at hl 1 rfl) ?_
              refine lv_iload hC.1.1 hC.1.2.1 dX1_census_68 (lv_at hl 1 rfl) ?_
              refine lv_iconst (v := (nI 1)) hC.1.1 hC.1.2.1 dX1_census_70 (by decide +kernel) ?_
              refine lv_isub hC.1.1 hC.1.2.1 dX1_census_71 ?_
              refine lv_imul hC.1.1 hC.1.2.1 dX1_census_72 ?_
              refine lv_iconst (v := (nI 2)) hC.1.1 hC.1.2.1 dX1_census_73 (by decide +kernel) ?_
              refine lv_idiv hC.1.1 hC.1.2.1 dX1_census_74 (by decide +kernel) ?_
              refine lv_ishl hC.1.1 hC.1.2.1 dX1_census_75 ?_
              refine lv_istore (lv' := [(7, .int (((nI ((sb j v) * ((2 ^ (5 * ((v - (6 - kk)) + 1))) - 1)))) <<< (((((((nI (j - v))) * ((((nI (j - v))) - ((nI 1)))))) / ((nI 2)))) &&& 31))), (6, .int (nI (sb j v))), (5, .int (nI (j - v))), (4, .int (nI v)), (3, .int sm), (0, .ref h), (1, .int (nI j)), (2, .int (nI (6 - kk)))]) hC.1.1 hC.1.2.1 dX1_census_76 hl (by decide) rfl (fun ls hl => ?_)
              refine lv_iload hC.1.1 hC.1.2.1 dX1_census_78 (lv_at hl 2 rfl) ?_
              refine lv_iconst (v := (nI 1)) hC.1.1 hC.1.2.1 dX1_census_80 (by decide +kernel) ?_
              refine n_iand hC.1 dX1_census_81 ?_
              refine n_if_ne hC.1 (tgt := 92) dX1_census_82 (by decide) (fun c82 => ?_) (fun c82 => ?_) (Nat.lt_of_le_of_lt Nat.and_le_right (by decide))
              · refine lv_iload_n hC.1.1 hC.1.2.1 dX1_census_92 rfl (lv_at hl 4 rfl) ?_
                refine lv_iload hC.1.1 hC.1.2.1 dX1_census_93 (lv_at hl 0 rfl) ?_
                refine lv_isub hC.1.1 hC.1.2.1 dX1_census_95 ?_
                refine lv_istore_n (lv' := [(3, .int (sm - ((((nI ((sb j v) * ((2 ^ (5 * ((v - (6 - kk)) + 1))) - 1)))) <<< (((((((nI (j - v))) * ((((nI (j - v))) - ((nI 1)))))) / ((nI 2)))) &&& 31))))), (7, .int (((nI ((sb j v) * ((2 ^ (5 * ((v - (6 - kk)) + 1))) - 1)))) <<< (((((((nI (j - v))) * ((((nI (j - v))) - ((nI 1)))))) / ((nI 2)))) &&& 31))), (6, .int (nI (sb j v))), (5, .int (nI (j - v))), (4, .int (nI v)), (0, .ref h), (1, .int (nI j)), (2, .int (nI (6 - kk)))]) hC.1.1 hC.1.2.1 dX1_census_96 rfl hl (by decide) rfl (fun ls hl => ?_)
                refine lv_iinc (v := (nI (v + 1))) (lv' := [(4, .int (nI (v + 1))), (3, .int (sm - ((((nI ((sb j v) * ((2 ^ (5 * ((v - (6 - kk)) + 1))) - 1)))) <<< (((((((nI (j - v))) * ((((nI (j - v))) - ((nI 1)))))) / ((nI 2)))) &&& 31))))), (7, .int (((nI ((sb j v) * ((2 ^ (5 * ((v - (6 - kk)) + 1))) - 1)))) <<< (((((((nI (j - v))) * ((((nI (j - v))) - ((nI 1)))))) / ((nI 2)))) &&& 31))), (6, .int (nI (sb j v))), (5, .int (nI (j - v))), (0, .ref h), (1, .int (nI j)), (2, .int (nI (6 - kk)))]) hC.1.1 hC.1.2.1 dX1_census_97 hl (k := 4) rfl (ni_inc v) (by decide) rfl (fun ls hl => ?_)
                refine lv_goto (tgt := 30) hC.1.1 hC.1.2.1 dX1_census_100 (by decide) ?_
                exact ih30 (v + 1) (sm - ((((nI ((sb j v) * ((2 ^ (5 * ((v - (6 - kk)) + 1))) - 1)))) <<< (((((((nI (j - v))) * ((((nI (j - v))) - ((nI 1)))))) / ((nI 2)))) &&& 31))))  _ _ _ (by omega) (by omega) (by omega) (by rw [smF_s hv, hs]; first | (rw [if_pos c82]; rfl) | (rw [if_neg c82]; rfl)) hI (lv_sub hl [0, 1, 5, 6, 7] rfl)
              · refine lv_iload_n hC.1.1 hC.1.2.1 dX1_census_85 rfl (lv_at hl 4 rfl) ?_
                refine lv_iload hC.1.1 hC.1.2.1 dX1_census_86 (lv_at hl 0 rfl) ?_
                refine lv_iadd hC.1.1 hC.1.2.1 dX1_census_88 ?_
                refine lv_goto (tgt := 96) hC.1.1 hC.1.2.1 dX1_census_89 (by decide) ?_
                refine lv_istore_n (lv' := [(3, .int (sm + ((((nI ((sb j v) * ((2 ^ (5 * ((v - (6 - kk)) + 1))) - 1)))) <<< (((((((nI (j - v))) * ((((nI (j - v))) - ((nI 1)))))) / ((nI 2)))) &&& 31))))), (7, .int (((nI ((sb j v) * ((2 ^ (5 * ((v - (6 - kk)) + 1))) - 1)))) <<< (((((((nI (j - v))) * ((((nI (j - v))) - ((nI 1)))))) / ((nI 2)))) &&& 31))), (6, .int (nI (sb j v))), (5, .int (nI (j - v))), (4, .int (nI v)), (0, .ref h), (1, .int (nI j)), (2, .int (nI (6 - kk)))]) hC.1.1 hC.1.2.1 dX1_census_96 rfl hl (by decide) rfl (fun ls hl => ?_)
                refine lv_iinc (v := (nI (v + 1))) (lv' := [(4, .int (nI (v + 1))), (3, .int (sm + ((((nI ((sb j v) * ((2 ^ (5 * ((v - (6 - kk)) + 1))) - 1)))) <<< (((((((nI (j - v))) * ((((nI (j - v))) - ((nI 1)))))) / ((nI 2)))) &&& 31))))), (7, .int (((nI ((sb j v) * ((2 ^ (5 * ((v - (6 - kk)) + 1))) - 1)))) <<< (((((((nI (j - v))) * ((((nI (j - v))) - ((nI 1)))))) / ((nI 2)))) &&& 31))), (6, .int (nI (sb j v))), (5, .int (nI (j - v))), (0, .ref h), (1, .int (nI j)), (2, .int (nI (6 - kk)))]) hC.1.1 hC.1.2.1 dX1_census_97 hl (k := 4) rfl (ni_inc v) (by decide) rfl (fun ls hl => ?_)
                refine lv_goto (tgt := 30) hC.1.1 hC.1.2.1 dX1_census_100 (by decide) ?_
                exact ih30 (v + 1) (sm + ((((nI ((sb j v) * ((2 ^ (5 * ((v - (6 - kk)) + 1))) - 1)))) <<< (((((((nI (j - v))) * ((((nI (j - v))) - ((nI 1)))))) / ((nI 2)))) &&& 31))))  _ _ _ (by omega) (by omega) (by omega) (by rw [smF_s hv, hs]; first | (rw [if_pos c82]; rfl) | (rw [if_neg c82]; rfl)) hI (lv_sub hl [0, 1, 5, 6, 7] rfl)
        exact lp30 (8) (6 - kk) (nI 0)  _ _ _ (Nat.le_refl _) (by omega) (Or.inr rfl) (by rw [Nat.sub_self]; rfl) hI (lv_sub hl [0, 1, 3, 4, 2] rfl)
      · refine lv_iconst (v := (nI 1)) hC.1.1 hC.1.2.1 dX1_census_15 (by decide +kernel) ?_
        exact hret _ _ _ _ _ _ dX1_census_16 rfl ⟨by rw [sCen_n (by omega)]; unfold cenN; rw [if_pos c12], rfl⟩ hI
    · refine lv_iconst (v := (nI 0)) hC.1.1 hC.1.2.1 dX1_census_9 (by decide +kernel) ?_
      exact hret _ _ _ _ _ _ dX1_census_10 rfl ⟨by unfold sCen o5; first | (rw [decide_eq_true c1]; rfl) | (rw [decide_eq_false c6, Bool.not_false, Bool.or_true]; rfl), rfl⟩ hI
end
section
set_option maxRecDepth 100000
/-! what the model's methods compute -/
theorem nx_or (a b : Nat) : nI a ||| nI b = nI (a ||| b) := by
  apply Int32.toBitVec_inj.1
  show BitVec.ofNat 32 a ||| BitVec.ofNat 32 b = BitVec.ofNat 32 (a ||| b)
  apply BitVec.eq_of_getLsbD_eq
  intro i hi
  simp [hi]
section NR3
variable {p : Program} {l : Launch} {e : Env} {R : Room} {s : State} {m : MethodId} {args : Array Value} {below : List Frame} {meth : Method} {c : Code} {H : Heap} {locs : List Loc} {cells slots : Nat} {Q : State → Prop}
variable {cc : ByteArray} {pc nL : Nat} {ls : Array Slot} {rest : List Value} {Ts : List Cond} {own : String}
theorem n_ior (hC : CallFix p m c cc nL s args Ts own) {a b : Nat} (hdg : decode cc pc = .ok (.ior, 1)) (k : W p l e R s m args below meth c H locs cells slots Q (F0 m (pc + 1) ls (.int (nI (a ||| b)) :: rest))) : W p l e R s m args below meth c H locs cells slots Q (F0 m pc ls (.int (nI b) :: .int (nI a) :: rest)) := lv_ior hC.1 hC.2.1 hdg (n_top (nx_or a b) k)
end NR3
theorem oB_gt2 {x : Int32} (h : nI 31 < x) : oB x = true := oB_gt (i_nle.mpr h)
theorem oB_in2 {x : Int32} (h1 : ¬ x < 0) (h2 : ¬ nI 31 < x) : oB x = false := oB_in h1 (i_nlt.mp h2)
theorem nb_0 {b : Bool} (h : (!b).toNat = 0) : b = true := by cases b; cases h; rfl
theorem nb_1 {b : Bool} (h : ¬ (!b).toNat = 0) : b = false := by cases b; rfl; exact absurd rfl h
/-- product -/
def pr1 (a b : Nat) : Nat → Nat
  | 0 => 0
  | i + 1 => if b.testBit i = true then pr1 a b i ^^^ a * 2 ^ i else pr1 a b i
theorem pr1_t {a b i : Nat} (h : b.testBit i = true) : pr1 a b (i + 1) = pr1 a b i ^^^ a * 2 ^ i := by
  show (if b.testBit i = true then _ else _) = _
  rw [if_pos h]
theorem pr1_f {a b i : Nat} (h : ¬ b.testBit i = true) : pr1 a b (i + 1) = pr1 a b i := by
  show (if b.testBit i = true then _ else _) = _
  rw [if_neg h]
theorem pr1_lt {a : Nat} (ha : a < 32) (b : Nat) : ∀ i, i ≤ 5 → pr1 a b i < 512
  | 0 => fun _ => by show 0 < 512; decide
  | i + 1 => fun hi => by
    have h1 := pr1_lt ha b i (by omega)
    have h2 : 2 ^ i ≤ 16 := (by decide : ∀ i, i < 5 → 2 ^ i ≤ 16) i (by omega)
    have h3 : a * 2 ^ i ≤ 31 * 16 := Nat.mul_le_mul (by omega) h2
    by_cases h : b.testBit i = true
    · rw [pr1_t h]; exact Nat.xor_lt_two_pow (n := 9) h1 (by omega)
    · rw [pr1_f h]; exact h1
def pr2 (w : Nat) : Nat → Nat
  | 0 => w
  | n + 1 => if (pr2 w n).testBit (8 - n) = true then pr2 w n ^^^ 37 * 2 ^ (8 - n - 5) else pr2 w n
theorem pr2_t {w n p : Nat} (hp : 8 - n = p) (h : (pr2 w n).testBit p = true) : pr2 w (n + 1) = pr2 w n ^^^ 37 * 2 ^ (p - 5) := by
  subst hp
  show (if (pr2 w n).testBit (8 - n) = true then _ else _) = _
  rw [if_pos h]
theorem pr2_f {w n p : Nat} (hp : 8 - n = p) (h : ¬ (pr2 w n).testBit p = true) : pr2 w (n + 1) = pr2 w n := by
  subst hp
  show (if (pr2 w n).testBit (8 - n) = true then _ else _) = _
  rw [if_neg h]
theorem pr2_lt {w : Nat} (hw : w < 512) : ∀ n, pr2 w n < 512
  | 0 => hw
  | n + 1 => by
    have h1 := pr2_lt hw n
    have h2 : 2 ^ (8 - n - 5) ≤ 8 := by
      have h3 : 8 - n - 5 < 4 := by omega
      exact (by decide : ∀ i, i < 4 → 2 ^ i ≤ 8) _ h3
    have h3 : 37 * 2 ^ (8 - n - 5) ≤ 37 * 8 := Nat.mul_le_mul_left _ h2
    by_cases h : (pr2 w n).testBit (8 - n) = true
    · rw [pr2_t rfl h]; exact Nat.xor_lt_two_pow (n := 9) h1 (by omega)
    · rw [pr2_f rfl h]; exact h1
theorem pr_gm : ∀ a, a < 32 → ∀ b, b < 32 → pr2 (pr1 a b 5) 4 = gm a b := by decide +kernel
/-- over -/
def ovS (a b : Nat) : Nat → Nat
  | 0 => 0
  | x + 1 => if gm b x = a then x else ovS a b x
theorem ovS_gd : ∀ a, a < 32 → ∀ b, b < 32 → ¬ b = 0 → ovS a b 32 = gd a b := by decide +kernel
/-- the span of the first i values -/
def sp (v : Nat → Nat) : Nat → Nat → Bool
  | 0 => fun x => decide (x = 0)
  | i + 1 => fun x => sp v i x || sp v i (x ^^^ v i)
def rkS (v : Nat → Nat) : Nat → Nat
  | 0 => 0
  | i + 1 => rkS v i + (if sp v i (v i) = true then 0 else 1)
def rkM (v : Nat → Nat) : Nat := rkS v 5
theorem x4 (x y v : Nat) : (x ^^^ v) ^^^ (y ^^^ v) = x ^^^ y := by
  apply Nat.eq_of_testBit_eq; intro i; simp only [Nat.testBit_xor]; cases x.testBit i <;> cases y.testBit i <;> cases v.testBit i <;> rfl
theorem x3 (x y v : Nat) : x ^^^ (y ^^^ v) = (x ^^^ y) ^^^ v := (Nat.xor_assoc _ _ _).symm
theorem x3' (x y v : Nat) : (x ^^^ v) ^^^ y = (x ^^^ y) ^^^ v := by
  apply Nat.eq_of_testBit_eq; intro i; simp only [Nat.testBit_xor]; cases x.testBit i <;> cases y.testBit i <;> cases v.testBit i <;> rfl
theorem x2 (x v : Nat) : (x ^^^ v) ^^^ v = x := by
  apply Nat.eq_of_testBit_eq; intro i; simp only [Nat.testBit_xor]; cases x.testBit i <;> cases v.testBit i <;> rfl
theorem sp_0 (v : Nat → Nat) : ∀ i, sp v i 0 = true
  | 0 => rfl
  | i + 1 => by show (sp v i 0 || _) = true; rw [sp_0 v i]; rfl
theorem sp_x (v : Nat → Nat) : ∀ i x y, sp v i x = true → sp v i y = true → sp v i (x ^^^ y) = true
  | 0 => fun x y hx hy => by
    have h1 : x = 0 := of_decide_eq_true hx
    have h2 : y = 0 := of_decide_eq_true hy
    subst h1; subst h2; rfl
  | i + 1 => fun x y hx hy => by
    have hx : (sp v i x || sp v i (x ^^^ v i)) = true := hx
    have hy : (sp v i y || sp v i (y ^^^ v i)) = true := hy
    show (sp v i (x ^^^ y) || sp v i (x ^^^ y ^^^ v i)) = true
    rw [Bool.or_eq_true] at hx hy ⊢
    rcases hx with hx | hx <;> rcases hy with hy | hy
    · exact Or.inl (sp_x v i _ _ hx hy)
    · right; rw [← x3]; exact sp_x v i _ _ hx hy
    · right; rw [← x3']; exact sp_x v i _ _ hx hy
    · left; rw [← x4 x y (v i)]; exact sp_x v i _ _ hx hy
theorem sp_k {v : Nat → Nat} {i : Nat} (h : sp v i (v i) = true) (x : Nat) : sp v (i + 1) x = sp v i x := by
  show (sp v i x || sp v i (x ^^^ v i)) = sp v i x
  cases hx : sp v i x with
  | true => rfl
  | false =>
    cases hy : sp v i (x ^^^ v i) with
    | false => rfl
    | true =>
      have := sp_x v i _ _ hy h
      rw [x2, hx] at this
      cases this
theorem rkS_le (v : Nat → Nat) : ∀ i, rkS v i ≤ i
  | 0 => Nat.le_refl _
  | i + 1 => by
    have := rkS_le v i
    show rkS v i + _ ≤ _
    split <;> omega
theorem rkS_mono (v : Nat → Nat) {i : Nat} : ∀ j, i ≤ j → rkS v i ≤ rkS v j
  | 0 => fun h => by rw [show i = 0 by omega]; exact Nat.le_refl _
  | j + 1 => fun h => by
    by_cases hi : i = j + 1
    · rw [hi]; exact Nat.le_refl _
    · have := rkS_mono v (i := i) j (by omega)
      show _ ≤ rkS v j + _
      omega
theorem sp_congr {v w : Nat → Nat} : ∀ i, (∀ j, j < i → v j = w j) → sp v i = sp w i
  | 0 => fun _ => rfl
  | i + 1 => fun h => by
    funext x
    show (sp v i x || sp v i (x ^^^ v i)) = (sp w i x || sp w i (x ^^^ w i))
    rw [sp_congr i (fun j hj => h j (by omega)), h i (by omega)]
theorem rkS_congr {v w : Nat → Nat} : ∀ i, (∀ j, j < i → v j = w j) → rkS v i = rkS w i
  | 0 => fun _ => rfl
  | i + 1 => fun h => by
    show rkS v i + _ = rkS w i + _
    rw [rkS_congr i (fun j hj => h j (by omega)), sp_congr i (fun j hj => h j (by omega)), h i (by omega)]
theorem bt_n1 : ∀ i, i < 32 → bt (nI 1) i = decide (i = 0) := by decide +kernel
theorem bt_p2 : ∀ k, k < 32 → ∀ i, i < 32 → bt (nI (2 ^ k)) i = decide (i = k) := by decide +kernel
theorem bt_and1 (y : Int32) : y &&& nI 1 = if bt y 0 = true then nI 1 else nI 0 := by
  apply b_ext
  intro i hi
  rw [b_and, bt_n1 i hi]
  by_cases h0 : i = 0
  · subst h0
    cases h : bt y 0 with
    | true => rw [if_pos rfl, bt_n1 0 (by decide)]; rfl
    | false => rw [if_neg (by decide), show nI 0 = 0 from nI_0, b_0]; rfl
  · rw [decide_eq_false h0, Bool.and_false]
    split
    · rw [bt_n1 i hi, decide_eq_false h0]
    · rw [show nI 0 = 0 from nI_0, b_0]
theorem bt_sh (z : Int32) {k : Nat} (hk : k < 32) : bt (z >>> (nI k &&& 31)) 0 = bt z k := by
  rw [b_sshr k hk z (by decide), if_pos (by omega)]
  rfl
theorem z_t {z : Int32} {k : Nat} (hk : k < 32) (h : ¬ (z >>> (nI k &&& 31)) &&& nI 1 = 0) : bt z k = true := by
  rw [bt_and1, bt_sh z hk] at h
  cases hb : bt z k with
  | true => rfl
  | false => rw [hb] at h; exact absurd nI_0 h
theorem z_f {z : Int32} {k : Nat} (hk : k < 32) (h : (z >>> (nI k &&& 31)) &&& nI 1 = 0) : bt z k = false := by
  rw [bt_and1, bt_sh z hk] at h
  cases hb : bt z k with
  | false => rfl
  | true => rw [hb, if_pos rfl] at h; exact absurd h (by decide +kernel)
theorem z_1 {z : Int32} {k : Nat} (hk : k < 32) (h : (z >>> (nI k &&& 31)) &&& nI 1 = nI 1) : bt z k = true := by
  refine z_t hk ?_
  rw [h]
  decide +kernel
theorem z_n1 {z : Int32} {k : Nat} (hk : k < 32) (h : ¬ (z >>> (nI k &&& 31)) &&& nI 1 = nI 1) : bt z k = false := by
  cases hb : bt z k with
  | false => rfl
  | true =>
    rw [bt_and1, bt_sh z hk, hb, if_pos rfl] at h
    exact absurd rfl h
/-- near: a message within the radius -/
def nr (kk : Nat) (w : Nat → Nat) (a b : Nat) : Prop := a < 32 ∧ b < 32 ∧ (kk = 1 → b = 0) ∧ rkM (df w a b) ≤ 3 - kk
def mMax (kk : Nat) : Nat := if kk = 2 then 1024 else 32
theorem mA_lt (m : Nat) : m &&& 31 < 32 := Nat.lt_of_le_of_lt Nat.and_le_right (by decide)
theorem mB_lt {m : Nat} (h : m < 1024) : m / 2 ^ 5 < 32 := by omega
theorem mMax_le (kk : Nat) : mMax kk ≤ 1024 := by unfold mMax; split <;> omega
def NR (kk : Nat) (w : Nat → Nat) (r : Int32) : Prop := (∃ m, m < 1024 ∧ nr kk w (m &&& 31) (m / 2 ^ 5) ∧ r = nI m) ∨ ((∀ a b, ¬ nr kk w a b) ∧ r = (-4))
theorem nr_m {kk : Nat} {w : Nat → Nat} (hk : kk = 1 ∨ kk = 2) (h : ∀ m, m < mMax kk → ¬ rkM (df w (m &&& 31) (m / 2 ^ 5)) ≤ 3 - kk) : ∀ a b, ¬ nr kk w a b := by
  intro a b ⟨h1, h2, h3, h4⟩
  have e1 : (b * 32 + a) % 32 = a := by omega
  have e2 : (b * 32 + a) / 2 ^ 5 = b := by omega
  refine h (b * 32 + a) ?_ ?_
  · unfold mMax
    rcases hk with rfl | rfl
    · rw [if_neg (by decide), h3 rfl]; omega
    · rw [if_pos rfl]; omega
  · rw [show (b * 32 + a) &&& 31 = (b * 32 + a) % 32 from Nat.and_two_pow_sub_one_eq_mod _ 5, e1, e2]
    exact h4
theorem NR_t {kk : Nat} {w : Nat → Nat} {r : Int32} (h : NR kk w r) (hr : ¬ r = (-4)) : ∃ m, m < 1024 ∧ nr kk w (m &&& 31) (m / 2 ^ 5) ∧ r = nI m := by
  rcases h with h | ⟨-, h⟩
  · exact h
  · exact absurd h hr
theorem nI_n4 {m : Nat} (h : m < 1024) : ¬ nI m = (-4) := by
  intro e
  have h1 := nI_pos (n := m) (by omega)
  rw [e] at h1
  exact h1 (by decide +kernel)
theorem NR_f {kk : Nat} {w : Nat → Nat} {r : Int32} (h : NR kk w r) (hr : r = (-4)) : ∀ a b, ¬ nr kk w a b := by
  rcases h with ⟨m, hm, -, e⟩ | ⟨h, -⟩
  · exact absurd (e.symm.trans hr) (nI_n4 hm)
  · exact h
def ER (kk : Nat) (w : Nat → Nat) (r : Int32) : Prop := (∃ a b, nr kk w a b ∧ r = nI (rkM (df w a b))) ∨ ((∀ a b, ¬ nr kk w a b) ∧ r = (-4))
def MR (kk : Nat) (w : Nat → Nat) (i r : Int32) : Prop := ((i < 0 ∨ ¬ i < nI kk) ∧ r = pI 0) ∨ (¬ (i < 0 ∨ ¬ i < nI kk) ∧ ((∃ a b, nr kk w a b ∧ r = nI (if i = nI 0 then a else b)) ∨ ((∀ a b, ¬ nr kk w a b) ∧ r = (-4))))
def CR (kk : Nat) (w : Nat → Nat) (r : Int32) (w' : Nat → Nat) : Prop := (∃ a b, nr kk w a b ∧ r = nI (rkM (df w a b)) ∧ w' = ov w (vl a b) 5) ∨ ((∀ a b, ¬ nr kk w a b) ∧ r = (-4) ∧ w' = w)
/-- places changed -/
def plF (w f : Nat → Nat) : Nat → Nat
  | 0 => 0
  | i + 1 => if f i = w i then plF w f i else plF w f i ||| 2 ^ i
theorem plF_t {w f : Nat → Nat} {i : Nat} (h : f i = w i) : plF w f (i + 1) = plF w f i := by
  show (if f i = w i then _ else _) = _
  rw [if_pos h]
theorem plF_f {w f : Nat → Nat} {i : Nat} (h : ¬ f i = w i) : plF w f (i + 1) = plF w f i ||| 2 ^ i := by
  show (if f i = w i then _ else _) = _
  rw [if_neg h]
theorem plF_lt (w f : Nat → Nat) : ∀ i, i ≤ 5 → plF w f i < 32
  | 0 => fun _ => by show 0 < 32; decide
  | i + 1 => fun hi => by
    have h1 := plF_lt w f i (by omega)
    by_cases h : f i = w i
    · rw [plF_t h]; exact h1
    · rw [plF_f h]; exact Nat.or_lt_two_pow (n := 5) h1 (p5 (by omega))
theorem plF_congr {w f g : Nat → Nat} : ∀ i, (∀ j, j < i → f j = g j) → plF w f i = plF w g i
  | 0 => fun _ => rfl
  | i + 1 => fun h => by
    show (if f i = w i then plF w f i else _) = (if g i = w i then plF w g i else _)
    rw [h i (by omega), plF_congr i (fun j hj => h j (by omega))]
def pl (w : Nat → Nat) (m : Nat) : Nat := plF w (vl (m &&& 31) (m / 2 ^ 5)) 5
def chF (c w : Nat → Nat) : Nat → Nat → Nat
  | 0 => c
  | m + 1 => up (chF c w m) (pl w m) 1
theorem chF_lt {c w : Nat → Nat} (h : ∀ j, j < 32 → c j < 2) : ∀ m j, j < 32 → chF c w m j < 2
  | 0 => h
  | m + 1 => fun j hj => by
    show up (chF c w m) (pl w m) 1 j < 2
    unfold up
    split
    · omega
    · exact chF_lt h m j hj
def cvS (ch : Nat → Nat) (z : Nat) : Nat → Bool
  | 0 => false
  | p + 1 => cvS ch z p || (!decide (ch p = 0) && decide (p &&& (31 ^^^ z) = 0))
theorem cvS_s (ch : Nat → Nat) (z p : Nat) : cvS ch z (p + 1) = (cvS ch z p || (!decide (ch p = 0) && decide (p &&& (31 ^^^ z) = 0))) := rfl
def cvM (ch : Nat → Nat) : Nat → Nat
  | 0 => 0
  | z + 1 => cvM ch z + (cvS ch z 32).toNat
theorem cvM_le (ch : Nat → Nat) : ∀ n, cvM ch n ≤ n
  | 0 => Nat.le_refl _
  | n + 1 => by
    have := cvM_le ch n
    have := bt_lt (cvS ch n 32)
    show cvM ch n + _ ≤ _
    omega
theorem pz_e : ∀ p, p < 32 → ∀ z, z < 32 → nI p &&& (nI z ^^^ pI 0) = nI (p &&& (31 ^^^ z)) := by decide +kernel
def cnM (x : Int32) : Nat → Nat
  | 0 => 0
  | m + 1 => cnM x m + (if nI (rkM (vl (m &&& 31) (m / 2 ^ 5))) = x then 1 else 0)
theorem cnM_le (x : Int32) : ∀ n, cnM x n ≤ n
  | 0 => Nat.le_refl _
  | n + 1 => by
    have := cnM_le x n
    show cnM x n + _ ≤ _
    split <;> omega
end
section
set_option maxRecDepth 100000
abbrev rmX2_size : Room := { frames := 0, cells := 0, slots := 0, locals := 0 }
theorem hdX2_size : yX2_size.cls = RX2 ∧ yX2_size.cls ≠ "java/lang/invoke/MethodHandle" ∧ yX2_size.cls ≠ "java/lang/invoke/VarHandle" ∧ (parseMethodDescriptor yX2_size.desc).map (fun d => d.parameters.length) = some 0 := by decide +kernel
set_option maxHeartbeats 4000000 in
set_option maxRecDepth 100000 in
/-- size -/
theorem kX2_size (l : Launch) (D : va_G) (h : Nat) (q : Nat → Nat) (dA : ClassId × ClassId) (kk : Nat) (u : MS)   : mMi l yX2_size (ws_ yX2_size cX2_size 1 (some .int)) rmX2_size D h q dA kk [] u (fun r u' => r = nI kk ∧ u = u') := by
  refine mMi_of (lv := [(0, .ref h)]) (by decide) rfl (Nat.le_of_ble_eq_true rfl) rfl ?_
  intro p e s m args below meth c A Q ls hC hI hl hret
  refine lv_aload_n hC.1.1 hC.1.2.1 dX2_size_0 rfl (lv_at hl 0 rfl) ?_
  refine m_get_k hC hI dX2_size_1 ?_
  exact hret _ _ _ _ _ _ dX2_size_4 rfl ⟨rfl, rfl⟩ hI
abbrev rmX2_isElement : Room := { frames := 0, cells := 0, slots := 0, locals := 0 }
theorem hdX2_isElement : yX2_isElement.cls = RX2 ∧ yX2_isElement.cls ≠ "java/lang/invoke/MethodHandle" ∧ yX2_isElement.cls ≠ "java/lang/invoke/VarHandle" ∧ (parseMethodDescriptor yX2_isElement.desc).map (fun d => d.parameters.length) = some 1 := by decide +kernel
theorem lkX2_isElement : GoodIn lw_all (wsV RX2 27 RX2 yX2_isElement (ws_ yX2_isElement cX2_isElement 2 (some .boolean))) := lw_V q244 q246 qs19 q29 q247
set_option maxHeartbeats 4000000 in
set_option maxRecDepth 100000 in
/-- isElement -/
theorem kX2_isElement (l : Launch) (D : va_G) (h : Nat) (q : Nat → Nat) (dA : ClassId × ClassId) (kk : Nat) (u : MS) (x : Int32)  : mMi l yX2_isElement (ws_ yX2_isElement cX2_isElement 2 (some .boolean)) rmX2_isElement D h q dA kk [.int x] u (fun r u' => r = nI (!oB x).toNat ∧ u = u') := by
  refine mMi_of (lv := [(0, .ref h), (1, .int x)]) (by decide) rfl (Nat.le_of_ble_eq_true rfl) rfl ?_
  intro p e s m args below meth c A Q ls hC hI hl hret
  refine lv_iload_n hC.1.1 hC.1.2.1 dX2_isElement_0 rfl (lv_at hl 1 rfl) ?_
  refine lv_if_lt hC.1.1 hC.1.2.1 (tgt := 14) dX2_isElement_1 (by decide) (fun c1 => ?_) (fun c1 => ?_)
  · refine lv_iconst (v := (nI 0)) hC.1.1 hC.1.2.1 dX2_isElement_14 (by decide +kernel) ?_
    exact hret _ _ _ _ _ _ dX2_isElement_15 rfl ⟨by first | (rw [oB_lt c1]; rfl) | (rw [oB_gt2 c7]; rfl) | (rw [oB_in2 c1 c7]; rfl), rfl⟩ hI
  · refine lv_iload_n hC.1.1 hC.1.2.1 dX2_isElement_4 rfl (lv_at hl 1 rfl) ?_
    refine lv_bipush (v := (nI 31)) hC.1.1 hC.1.2.1 dX2_isElement_5 (by decide +kernel) ?_
    refine lv_icmp_gt hC.1.1 hC.1.2.1 (tgt := 14) dX2_isElement_7 (by decide) (fun c7 => ?_) (fun c7 => ?_)
    · refine lv_iconst (v := (nI 0)) hC.1.1 hC.1.2.1 dX2_isElement_14 (by decide +kernel) ?_
      exact hret _ _ _ _ _ _ dX2_isElement_15 rfl ⟨by first | (rw [oB_lt c1]; rfl) | (rw [oB_gt2 c7]; rfl) | (rw [oB_in2 c1 c7]; rfl), rfl⟩ hI
    · refine lv_iconst (v := (nI 1)) hC.1.1 hC.1.2.1 dX2_isElement_10 (by decide +kernel) ?_
      refine lv_goto (tgt := 15) hC.1.1 hC.1.2.1 dX2_isElement_11 (by decide) ?_
      exact hret _ _ _ _ _ _ dX2_isElement_15 rfl ⟨by first | (rw [oB_lt c1]; rfl) | (rw [oB_gt2 c7]; rfl) | (rw [oB_in2 c1 c7]; rfl), rfl⟩ hI
abbrev rmX2_product : Room := { frames := 0, cells := 0, slots := 0, locals := 0 }
theorem hdX2_product : yX2_product.cls = RX2 ∧ yX2_product.cls ≠ "java/lang/invoke/MethodHandle" ∧ yX2_product.cls ≠ "java/lang/invoke/VarHandle" ∧ (parseMethodDescriptor yX2_product.desc).map (fun d => d.parameters.length) = some 2 := by decide +kernel
theorem lkX2_product : GoodIn lw_all (wsV RX2 31 RX2 yX2_product (ws_ yX2_product cX2_product 5 (some .int))) := lw_V q248 q250 qs20 q29 q251
set_option maxHeartbeats 4000000 in
set_option maxRecDepth 100000 in
/-- product -/
theorem kX2_product (l : Launch) (D : va_G) (h : Nat) (q : Nat → Nat) (dA : ClassId × ClassId) (kk : Nat) (u : MS) (a b : Nat) (ha : a < 32) (hb : b < 32) : mMi l yX2_product (ws_ yX2_product cX2_product 5 (some .int)) rmX2_product D h q dA kk [.int (nI a), .int (nI b)] u (fun r u' => r = nI (gm a b) ∧ u = u') := by
  refine mMi_of (lv := [(0, .ref h), (1, .int (nI a)), (2, .int (nI b))]) (by decide) rfl (Nat.le_of_ble_eq_true rfl) rfl ?_
  intro p e s m args below meth c A Q ls hC hI hl hret
  refine lv_iconst (v := (nI 0)) hC.1.1 hC.1.2.1 dX2_product_0 (by decide +kernel) ?_
  refine lv_istore_n (lv' := [(3, .int (nI 0)), (0, .ref h), (1, .int (nI a)), (2, .int (nI b))]) hC.1.1 hC.1.2.1 dX2_product_1 rfl hl (by decide) rfl (fun ls hl => ?_)
  refine lv_iconst (v := (nI 0)) hC.1.1 hC.1.2.1 dX2_product_2 (by decide +kernel) ?_
  refine lv_istore (lv' := [(4, .int (nI 0)), (3, .int (nI 0)), (0, .ref h), (1, .int (nI a)), (2, .int (nI b))]) hC.1.1 hC.1.2.1 dX2_product_3 hl (by decide) rfl (fun ls hl => ?_)
  have lp5 : ∀ (n : Nat) (i : Nat) (w : Nat) (H : Heap) (locs : List Loc) (ls : Array Slot), i ≤ 5 → 5 < i + n → w = pr1 a b i → mI D h q dA kk A s.heap u H locs → lv_has ls 5 [(4, .int (nI i)), (3, .int (nI w)), (0, .ref h), (1, .int (nI a)), (2, .int (nI b))] → W p l e rmX2_product s m args below meth c H locs 0 0 Q (F0 m 5 ls []) := by
    intro n
    induction n with
    | zero => intro i w  H locs ls hi hn hw; exfalso; omega
    | succ n ih =>
      intro i w  H locs ls hi hn hw hI hl
      have ih5 := ih
      clear ih
      refine lv_iload hC.1.1 hC.1.2.1 dX2_product_5 (lv_at hl 0 rfl) ?_
      refine lv_iconst (v := (nI 5)) hC.1.1 hC.1.2.1 dX2_product_7 (by decide +kernel) ?_
      refine n_icmp_ge hC.1 (tgt := 34) dX2_product_8 (by decide) (fun c8 => ?_) (fun c8 => ?_)
      · refine lv_bipush (v := (nI 8)) hC.1.1 hC.1.2.1 dX2_product_34 (by decide +kernel) ?_
        refine lv_istore (lv' := [(4, .int (nI 8)), (3, .int (nI w)), (0, .ref h), (1, .int (nI a)), (2, .int (nI b))]) hC.1.1 hC.1.2.1 dX2_product_36 hl (by decide) rfl (fun ls hl => ?_)
        have lp38 : ∀ (n : Nat) (j : Nat) (y : Nat) (H : Heap) (locs : List Loc) (ls : Array Slot), j ≤ 9 → 5 ≤ j → j < n → y = pr2 (pr1 a b 5) (9 - j) → mI D h q dA kk A s.heap u H locs → lv_has ls 5 [(4, .int (pI j)), (3, .int (nI y)), (0, .ref h), (1, .int (nI a)), (2, .int (nI b))] → W p l e rmX2_product s m args below meth c H locs 0 0 Q (F0 m 38 ls []) := by
          intro n
          induction n with
          | zero => intro j y  H locs ls hj hj5 hn hy; exfalso; omega
          | succ n ih =>
            intro j y  H locs ls hj hj5 hn hy hI hl
            have ih38 := ih
            clear ih
            refine lv_iload hC.1.1 hC.1.2.1 dX2_product_38 (lv_at hl 0 rfl) ?_
            refine lv_iconst (v := (nI 5)) hC.1.1 hC.1.2.1 dX2_product_40 (by decide +kernel) ?_
            refine p_icmp_lt hC.1 (tgt := 70) dX2_product_41 (by decide) (fun c41 => ?_) (fun c41 => ?_)
            · refine lv_iload_n hC.1.1 hC.1.2.1 dX2_product_70 rfl (lv_at hl 1 rfl) ?_
              exact hret _ _ _ _ _ _ dX2_product_71 rfl ⟨by rw [hy, show 9 - j = 4 by omega, pr_gm a ha b hb], rfl⟩ hI
            · obtain ⟨j1, rfl⟩ : ∃ z, j = z + 1 := ⟨j - 1, by omega⟩
              have hl : lv_has ls 5 [(4, .int (nI j1)), (3, .int (nI y)), (0, .ref h), (1, .int (nI a)), (2, .int (nI b))] := hl
              refine lv_iload_n hC.1.1 hC.1.2.1 dX2_product_44 rfl (lv_at hl 1 rfl) ?_
              refine lv_iload hC.1.1 hC.1.2.1 dX2_product_45 (lv_at hl 0 rfl) ?_
              refine n_ishr hC.1 dX2_product_47 ?_ (by rw [hy]; exact Nat.lt_trans (pr2_lt (pr1_lt ha b 5 (by decide)) _) (by decide))
              refine lv_iconst (v := (nI 1)) hC.1.1 hC.1.2.1 dX2_product_48 (by decide +kernel) ?_
              refine n_iand hC.1 dX2_product_49 ?_
              refine lv_iconst (v := (nI 1)) hC.1.1 hC.1.2.1 dX2_product_50 (by decide +kernel) ?_
              refine n_icmp_ne hC.1 (tgt := 64) dX2_product_51 (by decide) (fun c51 => ?_) (fun c51 => ?_) (Nat.lt_of_le_of_lt Nat.and_le_right (by decide))
              · refine lv_iinc (v := (pI j1)) (lv' := [(4, .int (pI j1)), (3, .int (nI y)), (0, .ref h), (1, .int (nI a)), (2, .int (nI b))]) hC.1.1 hC.1.2.1 dX2_product_64 hl (k := 0) rfl (pi_dec j1) (by decide) rfl (fun ls hl => ?_)
                refine lv_goto (tgt := 38) hC.1.1 hC.1.2.1 dX2_product_67 (by decide) ?_
                exact ih38 j1 y  _ _ _ (by omega) (by omega) (by omega) (by rw [show 9 - j1 = (9 - (j1 + 1)) + 1 by omega, hy]; rw [hy] at c51; first | exact (pr2_f (p := j1) (by omega) (fun q => c51 ((n_tb _ _).mpr q))).symm | exact (pr2_t (p := j1) (by omega) ((n_tb _ _).mp c51)).symm) hI (lv_sub hl [0, 1, 2, 3, 4] rfl)
              · refine lv_iload_n hC.1.1 hC.1.2.1 dX2_product_54 rfl (lv_at hl 1 rfl) ?_
                refine lv_bipush (v := (nI 37)) hC.1.1 hC.1.2.1 dX2_product_55 (by decide +kernel) ?_
                refine lv_iload hC.1.1 hC.1.2.1 dX2_product_57 (lv_at hl 0 rfl) ?_
                refine lv_iconst (v := (nI 5)) hC.1.1 hC.1.2.1 dX2_product_59 (by decide +kernel) ?_
                refine n_isub hC.1 dX2_product_60 ?_
                refine n_ishl hC.1 dX2_product_61 ?_
                refine n_ixor hC.1 dX2_product_62 ?_
                refine lv_istore_n (lv' := [(3, .int (nI (y ^^^ (37 * 2 ^ (j1 - 5))))), (4, .int (nI j1)), (0, .ref h), (1, .int (nI a)), (2, .int (nI b))]) hC.1.1 hC.1.2.1 dX2_product_63 rfl hl (by decide) rfl (fun ls hl => ?_)
                refine lv_iinc (v := (pI j1)) (lv' := [(4, .int (pI j1)), (3, .int (nI (y ^^^ (37 * 2 ^ (j1 - 5))))), (0, .ref h), (1, .int (nI a)), (2, .int (nI b))]) hC.1.1 hC.1.2.1 dX2_product_64 hl (k := 1) rfl (pi_dec j1) (by decide) rfl (fun ls hl => ?_)
                refine lv_goto (tgt := 38) hC.1.1 hC.1.2.1 dX2_product_67 (by decide) ?_
                exact ih38 j1 (y ^^^ (37 * 2 ^ (j1 - 5)))  _ _ _ (by omega) (by omega) (by omega) (by rw [show 9 - j1 = (9 - (j1 + 1)) + 1 by omega, hy]; rw [hy] at c51; first | exact (pr2_f (p := j1) (by omega) (fun q => c51 ((n_tb _ _).mpr q))).symm | exact (pr2_t (p := j1) (by omega) ((n_tb _ _).mp c51)).symm) hI (lv_sub hl [0, 1, 2, 3, 4] rfl)
        exact lp38 (10) (8 + 1) w  _ _ _ (by omega) (by omega) (by omega) (by rw [hw, show i = 5 by omega]; rfl) hI (lv_sub hl [0, 1, 2, 3, 4] rfl)
      · refine lv_iload_n hC.1.1 hC.1.2.1 dX2_product_11 rfl (lv_at hl 4 rfl) ?_
        refine lv_iload hC.1.1 hC.1.2.1 dX2_product_12 (lv_at hl 0 rfl) ?_
        refine n_ishr hC.1 dX2_product_14 ?_
        refine lv_iconst (v := (nI 1)) hC.1.1 hC.1.2.1 dX2_product_15 (by decide +kernel) ?_
        refine n_iand hC.1 dX2_product_16 ?_
        refine lv_iconst (v := (nI 1)) hC.1.1 hC.1.2.1 dX2_product_17 (by decide +kernel) ?_
        refine n_icmp_ne hC.1 (tgt := 28) dX2_product_18 (by decide) (fun c18 => ?_) (fun c18 => ?_) (Nat.lt_of_le_of_lt Nat.and_le_right (by decide))
        · refine lv_iinc (v := (nI (i + 1))) (lv' := [(4, .int (nI (i + 1))), (3, .int (nI w)), (0, .ref h), (1, .int (nI a)), (2, .int (nI b))]) hC.1.1 hC.1.2.1 dX2_product_28 hl (k := 0) rfl (ni_inc i) (by decide) rfl (fun ls hl => ?_)
          refine lv_goto (tgt := 5) hC.1.1 hC.1.2.1 dX2_product_31 (by decide) ?_
          exact ih5 (i + 1) w  _ _ _ (by omega) (by omega) (by rw [hw]; first | exact (pr1_f (fun q => c18 ((n_tb _ _).mpr q))).symm | exact (pr1_t ((n_tb _ _).mp c18)).symm) hI (lv_sub hl [0, 1, 2, 3, 4] rfl)
        · refine lv_iload_n hC.1.1 hC.1.2.1 dX2_product_21 rfl (lv_at hl 1 rfl) ?_
          refine lv_iload_n hC.1.1 hC.1.2.1 dX2_product_22 rfl (lv_at hl 3 rfl) ?_
          refine lv_iload hC.1.1 hC.1.2.1 dX2_product_23 (lv_at hl 0 rfl) ?_
          refine n_ishl hC.1 dX2_product_25 ?_
          refine n_ixor hC.1 dX2_product_26 ?_
          refine lv_istore_n (lv' := [(3, .int (nI (w ^^^ (a * 2 ^ i)))), (4, .int (nI i)), (0, .ref h), (1, .int (nI a)), (2, .int (nI b))]) hC.1.1 hC.1.2.1 dX2_product_27 rfl hl (by decide) rfl (fun ls hl => ?_)
          refine lv_iinc (v := (nI (i + 1))) (lv' := [(4, .int (nI (i + 1))), (3, .int (nI (w ^^^ (a * 2 ^ i)))), (0, .ref h), (1, .int (nI a)), (2, .int (nI b))]) hC.1.1 hC.1.2.1 dX2_product_28 hl (k := 1) rfl (ni_inc i) (by decide) rfl (fun ls hl => ?_)
          refine lv_goto (tgt := 5) hC.1.1 hC.1.2.1 dX2_product_31 (by decide) ?_
          exact ih5 (i + 1) (w ^^^ (a * 2 ^ i))  _ _ _ (by omega) (by omega) (by rw [hw]; first | exact (pr1_f (fun q => c18 ((n_tb _ _).mpr q))).symm | exact (pr1_t ((n_tb _ _).mp c18)).symm) hI (lv_sub hl [0, 1, 2, 3, 4] rfl)
  exact lp5 (6) 0 0  _ _ _ (by omega) (by omega) rfl hI (lv_sub hl [0, 1, 2, 3, 4] rfl)
abbrev rmX2_times : Room := { frames := 1, cells := 0, slots := 0, locals := 24 }
theorem hdX2_times : yX2_times.cls = RX2 ∧ yX2_times.cls ≠ "java/lang/invoke/MethodHandle" ∧ yX2_times.cls ≠ "java/lang/invoke/VarHandle" ∧ (parseMethodDescriptor yX2_times.desc).map (fun d => d.parameters.length) = some 2 := by decide +kernel
set_option maxHeartbeats 4000000 in
set_option maxRecDepth 100000 in
/-- times -/
theorem kX2_times (l : Launch) (D : va_G) (h : Nat) (q : Nat → Nat) (dA : ClassId × ClassId) (kk : Nat) (u : MS) (a b : Int32)  : mMi l yX2_times (ws_ yX2_times cX2_times 3 (some .int)) rmX2_times D h q dA kk [.int a, .int b] u (fun r u' => r = sTimes a b ∧ u = u') := by
  refine mMi_of (lv := [(0, .ref h), (1, .int a), (2, .int b)]) (by decide) rfl (Nat.le_of_ble_eq_true rfl) rfl ?_
  intro p e s m args below meth c A Q ls hC hI hl hret
  refine lv_aload_n hC.1.1 hC.1.2.1 dX2_times_0 rfl (lv_at hl 0 rfl) ?_
  refine lv_iload_n hC.1.1 hC.1.2.1 dX2_times_1 rfl (lv_at hl 1 rfl) ?_
  refine m_calli (rest := []) hC hI (kX2_isElement l D h q dA kk u a) lkX2_isElement hdX2_isElement ⟨rfl, rfl⟩ ⟨Nat.le_of_ble_eq_true rfl, Nat.le_of_ble_eq_true rfl⟩ rfl hl.1 rfl (Nat.le_of_ble_eq_true rfl) ⟨Nat.le_of_ble_eq_true rfl, Nat.le_of_ble_eq_true rfl⟩ dX2_times_2 (fun r2 v2 H locs hp2 hI => ?_)
  obtain ⟨rfl, rfl⟩ := hp2
  refine n_if_eq hC.1 (tgt := 25) dX2_times_5 (by decide) (fun c5 => ?_) (fun c5 => ?_) (Nat.lt_trans (bt_lt _) (by decide))
  · refine lv_iconst (v := (pI 0)) hC.1.1 hC.1.2.1 dX2_times_25 (by decide +kernel) ?_
    exact hret _ _ _ _ _ _ dX2_times_26 rfl ⟨by unfold sTimes; first | (rw [nb_0 c5]; rfl) | (rw [nb_0 c13, Bool.or_true]; rfl) | (rw [oB_nI hi, oB_nI hj, tN_nI hi, tN_nI hj]; rfl), rfl⟩ hI
  · refine lv_aload_n hC.1.1 hC.1.2.1 dX2_times_8 rfl (lv_at hl 0 rfl) ?_
    refine lv_iload_n hC.1.1 hC.1.2.1 dX2_times_9 rfl (lv_at hl 2 rfl) ?_
    refine m_calli (rest := []) hC hI (kX2_isElement l D h q dA kk u b) lkX2_isElement hdX2_isElement ⟨rfl, rfl⟩ ⟨Nat.le_of_ble_eq_true rfl, Nat.le_of_ble_eq_true rfl⟩ rfl hl.1 rfl (Nat.le_of_ble_eq_true rfl) ⟨Nat.le_of_ble_eq_true rfl, Nat.le_of_ble_eq_true rfl⟩ dX2_times_10 (fun r10 v10 H locs hp10 hI => ?_)
    obtain ⟨rfl, rfl⟩ := hp10
    refine n_if_eq hC.1 (tgt := 25) dX2_times_13 (by decide) (fun c13 => ?_) (fun c13 => ?_) (Nat.lt_trans (bt_lt _) (by decide))
    · refine lv_iconst (v := (pI 0)) hC.1.1 hC.1.2.1 dX2_times_25 (by decide +kernel) ?_
      exact hret _ _ _ _ _ _ dX2_times_26 rfl ⟨by unfold sTimes; first | (rw [nb_0 c5]; rfl) | (rw [nb_0 c13, Bool.or_true]; rfl) | (rw [oB_nI hi, oB_nI hj, tN_nI hi, tN_nI hj]; rfl), rfl⟩ hI
    · obtain ⟨i, hi, rfl⟩ := oB_ex (nb_1 c5)
      obtain ⟨j, hj, rfl⟩ := oB_ex (nb_1 c13)
      refine lv_aload_n hC.1.1 hC.1.2.1 dX2_times_16 rfl (lv_at hl 0 rfl) ?_
      refine lv_iload_n hC.1.1 hC.1.2.1 dX2_times_17 rfl (lv_at hl 1 rfl) ?_
      refine lv_iload_n hC.1.1 hC.1.2.1 dX2_times_18 rfl (lv_at hl 2 rfl) ?_
      refine m_calli (rest := []) hC hI (kX2_product l D h q dA kk u i j hi hj) lkX2_product hdX2_product ⟨rfl, rfl⟩ ⟨Nat.le_of_ble_eq_true rfl, Nat.le_of_ble_eq_true rfl⟩ rfl hl.1 rfl (Nat.le_of_ble_eq_true rfl) ⟨Nat.le_of_ble_eq_true rfl, Nat.le_of_ble_eq_true rfl⟩ dX2_times_19 (fun r19 v19 H locs hp19 hI => ?_)
      obtain ⟨rfl, rfl⟩ := hp19
      refine lv_goto (tgt := 26) hC.1.1 hC.1.2.1 dX2_times_22 (by decide) ?_
      exact hret _ _ _ _ _ _ dX2_times_26 rfl ⟨by unfold sTimes; first | (rw [nb_0 c5]; rfl) | (rw [nb_0 c13, Bool.or_true]; rfl) | (rw [oB_nI hi, oB_nI hj, tN_nI hi, tN_nI hj]; rfl), rfl⟩ hI
abbrev rmX2_over : Room := { frames := 1, cells := 0, slots := 0, locals := 24 }
theorem hdX2_over : yX2_over.cls = RX2 ∧ yX2_over.cls ≠ "java/lang/invoke/MethodHandle" ∧ yX2_over.cls ≠ "java/lang/invoke/VarHandle" ∧ (parseMethodDescriptor yX2_over.desc).map (fun d => d.parameters.length) = some 2 := by decide +kernel
set_option maxHeartbeats 4000000 in
set_option maxRecDepth 100000 in
/-- over -/
theorem kX2_over (l : Launch) (D : va_G) (h : Nat) (q : Nat → Nat) (dA : ClassId × ClassId) (kk : Nat) (u : MS) (a b : Int32)  : mMi l yX2_over (ws_ yX2_over cX2_over 5 (some .int)) rmX2_over D h q dA kk [.int a, .int b] u (fun r u' => r = sOver a b ∧ u = u') := by
  refine mMi_of (lv := [(0, .ref h), (1, .int a), (2, .int b)]) (by decide) rfl (Nat.le_of_ble_eq_true rfl) rfl ?_
  intro p e s m args below meth c A Q ls hC hI hl hret
  refine lv_aload_n hC.1.1 hC.1.2.1 dX2_over_0 rfl (lv_at hl 0 rfl) ?_
  refine lv_iload_n hC.1.1 hC.1.2.1 dX2_over_1 rfl (lv_at hl 1 rfl) ?_
  refine m_calli (rest := []) hC hI (kX2_isElement l D h q dA kk u a) lkX2_isElement hdX2_isElement ⟨rfl, rfl⟩ ⟨Nat.le_of_ble_eq_true rfl, Nat.le_of_ble_eq_true rfl⟩ rfl hl.1 rfl (Nat.le_of_ble_eq_true rfl) ⟨Nat.le_of_ble_eq_true rfl, Nat.le_of_ble_eq_true rfl⟩ dX2_over_2 (fun r2 v2 H locs hp2 hI => ?_)
  obtain ⟨rfl, rfl⟩ := hp2
  refine n_if_eq hC.1 (tgt := 20) dX2_over_5 (by decide) (fun c5 => ?_) (fun c5 => ?_) (Nat.lt_trans (bt_lt _) (by decide))
  · refine lv_iconst (v := (pI 0)) hC.1.1 hC.1.2.1 dX2_over_20 (by decide +kernel) ?_
    exact hret _ _ _ _ _ _ dX2_over_21 rfl ⟨by unfold sOver; rw [if_pos (by first | (rw [nb_0 c5]; rfl) | (rw [nb_0 c13, Bool.or_true]; rfl) | (rw [decide_eq_true c17, Bool.or_true]))], rfl⟩ hI
  · refine lv_aload_n hC.1.1 hC.1.2.1 dX2_over_8 rfl (lv_at hl 0 rfl) ?_
    refine lv_iload_n hC.1.1 hC.1.2.1 dX2_over_9 rfl (lv_at hl 2 rfl) ?_
    refine m_calli (rest := []) hC hI (kX2_isElement l D h q dA kk u b) lkX2_isElement hdX2_isElement ⟨rfl, rfl⟩ ⟨Nat.le_of_ble_eq_true rfl, Nat.le_of_ble_eq_true rfl⟩ rfl hl.1 rfl (Nat.le_of_ble_eq_true rfl) ⟨Nat.le_of_ble_eq_true rfl, Nat.le_of_ble_eq_true rfl⟩ dX2_over_10 (fun r10 v10 H locs hp10 hI => ?_)
    obtain ⟨rfl, rfl⟩ := hp10
    refine n_if_eq hC.1 (tgt := 20) dX2_over_13 (by decide) (fun c13 => ?_) (fun c13 => ?_) (Nat.lt_trans (bt_lt _) (by decide))
    · refine lv_iconst (v := (pI 0)) hC.1.1 hC.1.2.1 dX2_over_20 (by decide +kernel) ?_
      exact hret _ _ _ _ _ _ dX2_over_21 rfl ⟨by unfold sOver; rw [if_pos (by first | (rw [nb_0 c5]; rfl) | (rw [nb_0 c13, Bool.or_true]; rfl) | (rw [decide_eq_true c17, Bool.or_true]))], rfl⟩ hI
    · refine lv_iload_n hC.1.1 hC.1.2.1 dX2_over_16 rfl (lv_at hl 2 rfl) ?_
      refine lv_if_ne hC.1.1 hC.1.2.1 (tgt := 22) dX2_over_17 (by decide) (fun c17 => ?_) (fun c17 => ?_)
      · obtain ⟨i, hi, rfl⟩ := oB_ex (nb_1 c5)
        obtain ⟨j, hj, rfl⟩ := oB_ex (nb_1 c13)
        refine lv_iconst (v := (nI 0)) hC.1.1 hC.1.2.1 dX2_over_22 (by decide +kernel) ?_
        refine lv_istore_n (lv' := [(3, .int (nI 0)), (0, .ref h), (1, .int (nI i)), (2, .int (nI j))]) hC.1.1 hC.1.2.1 dX2_over_23 rfl hl (by decide) rfl (fun ls hl => ?_)
        refine lv_iconst (v := (nI 0)) hC.1.1 hC.1.2.1 dX2_over_24 (by decide +kernel) ?_
        refine lv_istore (lv' := [(4, .int (nI 0)), (3, .int (nI 0)), (0, .ref h), (1, .int (nI i)), (2, .int (nI j))]) hC.1.1 hC.1.2.1 dX2_over_25 hl (by decide) rfl (fun ls hl => ?_)
        have lp27 : ∀ (n : Nat) (x : Nat) (y : Nat) (H : Heap) (locs : List Loc) (ls : Array Slot), x ≤ 32 → 32 < x + n → y = ovS i j x → mI D h q dA kk A s.heap u H locs → lv_has ls 5 [(4, .int (nI x)), (3, .int (nI y)), (0, .ref h), (1, .int (nI i)), (2, .int (nI j))] → W p l e rmX2_over s m args below meth c H locs 0 0 Q (F0 m 27 ls []) := by
          intro n
          induction n with
          | zero => intro x y  H locs ls hx hn hy; exfalso; omega
          | succ n ih =>
            intro x y  H locs ls hx hn hy hI hl
            have ih27 := ih
            clear ih
            refine lv_iload hC.1.1 hC.1.2.1 dX2_over_27 (lv_at hl 0 rfl) ?_
            refine lv_bipush (v := (nI 32)) hC.1.1 hC.1.2.1 dX2_over_29 (by decide +kernel) ?_
            refine n_icmp_ge hC.1 (tgt := 54) dX2_over_31 (by decide) (fun c31 => ?_) (fun c31 => ?_)
            · refine lv_iload_n hC.1.1 hC.1.2.1 dX2_over_54 rfl (lv_at hl 1 rfl) ?_
              exact hret _ _ _ _ _ _ dX2_over_55 rfl ⟨by unfold sOver; rw [oB_nI hi, oB_nI hj, tN_nI hi, tN_nI hj, decide_eq_false c17, hy, show x = 32 by omega, ovS_gd i hi j hj (fun q => c17 (by rw [q]; exact nI_0))]; rfl, rfl⟩ hI
            · refine lv_aload_n hC.1.1 hC.1.2.1 dX2_over_34 rfl (lv_at hl 2 rfl) ?_
              refine lv_iload_n hC.1.1 hC.1.2.1 dX2_over_35 rfl (lv_at hl 4 rfl) ?_
              refine lv_iload hC.1.1 hC.1.2.1 dX2_over_36 (lv_at hl 0 rfl) ?_
              refine m_calli (rest := []) hC hI (kX2_product l D h q dA kk u j x hj (by omega)) lkX2_product hdX2_product ⟨rfl, rfl⟩ ⟨Nat.le_of_ble_eq_true rfl, Nat.le_of_ble_eq_true rfl⟩ rfl hl.1 rfl (Nat.le_of_ble_eq_true rfl) ⟨Nat.le_of_ble_eq_true rfl, Nat.le_of_ble_eq_true rfl⟩ dX2_over_38 (fun r38 v38 H locs hp38 hI => ?_)
              obtain ⟨rfl, rfl⟩ := hp38
              refine lv_iload_n hC.1.1 hC.1.2.1 dX2_over_41 rfl (lv_at hl 3 rfl) ?_
              refine n_icmp_ne hC.1 (tgt := 48) dX2_over_42 (by decide) (fun c42 => ?_) (fun c42 => ?_) (Nat.lt_trans (gm_lt _ _) (by decide)) (by omega)
              · refine lv_iinc (v := (nI (x + 1))) (lv' := [(4, .int (nI (x + 1))), (3, .int (nI y)), (0, .ref h), (1, .int (nI i)), (2, .int (nI j))]) hC.1.1 hC.1.2.1 dX2_over_48 hl (k := 0) rfl (ni_inc x) (by decide) rfl (fun ls hl => ?_)
                refine lv_goto (tgt := 27) hC.1.1 hC.1.2.1 dX2_over_51 (by decide) ?_
                exact ih27 (x + 1) y  _ _ _ (by omega) (by omega) (by show _ = (if gm j x = i then x else ovS i j x); first | (rw [if_neg c42]; exact hy) | rw [if_pos c42]) hI (lv_sub hl [0, 1, 2, 3, 4] rfl)
              · refine lv_iload hC.1.1 hC.1.2.1 dX2_over_45 (lv_at hl 0 rfl) ?_
                refine lv_istore_n (lv' := [(3, .int (nI x)), (4, .int (nI x)), (0, .ref h), (1, .int (nI i)), (2, .int (nI j))]) hC.1.1 hC.1.2.1 dX2_over_47 rfl hl (by decide) rfl (fun ls hl => ?_)
                refine lv_iinc (v := (nI (x + 1))) (lv' := [(4, .int (nI (x + 1))), (3, .int (nI x)), (0, .ref h), (1, .int (nI i)), (2, .int (nI j))]) hC.1.1 hC.1.2.1 dX2_over_48 hl (k := 1) rfl (ni_inc x) (by decide) rfl (fun ls hl => ?_)
                refine lv_goto (tgt := 27) hC.1.1 hC.1.2.1 dX2_over_51 (by decide) ?_
                exact ih27 (x + 1) x  _ _ _ (by omega) (by omega) (by show _ = (if gm j x = i then x else ovS i j x); first | (rw [if_neg c42]; exact hy) | rw [if_pos c42]) hI (lv_sub hl [0, 1, 2, 3, 4] rfl)
        exact lp27 (33) 0 0  _ _ _ (by omega) (by omega) rfl hI (lv_sub hl [0, 1, 2, 3, 4] rfl)
      · refine lv_iconst (v := (pI 0)) hC.1.1 hC.1.2.1 dX2_over_20 (by decide +kernel) ?_
        exact hret _ _ _ _ _ _ dX2_over_21 rfl ⟨by unfold sOver; rw [if_pos (by first | (rw [nb_0 c5]; rfl) | (rw [nb_0 c13, Bool.or_true]; rfl) | (rw [decide_eq_true c17, Bool.or_true]))], rfl⟩ hI
abbrev rmX2_isMessage : Room := { frames := 1, cells := 0, slots := 0, locals := 21 }
theorem hdX2_isMessage : yX2_isMessage.cls = RX2 ∧ yX2_isMessage.cls ≠ "java/lang/invoke/MethodHandle" ∧ yX2_isMessage.cls ≠ "java/lang/invoke/VarHandle" ∧ (parseMethodDescriptor yX2_isMessage.desc).map (fun d => d.parameters.length) = some 2 := by decide +kernel
theorem lkX2_isMessage : GoodIn lw_all (wsV RX2 43 RX2 yX2_isMessage (ws_ yX2_isMessage cX2_isMessage 3 (some .boolean))) := lw_V q260 q262 qs21 q29 q263
set_option maxHeartbeats 4000000 in
set_option maxRecDepth 100000 in
/-- isMessage -/
theorem kX2_isMessage (l : Launch) (D : va_G) (h : Nat) (q : Nat → Nat) (dA : ClassId × ClassId) (kk : Nat) (u : MS) (a b : Int32) (hk : kk = 1 ∨ kk = 2) : mMi l yX2_isMessage (ws_ yX2_isMessage cX2_isMessage 3 (some .boolean)) rmX2_isMessage D h q dA kk [.int a, .int b] u (fun r u' => r = nI (!bM kk a b).toNat ∧ u = u') := by
  refine mMi_of (lv := [(0, .ref h), (1, .int a), (2, .int b)]) (by decide) rfl (Nat.le_of_ble_eq_true rfl) rfl ?_
  intro p e s m args below meth c A Q ls hC hI hl hret
  refine lv_aload_n hC.1.1 hC.1.2.1 dX2_isMessage_0 rfl (lv_at hl 0 rfl) ?_
  refine lv_iload_n hC.1.1 hC.1.2.1 dX2_isMessage_1 rfl (lv_at hl 1 rfl) ?_
  refine m_calli (rest := []) hC hI (kX2_isElement l D h q dA kk u a) lkX2_isElement hdX2_isElement ⟨rfl, rfl⟩ ⟨Nat.le_of_ble_eq_true rfl, Nat.le_of_ble_eq_true rfl⟩ rfl hl.1 rfl (Nat.le_of_ble_eq_true rfl) ⟨Nat.le_of_ble_eq_true rfl, Nat.le_of_ble_eq_true rfl⟩ dX2_isMessage_2 (fun r2 v2 H locs hp2 hI => ?_)
  obtain ⟨rfl, rfl⟩ := hp2
  refine n_if_eq hC.1 (tgt := 32) dX2_isMessage_5 (by decide) (fun c5 => ?_) (fun c5 => ?_) (Nat.lt_trans (bt_lt _) (by decide))
  · refine lv_iconst (v := (nI 0)) hC.1.1 hC.1.2.1 dX2_isMessage_32 (by decide +kernel) ?_
    exact hret _ _ _ _ _ _ dX2_isMessage_33 rfl ⟨by unfold bM; first | (rw [nb_0 c5]; rfl) | (rw [nb_0 c13, Bool.or_true]; rfl) | (rw [nb_1 c5, nb_1 c13, decide_eq_false (show ¬ kk = 1 by omega)]; rfl) | (rw [nb_1 c5, nb_1 c13, decide_eq_true (show kk = 1 by omega), decide_eq_true c25]; rfl) | (rw [nb_1 c5, nb_1 c13, decide_eq_true (show kk = 1 by omega), decide_eq_false c25]; rfl), rfl⟩ hI
  · refine lv_aload_n hC.1.1 hC.1.2.1 dX2_isMessage_8 rfl (lv_at hl 0 rfl) ?_
    refine lv_iload_n hC.1.1 hC.1.2.1 dX2_isMessage_9 rfl (lv_at hl 2 rfl) ?_
    refine m_calli (rest := []) hC hI (kX2_isElement l D h q dA kk u b) lkX2_isElement hdX2_isElement ⟨rfl, rfl⟩ ⟨Nat.le_of_ble_eq_true rfl, Nat.le_of_ble_eq_true rfl⟩ rfl hl.1 rfl (Nat.le_of_ble_eq_true rfl) ⟨Nat.le_of_ble_eq_true rfl, Nat.le_of_ble_eq_true rfl⟩ dX2_isMessage_10 (fun r10 v10 H locs hp10 hI => ?_)
    obtain ⟨rfl, rfl⟩ := hp10
    refine n_if_eq hC.1 (tgt := 32) dX2_isMessage_13 (by decide) (fun c13 => ?_) (fun c13 => ?_) (Nat.lt_trans (bt_lt _) (by decide))
    · refine lv_iconst (v := (nI 0)) hC.1.1 hC.1.2.1 dX2_isMessage_32 (by decide +kernel) ?_
      exact hret _ _ _ _ _ _ dX2_isMessage_33 rfl ⟨by unfold bM; first | (rw [nb_0 c5]; rfl) | (rw [nb_0 c13, Bool.or_true]; rfl) | (rw [nb_1 c5, nb_1 c13, decide_eq_false (show ¬ kk = 1 by omega)]; rfl) | (rw [nb_1 c5, nb_1 c13, decide_eq_true (show kk = 1 by omega), decide_eq_true c25]; rfl) | (rw [nb_1 c5, nb_1 c13, decide_eq_true (show kk = 1 by omega), decide_eq_false c25]; rfl), rfl⟩ hI
    · refine lv_aload_n hC.1.1 hC.1.2.1 dX2_isMessage_16 rfl (lv_at hl 0 rfl) ?_
      refine m_get_k hC hI dX2_isMessage_17 ?_
      refine lv_iconst (v := (nI 2)) hC.1.1 hC.1.2.1 dX2_isMessage_20 (by decide +kernel) ?_
      refine n_icmp_eq hC.1 (tgt := 28) dX2_isMessage_21 (by decide) (fun c21 => ?_) (fun c21 => ?_)
      · refine lv_iconst (v := (nI 1)) hC.1.1 hC.1.2.1 dX2_isMessage_28 (by decide +kernel) ?_
        refine lv_goto (tgt := 33) hC.1.1 hC.1.2.1 dX2_isMessage_29 (by decide) ?_
        exact hret _ _ _ _ _ _ dX2_isMessage_33 rfl ⟨by unfold bM; first | (rw [nb_0 c5]; rfl) | (rw [nb_0 c13, Bool.or_true]; rfl) | (rw [nb_1 c5, nb_1 c13, decide_eq_false (show ¬ kk = 1 by omega)]; rfl) | (rw [nb_1 c5, nb_1 c13, decide_eq_true (show kk = 1 by omega), decide_eq_true c25]; rfl) | (rw [nb_1 c5, nb_1 c13, decide_eq_true (show kk = 1 by omega), decide_eq_false c25]; rfl), rfl⟩ hI
      · refine lv_iload_n hC.1.1 hC.1.2.1 dX2_isMessage_24 rfl (lv_at hl 2 rfl) ?_
        refine lv_if_ne hC.1.1 hC.1.2.1 (tgt := 32) dX2_isMessage_25 (by decide) (fun c25 => ?_) (fun c25 => ?_)
        · refine lv_iconst (v := (nI 0)) hC.1.1 hC.1.2.1 dX2_isMessage_32 (by decide +kernel) ?_
          exact hret _ _ _ _ _ _ dX2_isMessage_33 rfl ⟨by unfold bM; first | (rw [nb_0 c5]; rfl) | (rw [nb_0 c13, Bool.or_true]; rfl) | (rw [nb_1 c5, nb_1 c13, decide_eq_false (show ¬ kk = 1 by omega)]; rfl) | (rw [nb_1 c5, nb_1 c13, decide_eq_true (show kk = 1 by omega), decide_eq_true c25]; rfl) | (rw [nb_1 c5, nb_1 c13, decide_eq_true (show kk = 1 by omega), decide_eq_false c25]; rfl), rfl⟩ hI
        · refine lv_iconst (v := (nI 1)) hC.1.1 hC.1.2.1 dX2_isMessage_28 (by decide +kernel) ?_
          refine lv_goto (tgt := 33) hC.1.1 hC.1.2.1 dX2_isMessage_29 (by decide) ?_
          exact hret _ _ _ _ _ _ dX2_isMessage_33 rfl ⟨by unfold bM; first | (rw [nb_0 c5]; rfl) | (rw [nb_0 c13, Bool.or_true]; rfl) | (rw [nb_1 c5, nb_1 c13, decide_eq_false (show ¬ kk = 1 by omega)]; rfl) | (rw [nb_1 c5, nb_1 c13, decide_eq_true (show kk = 1 by omega), decide_eq_true c25]; rfl) | (rw [nb_1 c5, nb_1 c13, decide_eq_true (show kk = 1 by omega), decide_eq_false c25]; rfl), rfl⟩ hI
abbrev rmX2_codeWord : Room := { frames := 1, cells := 0, slots := 0, locals := 24 }
theorem hdX2_codeWord : yX2_codeWord.cls = RX2 ∧ yX2_codeWord.cls ≠ "java/lang/invoke/MethodHandle" ∧ yX2_codeWord.cls ≠ "java/lang/invoke/VarHandle" ∧ (parseMethodDescriptor yX2_codeWord.desc).map (fun d => d.parameters.length) = some 2 := by decide +kernel
theorem lkX2_codeWord : GoodIn lw_all (wsV RX2 35 RX2 yX2_codeWord (ws_ yX2_codeWord cX2_codeWord 6 none)) := lw_V q264 q266 qs22 q29 q267
set_option maxHeartbeats 4000000 in
set_option maxRecDepth 100000 in
/-- codeWord -/
theorem kX2_codeWord (l : Launch) (D : va_G) (h : Nat) (q : Nat → Nat) (dA : ClassId × ClassId) (kk : Nat) (u : MS) (a b : Nat) (ha : a < 32) (hb : b < 32) : mMv l yX2_codeWord (ws_ yX2_codeWord cX2_codeWord 6 none) rmX2_codeWord D h q dA kk [.int (nI a), .int (nI b)] u (fun u' => u'.2.1 = ov u.2.1 (vl a b) 5 ∧ u'.1 = u.1 ∧ u'.2.2 = u.2.2) := by
  refine mMv_of (lv := [(0, .ref h), (1, .int (nI a)), (2, .int (nI b))]) (by decide) rfl (Nat.le_of_ble_eq_true rfl) rfl ?_
  intro p e s m args below meth c A Q ls hC hI hl hret
  refine lv_iconst (v := (nI 0)) hC.1.1 hC.1.2.1 dX2_codeWord_0 (by decide +kernel) ?_
  refine lv_istore_n (lv' := [(3, .int (nI 0)), (0, .ref h), (1, .int (nI a)), (2, .int (nI b))]) hC.1.1 hC.1.2.1 dX2_codeWord_1 rfl hl (by decide) rfl (fun ls hl => ?_)
  have lp2 : ∀ (n : Nat) (i : Nat) (u2 : MS) (H : Heap) (locs : List Loc) (ls : Array Slot), i ≤ 5 → 5 < i + n → u2.2.1 = ov u.2.1 (vl a b) i → u2.1 = u.1 → u2.2.2 = u.2.2 → mI D h q dA kk A s.heap u2 H locs → lv_has ls 6 [(3, .int (nI i)), (0, .ref h), (1, .int (nI a)), (2, .int (nI b))] → W p l e rmX2_codeWord s m args below meth c H locs 0 0 Q (F0 m 2 ls []) := by
    intro n
    induction n with
    | zero => intro i u2 H locs ls hi hn hu1 hu2 hu3; exfalso; omega
    | succ n ih =>
      intro i u2 H locs ls hi hn hu1 hu2 hu3 hI hl
      have ih2 := ih
      clear ih
      refine lv_iload_n hC.1.1 hC.1.2.1 dX2_codeWord_2 rfl (lv_at hl 0 rfl) ?_
      refine lv_iconst (v := (nI 5)) hC.1.1 hC.1.2.1 dX2_codeWord_3 (by decide +kernel) ?_
      refine n_icmp_ge hC.1 (tgt := 49) dX2_codeWord_4 (by decide) (fun c4 => ?_) (fun c4 => ?_)
      · exact hret _ _ _ _ _ dX2_codeWord_49 ⟨by rw [hu1, show i = 5 by omega], hu2, hu3⟩ hI
      · refine lv_iconst (v := (nI 1)) hC.1.1 hC.1.2.1 dX2_codeWord_7 (by decide +kernel) ?_
        refine lv_iload_n hC.1.1 hC.1.2.1 dX2_codeWord_8 rfl (lv_at hl 0 rfl) ?_
        refine n_ishl1 hC.1 dX2_codeWord_9 ?_
        refine lv_istore (lv' := [(4, .int (nI (2 ^ i))), (3, .int (nI i)), (0, .ref h), (1, .int (nI a)), (2, .int (nI b))]) hC.1.1 hC.1.2.1 dX2_codeWord_10 hl (by decide) rfl (fun ls hl => ?_)
        refine lv_aload_n hC.1.1 hC.1.2.1 dX2_codeWord_12 rfl (lv_at hl 2 rfl) ?_
        refine lv_iload hC.1.1 hC.1.2.1 dX2_codeWord_13 (lv_at hl 0 rfl) ?_
        refine lv_iload hC.1.1 hC.1.2.1 dX2_codeWord_15 (lv_at hl 0 rfl) ?_
        refine m_calli (rest := []) hC hI (kX2_product l D h q dA kk u2 (2 ^ i) (2 ^ i) (p5 (by omega)) (p5 (by omega))) lkX2_product hdX2_product ⟨rfl, rfl⟩ ⟨Nat.le_of_ble_eq_true rfl, Nat.le_of_ble_eq_true rfl⟩ rfl hl.1 rfl (Nat.le_of_ble_eq_true rfl) ⟨Nat.le_of_ble_eq_true rfl, Nat.le_of_ble_eq_true rfl⟩ dX2_codeWord_17 (fun r17 v17 H locs hp17 hI => ?_)
        obtain ⟨rfl, rfl⟩ := hp17
        refine lv_istore (lv' := [(5, .int (nI (gm (2 ^ i) (2 ^ i)))), (4, .int (nI (2 ^ i))), (3, .int (nI i)), (0, .ref h), (1, .int (nI a)), (2, .int (nI b))]) hC.1.1 hC.1.2.1 dX2_codeWord_20 hl (by decide) rfl (fun ls hl => ?_)
        refine lv_aload_n hC.1.1 hC.1.2.1 dX2_codeWord_22 rfl (lv_at hl 3 rfl) ?_
        refine m_get_code hC hI dX2_codeWord_23 ?_
        refine lv_iload_n hC.1.1 hC.1.2.1 dX2_codeWord_26 rfl (lv_at hl 2 rfl) ?_
        refine lv_aload_n hC.1.1 hC.1.2.1 dX2_codeWord_27 rfl (lv_at hl 3 rfl) ?_
        refine lv_iload_n hC.1.1 hC.1.2.1 dX2_codeWord_28 rfl (lv_at hl 4 rfl) ?_
        refine lv_iload hC.1.1 hC.1.2.1 dX2_codeWord_29 (lv_at hl 1 rfl) ?_
        refine m_calli (rest := [.int (nI i), .ref (q 1)]) hC hI (kX2_product l D h q dA kk u2 a (2 ^ i) ha (p5 (by omega))) lkX2_product hdX2_product ⟨rfl, rfl⟩ ⟨Nat.le_of_ble_eq_true rfl, Nat.le_of_ble_eq_true rfl⟩ rfl hl.1 rfl (Nat.le_of_ble_eq_true rfl) ⟨Nat.le_of_ble_eq_true rfl, Nat.le_of_ble_eq_true rfl⟩ dX2_codeWord_31 (fun r31 v31 H locs hp31 hI => ?_)
        obtain ⟨rfl, rfl⟩ := hp31
        refine lv_aload_n hC.1.1 hC.1.2.1 dX2_codeWord_34 rfl (lv_at hl 3 rfl) ?_
        refine lv_iload_n hC.1.1 hC.1.2.1 dX2_codeWord_35 rfl (lv_at hl 5 rfl) ?_
        refine lv_iload hC.1.1 hC.1.2.1 dX2_codeWord_36 (lv_at hl 0 rfl) ?_
        refine m_calli (rest := [.int (nI (gm a (2 ^ i))), .int (nI i), .ref (q 1)]) hC hI (kX2_product l D h q dA kk u2 b (gm (2 ^ i) (2 ^ i)) hb (gm_lt _ _)) lkX2_product hdX2_product ⟨rfl, rfl⟩ ⟨Nat.le_of_ble_eq_true rfl, Nat.le_of_ble_eq_true rfl⟩ rfl hl.1 rfl (Nat.le_of_ble_eq_true rfl) ⟨Nat.le_of_ble_eq_true rfl, Nat.le_of_ble_eq_true rfl⟩ dX2_codeWord_38 (fun r38 v38 H locs hp38 hI => ?_)
        obtain ⟨rfl, rfl⟩ := hp38
        refine n_ixor hC.1 dX2_codeWord_41 ?_
        refine m_st_code (x := (gm a (2 ^ i)) ^^^ (gm b (gm (2 ^ i) (2 ^ i)))) hC hI dX2_codeWord_42 (fun v42 H locs v42_0 v42_1 v42_2 hI => ?_)
        refine lv_iinc (v := (nI (i + 1))) (lv' := [(3, .int (nI (i + 1))), (5, .int (nI (gm (2 ^ i) (2 ^ i)))), (4, .int (nI (2 ^ i))), (0, .ref h), (1, .int (nI a)), (2, .int (nI b))]) hC.1.1 hC.1.2.1 dX2_codeWord_43 hl (k := 2) rfl (ni_inc i) (by decide) rfl (fun ls hl => ?_)
        refine lv_goto (tgt := 2) hC.1.1 hC.1.2.1 dX2_codeWord_46 (by decide) ?_
        exact ih2 (i + 1) v42 _ _ _ (by omega) (by omega) (by rw [v42_0, hu1]; exact ov_s _ (vl a b) i) (by rw [v42_1, hu2]) (by rw [v42_2, hu3]) hI (lv_sub hl [0, 3, 4, 5] rfl)
  exact lp2 (6) 0 u _ _ _ (by omega) (by omega) (ov_0 _ _).symm rfl rfl hI (lv_sub hl [0, 1, 2, 3] rfl)
theorem rk_in {v : Nat → Nat} {i x s : Nat} {z y : Int32} (hz : ∀ x, x < 32 → bt z x = sp v i x) (hy : ∀ w, w < 32 → bt y w = (sp v i w || (decide (w ^^^ s < x) && sp v i (w ^^^ s)))) (hx : x < 32) (hs : s < 32) (h : bt z x = true) :
    ∀ w, w < 32 → bt (y ||| nI (2 ^ (x ^^^ s))) w = (sp v i w || (decide (w ^^^ s < x + 1) && sp v i (w ^^^ s))) := by
  intro w hw
  rw [b_or, hy w hw, bt_p2 _ (x_lt hx hs) w hw]
  by_cases e : w = x ^^^ s
  · have e2 : w ^^^ s = x := by rw [e, x2]
    rw [e2, decide_eq_true e, decide_eq_true (show x < x + 1 by omega), ← hz x hx, h]
    simp
  · have e2 : ¬ w ^^^ s = x := fun q => e (by rw [← q, x2])
    rw [decide_eq_false e, Bool.or_false]
    congr 2
    exact decide_eq_decide.mpr (by omega)
theorem rk_out {v : Nat → Nat} {i x s : Nat} {z y : Int32} (hz : ∀ x, x < 32 → bt z x = sp v i x) (hy : ∀ w, w < 32 → bt y w = (sp v i w || (decide (w ^^^ s < x) && sp v i (w ^^^ s)))) (hx : x < 32) (hs : s < 32) (h : bt z x = false) :
    ∀ w, w < 32 → bt y w = (sp v i w || (decide (w ^^^ s < x + 1) && sp v i (w ^^^ s))) := by
  intro w hw
  rw [hy w hw]
  by_cases e2 : w ^^^ s = x
  · rw [e2, ← hz x hx, h, Bool.and_false, Bool.and_false]
  · congr 2
    exact decide_eq_decide.mpr (by omega)
abbrev rmX2_rankOfSum : Room := { frames := 0, cells := 0, slots := 0, locals := 0 }
theorem hdX2_rankOfSum : yX2_rankOfSum.cls = RX2 ∧ yX2_rankOfSum.cls ≠ "java/lang/invoke/MethodHandle" ∧ yX2_rankOfSum.cls ≠ "java/lang/invoke/VarHandle" ∧ (parseMethodDescriptor yX2_rankOfSum.desc).map (fun d => d.parameters.length) = some 1 := by decide +kernel
theorem lkX2_rankOfSum : GoodIn lw_all (wsV RX2 39 RX2 yX2_rankOfSum (ws_ yX2_rankOfSum cX2_rankOfSum 7 (some .int))) := lw_V q288 q290 qs24 q29 q291
set_option maxHeartbeats 4000000 in
set_option maxRecDepth 100000 in
/-- rankOfSum -/
theorem kX2_rankOfSum (l : Launch) (D : va_G) (h : Nat) (q : Nat → Nat) (dA : ClassId × ClassId) (kk : Nat) (u : MS) (lim : Nat) (hlim : lim < 2 ^ 31) (hb : b32 u.2.2.1) : mMi l yX2_rankOfSum (ws_ yX2_rankOfSum cX2_rankOfSum 7 (some .int)) rmX2_rankOfSum D h q dA kk [.int (nI lim)] u (fun r u' => (∃ n, r = nI n ∧ n ≤ 5 ∧ (n = rkM u.2.2.1 ∨ (lim < n ∧ lim < rkM u.2.2.1))) ∧ u = u') := by
  refine mMi_of (lv := [(0, .ref h), (1, .int (nI lim))]) (by decide) rfl (Nat.le_of_ble_eq_true rfl) rfl ?_
  intro p e s m args below meth c A Q ls hC hI hl hret
  refine lv_iconst (v := (nI 1)) hC.1.1 hC.1.2.1 dX2_rankOfSum_0 (by decide +kernel) ?_
  refine lv_istore_n (lv' := [(2, .int (nI 1)), (0, .ref h), (1, .int (nI lim))]) hC.1.1 hC.1.2.1 dX2_rankOfSum_1 rfl hl (by decide) rfl (fun ls hl => ?_)
  refine lv_iconst (v := (nI 0)) hC.1.1 hC.1.2.1 dX2_rankOfSum_2 (by decide +kernel) ?_
  refine lv_istore_n (lv' := [(3, .int (nI 0)), (2, .int (nI 1)), (0, .ref h), (1, .int (nI lim))]) hC.1.1 hC.1.2.1 dX2_rankOfSum_3 rfl hl (by decide) rfl (fun ls hl => ?_)
  refine lv_iconst (v := (nI 0)) hC.1.1 hC.1.2.1 dX2_rankOfSum_4 (by decide +kernel) ?_
  refine lv_istore (lv' := [(4, .int (nI 0)), (3, .int (nI 0)), (2, .int (nI 1)), (0, .ref h), (1, .int (nI lim))]) hC.1.1 hC.1.2.1 dX2_rankOfSum_5 hl (by decide) rfl (fun ls hl => ?_)
  have lp7 : ∀ (n : Nat) (i : Nat) (k : Nat) (z : Int32) (H : Heap) (locs : List Loc) (ls : Array Slot), i ≤ 5 → 5 < i + n → k = rkS u.2.2.1 i → (∀ x, x < 32 → bt z x = sp u.2.2.1 i x) → mI D h q dA kk A s.heap u H locs → lv_has ls 7 [(4, .int (nI i)), (3, .int (nI k)), (2, .int z), (0, .ref h), (1, .int (nI lim))] → W p l e rmX2_rankOfSum s m args below meth c H locs 0 0 Q (F0 m 7 ls []) := by
    intro n
    induction n with
    | zero => intro i k z  H locs ls hi hn hk hz; exfalso; omega
    | succ n ih =>
      intro i k z  H locs ls hi hn hk hz hI hl
      have ih7 := ih
      clear ih
      refine lv_iload hC.1.1 hC.1.2.1 dX2_rankOfSum_7 (lv_at hl 0 rfl) ?_
      refine lv_iconst (v := (nI 5)) hC.1.1 hC.1.2.1 dX2_rankOfSum_9 (by decide +kernel) ?_
      refine n_icmp_ge hC.1 (tgt := 90) dX2_rankOfSum_10 (by decide) (fun c10 => ?_) (fun c10 => ?_)
      · refine lv_iload_n hC.1.1 hC.1.2.1 dX2_rankOfSum_90 rfl (lv_at hl 1 rfl) ?_
        exact hret _ _ _ _ _ _ dX2_rankOfSum_91 rfl ⟨⟨k, rfl, by rw [hk]; exact Nat.le_trans (rkS_le _ _) hi, by rw [hk]; first | exact Or.inl (by rw [show i = 5 by omega]; rfl) | exact Or.inr ⟨by omega, Nat.lt_of_lt_of_le (by omega) (rkS_mono u.2.2.1 (i := i) 5 hi)⟩⟩, rfl⟩ hI
      · refine lv_iload_n hC.1.1 hC.1.2.1 dX2_rankOfSum_13 rfl (lv_at hl 1 rfl) ?_
        refine lv_iload_n hC.1.1 hC.1.2.1 dX2_rankOfSum_14 rfl (lv_at hl 4 rfl) ?_
        refine n_icmp_gt hC.1 (tgt := 90) dX2_rankOfSum_15 (by decide) (fun c15 => ?_) (fun c15 => ?_) (by rw [hk]; exact Nat.lt_of_le_of_lt (rkS_le _ _) (by omega)) hlim
        · refine lv_iload_n hC.1.1 hC.1.2.1 dX2_rankOfSum_90 rfl (lv_at hl 1 rfl) ?_
          exact hret _ _ _ _ _ _ dX2_rankOfSum_91 rfl ⟨⟨k, rfl, by rw [hk]; exact Nat.le_trans (rkS_le _ _) hi, by rw [hk]; first | exact Or.inl (by rw [show i = 5 by omega]; rfl) | exact Or.inr ⟨by omega, Nat.lt_of_lt_of_le (by omega) (rkS_mono u.2.2.1 (i := i) 5 hi)⟩⟩, rfl⟩ hI
        · refine lv_iload_n hC.1.1 hC.1.2.1 dX2_rankOfSum_18 rfl (lv_at hl 2 rfl) ?_
          refine lv_aload_n hC.1.1 hC.1.2.1 dX2_rankOfSum_19 rfl (lv_at hl 3 rfl) ?_
          refine m_get_sum hC hI dX2_rankOfSum_20 ?_
          refine lv_iload hC.1.1 hC.1.2.1 dX2_rankOfSum_23 (lv_at hl 0 rfl) ?_
          refine m_ld_sum hC hI dX2_rankOfSum_25 ?_
          refine lv_ishr hC.1.1 hC.1.2.1 dX2_rankOfSum_26 ?_
          refine lv_iconst (v := (nI 1)) hC.1.1 hC.1.2.1 dX2_rankOfSum_27 (by decide +kernel) ?_
          refine lv_iand hC.1.1 hC.1.2.1 dX2_rankOfSum_28 ?_
          refine lv_if_ne hC.1.1 hC.1.2.1 (tgt := 84) dX2_rankOfSum_29 (by decide) (fun c29 => ?_) (fun c29 => ?_)
          · refine lv_iinc (v := (nI (i + 1))) (lv' := [(4, .int (nI (i + 1))), (3, .int (nI k)), (2, .int z), (0, .ref h), (1, .int (nI lim))]) hC.1.1 hC.1.2.1 dX2_rankOfSum_84 hl (k := 0) rfl (ni_inc i) (by decide) rfl (fun ls hl => ?_)
            refine lv_goto (tgt := 7) hC.1.1 hC.1.2.1 dX2_rankOfSum_87 (by decide) ?_
            exact ih7 (i + 1) k z  _ _ _ (by omega) (by omega) (by rw [hk]; show _ = rkS u.2.2.1 i + _; rw [if_pos (by rw [← hz _ (hb i)]; exact z_t (hb i) c29)]; rfl) (fun x hx => by rw [hz x hx]; exact (sp_k (by rw [← hz _ (hb i)]; exact z_t (hb i) c29) x).symm) hI (lv_sub hl [0, 1, 2, 3, 4] rfl)
          · refine lv_iinc (v := (nI (k + 1))) (lv' := [(3, .int (nI (k + 1))), (4, .int (nI i)), (2, .int z), (0, .ref h), (1, .int (nI lim))]) hC.1.1 hC.1.2.1 dX2_rankOfSum_32 hl (k := 1) rfl (ni_inc k) (by decide) rfl (fun ls hl => ?_)
            refine lv_iload_n hC.1.1 hC.1.2.1 dX2_rankOfSum_35 rfl (lv_at hl 2 rfl) ?_
            refine lv_istore (lv' := [(5, .int z), (3, .int (nI (k + 1))), (4, .int (nI i)), (2, .int z), (0, .ref h), (1, .int (nI lim))]) hC.1.1 hC.1.2.1 dX2_rankOfSum_36 hl (by decide) rfl (fun ls hl => ?_)
            refine lv_iconst (v := (nI 0)) hC.1.1 hC.1.2.1 dX2_rankOfSum_38 (by decide +kernel) ?_
            refine lv_istore (lv' := [(6, .int (nI 0)), (5, .int z), (3, .int (nI (k + 1))), (4, .int (nI i)), (2, .int z), (0, .ref h), (1, .int (nI lim))]) hC.1.1 hC.1.2.1 dX2_rankOfSum_39 hl (by decide) rfl (fun ls hl => ?_)
            have lp41 : ∀ (n : Nat) (x : Nat) (y : Int32) (H : Heap) (locs : List Loc) (ls : Array Slot), x ≤ 32 → 32 < x + n → (∀ w, w < 32 → bt y w = (sp u.2.2.1 i w || (decide (w ^^^ u.2.2.1 i < x) && sp u.2.2.1 i (w ^^^ u.2.2.1 i)))) → mI D h q dA kk A s.heap u H locs → lv_has ls 7 [(6, .int (nI x)), (5, .int y), (4, .int (nI i)), (3, .int (nI (k + 1))), (2, .int z), (0, .ref h), (1, .int (nI lim))] → W p l e rmX2_rankOfSum s m args below meth c H locs 0 0 Q (F0 m 41 ls []) := by
              intro n
              induction n with
              | zero => intro x y  H locs ls hx hnx hy; exfalso; omega
              | succ n ih =>
                intro x y  H locs ls hx hnx hy hI hl
                have ih41 := ih
                clear ih
                refine lv_iload hC.1.1 hC.1.2.1 dX2_rankOfSum_41 (lv_at hl 0 rfl) ?_
                refine lv_bipush (v := (nI 32)) hC.1.1 hC.1.2.1 dX2_rankOfSum_43 (by decide +kernel) ?_
                refine n_icmp_ge hC.1 (tgt := 81) dX2_rankOfSum_45 (by decide) (fun c45 => ?_) (fun c45 => ?_)
                · refine lv_iload hC.1.1 hC.1.2.1 dX2_rankOfSum_81 (lv_at hl 1 rfl) ?_
                  refine lv_istore_n (lv' := [(2, .int y), (6, .int (nI x)), (5, .int y), (4, .int (nI i)), (3, .int (nI (k + 1))), (0, .ref h), (1, .int (nI lim))]) hC.1.1 hC.1.2.1 dX2_rankOfSum_83 rfl hl (by decide) rfl (fun ls hl => ?_)
                  refine lv_iinc (v := (nI (i + 1))) (lv' := [(4, .int (nI (i + 1))), (2, .int y), (6, .int (nI x)), (5, .int y), (3, .int (nI (k + 1))), (0, .ref h), (1, .int (nI lim))]) hC.1.1 hC.1.2.1 dX2_rankOfSum_84 hl (k := 3) rfl (ni_inc i) (by decide) rfl (fun ls hl => ?_)
                  refine lv_goto (tgt := 7) hC.1.1 hC.1.2.1 dX2_rankOfSum_87 (by decide) ?_
                  exact ih7 (i + 1) (k + 1) y  _ _ _ (by omega) (by omega) (by rw [hk]; show _ = rkS u.2.2.1 i + _; rw [if_neg (by rw [← hz _ (hb i), z_f (hb i) c29]; decide)]) (fun w hw => by rw [hy w hw, show x = 32 by omega, decide_eq_true (x_lt hw (hb i)), Bool.true_and]; rfl) hI (lv_sub hl [0, 4, 1, 5, 6] rfl)
                · refine lv_iload_n hC.1.1 hC.1.2.1 dX2_rankOfSum_48 rfl (lv_at hl 4 rfl) ?_
                  refine lv_iload hC.1.1 hC.1.2.1 dX2_rankOfSum_49 (lv_at hl 0 rfl) ?_
                  refine lv_ishr hC.1.1 hC.1.2.1 dX2_rankOfSum_51 ?_
                  refine lv_iconst (v := (nI 1)) hC.1.1 hC.1.2.1 dX2_rankOfSum_52 (by decide +kernel) ?_
                  refine lv_iand hC.1.1 hC.1.2.1 dX2_rankOfSum_53 ?_
                  refine lv_iconst (v := (nI 1)) hC.1.1 hC.1.2.1 dX2_rankOfSum_54 (by decide +kernel) ?_
                  refine lv_icmp_ne hC.1.1 hC.1.2.1 (tgt := 75) dX2_rankOfSum_55 (by decide) (fun c55 => ?_) (fun c55 => ?_)
                  · refine lv_iinc (v := (nI (x + 1))) (lv' := [(6, .int (nI (x + 1))), (5, .int y), (4, .int (nI i)), (3, .int (nI (k + 1))), (2, .int z), (0, .ref h), (1, .int (nI lim))]) hC.1.1 hC.1.2.1 dX2_rankOfSum_75 hl (k := 0) rfl (ni_inc x) (by decide) rfl (fun ls hl => ?_)
                    refine lv_goto (tgt := 41) hC.1.1 hC.1.2.1 dX2_rankOfSum_78 (by decide) ?_
                    exact ih41 (x + 1) y  _ _ _ (by omega) (by omega) (by first | exact rk_in hz hy (by omega) (hb i) (z_1 (by omega) c55) | exact rk_out hz hy (by omega) (hb i) (z_n1 (by omega) c55)) hI (lv_sub hl [0, 1, 2, 3, 4, 5, 6] rfl)
                  · refine lv_iload hC.1.1 hC.1.2.1 dX2_rankOfSum_58 (lv_at hl 1 rfl) ?_
                    refine lv_iconst (v := (nI 1)) hC.1.1 hC.1.2.1 dX2_rankOfSum_60 (by decide +kernel) ?_
                    refine lv_iload hC.1.1 hC.1.2.1 dX2_rankOfSum_61 (lv_at hl 0 rfl) ?_
                    refine lv_aload_n hC.1.1 hC.1.2.1 dX2_rankOfSum_63 rfl (lv_at hl 5 rfl) ?_
                    refine m_get_sum hC hI dX2_rankOfSum_64 ?_
                    refine lv_iload hC.1.1 hC.1.2.1 dX2_rankOfSum_67 (lv_at hl 2 rfl) ?_
                    refine m_ld_sum hC hI dX2_rankOfSum_69 ?_
                    refine n_ixor hC.1 dX2_rankOfSum_70 ?_
                    refine n_ishl1 hC.1 dX2_rankOfSum_71 ?_ (x_lt (by omega) (hb i))
                    refine lv_ior hC.1.1 hC.1.2.1 dX2_rankOfSum_72 ?_
                    refine lv_istore (lv' := [(5, .int (y ||| ((nI (2 ^ (x ^^^ (u.2.2.1 i))))))), (6, .int (nI x)), (4, .int (nI i)), (3, .int (nI (k + 1))), (2, .int z), (0, .ref h), (1, .int (nI lim))]) hC.1.1 hC.1.2.1 dX2_rankOfSum_73 hl (by decide) rfl (fun ls hl => ?_)
                    refine lv_iinc (v := (nI (x + 1))) (lv' := [(6, .int (nI (x + 1))), (5, .int (y ||| ((nI (2 ^ (x ^^^ (u.2.2.1 i))))))), (4, .int (nI i)), (3, .int (nI (k + 1))), (2, .int z), (0, .ref h), (1, .int (nI lim))]) hC.1.1 hC.1.2.1 dX2_rankOfSum_75 hl (k := 1) rfl (ni_inc x) (by decide) rfl (fun ls hl => ?_)
                    refine lv_goto (tgt := 41) hC.1.1 hC.1.2.1 dX2_rankOfSum_78 (by decide) ?_
                    exact ih41 (x + 1) (y ||| ((nI (2 ^ (x ^^^ (u.2.2.1 i))))))  _ _ _ (by omega) (by omega) (by first | exact rk_in hz hy (by omega) (hb i) (z_1 (by omega) c55) | exact rk_out hz hy (by omega) (hb i) (z_n1 (by omega) c55)) hI (lv_sub hl [0, 1, 2, 3, 4, 5, 6] rfl)
            exact lp41 (33) 0 z  _ _ _ (by omega) (by omega) (fun w hw => by rw [hz w hw, decide_eq_false (by omega), Bool.false_and, Bool.or_false]) hI (lv_sub hl [0, 1, 3, 2, 4, 5, 6] rfl)
  exact lp7 (6) 0 0 ((nI 1))  _ _ _ (by omega) (by omega) rfl (fun x hx => bt_n1 x hx) hI (lv_sub hl [0, 1, 2, 3, 4] rfl)
abbrev rmX2_distanceTo : Room := { frames := 2, cells := 0, slots := 0, locals := 49 }
theorem hdX2_distanceTo : yX2_distanceTo.cls = RX2 ∧ yX2_distanceTo.cls ≠ "java/lang/invoke/MethodHandle" ∧ yX2_distanceTo.cls ≠ "java/lang/invoke/VarHandle" ∧ (parseMethodDescriptor yX2_distanceTo.desc).map (fun d => d.parameters.length) = some 3 := by decide +kernel
theorem lkX2_distanceTo : GoodIn lw_all (wsV RX2 51 RX2 yX2_distanceTo (ws_ yX2_distanceTo cX2_distanceTo 5 (some .int))) := lw_V q284 q286 qs23 q29 q287
set_option maxHeartbeats 4000000 in
set_option maxRecDepth 100000 in
/-- distanceTo -/
theorem kX2_distanceTo (l : Launch) (D : va_G) (h : Nat) (q : Nat → Nat) (dA : ClassId × ClassId) (kk : Nat) (u : MS) (a b lim : Nat) (ha : a < 32) (hb : b < 32) (hlim : lim < 2 ^ 31) (hw : b32 u.1) (hc : b32 u.2.1) (hs : b32 u.2.2.1) : mMi l yX2_distanceTo (ws_ yX2_distanceTo cX2_distanceTo 5 (some .int)) rmX2_distanceTo D h q dA kk [.int (nI a), .int (nI b), .int (nI lim)] u (fun r u' => (∃ n, r = nI n ∧ n ≤ 5 ∧ (n = rkM (df u.1 a b) ∨ (lim < n ∧ lim < rkM (df u.1 a b)))) ∧ u'.1 = u.1 ∧ u'.2.2.2 = u.2.2.2 ∧ b32 u'.2.1 ∧ b32 u'.2.2.1) := by
  refine mMi_of (lv := [(0, .ref h), (1, .int (nI a)), (2, .int (nI b)), (3, .int (nI lim))]) (by decide) rfl (Nat.le_of_ble_eq_true rfl) rfl ?_
  intro p e s m args below meth c A Q ls hC hI hl hret
  refine lv_aload_n hC.1.1 hC.1.2.1 dX2_distanceTo_0 rfl (lv_at hl 0 rfl) ?_
  refine lv_iload_n hC.1.1 hC.1.2.1 dX2_distanceTo_1 rfl (lv_at hl 1 rfl) ?_
  refine lv_iload_n hC.1.1 hC.1.2.1 dX2_distanceTo_2 rfl (lv_at hl 2 rfl) ?_
  refine m_callv (rest := []) hC hI (kX2_codeWord l D h q dA kk u a b ha hb) lkX2_codeWord hdX2_codeWord ⟨rfl, rfl⟩ ⟨Nat.le_of_ble_eq_true rfl, Nat.le_of_ble_eq_true rfl⟩ rfl hl.1 rfl (Nat.le_of_ble_eq_true rfl) ⟨Nat.le_of_ble_eq_true rfl, Nat.le_of_ble_eq_true rfl⟩ dX2_distanceTo_3 (fun v3 H locs hp3 hI => ?_)
  obtain ⟨v3_0, v3_1, v3_2⟩ := hp3
  refine lv_iconst (v := (nI 0)) hC.1.1 hC.1.2.1 dX2_distanceTo_6 (by decide +kernel) ?_
  refine lv_istore (lv' := [(4, .int (nI 0)), (0, .ref h), (1, .int (nI a)), (2, .int (nI b)), (3, .int (nI lim))]) hC.1.1 hC.1.2.1 dX2_distanceTo_7 hl (by decide) rfl (fun ls hl => ?_)
  have lp9 : ∀ (n : Nat) (i : Nat) (u9 : MS) (H : Heap) (locs : List Loc) (ls : Array Slot), i ≤ 5 → 5 < i + n → u9.2.2.1 = ov u.2.2.1 (df u.1 a b) i → u9.1 = u.1 → u9.2.1 = ov u.2.1 (vl a b) 5 → u9.2.2.2 = u.2.2.2 → mI D h q dA kk A s.heap u9 H locs → lv_has ls 5 [(4, .int (nI i)), (0, .ref h), (1, .int (nI a)), (2, .int (nI b)), (3, .int (nI lim))] → W p l e rmX2_distanceTo s m args below meth c H locs 0 0 Q (F0 m 9 ls []) := by
    intro n
    induction n with
    | zero => intro i u9 H locs ls hi hn hu1 hu2 hu3 hu4; exfalso; omega
    | succ n ih =>
      intro i u9 H locs ls hi hn hu1 hu2 hu3 hu4 hI hl
      have ih9 := ih
      clear ih
      refine lv_iload hC.1.1 hC.1.2.1 dX2_distanceTo_9 (lv_at hl 0 rfl) ?_
      refine lv_iconst (v := (nI 5)) hC.1.1 hC.1.2.1 dX2_distanceTo_11 (by decide +kernel) ?_
      refine n_icmp_ge hC.1 (tgt := 43) dX2_distanceTo_12 (by decide) (fun c12 => ?_) (fun c12 => ?_)
      · refine lv_aload_n hC.1.1 hC.1.2.1 dX2_distanceTo_43 rfl (lv_at hl 1 rfl) ?_
        refine lv_iload_n hC.1.1 hC.1.2.1 dX2_distanceTo_44 rfl (lv_at hl 4 rfl) ?_
        refine m_calli (rest := []) hC hI (kX2_rankOfSum l D h q dA kk u9 lim hlim (by rw [hu1]; exact ov_b32 hs (df_b32 hw _ _) _)) lkX2_rankOfSum hdX2_rankOfSum ⟨rfl, rfl⟩ ⟨Nat.le_of_ble_eq_true rfl, Nat.le_of_ble_eq_true rfl⟩ rfl hl.1 rfl (Nat.le_of_ble_eq_true rfl) ⟨Nat.le_of_ble_eq_true rfl, Nat.le_of_ble_eq_true rfl⟩ dX2_distanceTo_45 (fun r45 v45 H locs hp45 hI => ?_)
        obtain ⟨⟨n0, rfl, hn5, hor⟩, rfl⟩ := hp45
        exact hret _ _ _ _ _ _ dX2_distanceTo_48 rfl ⟨⟨n0, rfl, hn5, by rw [hu1, show i = 5 by omega, show rkM (ov u.2.2.1 (df u.1 a b) 5) = rkM (df u.1 a b) from rkS_congr 5 (fun j hj => ov_lt hj)] at hor; exact hor⟩, hu2, hu4, by rw [hu3]; exact ov_b32 hc (fun j => vl_lt _ _ _) _, by rw [hu1]; exact ov_b32 hs (df_b32 hw _ _) _⟩ hI
      · refine lv_aload_n hC.1.1 hC.1.2.1 dX2_distanceTo_15 rfl (lv_at hl 1 rfl) ?_
        refine m_get_sum hC hI dX2_distanceTo_16 ?_
        refine lv_iload hC.1.1 hC.1.2.1 dX2_distanceTo_19 (lv_at hl 0 rfl) ?_
        refine lv_aload_n hC.1.1 hC.1.2.1 dX2_distanceTo_21 rfl (lv_at hl 1 rfl) ?_
        refine m_get_word hC hI dX2_distanceTo_22 ?_
        refine lv_iload hC.1.1 hC.1.2.1 dX2_distanceTo_25 (lv_at hl 0 rfl) ?_
        refine m_ld_word hC hI dX2_distanceTo_27 ?_
        refine lv_aload_n hC.1.1 hC.1.2.1 dX2_distanceTo_28 rfl (lv_at hl 1 rfl) ?_
        refine m_get_code hC hI dX2_distanceTo_29 ?_
        refine lv_iload hC.1.1 hC.1.2.1 dX2_distanceTo_32 (lv_at hl 0 rfl) ?_
        refine m_ld_code hC hI dX2_distanceTo_34 ?_
        refine n_ixor hC.1 dX2_distanceTo_35 ?_
        refine m_st_sum (x := (u9.1 i) ^^^ (u9.2.1 i)) hC hI dX2_distanceTo_36 (fun v36 H locs v36_0 v36_1 v36_2 v36_3 hI => ?_)
        refine lv_iinc (v := (nI (i + 1))) (lv' := [(4, .int (nI (i + 1))), (0, .ref h), (1, .int (nI a)), (2, .int (nI b)), (3, .int (nI lim))]) hC.1.1 hC.1.2.1 dX2_distanceTo_37 hl (k := 0) rfl (ni_inc i) (by decide) rfl (fun ls hl => ?_)
        refine lv_goto (tgt := 9) hC.1.1 hC.1.2.1 dX2_distanceTo_40 (by decide) ?_
        exact ih9 (i + 1) v36 _ _ _ (by omega) (by omega) (by rw [v36_0, hu1, hu2, hu3, ov_lt (by omega)]; exact ov_s _ (df u.1 a b) i) (by rw [v36_1, hu2]) (by rw [v36_2, hu3]) (by rw [v36_3, hu4]) hI (lv_sub hl [0, 1, 2, 3, 4] rfl)
  exact lp9 (6) 0 v3 _ _ _ (by omega) (by omega) (by rw [ov_0, v3_2]) v3_1 v3_0 (by rw [v3_2]) hI (lv_sub hl [0, 1, 2, 3, 4] rfl)
end
section
set_option maxRecDepth 100000
abbrev rmX2_encode : Room := { frames := 2, cells := 0, slots := 0, locals := 49 }
theorem hdX2_encode : yX2_encode.cls = RX2 ∧ yX2_encode.cls ≠ "java/lang/invoke/MethodHandle" ∧ yX2_encode.cls ≠ "java/lang/invoke/VarHandle" ∧ (parseMethodDescriptor yX2_encode.desc).map (fun d => d.parameters.length) = some 2 := by decide +kernel
theorem lkX2_encode : GoodIn lw_all (wsV RX2 58 RX2 yX2_encode (ws_ yX2_encode cX2_encode 4 (some .int))) := lw_V q313 q257 q258 q29 q259
set_option maxHeartbeats 4000000 in
set_option maxRecDepth 100000 in
/-- encode -/
theorem kX2_encode (l : Launch) (D : va_G) (h : Nat) (q : Nat → Nat) (dA : ClassId × ClassId) (kk : Nat) (u : MS) (a b : Int32) (hk : kk = 1 ∨ kk = 2) (hc : b32 u.2.1) : mMi l yX2_encode (ws_ yX2_encode cX2_encode 4 (some .int)) rmX2_encode D h q dA kk [.int a, .int b] u (fun r u' => r = sEnc kk a b ∧ u'.1 = wEnc kk u.1 a b ∧ u'.2.2 = u.2.2 ∧ b32 u'.2.1) := by
  refine mMi_of (lv := [(0, .ref h), (1, .int a), (2, .int b)]) (by decide) rfl (Nat.le_of_ble_eq_true rfl) rfl ?_
  intro p e s m args below meth c A Q ls hC hI hl hret
  refine lv_aload_n hC.1.1 hC.1.2.1 dX2_encode_0 rfl (lv_at hl 0 rfl) ?_
  refine lv_iload_n hC.1.1 hC.1.2.1 dX2_encode_1 rfl (lv_at hl 1 rfl) ?_
  refine lv_iload_n hC.1.1 hC.1.2.1 dX2_encode_2 rfl (lv_at hl 2 rfl) ?_
  refine m_calli (rest := []) hC hI (kX2_isMessage l D h q dA kk u a b hk) lkX2_isMessage hdX2_isMessage ⟨rfl, rfl⟩ ⟨Nat.le_of_ble_eq_true rfl, Nat.le_of_ble_eq_true rfl⟩ rfl hl.1 rfl (Nat.le_of_ble_eq_true rfl) ⟨Nat.le_of_ble_eq_true rfl, Nat.le_of_ble_eq_true rfl⟩ dX2_encode_3 (fun r3 v3 H locs hp3 hI => ?_)
  obtain ⟨rfl, rfl⟩ := hp3
  refine n_if_ne hC.1 (tgt := 11) dX2_encode_6 (by decide) (fun c6 => ?_) (fun c6 => ?_) (Nat.lt_trans (bt_lt _) (by decide))
  · obtain ⟨x0, x1, h0, h1, rfl, rfl, hz⟩ := bM_ex (nb_1 c6)
    refine lv_aload_n hC.1.1 hC.1.2.1 dX2_encode_11 rfl (lv_at hl 0 rfl) ?_
    refine lv_iload_n hC.1.1 hC.1.2.1 dX2_encode_12 rfl (lv_at hl 1 rfl) ?_
    refine lv_iload_n hC.1.1 hC.1.2.1 dX2_encode_13 rfl (lv_at hl 2 rfl) ?_
    refine m_callv (rest := []) hC hI (kX2_codeWord l D h q dA kk u x0 x1 h0 h1) lkX2_codeWord hdX2_codeWord ⟨rfl, rfl⟩ ⟨Nat.le_of_ble_eq_true rfl, Nat.le_of_ble_eq_true rfl⟩ rfl hl.1 rfl (Nat.le_of_ble_eq_true rfl) ⟨Nat.le_of_ble_eq_true rfl, Nat.le_of_ble_eq_true rfl⟩ dX2_encode_14 (fun v14 H locs hp14 hI => ?_)
    obtain ⟨v14_0, v14_1, v14_2⟩ := hp14
    refine lv_iconst (v := (nI 0)) hC.1.1 hC.1.2.1 dX2_encode_17 (by decide +kernel) ?_
    refine lv_istore_n (lv' := [(3, .int (nI 0)), (0, .ref h), (1, .int (nI x0)), (2, .int (nI x1))]) hC.1.1 hC.1.2.1 dX2_encode_18 rfl hl (by decide) rfl (fun ls hl => ?_)
    have lp19 : ∀ (n : Nat) (i : Nat) (u19 : MS) (H : Heap) (locs : List Loc) (ls : Array Slot), i ≤ 5 → 5 < i + n → u19.1 = ov u.1 (vl x0 x1) i → u19.2.1 = ov u.2.1 (vl x0 x1) 5 → u19.2.2 = u.2.2 → mI D h q dA kk A s.heap u19 H locs → lv_has ls 4 [(3, .int (nI i)), (0, .ref h), (1, .int (nI x0)), (2, .int (nI x1))] → W p l e rmX2_encode s m args below meth c H locs 0 0 Q (F0 m 19 ls []) := by
      intro n
      induction n with
      | zero => intro i u19 H locs ls hi hn hu1 hu2 hu3; exfalso; omega
      | succ n ih =>
        intro i u19 H locs ls hi hn hu1 hu2 hu3 hI hl
        have ih19 := ih
        clear ih
        refine lv_iload_n hC.1.1 hC.1.2.1 dX2_encode_19 rfl (lv_at hl 0 rfl) ?_
        refine lv_iconst (v := (nI 5)) hC.1.1 hC.1.2.1 dX2_encode_20 (by decide +kernel) ?_
        refine n_icmp_ge hC.1 (tgt := 42) dX2_encode_21 (by decide) (fun c21 => ?_) (fun c21 => ?_)
        · refine lv_iconst (v := (nI 0)) hC.1.1 hC.1.2.1 dX2_encode_42 (by decide +kernel) ?_
          exact hret _ _ _ _ _ _ dX2_encode_43 rfl ⟨by unfold sEnc; rw [bM_nI h0 h1 hz]; rfl, by unfold wEnc; rw [bM_nI h0 h1 hz, tN_nI h0, tN_nI h1, hu1, show i = 5 by omega]; rfl, hu3, by rw [hu2]; exact ov_b32 hc (fun j => vl_lt _ _ _) _⟩ hI
        · refine lv_aload_n hC.1.1 hC.1.2.1 dX2_encode_24 rfl (lv_at hl 1 rfl) ?_
          refine m_get_word hC hI dX2_encode_25 ?_
          refine lv_iload_n hC.1.1 hC.1.2.1 dX2_encode_28 rfl (lv_at hl 0 rfl) ?_
          refine lv_aload_n hC.1.1 hC.1.2.1 dX2_encode_29 rfl (lv_at hl 1 rfl) ?_
          refine m_get_code hC hI dX2_encode_30 ?_
          refine lv_iload_n hC.1.1 hC.1.2.1 dX2_encode_33 rfl (lv_at hl 0 rfl) ?_
          refine m_ld_code hC hI dX2_encode_34 ?_
          refine m_st_word (x := u19.2.1 i) hC hI dX2_encode_35 (fun v35 H locs v35_0 v35_1 hI => ?_)
          refine lv_iinc (v := (nI (i + 1))) (lv' := [(3, .int (nI (i + 1))), (0, .ref h), (1, .int (nI x0)), (2, .int (nI x1))]) hC.1.1 hC.1.2.1 dX2_encode_36 hl (k := 0) rfl (ni_inc i) (by decide) rfl (fun ls hl => ?_)
          refine lv_goto (tgt := 19) hC.1.1 hC.1.2.1 dX2_encode_39 (by decide) ?_
          exact ih19 (i + 1) v35 _ _ _ (by omega) (by omega) (by rw [v35_0, hu1, hu2, ov_lt (by omega), ov_s]) (by rw [v35_1, hu2]) (by rw [v35_1, hu3]) hI (lv_sub hl [0, 1, 2, 3] rfl)
    exact lp19 (6) 0 v14 _ _ _ (by omega) (by omega) (by rw [ov_0, v14_1]) v14_0 v14_2 hI (lv_sub hl [0, 1, 2, 3] rfl)
  · refine lv_iconst (v := (pI 0)) hC.1.1 hC.1.2.1 dX2_encode_9 (by decide +kernel) ?_
    exact hret _ _ _ _ _ _ dX2_encode_10 rfl ⟨by unfold sEnc; rw [if_pos (nb_0 c6)], by unfold wEnc; rw [if_pos (nb_0 c6)], rfl, hc⟩ hI
abbrev rmX2_put : Room := { frames := 1, cells := 0, slots := 0, locals := 21 }
theorem hdX2_put : yX2_put.cls = RX2 ∧ yX2_put.cls ≠ "java/lang/invoke/MethodHandle" ∧ yX2_put.cls ≠ "java/lang/invoke/VarHandle" ∧ (parseMethodDescriptor yX2_put.desc).map (fun d => d.parameters.length) = some 2 := by decide +kernel
set_option maxHeartbeats 4000000 in
set_option maxRecDepth 100000 in
/-- put -/
theorem kX2_put (l : Launch) (D : va_G) (h : Nat) (q : Nat → Nat) (dA : ClassId × ClassId) (kk : Nat) (u : MS) (a b : Int32)  : mMi l yX2_put (ws_ yX2_put cX2_put 4 (some .int)) rmX2_put D h q dA kk [.int a, .int b] u (fun r u' => r = sPut u.1 a b ∧ u'.1 = wPut u.1 a b ∧ u'.2 = u.2) := by
  refine mMi_of (lv := [(0, .ref h), (1, .int a), (2, .int b)]) (by decide) rfl (Nat.le_of_ble_eq_true rfl) rfl ?_
  intro p e s m args below meth c A Q ls hC hI hl hret
  refine lv_iload_n hC.1.1 hC.1.2.1 dX2_put_0 rfl (lv_at hl 1 rfl) ?_
  refine lv_if_lt hC.1.1 hC.1.2.1 (tgt := 17) dX2_put_1 (by decide) (fun c1 => ?_) (fun c1 => ?_)
  · refine lv_iconst (v := (pI 0)) hC.1.1 hC.1.2.1 dX2_put_17 (by decide +kernel) ?_
    exact hret _ _ _ _ _ _ dX2_put_18 rfl ⟨by unfold sPut; rw [if_pos (by first | rw [o4_lt c1, Bool.true_or] | rw [o4_gt c6, Bool.true_or] | rw [nb_0 c14, Bool.or_true])], by unfold wPut; rw [if_pos (by first | rw [o4_lt c1, Bool.true_or] | rw [o4_gt c6, Bool.true_or] | rw [nb_0 c14, Bool.or_true])], rfl⟩ hI
  · refine lv_iload_n hC.1.1 hC.1.2.1 dX2_put_4 rfl (lv_at hl 1 rfl) ?_
    refine lv_iconst (v := (nI 4)) hC.1.1 hC.1.2.1 dX2_put_5 (by decide +kernel) ?_
    refine lv_icmp_gt hC.1.1 hC.1.2.1 (tgt := 17) dX2_put_6 (by decide) (fun c6 => ?_) (fun c6 => ?_)
    · refine lv_iconst (v := (pI 0)) hC.1.1 hC.1.2.1 dX2_put_17 (by decide +kernel) ?_
      exact hret _ _ _ _ _ _ dX2_put_18 rfl ⟨by unfold sPut; rw [if_pos (by first | rw [o4_lt c1, Bool.true_or] | rw [o4_gt c6, Bool.true_or] | rw [nb_0 c14, Bool.or_true])], by unfold wPut; rw [if_pos (by first | rw [o4_lt c1, Bool.true_or] | rw [o4_gt c6, Bool.true_or] | rw [nb_0 c14, Bool.or_true])], rfl⟩ hI
    · refine lv_aload_n hC.1.1 hC.1.2.1 dX2_put_9 rfl (lv_at hl 0 rfl) ?_
      refine lv_iload_n hC.1.1 hC.1.2.1 dX2_put_10 rfl (lv_at hl 2 rfl) ?_
      refine m_calli (rest := []) hC hI (kX2_isElement l D h q dA kk u b) lkX2_isElement hdX2_isElement ⟨rfl, rfl⟩ ⟨Nat.le_of_ble_eq_true rfl, Nat.le_of_ble_eq_true rfl⟩ rfl hl.1 rfl (Nat.le_of_ble_eq_true rfl) ⟨Nat.le_of_ble_eq_true rfl, Nat.le_of_ble_eq_true rfl⟩ dX2_put_11 (fun r11 v11 H locs hp11 hI => ?_)
      obtain ⟨rfl, rfl⟩ := hp11
      refine n_if_ne hC.1 (tgt := 19) dX2_put_14 (by decide) (fun c14 => ?_) (fun c14 => ?_) (Nat.lt_trans (bt_lt _) (by decide))
      · obtain ⟨i, hi, rfl⟩ := o4_ex (o4_in c1 c6)
        obtain ⟨j, hj, rfl⟩ := oB_ex (nb_1 c14)
        refine lv_aload_n hC.1.1 hC.1.2.1 dX2_put_19 rfl (lv_at hl 0 rfl) ?_
        refine m_get_word hC hI dX2_put_20 ?_
        refine lv_iload_n hC.1.1 hC.1.2.1 dX2_put_23 rfl (lv_at hl 1 rfl) ?_
        refine m_ld_word hC hI dX2_put_24 ?_
        refine lv_istore_n (lv' := [(3, .int (nI (u.1 i))), (0, .ref h), (1, .int (nI i)), (2, .int (nI j))]) hC.1.1 hC.1.2.1 dX2_put_25 rfl hl (by decide) rfl (fun ls hl => ?_)
        refine lv_aload_n hC.1.1 hC.1.2.1 dX2_put_26 rfl (lv_at hl 1 rfl) ?_
        refine m_get_word hC hI dX2_put_27 ?_
        refine lv_iload_n hC.1.1 hC.1.2.1 dX2_put_30 rfl (lv_at hl 2 rfl) ?_
        refine lv_iload_n hC.1.1 hC.1.2.1 dX2_put_31 rfl (lv_at hl 3 rfl) ?_
        refine m_st_word (x := j) hC hI dX2_put_32 (fun v32 H locs v32_0 v32_1 hI => ?_)
        refine lv_iload_n hC.1.1 hC.1.2.1 dX2_put_33 rfl (lv_at hl 0 rfl) ?_
        exact hret _ _ _ _ _ _ dX2_put_34 rfl ⟨by unfold sPut; rw [o4_nI hi, oB_nI hj, tN_nI5 hi]; rfl, by unfold wPut; rw [o4_nI hi, oB_nI hj, tN_nI5 hi, tN_nI hj, v32_0]; rfl, v32_1⟩ hI
      · refine lv_iconst (v := (pI 0)) hC.1.1 hC.1.2.1 dX2_put_17 (by decide +kernel) ?_
        exact hret _ _ _ _ _ _ dX2_put_18 rfl ⟨by unfold sPut; rw [if_pos (by first | rw [o4_lt c1, Bool.true_or] | rw [o4_gt c6, Bool.true_or] | rw [nb_0 c14, Bool.or_true])], by unfold wPut; rw [if_pos (by first | rw [o4_lt c1, Bool.true_or] | rw [o4_gt c6, Bool.true_or] | rw [nb_0 c14, Bool.or_true])], rfl⟩ hI
abbrev rmX2_symbol : Room := { frames := 0, cells := 0, slots := 0, locals := 0 }
theorem hdX2_symbol : yX2_symbol.cls = RX2 ∧ yX2_symbol.cls ≠ "java/lang/invoke/MethodHandle" ∧ yX2_symbol.cls ≠ "java/lang/invoke/VarHandle" ∧ (parseMethodDescriptor yX2_symbol.desc).map (fun d => d.parameters.length) = some 1 := by decide +kernel
set_option maxHeartbeats 4000000 in
set_option maxRecDepth 100000 in
/-- symbol -/
theorem kX2_symbol (l : Launch) (D : va_G) (h : Nat) (q : Nat → Nat) (dA : ClassId × ClassId) (kk : Nat) (u : MS) (a : Int32)  : mMi l yX2_symbol (ws_ yX2_symbol cX2_symbol 2 (some .int)) rmX2_symbol D h q dA kk [.int a] u (fun r u' => r = sSym u.1 a ∧ u = u') := by
  refine mMi_of (lv := [(0, .ref h), (1, .int a)]) (by decide) rfl (Nat.le_of_ble_eq_true rfl) rfl ?_
  intro p e s m args below meth c A Q ls hC hI hl hret
  refine lv_iload_n hC.1.1 hC.1.2.1 dX2_symbol_0 rfl (lv_at hl 1 rfl) ?_
  refine lv_if_lt hC.1.1 hC.1.2.1 (tgt := 9) dX2_symbol_1 (by decide) (fun c1 => ?_) (fun c1 => ?_)
  · refine lv_iconst (v := (pI 0)) hC.1.1 hC.1.2.1 dX2_symbol_9 (by decide +kernel) ?_
    refine lv_goto (tgt := 19) hC.1.1 hC.1.2.1 dX2_symbol_10 (by decide) ?_
    exact hret _ _ _ _ _ _ dX2_symbol_19 rfl ⟨by unfold sSym; first | (rw [o4_lt c1]; rfl) | (rw [o4_gt' c6]; rfl) | (rw [o4_nI hi, tN_nI5 hi]; rfl), rfl⟩ hI
  · refine lv_iload_n hC.1.1 hC.1.2.1 dX2_symbol_4 rfl (lv_at hl 1 rfl) ?_
    refine lv_iconst (v := (nI 4)) hC.1.1 hC.1.2.1 dX2_symbol_5 (by decide +kernel) ?_
    refine lv_icmp_le hC.1.1 hC.1.2.1 (tgt := 13) dX2_symbol_6 (by decide) (fun c6 => ?_) (fun c6 => ?_)
    · obtain ⟨i, hi, rfl⟩ := o4_ex (o4_in' c1 c6)
      refine lv_aload_n hC.1.1 hC.1.2.1 dX2_symbol_13 rfl (lv_at hl 0 rfl) ?_
      refine m_get_word hC hI dX2_symbol_14 ?_
      refine lv_iload_n hC.1.1 hC.1.2.1 dX2_symbol_17 rfl (lv_at hl 1 rfl) ?_
      refine m_ld_word hC hI dX2_symbol_18 ?_
      exact hret _ _ _ _ _ _ dX2_symbol_19 rfl ⟨by unfold sSym; first | (rw [o4_lt c1]; rfl) | (rw [o4_gt' c6]; rfl) | (rw [o4_nI hi, tN_nI5 hi]; rfl), rfl⟩ hI
    · refine lv_iconst (v := (pI 0)) hC.1.1 hC.1.2.1 dX2_symbol_9 (by decide +kernel) ?_
      refine lv_goto (tgt := 19) hC.1.1 hC.1.2.1 dX2_symbol_10 (by decide) ?_
      exact hret _ _ _ _ _ _ dX2_symbol_19 rfl ⟨by unfold sSym; first | (rw [o4_lt c1]; rfl) | (rw [o4_gt' c6]; rfl) | (rw [o4_nI hi, tN_nI5 hi]; rfl), rfl⟩ hI
theorem rkM_le (v : Nat → Nat) : rkM v ≤ 5 := rkS_le v 5
theorem rk_5 {n m : Nat} (h : n ≤ 5) (hm : m ≤ 5) (ho : n = m ∨ (5 < n ∧ 5 < m)) : n = m := by omega
def rDist (kk : Nat) (w : Nat → Nat) (a b : Int32) : Int32 := if bM kk a b = true then pI 0 else nI (rkM (df w (tN a) (tN b)))
def rDis (w : Nat → Nat) (a z : Int32) : Int32 := if (oB a || oB z) = true then pI 0 else nI (rkM (df (wDis w a z) 0 0))
theorem rDis_n {w : Nat → Nat} {i j : Nat} (hi : i < 32) (hj : j < 32) : rDis w (nI i) (nI j) = nI (rkM (df (ov w (dF w i j) 5) 0 0)) := by
  unfold rDis
  rw [wDis_n hi hj, oB_nI hi, oB_nI hj]
  rfl
abbrev rmX2_rank : Room := { frames := 3, cells := 0, slots := 0, locals := 73 }
theorem hdX2_rank : yX2_rank.cls = RX2 ∧ yX2_rank.cls ≠ "java/lang/invoke/MethodHandle" ∧ yX2_rank.cls ≠ "java/lang/invoke/VarHandle" ∧ (parseMethodDescriptor yX2_rank.desc).map (fun d => d.parameters.length) = some 0 := by decide +kernel
theorem lkX2_rank : GoodIn lw_all (wsV RX2 47 RX2 yX2_rank (ws_ yX2_rank cX2_rank 1 (some .int))) := lw_V q280 q281 q282 q29 q283
set_option maxHeartbeats 4000000 in
set_option maxRecDepth 100000 in
/-- rank -/
theorem kX2_rank (l : Launch) (D : va_G) (h : Nat) (q : Nat → Nat) (dA : ClassId × ClassId) (kk : Nat) (u : MS)   (hw : b32 u.1) (hc : b32 u.2.1) (hs : b32 u.2.2.1) : mMi l yX2_rank (ws_ yX2_rank cX2_rank 1 (some .int)) rmX2_rank D h q dA kk [] u (fun r u' => r = nI (rkM (df u.1 0 0)) ∧ u'.1 = u.1 ∧ u'.2.2.2 = u.2.2.2 ∧ b32 u'.2.1 ∧ b32 u'.2.2.1) := by
  refine mMi_of (lv := [(0, .ref h)]) (by decide) rfl (Nat.le_of_ble_eq_true rfl) rfl ?_
  intro p e s m args below meth c A Q ls hC hI hl hret
  refine lv_aload_n hC.1.1 hC.1.2.1 dX2_rank_0 rfl (lv_at hl 0 rfl) ?_
  refine lv_iconst (v := (nI 0)) hC.1.1 hC.1.2.1 dX2_rank_1 (by decide +kernel) ?_
  refine lv_iconst (v := (nI 0)) hC.1.1 hC.1.2.1 dX2_rank_2 (by decide +kernel) ?_
  refine lv_iconst (v := (nI 5)) hC.1.1 hC.1.2.1 dX2_rank_3 (by decide +kernel) ?_
  refine m_calli (rest := []) hC hI (kX2_distanceTo l D h q dA kk u 0 0 5 (by decide) (by decide) (by decide) hw hc hs) lkX2_distanceTo hdX2_distanceTo ⟨rfl, rfl⟩ ⟨Nat.le_of_ble_eq_true rfl, Nat.le_of_ble_eq_true rfl⟩ rfl hl.1 rfl (Nat.le_of_ble_eq_true rfl) ⟨Nat.le_of_ble_eq_true rfl, Nat.le_of_ble_eq_true rfl⟩ dX2_rank_4 (fun r4 v4 H locs hp4 hI => ?_)
  obtain ⟨⟨n4, rfl, hbn4, hon4⟩, v4_0, v4_1, v4_2, v4_3⟩ := hp4
  exact hret _ _ _ _ _ _ dX2_rank_7 rfl ⟨congrArg nI (rk_5 hbn4 (rkM_le _) hon4), v4_0, v4_1, v4_2, v4_3⟩ hI
abbrev rmX2_disturb : Room := { frames := 4, cells := 0, slots := 0, locals := 93 }
theorem hdX2_disturb : yX2_disturb.cls = RX2 ∧ yX2_disturb.cls ≠ "java/lang/invoke/MethodHandle" ∧ yX2_disturb.cls ≠ "java/lang/invoke/VarHandle" ∧ (parseMethodDescriptor yX2_disturb.desc).map (fun d => d.parameters.length) = some 2 := by decide +kernel
set_option maxHeartbeats 4000000 in
set_option maxRecDepth 100000 in
/-- disturb -/
theorem kX2_disturb (l : Launch) (D : va_G) (h : Nat) (q : Nat → Nat) (dA : ClassId × ClassId) (kk : Nat) (u : MS) (a z : Int32)  (hw : b32 u.1) (hc : b32 u.2.1) (hs : b32 u.2.2.1) : mMi l yX2_disturb (ws_ yX2_disturb cX2_disturb 4 (some .int)) rmX2_disturb D h q dA kk [.int a, .int z] u (fun r u' => r = rDis u.1 a z ∧ u'.1 = wDis u.1 a z ∧ u'.2.2.2 = u.2.2.2 ∧ b32 u'.2.1 ∧ b32 u'.2.2.1) := by
  refine mMi_of (lv := [(0, .ref h), (1, .int a), (2, .int z)]) (by decide) rfl (Nat.le_of_ble_eq_true rfl) rfl ?_
  intro p e s m args below meth c A Q ls hC hI hl hret
  refine lv_aload_n hC.1.1 hC.1.2.1 dX2_disturb_0 rfl (lv_at hl 0 rfl) ?_
  refine lv_iload_n hC.1.1 hC.1.2.1 dX2_disturb_1 rfl (lv_at hl 1 rfl) ?_
  refine m_calli (rest := []) hC hI (kX2_isElement l D h q dA kk u a) lkX2_isElement hdX2_isElement ⟨rfl, rfl⟩ ⟨Nat.le_of_ble_eq_true rfl, Nat.le_of_ble_eq_true rfl⟩ rfl hl.1 rfl (Nat.le_of_ble_eq_true rfl) ⟨Nat.le_of_ble_eq_true rfl, Nat.le_of_ble_eq_true rfl⟩ dX2_disturb_2 (fun r2 v2 H locs hp2 hI => ?_)
  obtain ⟨rfl, rfl⟩ := hp2
  refine n_if_eq hC.1 (tgt := 16) dX2_disturb_5 (by decide) (fun c5 => ?_) (fun c5 => ?_) (Nat.lt_trans (bt_lt _) (by decide))
  · refine lv_iconst (v := (pI 0)) hC.1.1 hC.1.2.1 dX2_disturb_16 (by decide +kernel) ?_
    exact hret _ _ _ _ _ _ dX2_disturb_17 rfl ⟨by unfold rDis; rw [if_pos (by first | rw [nb_0 c5, Bool.true_or] | rw [nb_0 c13, Bool.or_true])], by unfold wDis; rw [if_pos (by first | rw [nb_0 c5, Bool.true_or] | rw [nb_0 c13, Bool.or_true])], rfl, hc, hs⟩ hI
  · refine lv_aload_n hC.1.1 hC.1.2.1 dX2_disturb_8 rfl (lv_at hl 0 rfl) ?_
    refine lv_iload_n hC.1.1 hC.1.2.1 dX2_disturb_9 rfl (lv_at hl 2 rfl) ?_
    refine m_calli (rest := []) hC hI (kX2_isElement l D h q dA kk u z) lkX2_isElement hdX2_isElement ⟨rfl, rfl⟩ ⟨Nat.le_of_ble_eq_true rfl, Nat.le_of_ble_eq_true rfl⟩ rfl hl.1 rfl (Nat.le_of_ble_eq_true rfl) ⟨Nat.le_of_ble_eq_true rfl, Nat.le_of_ble_eq_true rfl⟩ dX2_disturb_10 (fun r10 v10 H locs hp10 hI => ?_)
    obtain ⟨rfl, rfl⟩ := hp10
    refine n_if_ne hC.1 (tgt := 18) dX2_disturb_13 (by decide) (fun c13 => ?_) (fun c13 => ?_) (Nat.lt_trans (bt_lt _) (by decide))
    · obtain ⟨i, hi, rfl⟩ := oB_ex (nb_1 c5)
      obtain ⟨j, hj, rfl⟩ := oB_ex (nb_1 c13)
      refine lv_iconst (v := (nI 0)) hC.1.1 hC.1.2.1 dX2_disturb_18 (by decide +kernel) ?_
      refine lv_istore_n (lv' := [(3, .int (nI 0)), (0, .ref h), (1, .int (nI i)), (2, .int (nI j))]) hC.1.1 hC.1.2.1 dX2_disturb_19 rfl hl (by decide) rfl (fun ls hl => ?_)
      have lp20 : ∀ (n : Nat) (k : Nat) (u20 : MS) (H : Heap) (locs : List Loc) (ls : Array Slot), k ≤ 5 → 5 < k + n → u20.1 = ov u.1 (dF u.1 i j) k → u20.2 = u.2 → mI D h q dA kk A s.heap u20 H locs → lv_has ls 4 [(3, .int (nI k)), (0, .ref h), (1, .int (nI i)), (2, .int (nI j))] → W p l e rmX2_disturb s m args below meth c H locs 0 0 Q (F0 m 20 ls []) := by
        intro n
        induction n with
        | zero => intro k u20 H locs ls hk5 hn hu1 hu2; exfalso; omega
        | succ n ih =>
          intro k u20 H locs ls hk5 hn hu1 hu2 hI hl
          have ih20 := ih
          clear ih
          refine lv_iload_n hC.1.1 hC.1.2.1 dX2_disturb_20 rfl (lv_at hl 0 rfl) ?_
          refine lv_iconst (v := (nI 5)) hC.1.1 hC.1.2.1 dX2_disturb_21 (by decide +kernel) ?_
          refine n_icmp_ge hC.1 (tgt := 54) dX2_disturb_22 (by decide) (fun c22 => ?_) (fun c22 => ?_)
          · refine lv_aload_n hC.1.1 hC.1.2.1 dX2_disturb_54 rfl (lv_at hl 1 rfl) ?_
            refine m_calli (rest := []) hC hI (kX2_rank l D h q dA kk u20 (by rw [hu1]; exact ov_b32 hw (dF_b32 hw hi _) _) (by rw [hu2]; exact hc) (by rw [hu2]; exact hs)) lkX2_rank hdX2_rank ⟨rfl, rfl⟩ ⟨Nat.le_of_ble_eq_true rfl, Nat.le_of_ble_eq_true rfl⟩ rfl hl.1 rfl (Nat.le_of_ble_eq_true rfl) ⟨Nat.le_of_ble_eq_true rfl, Nat.le_of_ble_eq_true rfl⟩ dX2_disturb_55 (fun r55 v55 H locs hp55 hI => ?_)
            obtain ⟨rfl, v55_0, v55_1, v55_2, v55_3⟩ := hp55
            exact hret _ _ _ _ _ _ dX2_disturb_58 rfl ⟨by rw [rDis_n hi hj, hu1, show k = 5 by omega], by rw [wDis_n hi hj, v55_0, hu1, show k = 5 by omega], by rw [v55_1, hu2], v55_2, v55_3⟩ hI
          · refine lv_iload_n hC.1.1 hC.1.2.1 dX2_disturb_25 rfl (lv_at hl 3 rfl) ?_
            refine lv_iload_n hC.1.1 hC.1.2.1 dX2_disturb_26 rfl (lv_at hl 0 rfl) ?_
            refine n_ishr hC.1 dX2_disturb_27 ?_
            refine lv_iconst (v := (nI 1)) hC.1.1 hC.1.2.1 dX2_disturb_28 (by decide +kernel) ?_
            refine n_iand hC.1 dX2_disturb_29 ?_
            refine lv_iconst (v := (nI 1)) hC.1.1 hC.1.2.1 dX2_disturb_30 (by decide +kernel) ?_
            refine n_icmp_ne hC.1 (tgt := 48) dX2_disturb_31 (by decide) (fun c31 => ?_) (fun c31 => ?_) (Nat.lt_of_le_of_lt Nat.and_le_right (by decide))
            · refine lv_iinc (v := (nI (k + 1))) (lv' := [(3, .int (nI (k + 1))), (0, .ref h), (1, .int (nI i)), (2, .int (nI j))]) hC.1.1 hC.1.2.1 dX2_disturb_48 hl (k := 0) rfl (ni_inc k) (by decide) rfl (fun ls hl => ?_)
              refine lv_goto (tgt := 20) hC.1.1 hC.1.2.1 dX2_disturb_51 (by decide) ?_
              exact ih20 (k + 1) u20 _ _ _ (by omega) (by omega) (by rw [hu1]; exact ov_k (by unfold dF; rw [if_neg (fun q => c31 ((n_tb _ _).mpr q))])) hu2 hI (lv_sub hl [0, 1, 2, 3] rfl)
            · refine lv_aload_n hC.1.1 hC.1.2.1 dX2_disturb_34 rfl (lv_at hl 1 rfl) ?_
              refine m_get_word hC hI dX2_disturb_35 ?_
              refine lv_iload_n hC.1.1 hC.1.2.1 dX2_disturb_38 rfl (lv_at hl 0 rfl) ?_
              refine lv_aload_n hC.1.1 hC.1.2.1 dX2_disturb_39 rfl (lv_at hl 1 rfl) ?_
              refine m_get_word hC hI dX2_disturb_40 ?_
              refine lv_iload_n hC.1.1 hC.1.2.1 dX2_disturb_43 rfl (lv_at hl 0 rfl) ?_
              refine m_ld_word hC hI dX2_disturb_44 ?_
              refine lv_iload_n hC.1.1 hC.1.2.1 dX2_disturb_45 rfl (lv_at hl 2 rfl) ?_
              refine n_ixor hC.1 dX2_disturb_46 ?_
              refine m_st_word (x := (u20.1 k) ^^^ i) hC hI dX2_disturb_47 (fun v47 H locs v47_0 v47_1 hI => ?_)
              refine lv_iinc (v := (nI (k + 1))) (lv' := [(3, .int (nI (k + 1))), (0, .ref h), (1, .int (nI i)), (2, .int (nI j))]) hC.1.1 hC.1.2.1 dX2_disturb_48 hl (k := 0) rfl (ni_inc k) (by decide) rfl (fun ls hl => ?_)
              refine lv_goto (tgt := 20) hC.1.1 hC.1.2.1 dX2_disturb_51 (by decide) ?_
              exact ih20 (k + 1) v47 _ _ _ (by omega) (by omega) (by rw [v47_0, hu1, ov_ge (Nat.le_refl _), ← ov_s]; unfold dF; rw [if_pos ((n_tb _ _).mp c31)]) (by rw [v47_1, hu2]) hI (lv_sub hl [0, 1, 2, 3] rfl)
      exact lp20 (6) 0 u _ _ _ (by omega) (by omega) (ov_0 _ _).symm rfl hI (lv_sub hl [0, 1, 2, 3] rfl)
    · refine lv_iconst (v := (pI 0)) hC.1.1 hC.1.2.1 dX2_disturb_16 (by decide +kernel) ?_
      exact hret _ _ _ _ _ _ dX2_disturb_17 rfl ⟨by unfold rDis; rw [if_pos (by first | rw [nb_0 c5, Bool.true_or] | rw [nb_0 c13, Bool.or_true])], by unfold wDis; rw [if_pos (by first | rw [nb_0 c5, Bool.true_or] | rw [nb_0 c13, Bool.or_true])], rfl, hc, hs⟩ hI
abbrev rmX2_distance : Room := { frames := 3, cells := 0, slots := 0, locals := 73 }
theorem hdX2_distance : yX2_distance.cls = RX2 ∧ yX2_distance.cls ≠ "java/lang/invoke/MethodHandle" ∧ yX2_distance.cls ≠ "java/lang/invoke/VarHandle" ∧ (parseMethodDescriptor yX2_distance.desc).map (fun d => d.parameters.length) = some 2 := by decide +kernel
set_option maxHeartbeats 4000000 in
set_option maxRecDepth 100000 in
/-- distance -/
theorem kX2_distance (l : Launch) (D : va_G) (h : Nat) (q : Nat → Nat) (dA : ClassId × ClassId) (kk : Nat) (u : MS) (a b : Int32) (hk : kk = 1 ∨ kk = 2) (hw : b32 u.1) (hc : b32 u.2.1) (hs : b32 u.2.2.1) : mMi l yX2_distance (ws_ yX2_distance cX2_distance 3 (some .int)) rmX2_distance D h q dA kk [.int a, .int b] u (fun r u' => r = rDist kk u.1 a b ∧ u'.1 = u.1 ∧ u'.2.2.2 = u.2.2.2 ∧ b32 u'.2.1 ∧ b32 u'.2.2.1) := by
  refine mMi_of (lv := [(0, .ref h), (1, .int a), (2, .int b)]) (by decide) rfl (Nat.le_of_ble_eq_true rfl) rfl ?_
  intro p e s m args below meth c A Q ls hC hI hl hret
  refine lv_aload_n hC.1.1 hC.1.2.1 dX2_distance_0 rfl (lv_at hl 0 rfl) ?_
  refine lv_iload_n hC.1.1 hC.1.2.1 dX2_distance_1 rfl (lv_at hl 1 rfl) ?_
  refine lv_iload_n hC.1.1 hC.1.2.1 dX2_distance_2 rfl (lv_at hl 2 rfl) ?_
  refine m_calli (rest := []) hC hI (kX2_isMessage l D h q dA kk u a b hk) lkX2_isMessage hdX2_isMessage ⟨rfl, rfl⟩ ⟨Nat.le_of_ble_eq_true rfl, Nat.le_of_ble_eq_true rfl⟩ rfl hl.1 rfl (Nat.le_of_ble_eq_true rfl) ⟨Nat.le_of_ble_eq_true rfl, Nat.le_of_ble_eq_true rfl⟩ dX2_distance_3 (fun r3 v3 H locs hp3 hI => ?_)
  obtain ⟨rfl, rfl⟩ := hp3
  refine n_if_ne hC.1 (tgt := 11) dX2_distance_6 (by decide) (fun c6 => ?_) (fun c6 => ?_) (Nat.lt_trans (bt_lt _) (by decide))
  · obtain ⟨x0, x1, h0, h1, rfl, rfl, hz⟩ := bM_ex (nb_1 c6)
    refine lv_aload_n hC.1.1 hC.1.2.1 dX2_distance_11 rfl (lv_at hl 0 rfl) ?_
    refine lv_iload_n hC.1.1 hC.1.2.1 dX2_distance_12 rfl (lv_at hl 1 rfl) ?_
    refine lv_iload_n hC.1.1 hC.1.2.1 dX2_distance_13 rfl (lv_at hl 2 rfl) ?_
    refine lv_iconst (v := (nI 5)) hC.1.1 hC.1.2.1 dX2_distance_14 (by decide +kernel) ?_
    refine m_calli (rest := []) hC hI (kX2_distanceTo l D h q dA kk u x0 x1 5 h0 h1 (by decide) hw hc hs) lkX2_distanceTo hdX2_distanceTo ⟨rfl, rfl⟩ ⟨Nat.le_of_ble_eq_true rfl, Nat.le_of_ble_eq_true rfl⟩ rfl hl.1 rfl (Nat.le_of_ble_eq_true rfl) ⟨Nat.le_of_ble_eq_true rfl, Nat.le_of_ble_eq_true rfl⟩ dX2_distance_15 (fun r15 v15 H locs hp15 hI => ?_)
    obtain ⟨⟨n15, rfl, hbn15, hon15⟩, v15_0, v15_1, v15_2, v15_3⟩ := hp15
    exact hret _ _ _ _ _ _ dX2_distance_18 rfl ⟨by unfold rDist; rw [bM_nI h0 h1 hz, tN_nI h0, tN_nI h1]; exact congrArg nI (rk_5 hbn15 (rkM_le _) hon15), v15_0, v15_1, v15_2, v15_3⟩ hI
  · refine lv_iconst (v := (pI 0)) hC.1.1 hC.1.2.1 dX2_distance_9 (by decide +kernel) ?_
    exact hret _ _ _ _ _ _ dX2_distance_10 rfl ⟨by unfold rDist; rw [if_pos (nb_0 c6)], rfl, rfl, hc, hs⟩ hI
abbrev rmX2_nearMessage : Room := { frames := 3, cells := 0, slots := 0, locals := 73 }
theorem hdX2_nearMessage : yX2_nearMessage.cls = RX2 ∧ yX2_nearMessage.cls ≠ "java/lang/invoke/MethodHandle" ∧ yX2_nearMessage.cls ≠ "java/lang/invoke/VarHandle" ∧ (parseMethodDescriptor yX2_nearMessage.desc).map (fun d => d.parameters.length) = some 0 := by decide +kernel
theorem lkX2_nearMessage : GoodIn lw_all (wsV RX2 55 RX2 yX2_nearMessage (ws_ yX2_nearMessage cX2_nearMessage 3 (some .int))) := lw_V q301 q303 qs25 q29 q304
set_option maxHeartbeats 4000000 in
set_option maxRecDepth 100000 in
/-- nearMessage -/
theorem kX2_nearMessage (l : Launch) (D : va_G) (h : Nat) (q : Nat → Nat) (dA : ClassId × ClassId) (kk : Nat) (u : MS)  (hk : kk = 1 ∨ kk = 2) (hw : b32 u.1) (hc : b32 u.2.1) (hs : b32 u.2.2.1) : mMi l yX2_nearMessage (ws_ yX2_nearMessage cX2_nearMessage 3 (some .int)) rmX2_nearMessage D h q dA kk [] u (fun r u' => NR kk u.1 r ∧ u'.1 = u.1 ∧ u'.2.2.2 = u.2.2.2 ∧ b32 u'.2.1 ∧ b32 u'.2.2.1) := by
  refine mMi_of (lv := [(0, .ref h)]) (by decide) rfl (Nat.le_of_ble_eq_true rfl) rfl ?_
  intro p e s m args below meth c A Q ls hC hI hl hret
  refine lv_iconst (v := (nI 3)) hC.1.1 hC.1.2.1 dX2_nearMessage_0 (by decide +kernel) ?_
  refine lv_aload_n hC.1.1 hC.1.2.1 dX2_nearMessage_1 rfl (lv_at hl 0 rfl) ?_
  refine m_get_k hC hI dX2_nearMessage_2 ?_
  refine n_isub hC.1 dX2_nearMessage_5 ?_
  refine lv_istore_n (lv' := [(1, .int (nI (3 - kk))), (0, .ref h)]) hC.1.1 hC.1.2.1 dX2_nearMessage_6 rfl hl (by decide) rfl (fun ls hl => ?_)
  refine lv_iconst (v := (nI 0)) hC.1.1 hC.1.2.1 dX2_nearMessage_7 (by decide +kernel) ?_
  refine lv_istore_n (lv' := [(2, .int (nI 0)), (1, .int (nI (3 - kk))), (0, .ref h)]) hC.1.1 hC.1.2.1 dX2_nearMessage_8 rfl hl (by decide) rfl (fun ls hl => ?_)
  have lp9 : ∀ (n : Nat) (j : Nat) (u9 : MS) (H : Heap) (locs : List Loc) (ls : Array Slot), j ≤ mMax kk → mMax kk < j + n → (∀ m, m < j → ¬ rkM (df u.1 (m &&& 31) (m / 2 ^ 5)) ≤ 3 - kk) → u9.1 = u.1 → u9.2.2.2 = u.2.2.2 → b32 u9.2.1 → b32 u9.2.2.1 → mI D h q dA kk A s.heap u9 H locs → lv_has ls 3 [(2, .int (nI j)), (1, .int (nI (3 - kk))), (0, .ref h)] → W p l e rmX2_nearMessage s m args below meth c H locs 0 0 Q (F0 m 9 ls []) := by
    intro n
    induction n with
    | zero => intro j u9 H locs ls hj hn hno hu1 hu2 hu3 hu4; exfalso; omega
    | succ n ih =>
      intro j u9 H locs ls hj hn hno hu1 hu2 hu3 hu4 hI hl
      have ih9 := ih
      clear ih
      have hmx := mMax_le kk
      refine lv_iload_n hC.1.1 hC.1.2.1 dX2_nearMessage_9 rfl (lv_at hl 0 rfl) ?_
      refine lv_aload_n hC.1.1 hC.1.2.1 dX2_nearMessage_10 rfl (lv_at hl 2 rfl) ?_
      refine m_get_k hC hI dX2_nearMessage_11 ?_
      refine lv_iconst (v := (nI 2)) hC.1.1 hC.1.2.1 dX2_nearMessage_14 (by decide +kernel) ?_
      refine n_icmp_ne hC.1 (tgt := 24) dX2_nearMessage_15 (by decide) (fun c15 => ?_) (fun c15 => ?_)
      · have hm2 : mMax kk = 32 := by unfold mMax; rw [if_neg c15]
        refine lv_bipush (v := (nI 32)) hC.1.1 hC.1.2.1 dX2_nearMessage_24 (by decide +kernel) ?_
        refine n_icmp_ge hC.1 (tgt := 53) dX2_nearMessage_26 (by decide) (fun c26 => ?_) (fun c26 => ?_)
        · refine lv_bipush (v := ((-4))) hC.1.1 hC.1.2.1 dX2_nearMessage_53 (by decide +kernel) ?_
          exact hret _ _ _ _ _ _ dX2_nearMessage_55 rfl ⟨Or.inr ⟨nr_m hk (fun m hm => hno m (by omega)), rfl⟩, hu1, hu2, hu3, hu4⟩ hI
        · refine lv_aload_n hC.1.1 hC.1.2.1 dX2_nearMessage_29 rfl (lv_at hl 2 rfl) ?_
          refine lv_iload_n hC.1.1 hC.1.2.1 dX2_nearMessage_30 rfl (lv_at hl 0 rfl) ?_
          refine lv_bipush (v := (nI 31)) hC.1.1 hC.1.2.1 dX2_nearMessage_31 (by decide +kernel) ?_
          refine n_iand hC.1 dX2_nearMessage_33 ?_
          refine lv_iload_n hC.1.1 hC.1.2.1 dX2_nearMessage_34 rfl (lv_at hl 0 rfl) ?_
          refine lv_iconst (v := (nI 5)) hC.1.1 hC.1.2.1 dX2_nearMessage_35 (by decide +kernel) ?_
          refine n_ishr hC.1 dX2_nearMessage_36 ?_
          refine lv_iload_n hC.1.1 hC.1.2.1 dX2_nearMessage_37 rfl (lv_at hl 1 rfl) ?_
          refine m_calli (rest := []) hC hI (kX2_distanceTo l D h q dA kk u9 (j &&& 31) (j / 2 ^ 5) (3 - kk) (mA_lt _) (mB_lt (by omega)) (by omega) (by rw [hu1]; exact hw) hu3 hu4) lkX2_distanceTo hdX2_distanceTo ⟨rfl, rfl⟩ ⟨Nat.le_of_ble_eq_true rfl, Nat.le_of_ble_eq_true rfl⟩ rfl hl.1 rfl (Nat.le_of_ble_eq_true rfl) ⟨Nat.le_of_ble_eq_true rfl, Nat.le_of_ble_eq_true rfl⟩ dX2_nearMessage_38 (fun r38 v38 H locs hp38 hI => ?_)
          obtain ⟨⟨n38, rfl, hbn38, hon38⟩, v38_0, v38_1, v38_2, v38_3⟩ := hp38
          refine lv_iload_n hC.1.1 hC.1.2.1 dX2_nearMessage_41 rfl (lv_at hl 1 rfl) ?_
          refine n_icmp_gt hC.1 (tgt := 47) dX2_nearMessage_42 (by decide) (fun c42 => ?_) (fun c42 => ?_)
          · refine lv_iinc (v := (nI (j + 1))) (lv' := [(2, .int (nI (j + 1))), (1, .int (nI (3 - kk))), (0, .ref h)]) hC.1.1 hC.1.2.1 dX2_nearMessage_47 hl (k := 0) rfl (ni_inc j) (by decide) rfl (fun ls hl => ?_)
            refine lv_goto (tgt := 9) hC.1.1 hC.1.2.1 dX2_nearMessage_50 (by decide) ?_
            exact ih9 (j + 1) v38 _ _ _ (by omega) (by omega) (fun m hm q => (Nat.lt_or_ge m j).elim (fun e => hno m e q) (fun e => by rw [show m = j by omega] at q; rw [hu1] at hon38; omega)) (by rw [v38_0, hu1]) (by rw [v38_1, hu2]) v38_2 v38_3 hI (lv_sub hl [0, 1, 2] rfl)
          · refine lv_iload_n hC.1.1 hC.1.2.1 dX2_nearMessage_45 rfl (lv_at hl 0 rfl) ?_
            exact hret _ _ _ _ _ _ dX2_nearMessage_46 rfl ⟨Or.inl ⟨j, by omega, ⟨mA_lt _, mB_lt (by omega), fun hk1 => by omega, by rw [hu1] at hon38; omega⟩, rfl⟩, by rw [v38_0, hu1], by rw [v38_1, hu2], v38_2, v38_3⟩ hI
      · have hm2 : mMax kk = 1024 := by unfold mMax; rw [if_pos c15]
        refine lv_sipush (v := (nI 1024)) hC.1.1 hC.1.2.1 dX2_nearMessage_18 (by decide +kernel) ?_
        refine lv_goto (tgt := 26) hC.1.1 hC.1.2.1 dX2_nearMessage_21 (by decide) ?_
        refine n_icmp_ge hC.1 (tgt := 53) dX2_nearMessage_26 (by decide) (fun c26 => ?_) (fun c26 => ?_)
        · refine lv_bipush (v := ((-4))) hC.1.1 hC.1.2.1 dX2_nearMessage_53 (by decide +kernel) ?_
          exact hret _ _ _ _ _ _ dX2_nearMessage_55 rfl ⟨Or.inr ⟨nr_m hk (fun m hm => hno m (by omega)), rfl⟩, hu1, hu2, hu3, hu4⟩ hI
        · refine lv_aload_n hC.1.1 hC.1.2.1 dX2_nearMessage_29 rfl (lv_at hl 2 rfl) ?_
          refine lv_iload_n hC.1.1 hC.1.2.1 dX2_nearMessage_30 rfl (lv_at hl 0 rfl) ?_
          refine lv_bipush (v := (nI 31)) hC.1.1 hC.1.2.1 dX2_nearMessage_31 (by decide +kernel) ?_
          refine n_iand hC.1 dX2_nearMessage_33 ?_
          refine lv_iload_n hC.1.1 hC.1.2.1 dX2_nearMessage_34 rfl (lv_at hl 0 rfl) ?_
          refine lv_iconst (v := (nI 5)) hC.1.1 hC.1.2.1 dX2_nearMessage_35 (by decide +kernel) ?_
          refine n_ishr hC.1 dX2_nearMessage_36 ?_
          refine lv_iload_n hC.1.1 hC.1.2.1 dX2_nearMessage_37 rfl (lv_at hl 1 rfl) ?_
          refine m_calli (rest := []) hC hI (kX2_distanceTo l D h q dA kk u9 (j &&& 31) (j / 2 ^ 5) (3 - kk) (mA_lt _) (mB_lt (by omega)) (by omega) (by rw [hu1]; exact hw) hu3 hu4) lkX2_distanceTo hdX2_distanceTo ⟨rfl, rfl⟩ ⟨Nat.le_of_ble_eq_true rfl, Nat.le_of_ble_eq_true rfl⟩ rfl hl.1 rfl (Nat.le_of_ble_eq_true rfl) ⟨Nat.le_of_ble_eq_true rfl, Nat.le_of_ble_eq_true rfl⟩ dX2_nearMessage_38 (fun r38 v38 H locs hp38 hI => ?_)
          obtain ⟨⟨n38, rfl, hbn38, hon38⟩, v38_0, v38_1, v38_2, v38_3⟩ := hp38
          refine lv_iload_n hC.1.1 hC.1.2.1 dX2_nearMessage_41 rfl (lv_at hl 1 rfl) ?_
          refine n_icmp_gt hC.1 (tgt := 47) dX2_nearMessage_42 (by decide) (fun c42 => ?_) (fun c42 => ?_)
          · refine lv_iinc (v := (nI (j + 1))) (lv' := [(2, .int (nI (j + 1))), (1, .int (nI (3 - kk))), (0, .ref h)]) hC.1.1 hC.1.2.1 dX2_nearMessage_47 hl (k := 0) rfl (ni_inc j) (by decide) rfl (fun ls hl => ?_)
            refine lv_goto (tgt := 9) hC.1.1 hC.1.2.1 dX2_nearMessage_50 (by decide) ?_
            exact ih9 (j + 1) v38 _ _ _ (by omega) (by omega) (fun m hm q => (Nat.lt_or_ge m j).elim (fun e => hno m e q) (fun e => by rw [show m = j by omega] at q; rw [hu1] at hon38; omega)) (by rw [v38_0, hu1]) (by rw [v38_1, hu2]) v38_2 v38_3 hI (lv_sub hl [0, 1, 2] rfl)
          · refine lv_iload_n hC.1.1 hC.1.2.1 dX2_nearMessage_45 rfl (lv_at hl 0 rfl) ?_
            exact hret _ _ _ _ _ _ dX2_nearMessage_46 rfl ⟨Or.inl ⟨j, by omega, ⟨mA_lt _, mB_lt (by omega), fun hk1 => by omega, by rw [hu1] at hon38; omega⟩, rfl⟩, by rw [v38_0, hu1], by rw [v38_1, hu2], v38_2, v38_3⟩ hI
  exact lp9 (mMax kk + 1) 0 u _ _ _ (Nat.zero_le _) (by omega) (fun m hm => by omega) rfl rfl hc hs hI (lv_sub hl [0, 1, 2] rfl)
abbrev rmX2_errors : Room := { frames := 4, cells := 0, slots := 0, locals := 95 }
theorem hdX2_errors : yX2_errors.cls = RX2 ∧ yX2_errors.cls ≠ "java/lang/invoke/MethodHandle" ∧ yX2_errors.cls ≠ "java/lang/invoke/VarHandle" ∧ (parseMethodDescriptor yX2_errors.desc).map (fun d => d.parameters.length) = some 0 := by decide +kernel
theorem lkX2_errors : GoodIn lw_all (wsV RX2 61 RX2 yX2_errors (ws_ yX2_errors cX2_errors 2 (some .int))) := lw_V q318 q298 q299 q29 q300
set_option maxHeartbeats 4000000 in
set_option maxRecDepth 100000 in
/-- errors -/
theorem kX2_errors (l : Launch) (D : va_G) (h : Nat) (q : Nat → Nat) (dA : ClassId × ClassId) (kk : Nat) (u : MS)  (hk : kk = 1 ∨ kk = 2) (hw : b32 u.1) (hc : b32 u.2.1) (hs : b32 u.2.2.1) : mMi l yX2_errors (ws_ yX2_errors cX2_errors 2 (some .int)) rmX2_errors D h q dA kk [] u (fun r u' => ER kk u.1 r ∧ u'.1 = u.1 ∧ u'.2.2.2 = u.2.2.2 ∧ b32 u'.2.1 ∧ b32 u'.2.2.1) := by
  refine mMi_of (lv := [(0, .ref h)]) (by decide) rfl (Nat.le_of_ble_eq_true rfl) rfl ?_
  intro p e s m args below meth c A Q ls hC hI hl hret
  refine lv_aload_n hC.1.1 hC.1.2.1 dX2_errors_0 rfl (lv_at hl 0 rfl) ?_
  refine m_calli (rest := []) hC hI (kX2_nearMessage l D h q dA kk u hk hw hc hs) lkX2_nearMessage hdX2_nearMessage ⟨rfl, rfl⟩ ⟨Nat.le_of_ble_eq_true rfl, Nat.le_of_ble_eq_true rfl⟩ rfl hl.1 rfl (Nat.le_of_ble_eq_true rfl) ⟨Nat.le_of_ble_eq_true rfl, Nat.le_of_ble_eq_true rfl⟩ dX2_errors_1 (fun r1 v1 H locs hp1 hI => ?_)
  obtain ⟨hN, v1_0, v1_1, v1_2, v1_3⟩ := hp1
  refine lv_istore_n (lv' := [(1, .int r1), (0, .ref h)]) hC.1.1 hC.1.2.1 dX2_errors_4 rfl hl (by decide) rfl (fun ls hl => ?_)
  refine lv_iload_n hC.1.1 hC.1.2.1 dX2_errors_5 rfl (lv_at hl 0 rfl) ?_
  refine lv_bipush (v := ((-4))) hC.1.1 hC.1.2.1 dX2_errors_6 (by decide +kernel) ?_
  refine lv_icmp_ne hC.1.1 hC.1.2.1 (tgt := 16) dX2_errors_8 (by decide) (fun c8 => ?_) (fun c8 => ?_)
  · obtain ⟨m0, hm0, hnr, rfl⟩ := NR_t hN c8
    refine lv_aload_n hC.1.1 hC.1.2.1 dX2_errors_16 rfl (lv_at hl 1 rfl) ?_
    refine lv_iload_n hC.1.1 hC.1.2.1 dX2_errors_17 rfl (lv_at hl 0 rfl) ?_
    refine lv_bipush (v := (nI 31)) hC.1.1 hC.1.2.1 dX2_errors_18 (by decide +kernel) ?_
    refine n_iand hC.1 dX2_errors_20 ?_
    refine lv_iload_n hC.1.1 hC.1.2.1 dX2_errors_21 rfl (lv_at hl 0 rfl) ?_
    refine lv_iconst (v := (nI 5)) hC.1.1 hC.1.2.1 dX2_errors_22 (by decide +kernel) ?_
    refine n_ishr hC.1 dX2_errors_23 ?_
    refine lv_iconst (v := (nI 5)) hC.1.1 hC.1.2.1 dX2_errors_24 (by decide +kernel) ?_
    refine m_calli (rest := []) hC hI (kX2_distanceTo l D h q dA kk v1 (m0 &&& 31) (m0 / 2 ^ 5) 5 (mA_lt _) (mB_lt hm0) (by decide) (by rw [v1_0]; exact hw) v1_2 v1_3) lkX2_distanceTo hdX2_distanceTo ⟨rfl, rfl⟩ ⟨Nat.le_of_ble_eq_true rfl, Nat.le_of_ble_eq_true rfl⟩ rfl hl.1 rfl (Nat.le_of_ble_eq_true rfl) ⟨Nat.le_of_ble_eq_true rfl, Nat.le_of_ble_eq_true rfl⟩ dX2_errors_25 (fun r25 v25 H locs hp25 hI => ?_)
    obtain ⟨⟨n25, rfl, hbn25, hon25⟩, v25_0, v25_1, v25_2, v25_3⟩ := hp25
    exact hret _ _ _ _ _ _ dX2_errors_28 rfl ⟨Or.inl ⟨_, _, hnr, by rw [v1_0] at hon25; exact congrArg nI (rk_5 hbn25 (rkM_le _) hon25)⟩, by rw [v25_0, v1_0], by rw [v25_1, v1_1], v25_2, v25_3⟩ hI
  · refine lv_bipush (v := ((-4))) hC.1.1 hC.1.2.1 dX2_errors_11 (by decide +kernel) ?_
    refine lv_goto (tgt := 28) hC.1.1 hC.1.2.1 dX2_errors_13 (by decide) ?_
    exact hret _ _ _ _ _ _ dX2_errors_28 rfl ⟨Or.inr ⟨NR_f hN c8, rfl⟩, v1_0, v1_1, v1_2, v1_3⟩ hI
abbrev rmX2_message : Room := { frames := 4, cells := 0, slots := 0, locals := 95 }
theorem hdX2_message : yX2_message.cls = RX2 ∧ yX2_message.cls ≠ "java/lang/invoke/MethodHandle" ∧ yX2_message.cls ≠ "java/lang/invoke/VarHandle" ∧ (parseMethodDescriptor yX2_message.desc).map (fun d => d.parameters.length) = some 1 := by decide +kernel
set_option maxHeartbeats 4000000 in
set_option maxRecDepth 100000 in
/-- message -/
theorem kX2_message (l : Launch) (D : va_G) (h : Nat) (q : Nat → Nat) (dA : ClassId × ClassId) (kk : Nat) (u : MS) (x : Int32) (hk : kk = 1 ∨ kk = 2) (hw : b32 u.1) (hc : b32 u.2.1) (hs : b32 u.2.2.1) : mMi l yX2_message (ws_ yX2_message cX2_message 3 (some .int)) rmX2_message D h q dA kk [.int x] u (fun r u' => MR kk u.1 x r ∧ u'.1 = u.1 ∧ u'.2.2.2 = u.2.2.2 ∧ b32 u'.2.1 ∧ b32 u'.2.2.1) := by
  refine mMi_of (lv := [(0, .ref h), (1, .int x)]) (by decide) rfl (Nat.le_of_ble_eq_true rfl) rfl ?_
  intro p e s m args below meth c A Q ls hC hI hl hret
  refine lv_iload_n hC.1.1 hC.1.2.1 dX2_message_0 rfl (lv_at hl 1 rfl) ?_
  refine lv_if_lt hC.1.1 hC.1.2.1 (tgt := 12) dX2_message_1 (by decide) (fun c1 => ?_) (fun c1 => ?_)
  · refine lv_iconst (v := (pI 0)) hC.1.1 hC.1.2.1 dX2_message_12 (by decide +kernel) ?_
    exact hret _ _ _ _ _ _ dX2_message_13 rfl ⟨Or.inl ⟨by first | exact Or.inl c1 | exact Or.inr c9, rfl⟩, rfl, rfl, hc, hs⟩ hI
  · refine lv_iload_n hC.1.1 hC.1.2.1 dX2_message_4 rfl (lv_at hl 1 rfl) ?_
    refine lv_aload_n hC.1.1 hC.1.2.1 dX2_message_5 rfl (lv_at hl 0 rfl) ?_
    refine m_get_k hC hI dX2_message_6 ?_
    refine lv_icmp_lt hC.1.1 hC.1.2.1 (tgt := 14) dX2_message_9 (by decide) (fun c9 => ?_) (fun c9 => ?_)
    · refine lv_aload_n hC.1.1 hC.1.2.1 dX2_message_14 rfl (lv_at hl 0 rfl) ?_
      refine m_calli (rest := []) hC hI (kX2_nearMessage l D h q dA kk u hk hw hc hs) lkX2_nearMessage hdX2_nearMessage ⟨rfl, rfl⟩ ⟨Nat.le_of_ble_eq_true rfl, Nat.le_of_ble_eq_true rfl⟩ rfl hl.1 rfl (Nat.le_of_ble_eq_true rfl) ⟨Nat.le_of_ble_eq_true rfl, Nat.le_of_ble_eq_true rfl⟩ dX2_message_15 (fun r15 v15 H locs hp15 hI => ?_)
      obtain ⟨hN, v15_0, v15_1, v15_2, v15_3⟩ := hp15
      refine lv_istore_n (lv' := [(2, .int r15), (0, .ref h), (1, .int x)]) hC.1.1 hC.1.2.1 dX2_message_18 rfl hl (by decide) rfl (fun ls hl => ?_)
      refine lv_iload_n hC.1.1 hC.1.2.1 dX2_message_19 rfl (lv_at hl 0 rfl) ?_
      refine lv_bipush (v := ((-4))) hC.1.1 hC.1.2.1 dX2_message_20 (by decide +kernel) ?_
      refine lv_icmp_ne hC.1.1 hC.1.2.1 (tgt := 28) dX2_message_22 (by decide) (fun c22 => ?_) (fun c22 => ?_)
      · obtain ⟨m0, hm0, hnr, rfl⟩ := NR_t hN c22
        refine lv_iload_n hC.1.1 hC.1.2.1 dX2_message_28 rfl (lv_at hl 2 rfl) ?_
        refine lv_if_ne hC.1.1 hC.1.2.1 (tgt := 39) dX2_message_29 (by decide) (fun c29 => ?_) (fun c29 => ?_)
        · refine lv_iload_n hC.1.1 hC.1.2.1 dX2_message_39 rfl (lv_at hl 0 rfl) ?_
          refine lv_iconst (v := (nI 5)) hC.1.1 hC.1.2.1 dX2_message_40 (by decide +kernel) ?_
          refine n_ishr hC.1 dX2_message_41 ?_
          exact hret _ _ _ _ _ _ dX2_message_42 rfl ⟨Or.inr ⟨fun q => q.elim c1 (fun z => z c9), Or.inl ⟨_, _, hnr, by first | rw [if_neg (fun q => c29 (q.trans nI_0))] | rw [if_pos (c29.trans nI_0.symm)]⟩⟩, v15_0, v15_1, v15_2, v15_3⟩ hI
        · refine lv_iload_n hC.1.1 hC.1.2.1 dX2_message_32 rfl (lv_at hl 0 rfl) ?_
          refine lv_bipush (v := (nI 31)) hC.1.1 hC.1.2.1 dX2_message_33 (by decide +kernel) ?_
          refine n_iand hC.1 dX2_message_35 ?_
          refine lv_goto (tgt := 42) hC.1.1 hC.1.2.1 dX2_message_36 (by decide) ?_
          exact hret _ _ _ _ _ _ dX2_message_42 rfl ⟨Or.inr ⟨fun q => q.elim c1 (fun z => z c9), Or.inl ⟨_, _, hnr, by first | rw [if_neg (fun q => c29 (q.trans nI_0))] | rw [if_pos (c29.trans nI_0.symm)]⟩⟩, v15_0, v15_1, v15_2, v15_3⟩ hI
      · refine lv_bipush (v := ((-4))) hC.1.1 hC.1.2.1 dX2_message_25 (by decide +kernel) ?_
        exact hret _ _ _ _ _ _ dX2_message_27 rfl ⟨Or.inr ⟨fun q => q.elim c1 (fun z => z c9), Or.inr ⟨NR_f hN c22, rfl⟩⟩, v15_0, v15_1, v15_2, v15_3⟩ hI
    · refine lv_iconst (v := (pI 0)) hC.1.1 hC.1.2.1 dX2_message_12 (by decide +kernel) ?_
      exact hret _ _ _ _ _ _ dX2_message_13 rfl ⟨Or.inl ⟨by first | exact Or.inl c1 | exact Or.inr c9, rfl⟩, rfl, rfl, hc, hs⟩ hI
abbrev rmX2_correct : Room := { frames := 4, cells := 0, slots := 0, locals := 95 }
theorem hdX2_correct : yX2_correct.cls = RX2 ∧ yX2_correct.cls ≠ "java/lang/invoke/MethodHandle" ∧ yX2_correct.cls ≠ "java/lang/invoke/VarHandle" ∧ (parseMethodDescriptor yX2_correct.desc).map (fun d => d.parameters.length) = some 0 := by decide +kernel
set_option maxHeartbeats 4000000 in
set_option maxRecDepth 100000 in
/-- correct -/
theorem kX2_correct (l : Launch) (D : va_G) (h : Nat) (q : Nat → Nat) (dA : ClassId × ClassId) (kk : Nat) (u : MS)  (hk : kk = 1 ∨ kk = 2) (hw : b32 u.1) (hc : b32 u.2.1) (hs : b32 u.2.2.1) : mMi l yX2_correct (ws_ yX2_correct cX2_correct 3 (some .int)) rmX2_correct D h q dA kk [] u (fun r u' => CR kk u.1 r u'.1 ∧ u'.2.2.2 = u.2.2.2 ∧ b32 u'.2.1 ∧ b32 u'.2.2.1) := by
  refine mMi_of (lv := [(0, .ref h)]) (by decide) rfl (Nat.le_of_ble_eq_true rfl) rfl ?_
  intro p e s m args below meth c A Q ls hC hI hl hret
  refine lv_aload_n hC.1.1 hC.1.2.1 dX2_correct_0 rfl (lv_at hl 0 rfl) ?_
  refine m_calli (rest := []) hC hI (kX2_nearMessage l D h q dA kk u hk hw hc hs) lkX2_nearMessage hdX2_nearMessage ⟨rfl, rfl⟩ ⟨Nat.le_of_ble_eq_true rfl, Nat.le_of_ble_eq_true rfl⟩ rfl hl.1 rfl (Nat.le_of_ble_eq_true rfl) ⟨Nat.le_of_ble_eq_true rfl, Nat.le_of_ble_eq_true rfl⟩ dX2_correct_1 (fun r1 v1 H locs hp1 hI => ?_)
  obtain ⟨hN, v1_0, v1_1, v1_2, v1_3⟩ := hp1
  refine lv_istore_n (lv' := [(1, .int r1), (0, .ref h)]) hC.1.1 hC.1.2.1 dX2_correct_4 rfl hl (by decide) rfl (fun ls hl => ?_)
  refine lv_iload_n hC.1.1 hC.1.2.1 dX2_correct_5 rfl (lv_at hl 0 rfl) ?_
  refine lv_bipush (v := ((-4))) hC.1.1 hC.1.2.1 dX2_correct_6 (by decide +kernel) ?_
  refine lv_icmp_ne hC.1.1 hC.1.2.1 (tgt := 14) dX2_correct_8 (by decide) (fun c8 => ?_) (fun c8 => ?_)
  · obtain ⟨m0, hm0, hnr, rfl⟩ := NR_t hN c8
    refine lv_aload_n hC.1.1 hC.1.2.1 dX2_correct_14 rfl (lv_at hl 1 rfl) ?_
    refine lv_iload_n hC.1.1 hC.1.2.1 dX2_correct_15 rfl (lv_at hl 0 rfl) ?_
    refine lv_bipush (v := (nI 31)) hC.1.1 hC.1.2.1 dX2_correct_16 (by decide +kernel) ?_
    refine n_iand hC.1 dX2_correct_18 ?_
    refine lv_iload_n hC.1.1 hC.1.2.1 dX2_correct_19 rfl (lv_at hl 0 rfl) ?_
    refine lv_iconst (v := (nI 5)) hC.1.1 hC.1.2.1 dX2_correct_20 (by decide +kernel) ?_
    refine n_ishr hC.1 dX2_correct_21 ?_
    refine lv_iconst (v := (nI 5)) hC.1.1 hC.1.2.1 dX2_correct_22 (by decide +kernel) ?_
    refine m_calli (rest := []) hC hI (kX2_distanceTo l D h q dA kk v1 (m0 &&& 31) (m0 / 2 ^ 5) 5 (mA_lt _) (mB_lt hm0) (by decide) (by rw [v1_0]; exact hw) v1_2 v1_3) lkX2_distanceTo hdX2_distanceTo ⟨rfl, rfl⟩ ⟨Nat.le_of_ble_eq_true rfl, Nat.le_of_ble_eq_true rfl⟩ rfl hl.1 rfl (Nat.le_of_ble_eq_true rfl) ⟨Nat.le_of_ble_eq_true rfl, Nat.le_of_ble_eq_true rfl⟩ dX2_correct_23 (fun r23 v23 H locs hp23 hI => ?_)
    obtain ⟨⟨n23, rfl, hbn23, hon23⟩, v23_0, v23_1, v23_2, v23_3⟩ := hp23
    refine lv_istore_n (lv' := [(2, .int (nI n23)), (1, .int (nI m0)), (0, .ref h)]) hC.1.1 hC.1.2.1 dX2_correct_26 rfl hl (by decide) rfl (fun ls hl => ?_)
    refine lv_aload_n hC.1.1 hC.1.2.1 dX2_correct_27 rfl (lv_at hl 2 rfl) ?_
    refine lv_iload_n hC.1.1 hC.1.2.1 dX2_correct_28 rfl (lv_at hl 1 rfl) ?_
    refine lv_bipush (v := (nI 31)) hC.1.1 hC.1.2.1 dX2_correct_29 (by decide +kernel) ?_
    refine n_iand hC.1 dX2_correct_31 ?_
    refine lv_iload_n hC.1.1 hC.1.2.1 dX2_correct_32 rfl (lv_at hl 1 rfl) ?_
    refine lv_iconst (v := (nI 5)) hC.1.1 hC.1.2.1 dX2_correct_33 (by decide +kernel) ?_
    refine n_ishr hC.1 dX2_correct_34 ?_
    refine m_calli (rest := []) hC hI (kX2_encode l D h q dA kk v23 ((nI (m0 &&& 31))) ((nI (m0 / 2 ^ 5))) hk v23_2) lkX2_encode hdX2_encode ⟨rfl, rfl⟩ ⟨Nat.le_of_ble_eq_true rfl, Nat.le_of_ble_eq_true rfl⟩ rfl hl.1 rfl (Nat.le_of_ble_eq_true rfl) ⟨Nat.le_of_ble_eq_true rfl, Nat.le_of_ble_eq_true rfl⟩ dX2_correct_35 (fun r35 v35 H locs hp35 hI => ?_)
    obtain ⟨rfl, v35_0, v35_1, v35_2⟩ := hp35
    refine lv_pop hC.1.1 hC.1.2.1 dX2_correct_38 rfl ?_
    refine lv_iload_n hC.1.1 hC.1.2.1 dX2_correct_39 rfl (lv_at hl 0 rfl) ?_
    exact hret _ _ _ _ _ _ dX2_correct_40 rfl ⟨Or.inl ⟨_, _, hnr, by rw [v1_0] at hon23; exact congrArg nI (rk_5 hbn23 (rkM_le _) hon23), by rw [v35_0, v23_0, v1_0]; unfold wEnc; rw [bM_nI hnr.1 hnr.2.1 hnr.2.2.1, tN_nI hnr.1, tN_nI hnr.2.1]; rfl⟩, by rw [v35_1, v23_1, v1_1], v35_2, by rw [v35_1]; exact v23_3⟩ hI
  · refine lv_bipush (v := ((-4))) hC.1.1 hC.1.2.1 dX2_correct_11 (by decide +kernel) ?_
    exact hret _ _ _ _ _ _ dX2_correct_13 rfl ⟨Or.inr ⟨NR_f hN c8, rfl, v1_0⟩, v1_1, v1_2, v1_3⟩ hI
abbrev rmX2_clean : Room := { frames := 5, cells := 0, slots := 0, locals := 116 }
theorem hdX2_clean : yX2_clean.cls = RX2 ∧ yX2_clean.cls ≠ "java/lang/invoke/MethodHandle" ∧ yX2_clean.cls ≠ "java/lang/invoke/VarHandle" ∧ (parseMethodDescriptor yX2_clean.desc).map (fun d => d.parameters.length) = some 0 := by decide +kernel
set_option maxHeartbeats 4000000 in
set_option maxRecDepth 100000 in
/-- clean -/
theorem kX2_clean (l : Launch) (D : va_G) (h : Nat) (q : Nat → Nat) (dA : ClassId × ClassId) (kk : Nat) (u : MS)  (hk : kk = 1 ∨ kk = 2) (hw : b32 u.1) (hc : b32 u.2.1) (hs : b32 u.2.2.1) : mMi l yX2_clean (ws_ yX2_clean cX2_clean 1 (some .boolean)) rmX2_clean D h q dA kk [] u (fun r u' => (∃ r0, ER kk u.1 r0 ∧ r = nI (decide (r0 = 0)).toNat) ∧ u'.1 = u.1 ∧ u'.2.2.2 = u.2.2.2 ∧ b32 u'.2.1 ∧ b32 u'.2.2.1) := by
  refine mMi_of (lv := [(0, .ref h)]) (by decide) rfl (Nat.le_of_ble_eq_true rfl) rfl ?_
  intro p e s m args below meth c A Q ls hC hI hl hret
  refine lv_aload_n hC.1.1 hC.1.2.1 dX2_clean_0 rfl (lv_at hl 0 rfl) ?_
  refine m_calli (rest := []) hC hI (kX2_errors l D h q dA kk u hk hw hc hs) lkX2_errors hdX2_errors ⟨rfl, rfl⟩ ⟨Nat.le_of_ble_eq_true rfl, Nat.le_of_ble_eq_true rfl⟩ rfl hl.1 rfl (Nat.le_of_ble_eq_true rfl) ⟨Nat.le_of_ble_eq_true rfl, Nat.le_of_ble_eq_true rfl⟩ dX2_clean_1 (fun r1 v1 H locs hp1 hI => ?_)
  obtain ⟨hE, v1_0, v1_1, v1_2, v1_3⟩ := hp1
  refine lv_if_ne hC.1.1 hC.1.2.1 (tgt := 11) dX2_clean_4 (by decide) (fun c4 => ?_) (fun c4 => ?_)
  · refine lv_iconst (v := (nI 0)) hC.1.1 hC.1.2.1 dX2_clean_11 (by decide +kernel) ?_
    exact hret _ _ _ _ _ _ dX2_clean_12 rfl ⟨⟨_, hE, by first | (rw [decide_eq_false c4]; rfl) | (rw [decide_eq_true c4]; rfl)⟩, v1_0, v1_1, v1_2, v1_3⟩ hI
  · refine lv_iconst (v := (nI 1)) hC.1.1 hC.1.2.1 dX2_clean_7 (by decide +kernel) ?_
    refine lv_goto (tgt := 12) hC.1.1 hC.1.2.1 dX2_clean_8 (by decide) ?_
    exact hret _ _ _ _ _ _ dX2_clean_12 rfl ⟨⟨_, hE, by first | (rw [decide_eq_false c4]; rfl) | (rw [decide_eq_true c4]; rfl)⟩, v1_0, v1_1, v1_2, v1_3⟩ hI
abbrev rmX2_placesChanged : Room := { frames := 2, cells := 0, slots := 0, locals := 49 }
theorem hdX2_placesChanged : yX2_placesChanged.cls = RX2 ∧ yX2_placesChanged.cls ≠ "java/lang/invoke/MethodHandle" ∧ yX2_placesChanged.cls ≠ "java/lang/invoke/VarHandle" ∧ (parseMethodDescriptor yX2_placesChanged.desc).map (fun d => d.parameters.length) = some 2 := by decide +kernel
theorem lkX2_placesChanged : GoodIn lw_all (wsV RX2 64 RX2 yX2_placesChanged (ws_ yX2_placesChanged cX2_placesChanged 5 (some .int))) := lw_V q323 q325 qs26 q29 q326
set_option maxHeartbeats 4000000 in
set_option maxRecDepth 100000 in
/-- placesChanged -/
theorem kX2_placesChanged (l : Launch) (D : va_G) (h : Nat) (q : Nat → Nat) (dA : ClassId × ClassId) (kk : Nat) (u : MS) (j : Nat) (hj : j < 1024) (hw : b32 u.1) (hc : b32 u.2.1) : mMi l yX2_placesChanged (ws_ yX2_placesChanged cX2_placesChanged 5 (some .int)) rmX2_placesChanged D h q dA kk [.int (nI (j &&& 31)), .int (nI (j / 2 ^ 5))] u (fun r u' => r = nI (pl u.1 j) ∧ u'.1 = u.1 ∧ u'.2.2 = u.2.2 ∧ b32 u'.2.1) := by
  refine mMi_of (lv := [(0, .ref h), (1, .int (nI (j &&& 31))), (2, .int (nI (j / 2 ^ 5)))]) (by decide) rfl (Nat.le_of_ble_eq_true rfl) rfl ?_
  intro p e s m args below meth c A Q ls hC hI hl hret
  refine lv_aload_n hC.1.1 hC.1.2.1 dX2_placesChanged_0 rfl (lv_at hl 0 rfl) ?_
  refine lv_iload_n hC.1.1 hC.1.2.1 dX2_placesChanged_1 rfl (lv_at hl 1 rfl) ?_
  refine lv_iload_n hC.1.1 hC.1.2.1 dX2_placesChanged_2 rfl (lv_at hl 2 rfl) ?_
  refine m_callv (rest := []) hC hI (kX2_codeWord l D h q dA kk u (j &&& 31) (j / 2 ^ 5) (mA_lt _) (mB_lt hj)) lkX2_codeWord hdX2_codeWord ⟨rfl, rfl⟩ ⟨Nat.le_of_ble_eq_true rfl, Nat.le_of_ble_eq_true rfl⟩ rfl hl.1 rfl (Nat.le_of_ble_eq_true rfl) ⟨Nat.le_of_ble_eq_true rfl, Nat.le_of_ble_eq_true rfl⟩ dX2_placesChanged_3 (fun v3 H locs hp3 hI => ?_)
  obtain ⟨v3_0, v3_1, v3_2⟩ := hp3
  refine lv_iconst (v := (nI 0)) hC.1.1 hC.1.2.1 dX2_placesChanged_6 (by decide +kernel) ?_
  refine lv_istore_n (lv' := [(3, .int (nI 0)), (0, .ref h), (1, .int (nI (j &&& 31))), (2, .int (nI (j / 2 ^ 5)))]) hC.1.1 hC.1.2.1 dX2_placesChanged_7 rfl hl (by decide) rfl (fun ls hl => ?_)
  refine lv_iconst (v := (nI 0)) hC.1.1 hC.1.2.1 dX2_placesChanged_8 (by decide +kernel) ?_
  refine lv_istore (lv' := [(4, .int (nI 0)), (3, .int (nI 0)), (0, .ref h), (1, .int (nI (j &&& 31))), (2, .int (nI (j / 2 ^ 5)))]) hC.1.1 hC.1.2.1 dX2_placesChanged_9 hl (by decide) rfl (fun ls hl => ?_)
  have lp11 : ∀ (n : Nat) (i : Nat) (z : Nat) (H : Heap) (locs : List Loc) (ls : Array Slot), i ≤ 5 → 5 < i + n → z = plF u.1 (vl (j &&& 31) (j / 2 ^ 5)) i → mI D h q dA kk A s.heap v3 H locs → lv_has ls 5 [(4, .int (nI i)), (3, .int (nI z)), (0, .ref h)] → W p l e rmX2_placesChanged s m args below meth c H locs 0 0 Q (F0 m 11 ls []) := by
    intro n
    induction n with
    | zero => intro i z  H locs ls hi hn hz; exfalso; omega
    | succ n ih =>
      intro i z  H locs ls hi hn hz hI hl
      have ih11 := ih
      clear ih
      refine lv_iload hC.1.1 hC.1.2.1 dX2_placesChanged_11 (lv_at hl 0 rfl) ?_
      refine lv_iconst (v := (nI 5)) hC.1.1 hC.1.2.1 dX2_placesChanged_13 (by decide +kernel) ?_
      refine n_icmp_ge hC.1 (tgt := 47) dX2_placesChanged_14 (by decide) (fun c14 => ?_) (fun c14 => ?_)
      · refine lv_iload_n hC.1.1 hC.1.2.1 dX2_placesChanged_47 rfl (lv_at hl 1 rfl) ?_
        exact hret _ _ _ _ _ _ dX2_placesChanged_48 rfl ⟨by rw [hz, show i = 5 by omega]; rfl, v3_1, v3_2, by rw [v3_0]; exact ov_b32 hc (fun j => vl_lt _ _ _) _⟩ hI
      · refine lv_aload_n hC.1.1 hC.1.2.1 dX2_placesChanged_17 rfl (lv_at hl 2 rfl) ?_
        refine m_get_code hC hI dX2_placesChanged_18 ?_
        refine lv_iload hC.1.1 hC.1.2.1 dX2_placesChanged_21 (lv_at hl 0 rfl) ?_
        refine m_ld_code hC hI dX2_placesChanged_23 ?_
        refine lv_aload_n hC.1.1 hC.1.2.1 dX2_placesChanged_24 rfl (lv_at hl 2 rfl) ?_
        refine m_get_word hC hI dX2_placesChanged_25 ?_
        refine lv_iload hC.1.1 hC.1.2.1 dX2_placesChanged_28 (lv_at hl 0 rfl) ?_
        refine m_ld_word hC hI dX2_placesChanged_30 ?_
        refine n_icmp_eq hC.1 (tgt := 41) dX2_placesChanged_31 (by decide) (fun c31 => ?_) (fun c31 => ?_) (by rw [v3_0, ov_lt (by omega)]; exact Nat.lt_trans (vl_lt _ _ _) (by decide)) (by rw [v3_1]; exact Nat.lt_trans (hw _) (by decide))
        · refine lv_iinc (v := (nI (i + 1))) (lv' := [(4, .int (nI (i + 1))), (3, .int (nI z)), (0, .ref h)]) hC.1.1 hC.1.2.1 dX2_placesChanged_41 hl (k := 0) rfl (ni_inc i) (by decide) rfl (fun ls hl => ?_)
          refine lv_goto (tgt := 11) hC.1.1 hC.1.2.1 dX2_placesChanged_44 (by decide) ?_
          exact ih11 (i + 1) z  _ _ _ (by omega) (by omega) (by rw [v3_0, v3_1, ov_lt (by omega)] at c31; rw [hz]; first | exact (plF_t c31).symm | exact (plF_f c31).symm) hI (lv_sub hl [0, 1, 2] rfl)
        · refine lv_iload_n hC.1.1 hC.1.2.1 dX2_placesChanged_34 rfl (lv_at hl 1 rfl) ?_
          refine lv_iconst (v := (nI 1)) hC.1.1 hC.1.2.1 dX2_placesChanged_35 (by decide +kernel) ?_
          refine lv_iload hC.1.1 hC.1.2.1 dX2_placesChanged_36 (lv_at hl 0 rfl) ?_
          refine n_ishl1 hC.1 dX2_placesChanged_38 ?_
          refine n_ior hC.1 dX2_placesChanged_39 ?_
          refine lv_istore_n (lv' := [(3, .int (nI (z ||| (2 ^ i)))), (4, .int (nI i)), (0, .ref h)]) hC.1.1 hC.1.2.1 dX2_placesChanged_40 rfl hl (by decide) rfl (fun ls hl => ?_)
          refine lv_iinc (v := (nI (i + 1))) (lv' := [(4, .int (nI (i + 1))), (3, .int (nI (z ||| (2 ^ i)))), (0, .ref h)]) hC.1.1 hC.1.2.1 dX2_placesChanged_41 hl (k := 1) rfl (ni_inc i) (by decide) rfl (fun ls hl => ?_)
          refine lv_goto (tgt := 11) hC.1.1 hC.1.2.1 dX2_placesChanged_44 (by decide) ?_
          exact ih11 (i + 1) (z ||| (2 ^ i))  _ _ _ (by omega) (by omega) (by rw [v3_0, v3_1, ov_lt (by omega)] at c31; rw [hz]; first | exact (plF_t c31).symm | exact (plF_f c31).symm) hI (lv_sub hl [0, 1, 2] rfl)
  exact lp11 (6) 0 0  _ _ _ (by omega) (by omega) rfl hI (lv_sub hl [0, 1, 2] rfl)
abbrev rmX2_coverings : Room := { frames := 3, cells := 0, slots := 0, locals := 73 }
theorem hdX2_coverings : yX2_coverings.cls = RX2 ∧ yX2_coverings.cls ≠ "java/lang/invoke/MethodHandle" ∧ yX2_coverings.cls ≠ "java/lang/invoke/VarHandle" ∧ (parseMethodDescriptor yX2_coverings.desc).map (fun d => d.parameters.length) = some 0 := by decide +kernel
set_option maxHeartbeats 4000000 in
set_option maxRecDepth 100000 in
/-- coverings -/
theorem kX2_coverings (l : Launch) (D : va_G) (h : Nat) (q : Nat → Nat) (dA : ClassId × ClassId) (kk : Nat) (u : MS)  (hk : kk = 1 ∨ kk = 2) (hw : b32 u.1) (hc : b32 u.2.1) : mMi l yX2_coverings (ws_ yX2_coverings cX2_coverings 5 (some .int)) rmX2_coverings D h q dA kk [] u (fun r u' => r = nI (cvM (chF (ov u.2.2.2 (fun _ => 0) 32) u.1 (mMax kk)) 32) ∧ u'.1 = u.1 ∧ b32 u'.2.1 ∧ u'.2.2.1 = u.2.2.1) := by
  refine mMi_of (lv := [(0, .ref h)]) (by decide) rfl (Nat.le_of_ble_eq_true rfl) rfl ?_
  intro p e s m args below meth c A Q ls hC hI hl hret
  refine lv_iconst (v := (nI 0)) hC.1.1 hC.1.2.1 dX2_coverings_0 (by decide +kernel) ?_
  refine lv_istore_n (lv' := [(1, .int (nI 0)), (0, .ref h)]) hC.1.1 hC.1.2.1 dX2_coverings_1 rfl hl (by decide) rfl (fun ls hl => ?_)
  have lp2 : ∀ (n : Nat) (i : Nat) (u2 : MS) (H : Heap) (locs : List Loc) (ls : Array Slot), i ≤ 32 → 32 < i + n → u2.2.2.2 = ov u.2.2.2 (fun _ => 0) i → u2.1 = u.1 → u2.2.1 = u.2.1 → u2.2.2.1 = u.2.2.1 → mI D h q dA kk A s.heap u2 H locs → lv_has ls 5 [(1, .int (nI i)), (0, .ref h)] → W p l e rmX2_coverings s m args below meth c H locs 0 0 Q (F0 m 2 ls []) := by
    intro n
    induction n with
    | zero => intro i u2 H locs ls hi hn hu1 hu2 hu3 hu4; exfalso; omega
    | succ n ih =>
      intro i u2 H locs ls hi hn hu1 hu2 hu3 hu4 hI hl
      have ih2 := ih
      clear ih
      refine lv_iload_n hC.1.1 hC.1.2.1 dX2_coverings_2 rfl (lv_at hl 0 rfl) ?_
      refine lv_bipush (v := (nI 32)) hC.1.1 hC.1.2.1 dX2_coverings_3 (by decide +kernel) ?_
      refine n_icmp_ge hC.1 (tgt := 21) dX2_coverings_5 (by decide) (fun c5 => ?_) (fun c5 => ?_)
      · refine lv_iconst (v := (nI 0)) hC.1.1 hC.1.2.1 dX2_coverings_21 (by decide +kernel) ?_
        refine lv_istore_n (lv' := [(1, .int (nI 0)), (0, .ref h)]) hC.1.1 hC.1.2.1 dX2_coverings_22 rfl hl (by decide) rfl (fun ls hl => ?_)
        have lp23 : ∀ (n : Nat) (j : Nat) (u23 : MS) (H : Heap) (locs : List Loc) (ls : Array Slot), j ≤ mMax kk → mMax kk < j + n → u23.2.2.2 = chF (ov u.2.2.2 (fun _ => 0) 32) u.1 j → u23.1 = u.1 → b32 u23.2.1 → u23.2.2.1 = u.2.2.1 → mI D h q dA kk A s.heap u23 H locs → lv_has ls 5 [(1, .int (nI j)), (0, .ref h)] → W p l e rmX2_coverings s m args below meth c H locs 0 0 Q (F0 m 23 ls []) := by
          intro n
          induction n with
          | zero => intro j u23 H locs ls hj hnj hv1 hv2 hv3 hv4; exfalso; omega
          | succ n ih =>
            intro j u23 H locs ls hj hnj hv1 hv2 hv3 hv4 hI hl
            have ih23 := ih
            clear ih
            have hmx := mMax_le kk
            refine lv_iload_n hC.1.1 hC.1.2.1 dX2_coverings_23 rfl (lv_at hl 0 rfl) ?_
            refine lv_aload_n hC.1.1 hC.1.2.1 dX2_coverings_24 rfl (lv_at hl 1 rfl) ?_
            refine m_get_k hC hI dX2_coverings_25 ?_
            refine lv_iconst (v := (nI 2)) hC.1.1 hC.1.2.1 dX2_coverings_28 (by decide +kernel) ?_
            refine n_icmp_ne hC.1 (tgt := 38) dX2_coverings_29 (by decide) (fun c29 => ?_) (fun c29 => ?_)
            · have hm2 : mMax kk = 32 := by unfold mMax; rw [if_neg c29]
              refine lv_bipush (v := (nI 32)) hC.1.1 hC.1.2.1 dX2_coverings_38 (by decide +kernel) ?_
              refine n_icmp_ge hC.1 (tgt := 68) dX2_coverings_40 (by decide) (fun c40 => ?_) (fun c40 => ?_)
              · refine lv_iconst (v := (nI 0)) hC.1.1 hC.1.2.1 dX2_coverings_68 (by decide +kernel) ?_
                refine lv_istore_n (lv' := [(1, .int (nI 0)), (0, .ref h)]) hC.1.1 hC.1.2.1 dX2_coverings_69 rfl hl (by decide) rfl (fun ls hl => ?_)
                refine lv_iconst (v := (nI 0)) hC.1.1 hC.1.2.1 dX2_coverings_70 (by decide +kernel) ?_
                refine lv_istore_n (lv' := [(2, .int (nI 0)), (1, .int (nI 0)), (0, .ref h)]) hC.1.1 hC.1.2.1 dX2_coverings_71 rfl hl (by decide) rfl (fun ls hl => ?_)
                have lp72 : ∀ (n : Nat) (z : Nat) (g : Nat) (H : Heap) (locs : List Loc) (ls : Array Slot), z ≤ 32 → 32 < z + n → g = cvM u23.2.2.2 z → mI D h q dA kk A s.heap u23 H locs → lv_has ls 5 [(2, .int (nI z)), (1, .int (nI g)), (0, .ref h)] → W p l e rmX2_coverings s m args below meth c H locs 0 0 Q (F0 m 72 ls []) := by
                  intro n
                  induction n with
                  | zero => intro z g  H locs ls hz hnz hg; exfalso; omega
                  | succ n ih =>
                    intro z g  H locs ls hz hnz hg hI hl
                    have ih72 := ih
                    clear ih
                    refine lv_iload_n hC.1.1 hC.1.2.1 dX2_coverings_72 rfl (lv_at hl 0 rfl) ?_
                    refine lv_bipush (v := (nI 32)) hC.1.1 hC.1.2.1 dX2_coverings_73 (by decide +kernel) ?_
                    refine n_icmp_ge hC.1 (tgt := 143) dX2_coverings_75 (by decide) (fun c75 => ?_) (fun c75 => ?_)
                    · refine lv_iload_n hC.1.1 hC.1.2.1 dX2_coverings_143 rfl (lv_at hl 1 rfl) ?_
                      exact hret _ _ _ _ _ _ dX2_coverings_144 rfl ⟨by rw [hg, hv1, show z = 32 by omega, show j = mMax kk by omega], hv2, hv3, hv4⟩ hI
                    · refine lv_iconst (v := (nI 0)) hC.1.1 hC.1.2.1 dX2_coverings_78 (by decide +kernel) ?_
                      refine lv_istore_n (lv' := [(3, .int (nI 0)), (2, .int (nI z)), (1, .int (nI g)), (0, .ref h)]) hC.1.1 hC.1.2.1 dX2_coverings_79 rfl hl (by decide) rfl (fun ls hl => ?_)
                      refine lv_iconst (v := (nI 0)) hC.1.1 hC.1.2.1 dX2_coverings_80 (by decide +kernel) ?_
                      refine lv_istore (lv' := [(4, .int (nI 0)), (3, .int (nI 0)), (2, .int (nI z)), (1, .int (nI g)), (0, .ref h)]) hC.1.1 hC.1.2.1 dX2_coverings_81 hl (by decide) rfl (fun ls hl => ?_)
                      have lp83 : ∀ (n : Nat) (y0 : Nat) (y : Nat) (H : Heap) (locs : List Loc) (ls : Array Slot), y0 ≤ 32 → 32 < y0 + n → y = (cvS u23.2.2.2 z y0).toNat → mI D h q dA kk A s.heap u23 H locs → lv_has ls 5 [(4, .int (nI y0)), (3, .int (nI y)), (2, .int (nI z)), (1, .int (nI g)), (0, .ref h)] → W p l e rmX2_coverings s m args below meth c H locs 0 0 Q (F0 m 83 ls []) := by
                        intro n
                        induction n with
                        | zero => intro y0 y  H locs ls hy0 hny hy; exfalso; omega
                        | succ n ih =>
                          intro y0 y  H locs ls hy0 hny hy hI hl
                          have ih83 := ih
                          clear ih
                          refine lv_iload hC.1.1 hC.1.2.1 dX2_coverings_83 (lv_at hl 0 rfl) ?_
                          refine lv_bipush (v := (nI 32)) hC.1.1 hC.1.2.1 dX2_coverings_85 (by decide +kernel) ?_
                          refine n_icmp_ge hC.1 (tgt := 125) dX2_coverings_87 (by decide) (fun c87 => ?_) (fun c87 => ?_)
                          · refine lv_iload_n hC.1.1 hC.1.2.1 dX2_coverings_125 rfl (lv_at hl 1 rfl) ?_
                            refine n_if_eq hC.1 (tgt := 135) dX2_coverings_126 (by decide) (fun c126 => ?_) (fun c126 => ?_) (by rw [hy]; exact Nat.lt_trans (bt_lt _) (by decide))
                            · refine lv_iload_n hC.1.1 hC.1.2.1 dX2_coverings_135 rfl (lv_at hl 3 rfl) ?_
                              refine lv_istore_n (lv' := [(1, .int (nI g)), (4, .int (nI y0)), (3, .int (nI y)), (2, .int (nI z)), (0, .ref h)]) hC.1.1 hC.1.2.1 dX2_coverings_136 rfl hl (by decide) rfl (fun ls hl => ?_)
                              refine lv_iinc (v := (nI (z + 1))) (lv' := [(2, .int (nI (z + 1))), (1, .int (nI g)), (4, .int (nI y0)), (3, .int (nI y)), (0, .ref h)]) hC.1.1 hC.1.2.1 dX2_coverings_137 hl (k := 3) rfl (ni_inc z) (by decide) rfl (fun ls hl => ?_)
                              refine lv_goto (tgt := 72) hC.1.1 hC.1.2.1 dX2_coverings_140 (by decide) ?_
                              exact ih72 (z + 1) g  _ _ _ (by omega) (by omega) (by rw [hy, show y0 = 32 by omega] at c126; show _ = cvM u23.2.2.2 z + (cvS u23.2.2.2 z 32).toNat; have := bt_lt (cvS u23.2.2.2 z 32); omega) hI (lv_sub hl [0, 1, 4] rfl)
                            · refine lv_iload_n hC.1.1 hC.1.2.1 dX2_coverings_129 rfl (lv_at hl 3 rfl) ?_
                              refine lv_iconst (v := (nI 1)) hC.1.1 hC.1.2.1 dX2_coverings_130 (by decide +kernel) ?_
                              refine n_iadd hC.1 dX2_coverings_131 ?_
                              refine lv_goto (tgt := 136) hC.1.1 hC.1.2.1 dX2_coverings_132 (by decide) ?_
                              refine lv_istore_n (lv' := [(1, .int (nI (g + 1))), (4, .int (nI y0)), (3, .int (nI y)), (2, .int (nI z)), (0, .ref h)]) hC.1.1 hC.1.2.1 dX2_coverings_136 rfl hl (by decide) rfl (fun ls hl => ?_)
                              refine lv_iinc (v := (nI (z + 1))) (lv' := [(2, .int (nI (z + 1))), (1, .int (nI (g + 1))), (4, .int (nI y0)), (3, .int (nI y)), (0, .ref h)]) hC.1.1 hC.1.2.1 dX2_coverings_137 hl (k := 3) rfl (ni_inc z) (by decide) rfl (fun ls hl => ?_)
                              refine lv_goto (tgt := 72) hC.1.1 hC.1.2.1 dX2_coverings_140 (by decide) ?_
                              exact ih72 (z + 1) (g + 1)  _ _ _ (by omega) (by omega) (by rw [hy, show y0 = 32 by omega] at c126; show _ = cvM u23.2.2.2 z + (cvS u23.2.2.2 z 32).toNat; have := bt_lt (cvS u23.2.2.2 z 32); omega) hI (lv_sub hl [0, 1, 4] rfl)
                          · refine lv_iload_n hC.1.1 hC.1.2.1 dX2_coverings_90 rfl (lv_at hl 1 rfl) ?_
                            refine n_if_ne hC.1 (tgt := 113) dX2_coverings_91 (by decide) (fun c91 => ?_) (fun c91 => ?_) (by rw [hy]; exact Nat.lt_trans (bt_lt _) (by decide))
                            · refine lv_iconst (v := (nI 1)) hC.1.1 hC.1.2.1 dX2_coverings_113 (by decide +kernel) ?_
                              refine lv_goto (tgt := 118) hC.1.1 hC.1.2.1 dX2_coverings_114 (by decide) ?_
                              refine lv_istore_n (lv' := [(3, .int (nI 1)), (4, .int (nI y0)), (2, .int (nI z)), (1, .int (nI g)), (0, .ref h)]) hC.1.1 hC.1.2.1 dX2_coverings_118 rfl hl (by decide) rfl (fun ls hl => ?_)
                              refine lv_iinc (v := (nI (y0 + 1))) (lv' := [(4, .int (nI (y0 + 1))), (3, .int (nI 1)), (2, .int (nI z)), (1, .int (nI g)), (0, .ref h)]) hC.1.1 hC.1.2.1 dX2_coverings_119 hl (k := 1) rfl (ni_inc y0) (by decide) rfl (fun ls hl => ?_)
                              refine lv_goto (tgt := 83) hC.1.1 hC.1.2.1 dX2_coverings_122 (by decide) ?_
                              exact ih83 (y0 + 1) 1  _ _ _ (by omega) (by omega) (by rw [cvS_s]; first | (rw [bt_1 (fun q => c91 (hy.trans q)), Bool.true_or]; rfl) | (rw [bt_0 (hy.symm.trans c91), decide_eq_true c101]; rfl) | (rw [bt_0 (hy.symm.trans c91), decide_eq_false c101, decide_eq_true c110]; rfl) | (rw [bt_0 (hy.symm.trans c91), decide_eq_false c101, decide_eq_false c110]; rfl)) hI (lv_sub hl [0, 1, 2, 3, 4] rfl)
                            · refine lv_aload_n hC.1.1 hC.1.2.1 dX2_coverings_94 rfl (lv_at hl 4 rfl) ?_
                              refine m_get_changed hC hI dX2_coverings_95 ?_
                              refine lv_iload hC.1.1 hC.1.2.1 dX2_coverings_98 (lv_at hl 0 rfl) ?_
                              refine m_ld_changed hC hI dX2_coverings_100 ?_
                              refine n_if_eq hC.1 (tgt := 117) dX2_coverings_101 (by decide) (fun c101 => ?_) (fun c101 => ?_) (Nat.lt_trans (by rw [hv1]; exact chF_lt (fun j hj => by rw [ov_lt hj]; decide) _ _ (by omega)) (by decide : 2 < 2 ^ 31))
                              · refine lv_iconst (v := (nI 0)) hC.1.1 hC.1.2.1 dX2_coverings_117 (by decide +kernel) ?_
                                refine lv_istore_n (lv' := [(3, .int (nI 0)), (4, .int (nI y0)), (2, .int (nI z)), (1, .int (nI g)), (0, .ref h)]) hC.1.1 hC.1.2.1 dX2_coverings_118 rfl hl (by decide) rfl (fun ls hl => ?_)
                                refine lv_iinc (v := (nI (y0 + 1))) (lv' := [(4, .int (nI (y0 + 1))), (3, .int (nI 0)), (2, .int (nI z)), (1, .int (nI g)), (0, .ref h)]) hC.1.1 hC.1.2.1 dX2_coverings_119 hl (k := 1) rfl (ni_inc y0) (by decide) rfl (fun ls hl => ?_)
                                refine lv_goto (tgt := 83) hC.1.1 hC.1.2.1 dX2_coverings_122 (by decide) ?_
                                exact ih83 (y0 + 1) 0  _ _ _ (by omega) (by omega) (by rw [cvS_s]; first | (rw [bt_1 (fun q => c91 (hy.trans q)), Bool.true_or]; rfl) | (rw [bt_0 (hy.symm.trans c91), decide_eq_true c101]; rfl) | (rw [bt_0 (hy.symm.trans c91), decide_eq_false c101, decide_eq_true c110]; rfl) | (rw [bt_0 (hy.symm.trans c91), decide_eq_false c101, decide_eq_false c110]; rfl)) hI (lv_sub hl [0, 1, 2, 3, 4] rfl)
                              · refine lv_iload hC.1.1 hC.1.2.1 dX2_coverings_104 (lv_at hl 0 rfl) ?_
                                refine lv_iload_n hC.1.1 hC.1.2.1 dX2_coverings_106 rfl (lv_at hl 2 rfl) ?_
                                refine lv_iconst (v := (pI 0)) hC.1.1 hC.1.2.1 dX2_coverings_107 (by decide +kernel) ?_
                                refine lv_ixor hC.1.1 hC.1.2.1 dX2_coverings_108 ?_
                                refine lv_iand hC.1.1 hC.1.2.1 dX2_coverings_109 ?_
                                refine n_top (y := (nI (y0 &&& (31 ^^^ z)))) (pz_e y0 (by omega) z (by omega)) ?_
                                refine n_if_ne hC.1 (tgt := 117) dX2_coverings_110 (by decide) (fun c110 => ?_) (fun c110 => ?_) (Nat.lt_of_le_of_lt Nat.and_le_left (by omega))
                                · refine lv_iconst (v := (nI 0)) hC.1.1 hC.1.2.1 dX2_coverings_117 (by decide +kernel) ?_
                                  refine lv_istore_n (lv' := [(3, .int (nI 0)), (4, .int (nI y0)), (2, .int (nI z)), (1, .int (nI g)), (0, .ref h)]) hC.1.1 hC.1.2.1 dX2_coverings_118 rfl hl (by decide) rfl (fun ls hl => ?_)
                                  refine lv_iinc (v := (nI (y0 + 1))) (lv' := [(4, .int (nI (y0 + 1))), (3, .int (nI 0)), (2, .int (nI z)), (1, .int (nI g)), (0, .ref h)]) hC.1.1 hC.1.2.1 dX2_coverings_119 hl (k := 1) rfl (ni_inc y0) (by decide) rfl (fun ls hl => ?_)
                                  refine lv_goto (tgt := 83) hC.1.1 hC.1.2.1 dX2_coverings_122 (by decide) ?_
                                  exact ih83 (y0 + 1) 0  _ _ _ (by omega) (by omega) (by rw [cvS_s]; first | (rw [bt_1 (fun q => c91 (hy.trans q)), Bool.true_or]; rfl) | (rw [bt_0 (hy.symm.trans c91), decide_eq_true c101]; rfl) | (rw [bt_0 (hy.symm.trans c91), decide_eq_false c101, decide_eq_true c110]; rfl) | (rw [bt_0 (hy.symm.trans c91), decide_eq_false c101, decide_eq_false c110]; rfl)) hI (lv_sub hl [0, 1, 2, 3, 4] rfl)
                                · refine lv_iconst (v := (nI 1)) hC.1.1 hC.1.2.1 dX2_coverings_113 (by decide +kernel) ?_
                                  refine lv_goto (tgt := 118) hC.1.1 hC.1.2.1 dX2_coverings_114 (by decide) ?_
                                  refine lv_istore_n (lv' := [(3, .int (nI 1)), (4, .int (nI y0)), (2, .int (nI z)), (1, .int (nI g)), (0, .ref h)]) hC.1.1 hC.1.2.1 dX2_coverings_118 rfl hl (by decide) rfl (fun ls hl => ?_)
                                  refine lv_iinc (v := (nI (y0 + 1))) (lv' := [(4, .int (nI (y0 + 1))), (3, .int (nI 1)), (2, .int (nI z)), (1, .int (nI g)), (0, .ref h)]) hC.1.1 hC.1.2.1 dX2_coverings_119 hl (k := 1) rfl (ni_inc y0) (by decide) rfl (fun ls hl => ?_)
                                  refine lv_goto (tgt := 83) hC.1.1 hC.1.2.1 dX2_coverings_122 (by decide) ?_
                                  exact ih83 (y0 + 1) 1  _ _ _ (by omega) (by omega) (by rw [cvS_s]; first | (rw [bt_1 (fun q => c91 (hy.trans q)), Bool.true_or]; rfl) | (rw [bt_0 (hy.symm.trans c91), decide_eq_true c101]; rfl) | (rw [bt_0 (hy.symm.trans c91), decide_eq_false c101, decide_eq_true c110]; rfl) | (rw [bt_0 (hy.symm.trans c91), decide_eq_false c101, decide_eq_false c110]; rfl)) hI (lv_sub hl [0, 1, 2, 3, 4] rfl)
                      exact lp83 (33) 0 0  _ _ _ (by omega) (by omega) rfl hI (lv_sub hl [0, 1, 2, 3, 4] rfl)
                exact lp72 (33) 0 0  _ _ _ (by omega) (by omega) rfl hI (lv_sub hl [0, 1, 2] rfl)
              · refine lv_aload_n hC.1.1 hC.1.2.1 dX2_coverings_43 rfl (lv_at hl 1 rfl) ?_
                refine lv_iload_n hC.1.1 hC.1.2.1 dX2_coverings_44 rfl (lv_at hl 0 rfl) ?_
                refine lv_bipush (v := (nI 31)) hC.1.1 hC.1.2.1 dX2_coverings_45 (by decide +kernel) ?_
                refine n_iand hC.1 dX2_coverings_47 ?_
                refine lv_iload_n hC.1.1 hC.1.2.1 dX2_coverings_48 rfl (lv_at hl 0 rfl) ?_
                refine lv_iconst (v := (nI 5)) hC.1.1 hC.1.2.1 dX2_coverings_49 (by decide +kernel) ?_
                refine n_ishr hC.1 dX2_coverings_50 ?_
                refine m_calli (rest := []) hC hI (kX2_placesChanged l D h q dA kk u23 j (by omega) (by rw [hv2]; exact hw) hv3) lkX2_placesChanged hdX2_placesChanged ⟨rfl, rfl⟩ ⟨Nat.le_of_ble_eq_true rfl, Nat.le_of_ble_eq_true rfl⟩ rfl hl.1 rfl (Nat.le_of_ble_eq_true rfl) ⟨Nat.le_of_ble_eq_true rfl, Nat.le_of_ble_eq_true rfl⟩ dX2_coverings_51 (fun r51 v51 H locs hp51 hI => ?_)
                obtain ⟨rfl, v51_0, v51_1, v51_2⟩ := hp51
                refine lv_istore_n (lv' := [(2, .int (nI (pl u23.1 j))), (1, .int (nI j)), (0, .ref h)]) hC.1.1 hC.1.2.1 dX2_coverings_54 rfl hl (by decide) rfl (fun ls hl => ?_)
                refine lv_aload_n hC.1.1 hC.1.2.1 dX2_coverings_55 rfl (lv_at hl 2 rfl) ?_
                refine m_get_changed hC hI dX2_coverings_56 ?_
                refine lv_iload_n hC.1.1 hC.1.2.1 dX2_coverings_59 rfl (lv_at hl 0 rfl) ?_
                refine lv_iconst (v := (nI 1)) hC.1.1 hC.1.2.1 dX2_coverings_60 (by decide +kernel) ?_
                refine m_st_changed (x := 1) hC hI dX2_coverings_61 (fun v61 H locs v61_0 v61_1 v61_2 v61_3 hI => ?_) (plF_lt _ _ 5 (by decide))
                refine lv_iinc (v := (nI (j + 1))) (lv' := [(1, .int (nI (j + 1))), (2, .int (nI (pl u23.1 j))), (0, .ref h)]) hC.1.1 hC.1.2.1 dX2_coverings_62 hl (k := 1) rfl (ni_inc j) (by decide) rfl (fun ls hl => ?_)
                refine lv_goto (tgt := 23) hC.1.1 hC.1.2.1 dX2_coverings_65 (by decide) ?_
                exact ih23 (j + 1) v61 _ _ _ (by omega) (by omega) (by rw [v61_0, v51_1, hv1, hv2]; rfl) (by rw [v61_1, v51_0, hv2]) (by rw [v61_2]; exact v51_2) (by rw [v61_3, v51_1, hv4]) hI (lv_sub hl [0, 2] rfl)
            · have hm2 : mMax kk = 1024 := by unfold mMax; rw [if_pos c29]
              refine lv_sipush (v := (nI 1024)) hC.1.1 hC.1.2.1 dX2_coverings_32 (by decide +kernel) ?_
              refine lv_goto (tgt := 40) hC.1.1 hC.1.2.1 dX2_coverings_35 (by decide) ?_
              refine n_icmp_ge hC.1 (tgt := 68) dX2_coverings_40 (by decide) (fun c40 => ?_) (fun c40 => ?_)
              · refine lv_iconst (v := (nI 0)) hC.1.1 hC.1.2.1 dX2_coverings_68 (by decide +kernel) ?_
                refine lv_istore_n (lv' := [(1, .int (nI 0)), (0, .ref h)]) hC.1.1 hC.1.2.1 dX2_coverings_69 rfl hl (by decide) rfl (fun ls hl => ?_)
                refine lv_iconst (v := (nI 0)) hC.1.1 hC.1.2.1 dX2_coverings_70 (by decide +kernel) ?_
                refine lv_istore_n (lv' := [(2, .int (nI 0)), (1, .int (nI 0)), (0, .ref h)]) hC.1.1 hC.1.2.1 dX2_coverings_71 rfl hl (by decide) rfl (fun ls hl => ?_)
                have lp72 : ∀ (n : Nat) (z : Nat) (g : Nat) (H : Heap) (locs : List Loc) (ls : Array Slot), z ≤ 32 → 32 < z + n → g = cvM u23.2.2.2 z → mI D h q dA kk A s.heap u23 H locs → lv_has ls 5 [(2, .int (nI z)), (1, .int (nI g)), (0, .ref h)] → W p l e rmX2_coverings s m args below meth c H locs 0 0 Q (F0 m 72 ls []) := by
                  intro n
                  induction n with
                  | zero => intro z g  H locs ls hz hnz hg; exfalso; omega
                  | succ n ih =>
                    intro z g  H locs ls hz hnz hg hI hl
                    have ih72 := ih
                    clear ih
                    refine lv_iload_n hC.1.1 hC.1.2.1 dX2_coverings_72 rfl (lv_at hl 0 rfl) ?_
                    refine lv_bipush (v := (nI 32)) hC.1.1 hC.1.2.1 dX2_coverings_73 (by decide +kernel) ?_
                    refine n_icmp_ge hC.1 (tgt := 143) dX2_coverings_75 (by decide) (fun c75 => ?_) (fun c75 => ?_)
                    · refine lv_iload_n hC.1.1 hC.1.2.1 dX2_coverings_143 rfl (lv_at hl 1 rfl) ?_
                      exact hret _ _ _ _ _ _ dX2_coverings_144 rfl ⟨by rw [hg, hv1, show z = 32 by omega, show j = mMax kk by omega], hv2, hv3, hv4⟩ hI
                    · refine lv_iconst (v := (nI 0)) hC.1.1 hC.1.2.1 dX2_coverings_78 (by decide +kernel) ?_
                      refine lv_istore_n (lv' := [(3, .int (nI 0)), (2, .int (nI z)), (1, .int (nI g)), (0, .ref h)]) hC.1.1 hC.1.2.1 dX2_coverings_79 rfl hl (by decide) rfl (fun ls hl => ?_)
                      refine lv_iconst (v := (nI 0)) hC.1.1 hC.1.2.1 dX2_coverings_80 (by decide +kernel) ?_
                      refine lv_istore (lv' := [(4, .int (nI 0)), (3, .int (nI 0)), (2, .int (nI z)), (1, .int (nI g)), (0, .ref h)]) hC.1.1 hC.1.2.1 dX2_coverings_81 hl (by decide) rfl (fun ls hl => ?_)
                      have lp83 : ∀ (n : Nat) (y0 : Nat) (y : Nat) (H : Heap) (locs : List Loc) (ls : Array Slot), y0 ≤ 32 → 32 < y0 + n → y = (cvS u23.2.2.2 z y0).toNat → mI D h q dA kk A s.heap u23 H locs → lv_has ls 5 [(4, .int (nI y0)), (3, .int (nI y)), (2, .int (nI z)), (1, .int (nI g)), (0, .ref h)] → W p l e rmX2_coverings s m args below meth c H locs 0 0 Q (F0 m 83 ls []) := by
                        intro n
                        induction n with
                        | zero => intro y0 y  H locs ls hy0 hny hy; exfalso; omega
                        | succ n ih =>
                          intro y0 y  H locs ls hy0 hny hy hI hl
                          have ih83 := ih
                          clear ih
                          refine lv_iload hC.1.1 hC.1.2.1 dX2_coverings_83 (lv_at hl 0 rfl) ?_
                          refine lv_bipush (v := (nI 32)) hC.1.1 hC.1.2.1 dX2_coverings_85 (by decide +kernel) ?_
                          refine n_icmp_ge hC.1 (tgt := 125) dX2_coverings_87 (by decide) (fun c87 => ?_) (fun c87 => ?_)
                          · refine lv_iload_n hC.1.1 hC.1.2.1 dX2_coverings_125 rfl (lv_at hl 1 rfl) ?_
                            refine n_if_eq hC.1 (tgt := 135) dX2_coverings_126 (by decide) (fun c126 => ?_) (fun c126 => ?_) (by rw [hy]; exact Nat.lt_trans (bt_lt _) (by decide))
                            · refine lv_iload_n hC.1.1 hC.1.2.1 dX2_coverings_135 rfl (lv_at hl 3 rfl) ?_
                              refine lv_istore_n (lv' := [(1, .int (nI g)), (4, .int (nI y0)), (3, .int (nI y)), (2, .int (nI z)), (0, .ref h)]) hC.1.1 hC.1.2.1 dX2_coverings_136 rfl hl (by decide) rfl (fun ls hl => ?_)
                              refine lv_iinc (v := (nI (z + 1))) (lv' := [(2, .int (nI (z + 1))), (1, .int (nI g)), (4, .int (nI y0)), (3, .int (nI y)), (0, .ref h)]) hC.1.1 hC.1.2.1 dX2_coverings_137 hl (k := 3) rfl (ni_inc z) (by decide) rfl (fun ls hl => ?_)
                              refine lv_goto (tgt := 72) hC.1.1 hC.1.2.1 dX2_coverings_140 (by decide) ?_
                              exact ih72 (z + 1) g  _ _ _ (by omega) (by omega) (by rw [hy, show y0 = 32 by omega] at c126; show _ = cvM u23.2.2.2 z + (cvS u23.2.2.2 z 32).toNat; have := bt_lt (cvS u23.2.2.2 z 32); omega) hI (lv_sub hl [0, 1, 4] rfl)
                            · refine lv_iload_n hC.1.1 hC.1.2.1 dX2_coverings_129 rfl (lv_at hl 3 rfl) ?_
                              refine lv_iconst (v := (nI 1)) hC.1.1 hC.1.2.1 dX2_coverings_130 (by decide +kernel) ?_
                              refine n_iadd hC.1 dX2_coverings_131 ?_
                              refine lv_goto (tgt := 136) hC.1.1 hC.1.2.1 dX2_coverings_132 (by decide) ?_
                              refine lv_istore_n (lv' := [(1, .int (nI (g + 1))), (4, .int (nI y0)), (3, .int (nI y)), (2, .int (nI z)), (0, .ref h)]) hC.1.1 hC.1.2.1 dX2_coverings_136 rfl hl (by decide) rfl (fun ls hl => ?_)
                              refine lv_iinc (v := (nI (z + 1))) (lv' := [(2, .int (nI (z + 1))), (1, .int (nI (g + 1))), (4, .int (nI y0)), (3, .int (nI y)), (0, .ref h)]) hC.1.1 hC.1.2.1 dX2_coverings_137 hl (k := 3) rfl (ni_inc z) (by decide) rfl (fun ls hl => ?_)
                              refine lv_goto (tgt := 72) hC.1.1 hC.1.2.1 dX2_coverings_140 (by decide) ?_
                              exact ih72 (z + 1) (g + 1)  _ _ _ (by omega) (by omega) (by rw [hy, show y0 = 32 by omega] at c126; show _ = cvM u23.2.2.2 z + (cvS u23.2.2.2 z 32).toNat; have := bt_lt (cvS u23.2.2.2 z 32); omega) hI (lv_sub hl [0, 1, 4] rfl)
                          · refine lv_iload_n hC.1.1 hC.1.2.1 dX2_coverings_90 rfl (lv_at hl 1 rfl) ?_
                            refine n_if_ne hC.1 (tgt := 113) dX2_coverings_91 (by decide) (fun c91 => ?_) (fun c91 => ?_) (by rw [hy]; exact Nat.lt_trans (bt_lt _) (by decide))
                            · refine lv_iconst (v := (nI 1)) hC.1.1 hC.1.2.1 dX2_coverings_113 (by decide +kernel) ?_
                              refine lv_goto (tgt := 118) hC.1.1 hC.1.2.1 dX2_coverings_114 (by decide) ?_
                              refine lv_istore_n (lv' := [(3, .int (nI 1)), (4, .int (nI y0)), (2, .int (nI z)), (1, .int (nI g)), (0, .ref h)]) hC.1.1 hC.1.2.1 dX2_coverings_118 rfl hl (by decide) rfl (fun ls hl => ?_)
                              refine lv_iinc (v := (nI (y0 + 1))) (lv' := [(4, .int (nI (y0 + 1))), (3, .int (nI 1)), (2, .int (nI z)), (1, .int (nI g)), (0, .ref h)]) hC.1.1 hC.1.2.1 dX2_coverings_119 hl (k := 1) rfl (ni_inc y0) (by decide) rfl (fun ls hl => ?_)
                              refine lv_goto (tgt := 83) hC.1.1 hC.1.2.1 dX2_coverings_122 (by decide) ?_
                              exact ih83 (y0 + 1) 1  _ _ _ (by omega) (by omega) (by rw [cvS_s]; first | (rw [bt_1 (fun q => c91 (hy.trans q)), Bool.true_or]; rfl) | (rw [bt_0 (hy.symm.trans c91), decide_eq_true c101]; rfl) | (rw [bt_0 (hy.symm.trans c91), decide_eq_false c101, decide_eq_true c110]; rfl) | (rw [bt_0 (hy.symm.trans c91), decide_eq_false c101, decide_eq_false c110]; rfl)) hI (lv_sub hl [0, 1, 2, 3, 4] rfl)
                            · refine lv_aload_n hC.1.1 hC.1.2.1 dX2_coverings_94 rfl (lv_at hl 4 rfl) ?_
                              refine m_get_changed hC hI dX2_coverings_95 ?_
                              refine lv_iload hC.1.1 hC.1.2.1 dX2_coverings_98 (lv_at hl 0 rfl) ?_
                              refine m_ld_changed hC hI dX2_coverings_100 ?_
                              refine n_if_eq hC.1 (tgt := 117) dX2_coverings_101 (by decide) (fun c101 => ?_) (fun c101 => ?_) (Nat.lt_trans (by rw [hv1]; exact chF_lt (fun j hj => by rw [ov_lt hj]; decide) _ _ (by omega)) (by decide : 2 < 2 ^ 31))
                              · refine lv_iconst (v := (nI 0)) hC.1.1 hC.1.2.1 dX2_coverings_117 (by decide +kernel) ?_
                                refine lv_istore_n (lv' := [(3, .int (nI 0)), (4, .int (nI y0)), (2, .int (nI z)), (1, .int (nI g)), (0, .ref h)]) hC.1.1 hC.1.2.1 dX2_coverings_118 rfl hl (by decide) rfl (fun ls hl => ?_)
                                refine lv_iinc (v := (nI (y0 + 1))) (lv' := [(4, .int (nI (y0 + 1))), (3, .int (nI 0)), (2, .int (nI z)), (1, .int (nI g)), (0, .ref h)]) hC.1.1 hC.1.2.1 dX2_coverings_119 hl (k := 1) rfl (ni_inc y0) (by decide) rfl (fun ls hl => ?_)
                                refine lv_goto (tgt := 83) hC.1.1 hC.1.2.1 dX2_coverings_122 (by decide) ?_
                                exact ih83 (y0 + 1) 0  _ _ _ (by omega) (by omega) (by rw [cvS_s]; first | (rw [bt_1 (fun q => c91 (hy.trans q)), Bool.true_or]; rfl) | (rw [bt_0 (hy.symm.trans c91), decide_eq_true c101]; rfl) | (rw [bt_0 (hy.symm.trans c91), decide_eq_false c101, decide_eq_true c110]; rfl) | (rw [bt_0 (hy.symm.trans c91), decide_eq_false c101, decide_eq_false c110]; rfl)) hI (lv_sub hl [0, 1, 2, 3, 4] rfl)
                              · refine lv_iload hC.1.1 hC.1.2.1 dX2_coverings_104 (lv_at hl 0 rfl) ?_
                                refine lv_iload_n hC.1.1 hC.1.2.1 dX2_coverings_106 rfl (lv_at hl 2 rfl) ?_
                                refine lv_iconst (v := (pI 0)) hC.1.1 hC.1.2.1 dX2_coverings_107 (by decide +kernel) ?_
                                refine lv_ixor hC.1.1 hC.1.2.1 dX2_coverings_108 ?_
                                refine lv_iand hC.1.1 hC.1.2.1 dX2_coverings_109 ?_
                                refine n_top (y := (nI (y0 &&& (31 ^^^ z)))) (pz_e y0 (by omega) z (by omega)) ?_
                                refine n_if_ne hC.1 (tgt := 117) dX2_coverings_110 (by decide) (fun c110 => ?_) (fun c110 => ?_) (Nat.lt_of_le_of_lt Nat.and_le_left (by omega))
                                · refine lv_iconst (v := (nI 0)) hC.1.1 hC.1.2.1 dX2_coverings_117 (by decide +kernel) ?_
                                  refine lv_istore_n (lv' := [(3, .int (nI 0)), (4, .int (nI y0)), (2, .int (nI z)), (1, .int (nI g)), (0, .ref h)]) hC.1.1 hC.1.2.1 dX2_coverings_118 rfl hl (by decide) rfl (fun ls hl => ?_)
                                  refine lv_iinc (v := (nI (y0 + 1))) (lv' := [(4, .int (nI (y0 + 1))), (3, .int (nI 0)), (2, .int (nI z)), (1, .int (nI g)), (0, .ref h)]) hC.1.1 hC.1.2.1 dX2_coverings_119 hl (k := 1) rfl (ni_inc y0) (by decide) rfl (fun ls hl => ?_)
                                  refine lv_goto (tgt := 83) hC.1.1 hC.1.2.1 dX2_coverings_122 (by decide) ?_
                                  exact ih83 (y0 + 1) 0  _ _ _ (by omega) (by omega) (by rw [cvS_s]; first | (rw [bt_1 (fun q => c91 (hy.trans q)), Bool.true_or]; rfl) | (rw [bt_0 (hy.symm.trans c91), decide_eq_true c101]; rfl) | (rw [bt_0 (hy.symm.trans c91), decide_eq_false c101, decide_eq_true c110]; rfl) | (rw [bt_0 (hy.symm.trans c91), decide_eq_false c101, decide_eq_false c110]; rfl)) hI (lv_sub hl [0, 1, 2, 3, 4] rfl)
                                · refine lv_iconst (v := (nI 1)) hC.1.1 hC.1.2.1 dX2_coverings_113 (by decide +kernel) ?_
                                  refine lv_goto (tgt := 118) hC.1.1 hC.1.2.1 dX2_coverings_114 (by decide) ?_
                                  refine lv_istore_n (lv' := [(3, .int (nI 1)), (4, .int (nI y0)), (2, .int (nI z)), (1, .int (nI g)), (0, .ref h)]) hC.1.1 hC.1.2.1 dX2_coverings_118 rfl hl (by decide) rfl (fun ls hl => ?_)
                                  refine lv_iinc (v := (nI (y0 + 1))) (lv' := [(4, .int (nI (y0 + 1))), (3, .int (nI 1)), (2, .int (nI z)), (1, .int (nI g)), (0, .ref h)]) hC.1.1 hC.1.2.1 dX2_coverings_119 hl (k := 1) rfl (ni_inc y0) (by decide) rfl (fun ls hl => ?_)
                                  refine lv_goto (tgt := 83) hC.1.1 hC.1.2.1 dX2_coverings_122 (by decide) ?_
                                  exact ih83 (y0 + 1) 1  _ _ _ (by omega) (by omega) (by rw [cvS_s]; first | (rw [bt_1 (fun q => c91 (hy.trans q)), Bool.true_or]; rfl) | (rw [bt_0 (hy.symm.trans c91), decide_eq_true c101]; rfl) | (rw [bt_0 (hy.symm.trans c91), decide_eq_false c101, decide_eq_true c110]; rfl) | (rw [bt_0 (hy.symm.trans c91), decide_eq_false c101, decide_eq_false c110]; rfl)) hI (lv_sub hl [0, 1, 2, 3, 4] rfl)
                      exact lp83 (33) 0 0  _ _ _ (by omega) (by omega) rfl hI (lv_sub hl [0, 1, 2, 3, 4] rfl)
                exact lp72 (33) 0 0  _ _ _ (by omega) (by omega) rfl hI (lv_sub hl [0, 1, 2] rfl)
              · refine lv_aload_n hC.1.1 hC.1.2.1 dX2_coverings_43 rfl (lv_at hl 1 rfl) ?_
                refine lv_iload_n hC.1.1 hC.1.2.1 dX2_coverings_44 rfl (lv_at hl 0 rfl) ?_
                refine lv_bipush (v := (nI 31)) hC.1.1 hC.1.2.1 dX2_coverings_45 (by decide +kernel) ?_
                refine n_iand hC.1 dX2_coverings_47 ?_
                refine lv_iload_n hC.1.1 hC.1.2.1 dX2_coverings_48 rfl (lv_at hl 0 rfl) ?_
                refine lv_iconst (v := (nI 5)) hC.1.1 hC.1.2.1 dX2_coverings_49 (by decide +kernel) ?_
                refine n_ishr hC.1 dX2_coverings_50 ?_
                refine m_calli (rest := []) hC hI (kX2_placesChanged l D h q dA kk u23 j (by omega) (by rw [hv2]; exact hw) hv3) lkX2_placesChanged hdX2_placesChanged ⟨rfl, rfl⟩ ⟨Nat.le_of_ble_eq_true rfl, Nat.le_of_ble_eq_true rfl⟩ rfl hl.1 rfl (Nat.le_of_ble_eq_true rfl) ⟨Nat.le_of_ble_eq_true rfl, Nat.le_of_ble_eq_true rfl⟩ dX2_coverings_51 (fun r51 v51 H locs hp51 hI => ?_)
                obtain ⟨rfl, v51_0, v51_1, v51_2⟩ := hp51
                refine lv_istore_n (lv' := [(2, .int (nI (pl u23.1 j))), (1, .int (nI j)), (0, .ref h)]) hC.1.1 hC.1.2.1 dX2_coverings_54 rfl hl (by decide) rfl (fun ls hl => ?_)
                refine lv_aload_n hC.1.1 hC.1.2.1 dX2_coverings_55 rfl (lv_at hl 2 rfl) ?_
                refine m_get_changed hC hI dX2_coverings_56 ?_
                refine lv_iload_n hC.1.1 hC.1.2.1 dX2_coverings_59 rfl (lv_at hl 0 rfl) ?_
                refine lv_iconst (v := (nI 1)) hC.1.1 hC.1.2.1 dX2_coverings_60 (by decide +kernel) ?_
                refine m_st_changed (x := 1) hC hI dX2_coverings_61 (fun v61 H locs v61_0 v61_1 v61_2 v61_3 hI => ?_) (plF_lt _ _ 5 (by decide))
                refine lv_iinc (v := (nI (j + 1))) (lv' := [(1, .int (nI (j + 1))), (2, .int (nI (pl u23.1 j))), (0, .ref h)]) hC.1.1 hC.1.2.1 dX2_coverings_62 hl (k := 1) rfl (ni_inc j) (by decide) rfl (fun ls hl => ?_)
                refine lv_goto (tgt := 23) hC.1.1 hC.1.2.1 dX2_coverings_65 (by decide) ?_
                exact ih23 (j + 1) v61 _ _ _ (by omega) (by omega) (by rw [v61_0, v51_1, hv1, hv2]; rfl) (by rw [v61_1, v51_0, hv2]) (by rw [v61_2]; exact v51_2) (by rw [v61_3, v51_1, hv4]) hI (lv_sub hl [0, 2] rfl)
        exact lp23 (mMax kk + 1) 0 u2 _ _ _ (Nat.zero_le _) (by omega) (by rw [hu1, show i = 32 by omega]; rfl) hu2 (by rw [hu3]; exact hc) hu4 hI (lv_sub hl [0, 1] rfl)
      · refine lv_aload_n hC.1.1 hC.1.2.1 dX2_coverings_8 rfl (lv_at hl 1 rfl) ?_
        refine m_get_changed hC hI dX2_coverings_9 ?_
        refine lv_iload_n hC.1.1 hC.1.2.1 dX2_coverings_12 rfl (lv_at hl 0 rfl) ?_
        refine lv_iconst (v := (nI 0)) hC.1.1 hC.1.2.1 dX2_coverings_13 (by decide +kernel) ?_
        refine m_st_changed (x := 0) hC hI dX2_coverings_14 (fun v14 H locs v14_0 v14_1 v14_2 v14_3 hI => ?_)
        refine lv_iinc (v := (nI (i + 1))) (lv' := [(1, .int (nI (i + 1))), (0, .ref h)]) hC.1.1 hC.1.2.1 dX2_coverings_15 hl (k := 0) rfl (ni_inc i) (by decide) rfl (fun ls hl => ?_)
        refine lv_goto (tgt := 2) hC.1.1 hC.1.2.1 dX2_coverings_18 (by decide) ?_
        exact ih2 (i + 1) v14 _ _ _ (by omega) (by omega) (by rw [v14_0, hu1]; exact ov_s _ (fun _ => 0) i) (by rw [v14_1, hu2]) (by rw [v14_2, hu3]) (by rw [v14_3, hu4]) hI (lv_sub hl [0, 1] rfl)
  exact lp2 (33) 0 u _ _ _ (by omega) (by omega) (ov_0 _ _).symm rfl rfl rfl hI (lv_sub hl [0, 1] rfl)
abbrev rmX2_census : Room := { frames := 2, cells := 0, slots := 0, locals := 49 }
theorem hdX2_census : yX2_census.cls = RX2 ∧ yX2_census.cls ≠ "java/lang/invoke/MethodHandle" ∧ yX2_census.cls ≠ "java/lang/invoke/VarHandle" ∧ (parseMethodDescriptor yX2_census.desc).map (fun d => d.parameters.length) = some 1 := by decide +kernel
set_option maxHeartbeats 4000000 in
set_option maxRecDepth 100000 in
/-- census -/
theorem kX2_census (l : Launch) (D : va_G) (h : Nat) (q : Nat → Nat) (dA : ClassId × ClassId) (kk : Nat) (u : MS) (x : Int32) (hk : kk = 1 ∨ kk = 2) (hw : b32 u.1) (hc : b32 u.2.1) (hs : b32 u.2.2.1) : mMi l yX2_census (ws_ yX2_census cX2_census 5 (some .int)) rmX2_census D h q dA kk [.int x] u (fun r u' => r = nI (cnM x (mMax kk)) ∧ u'.1 = u.1 ∧ u'.2.2.2 = u.2.2.2 ∧ b32 u'.2.1 ∧ b32 u'.2.2.1) := by
  refine mMi_of (lv := [(0, .ref h), (1, .int x)]) (by decide) rfl (Nat.le_of_ble_eq_true rfl) rfl ?_
  intro p e s m args below meth c A Q ls hC hI hl hret
  refine lv_iconst (v := (nI 0)) hC.1.1 hC.1.2.1 dX2_census_0 (by decide +kernel) ?_
  refine lv_istore_n (lv' := [(2, .int (nI 0)), (0, .ref h), (1, .int x)]) hC.1.1 hC.1.2.1 dX2_census_1 rfl hl (by decide) rfl (fun ls hl => ?_)
  refine lv_iconst (v := (nI 0)) hC.1.1 hC.1.2.1 dX2_census_2 (by decide +kernel) ?_
  refine lv_istore_n (lv' := [(3, .int (nI 0)), (2, .int (nI 0)), (0, .ref h), (1, .int x)]) hC.1.1 hC.1.2.1 dX2_census_3 rfl hl (by decide) rfl (fun ls hl => ?_)
  have lp4 : ∀ (n : Nat) (j : Nat) (g : Nat) (u4 : MS) (H : Heap) (locs : List Loc) (ls : Array Slot), j ≤ mMax kk → mMax kk < j + n → g = cnM x j → u4.1 = u.1 → u4.2.2.2 = u.2.2.2 → b32 u4.2.1 → b32 u4.2.2.1 → mI D h q dA kk A s.heap u4 H locs → lv_has ls 5 [(3, .int (nI j)), (2, .int (nI g)), (0, .ref h), (1, .int x)] → W p l e rmX2_census s m args below meth c H locs 0 0 Q (F0 m 4 ls []) := by
    intro n
    induction n with
    | zero => intro j g u4 H locs ls hj hn hg hu1 hu2 hu3 hu4; exfalso; omega
    | succ n ih =>
      intro j g u4 H locs ls hj hn hg hu1 hu2 hu3 hu4 hI hl
      have ih4 := ih
      clear ih
      have hmx := mMax_le kk
      refine lv_iload_n hC.1.1 hC.1.2.1 dX2_census_4 rfl (lv_at hl 0 rfl) ?_
      refine lv_aload_n hC.1.1 hC.1.2.1 dX2_census_5 rfl (lv_at hl 2 rfl) ?_
      refine m_get_k hC hI dX2_census_6 ?_
      refine lv_iconst (v := (nI 2)) hC.1.1 hC.1.2.1 dX2_census_9 (by decide +kernel) ?_
      refine n_icmp_ne hC.1 (tgt := 19) dX2_census_10 (by decide) (fun c10 => ?_) (fun c10 => ?_)
      · have hm2 : mMax kk = 32 := by unfold mMax; rw [if_neg c10]
        refine lv_bipush (v := (nI 32)) hC.1.1 hC.1.2.1 dX2_census_19 (by decide +kernel) ?_
        refine n_icmp_ge hC.1 (tgt := 82) dX2_census_21 (by decide) (fun c21 => ?_) (fun c21 => ?_)
        · refine lv_iload_n hC.1.1 hC.1.2.1 dX2_census_82 rfl (lv_at hl 1 rfl) ?_
          exact hret _ _ _ _ _ _ dX2_census_83 rfl ⟨by rw [hg, show j = mMax kk by omega], hu1, hu2, hu3, hu4⟩ hI
        · refine lv_aload_n hC.1.1 hC.1.2.1 dX2_census_24 rfl (lv_at hl 2 rfl) ?_
          refine lv_iload_n hC.1.1 hC.1.2.1 dX2_census_25 rfl (lv_at hl 0 rfl) ?_
          refine lv_bipush (v := (nI 31)) hC.1.1 hC.1.2.1 dX2_census_26 (by decide +kernel) ?_
          refine n_iand hC.1 dX2_census_28 ?_
          refine lv_iload_n hC.1.1 hC.1.2.1 dX2_census_29 rfl (lv_at hl 0 rfl) ?_
          refine lv_iconst (v := (nI 5)) hC.1.1 hC.1.2.1 dX2_census_30 (by decide +kernel) ?_
          refine n_ishr hC.1 dX2_census_31 ?_
          refine m_callv (rest := []) hC hI (kX2_codeWord l D h q dA kk u4 (j &&& 31) (j / 2 ^ 5) (mA_lt _) (mB_lt (by omega))) lkX2_codeWord hdX2_codeWord ⟨rfl, rfl⟩ ⟨Nat.le_of_ble_eq_true rfl, Nat.le_of_ble_eq_true rfl⟩ rfl hl.1 rfl (Nat.le_of_ble_eq_true rfl) ⟨Nat.le_of_ble_eq_true rfl, Nat.le_of_ble_eq_true rfl⟩ dX2_census_32 (fun v32 H locs hp32 hI => ?_)
          obtain ⟨v32_0, v32_1, v32_2⟩ := hp32
          refine lv_iconst (v := (nI 0)) hC.1.1 hC.1.2.1 dX2_census_35 (by decide +kernel) ?_
          refine lv_istore (lv' := [(4, .int (nI 0)), (3, .int (nI j)), (2, .int (nI g)), (0, .ref h), (1, .int x)]) hC.1.1 hC.1.2.1 dX2_census_36 hl (by decide) rfl (fun ls hl => ?_)
          have lp38 : ∀ (n : Nat) (i : Nat) (u38 : MS) (H : Heap) (locs : List Loc) (ls : Array Slot), i ≤ 5 → 5 < i + n → u38.2.2.1 = ov u4.2.2.1 (vl (j &&& 31) (j / 2 ^ 5)) i → u38.1 = v32.1 → u38.2.1 = v32.2.1 → u38.2.2.2 = v32.2.2.2 → mI D h q dA kk A s.heap u38 H locs → lv_has ls 5 [(4, .int (nI i)), (3, .int (nI j)), (2, .int (nI g)), (0, .ref h), (1, .int x)] → W p l e rmX2_census s m args below meth c H locs 0 0 Q (F0 m 38 ls []) := by
            intro n
            induction n with
            | zero => intro i u38 H locs ls hi hni hv1 hv2 hv3 hv4; exfalso; omega
            | succ n ih =>
              intro i u38 H locs ls hi hni hv1 hv2 hv3 hv4 hI hl
              have ih38 := ih
              clear ih
              refine lv_iload hC.1.1 hC.1.2.1 dX2_census_38 (lv_at hl 0 rfl) ?_
              refine lv_iconst (v := (nI 5)) hC.1.1 hC.1.2.1 dX2_census_40 (by decide +kernel) ?_
              refine n_icmp_ge hC.1 (tgt := 64) dX2_census_41 (by decide) (fun c41 => ?_) (fun c41 => ?_)
              · refine lv_aload_n hC.1.1 hC.1.2.1 dX2_census_64 rfl (lv_at hl 3 rfl) ?_
                refine lv_iconst (v := (nI 5)) hC.1.1 hC.1.2.1 dX2_census_65 (by decide +kernel) ?_
                refine m_calli (rest := []) hC hI (kX2_rankOfSum l D h q dA kk u38 5 (by decide) (by rw [hv1]; exact ov_b32 hu4 (fun j => vl_lt _ _ _) _)) lkX2_rankOfSum hdX2_rankOfSum ⟨rfl, rfl⟩ ⟨Nat.le_of_ble_eq_true rfl, Nat.le_of_ble_eq_true rfl⟩ rfl hl.1 rfl (Nat.le_of_ble_eq_true rfl) ⟨Nat.le_of_ble_eq_true rfl, Nat.le_of_ble_eq_true rfl⟩ dX2_census_66 (fun r66 v66 H locs hp66 hI => ?_)
                obtain ⟨⟨n0, rfl, hn5, hor⟩, rfl⟩ := hp66
                have hr5 : n0 = rkM (vl (j &&& 31) (j / 2 ^ 5)) := by rw [hv1, show i = 5 by omega, show rkM (ov u4.2.2.1 (vl (j &&& 31) (j / 2 ^ 5)) 5) = rkM (vl (j &&& 31) (j / 2 ^ 5)) from rkS_congr 5 (fun j hj => ov_lt hj)] at hor; exact rk_5 hn5 (rkM_le _) hor
                refine lv_iload_n hC.1.1 hC.1.2.1 dX2_census_69 rfl (lv_at hl 4 rfl) ?_
                refine lv_icmp_ne hC.1.1 hC.1.2.1 (tgt := 76) dX2_census_70 (by decide) (fun c70 => ?_) (fun c70 => ?_)
                · refine lv_iinc (v := (nI (j + 1))) (lv' := [(3, .int (nI (j + 1))), (4, .int (nI i)), (2, .int (nI g)), (0, .ref h), (1, .int x)]) hC.1.1 hC.1.2.1 dX2_census_76 hl (k := 1) rfl (ni_inc j) (by decide) rfl (fun ls hl => ?_)
                  refine lv_goto (tgt := 4) hC.1.1 hC.1.2.1 dX2_census_79 (by decide) ?_
                  exact ih4 (j + 1) g u38 _ _ _ (by omega) (by omega) (by rw [hr5] at c70; show _ = cnM x j + _; first | (rw [if_neg c70]; omega) | (rw [if_pos c70]; omega)) (by rw [hv2, v32_1, hu1]) (by rw [hv4, v32_2, hu2]) (by rw [hv3, v32_0]; exact ov_b32 hu3 (fun j => vl_lt _ _ _) _) (by rw [hv1]; exact ov_b32 hu4 (fun j => vl_lt _ _ _) _) hI (lv_sub hl [0, 2, 3, 4] rfl)
                · refine lv_iinc (v := (nI (g + 1))) (lv' := [(2, .int (nI (g + 1))), (4, .int (nI i)), (3, .int (nI j)), (0, .ref h), (1, .int x)]) hC.1.1 hC.1.2.1 dX2_census_73 hl (k := 2) rfl (ni_inc g) (by decide) rfl (fun ls hl => ?_)
                  refine lv_iinc (v := (nI (j + 1))) (lv' := [(3, .int (nI (j + 1))), (2, .int (nI (g + 1))), (4, .int (nI i)), (0, .ref h), (1, .int x)]) hC.1.1 hC.1.2.1 dX2_census_76 hl (k := 2) rfl (ni_inc j) (by decide) rfl (fun ls hl => ?_)
                  refine lv_goto (tgt := 4) hC.1.1 hC.1.2.1 dX2_census_79 (by decide) ?_
                  exact ih4 (j + 1) (g + 1) u38 _ _ _ (by omega) (by omega) (by rw [hr5] at c70; show _ = cnM x j + _; first | (rw [if_neg c70]; omega) | (rw [if_pos c70]; omega)) (by rw [hv2, v32_1, hu1]) (by rw [hv4, v32_2, hu2]) (by rw [hv3, v32_0]; exact ov_b32 hu3 (fun j => vl_lt _ _ _) _) (by rw [hv1]; exact ov_b32 hu4 (fun j => vl_lt _ _ _) _) hI (lv_sub hl [0, 1, 3, 4] rfl)
              · refine lv_aload_n hC.1.1 hC.1.2.1 dX2_census_44 rfl (lv_at hl 3 rfl) ?_
                refine m_get_sum hC hI dX2_census_45 ?_
                refine lv_iload hC.1.1 hC.1.2.1 dX2_census_48 (lv_at hl 0 rfl) ?_
                refine lv_aload_n hC.1.1 hC.1.2.1 dX2_census_50 rfl (lv_at hl 3 rfl) ?_
                refine m_get_code hC hI dX2_census_51 ?_
                refine lv_iload hC.1.1 hC.1.2.1 dX2_census_54 (lv_at hl 0 rfl) ?_
                refine m_ld_code hC hI dX2_census_56 ?_
                refine m_st_sum (x := u38.2.1 i) hC hI dX2_census_57 (fun v57 H locs v57_0 v57_1 v57_2 v57_3 hI => ?_)
                refine lv_iinc (v := (nI (i + 1))) (lv' := [(4, .int (nI (i + 1))), (3, .int (nI j)), (2, .int (nI g)), (0, .ref h), (1, .int x)]) hC.1.1 hC.1.2.1 dX2_census_58 hl (k := 0) rfl (ni_inc i) (by decide) rfl (fun ls hl => ?_)
                refine lv_goto (tgt := 38) hC.1.1 hC.1.2.1 dX2_census_61 (by decide) ?_
                exact ih38 (i + 1) v57 _ _ _ (by omega) (by omega) (by rw [v57_0, hv1, hv3, v32_0, ov_lt (by omega)]; exact ov_s _ (vl (j &&& 31) (j / 2 ^ 5)) i) (by rw [v57_1, hv2]) (by rw [v57_2, hv3]) (by rw [v57_3, hv4]) hI (lv_sub hl [0, 1, 2, 3, 4] rfl)
          exact lp38 (6) 0 v32 _ _ _ (by omega) (by omega) (by rw [ov_0, v32_2]) rfl rfl rfl hI (lv_sub hl [0, 1, 2, 3, 4] rfl)
      · have hm2 : mMax kk = 1024 := by unfold mMax; rw [if_pos c10]
        refine lv_sipush (v := (nI 1024)) hC.1.1 hC.1.2.1 dX2_census_13 (by decide +kernel) ?_
        refine lv_goto (tgt := 21) hC.1.1 hC.1.2.1 dX2_census_16 (by decide) ?_
        refine n_icmp_ge hC.1 (tgt := 82) dX2_census_21 (by decide) (fun c21 => ?_) (fun c21 => ?_)
        · refine lv_iload_n hC.1.1 hC.1.2.1 dX2_census_82 rfl (lv_at hl 1 rfl) ?_
          exact hret _ _ _ _ _ _ dX2_census_83 rfl ⟨by rw [hg, show j = mMax kk by omega], hu1, hu2, hu3, hu4⟩ hI
        · refine lv_aload_n hC.1.1 hC.1.2.1 dX2_census_24 rfl (lv_at hl 2 rfl) ?_
          refine lv_iload_n hC.1.1 hC.1.2.1 dX2_census_25 rfl (lv_at hl 0 rfl) ?_
          refine lv_bipush (v := (nI 31)) hC.1.1 hC.1.2.1 dX2_census_26 (by decide +kernel) ?_
          refine n_iand hC.1 dX2_census_28 ?_
          refine lv_iload_n hC.1.1 hC.1.2.1 dX2_census_29 rfl (lv_at hl 0 rfl) ?_
          refine lv_iconst (v := (nI 5)) hC.1.1 hC.1.2.1 dX2_census_30 (by decide +kernel) ?_
          refine n_ishr hC.1 dX2_census_31 ?_
          refine m_callv (rest := []) hC hI (kX2_codeWord l D h q dA kk u4 (j &&& 31) (j / 2 ^ 5) (mA_lt _) (mB_lt (by omega))) lkX2_codeWord hdX2_codeWord ⟨rfl, rfl⟩ ⟨Nat.le_of_ble_eq_true rfl, Nat.le_of_ble_eq_true rfl⟩ rfl hl.1 rfl (Nat.le_of_ble_eq_true rfl) ⟨Nat.le_of_ble_eq_true rfl, Nat.le_of_ble_eq_true rfl⟩ dX2_census_32 (fun v32 H locs hp32 hI => ?_)
          obtain ⟨v32_0, v32_1, v32_2⟩ := hp32
          refine lv_iconst (v := (nI 0)) hC.1.1 hC.1.2.1 dX2_census_35 (by decide +kernel) ?_
          refine lv_istore (lv' := [(4, .int (nI 0)), (3, .int (nI j)), (2, .int (nI g)), (0, .ref h), (1, .int x)]) hC.1.1 hC.1.2.1 dX2_census_36 hl (by decide) rfl (fun ls hl => ?_)
          have lp38 : ∀ (n : Nat) (i : Nat) (u38 : MS) (H : Heap) (locs : List Loc) (ls : Array Slot), i ≤ 5 → 5 < i + n → u38.2.2.1 = ov u4.2.2.1 (vl (j &&& 31) (j / 2 ^ 5)) i → u38.1 = v32.1 → u38.2.1 = v32.2.1 → u38.2.2.2 = v32.2.2.2 → mI D h q dA kk A s.heap u38 H locs → lv_has ls 5 [(4, .int (nI i)), (3, .int (nI j)), (2, .int (nI g)), (0, .ref h), (1, .int x)] → W p l e rmX2_census s m args below meth c H locs 0 0 Q (F0 m 38 ls []) := by
            intro n
            induction n with
            | zero => intro i u38 H locs ls hi hni hv1 hv2 hv3 hv4; exfalso; omega
            | succ n ih =>
              intro i u38 H locs ls hi hni hv1 hv2 hv3 hv4 hI hl
              have ih38 := ih
              clear ih
              refine lv_iload hC.1.1 hC.1.2.1 dX2_census_38 (lv_at hl 0 rfl) ?_
              refine lv_iconst (v := (nI 5)) hC.1.1 hC.1.2.1 dX2_census_40 (by decide +kernel) ?_
              refine n_icmp_ge hC.1 (tgt := 64) dX2_census_41 (by decide) (fun c41 => ?_) (fun c41 => ?_)
              · refine lv_aload_n hC.1.1 hC.1.2.1 dX2_census_64 rfl (lv_at hl 3 rfl) ?_
                refine lv_iconst (v := (nI 5)) hC.1.1 hC.1.2.1 dX2_census_65 (by decide +kernel) ?_
                refine m_calli (rest := []) hC hI (kX2_rankOfSum l D h q dA kk u38 5 (by decide) (by rw [hv1]; exact ov_b32 hu4 (fun j => vl_lt _ _ _) _)) lkX2_rankOfSum hdX2_rankOfSum ⟨rfl, rfl⟩ ⟨Nat.le_of_ble_eq_true rfl, Nat.le_of_ble_eq_true rfl⟩ rfl hl.1 rfl (Nat.le_of_ble_eq_true rfl) ⟨Nat.le_of_ble_eq_true rfl, Nat.le_of_ble_eq_true rfl⟩ dX2_census_66 (fun r66 v66 H locs hp66 hI => ?_)
                obtain ⟨⟨n0, rfl, hn5, hor⟩, rfl⟩ := hp66
                have hr5 : n0 = rkM (vl (j &&& 31) (j / 2 ^ 5)) := by rw [hv1, show i = 5 by omega, show rkM (ov u4.2.2.1 (vl (j &&& 31) (j / 2 ^ 5)) 5) = rkM (vl (j &&& 31) (j / 2 ^ 5)) from rkS_congr 5 (fun j hj => ov_lt hj)] at hor; exact rk_5 hn5 (rkM_le _) hor
                refine lv_iload_n hC.1.1 hC.1.2.1 dX2_census_69 rfl (lv_at hl 4 rfl) ?_
                refine lv_icmp_ne hC.1.1 hC.1.2.1 (tgt := 76) dX2_census_70 (by decide) (fun c70 => ?_) (fun c70 => ?_)
                · refine lv_iinc (v := (nI (j + 1))) (lv' := [(3, .int (nI (j + 1))), (4, .int (nI i)), (2, .int (nI g)), (0, .ref h), (1, .int x)]) hC.1.1 hC.1.2.1 dX2_census_76 hl (k := 1) rfl (ni_inc j) (by decide) rfl (fun ls hl => ?_)
                  refine lv_goto (tgt := 4) hC.1.1 hC.1.2.1 dX2_census_79 (by decide) ?_
                  exact ih4 (j + 1) g u38 _ _ _ (by omega) (by omega) (by rw [hr5] at c70; show _ = cnM x j + _; first | (rw [if_neg c70]; omega) | (rw [if_pos c70]; omega)) (by rw [hv2, v32_1, hu1]) (by rw [hv4, v32_2, hu2]) (by rw [hv3, v32_0]; exact ov_b32 hu3 (fun j => vl_lt _ _ _) _) (by rw [hv1]; exact ov_b32 hu4 (fun j => vl_lt _ _ _) _) hI (lv_sub hl [0, 2, 3, 4] rfl)
                · refine lv_iinc (v := (nI (g + 1))) (lv' := [(2, .int (nI (g + 1))), (4, .int (nI i)), (3, .int (nI j)), (0, .ref h), (1, .int x)]) hC.1.1 hC.1.2.1 dX2_census_73 hl (k := 2) rfl (ni_inc g) (by decide) rfl (fun ls hl => ?_)
                  refine lv_iinc (v := (nI (j + 1))) (lv' := [(3, .int (nI (j + 1))), (2, .int (nI (g + 1))), (4, .int (nI i)), (0, .ref h), (1, .int x)]) hC.1.1 hC.1.2.1 dX2_census_76 hl (k := 2) rfl (ni_inc j) (by decide) rfl (fun ls hl => ?_)
                  refine lv_goto (tgt := 4) hC.1.1 hC.1.2.1 dX2_census_79 (by decide) ?_
                  exact ih4 (j + 1) (g + 1) u38 _ _ _ (by omega) (by omega) (by rw [hr5] at c70; show _ = cnM x j + _; first | (rw [if_neg c70]; omega) | (rw [if_pos c70]; omega)) (by rw [hv2, v32_1, hu1]) (by rw [hv4, v32_2, hu2]) (by rw [hv3, v32_0]; exact ov_b32 hu3 (fun j => vl_lt _ _ _) _) (by rw [hv1]; exact ov_b32 hu4 (fun j => vl_lt _ _ _) _) hI (lv_sub hl [0, 1, 3, 4] rfl)
              · refine lv_aload_n hC.1.1 hC.1.2.1 dX2_census_44 rfl (lv_at hl 3 rfl) ?_
                refine m_get_sum hC hI dX2_census_45 ?_
                refine lv_iload hC.1.1 hC.1.2.1 dX2_census_48 (lv_at hl 0 rfl) ?_
                refine lv_aload_n hC.1.1 hC.1.2.1 dX2_census_50 rfl (lv_at hl 3 rfl) ?_
                refine m_get_code hC hI dX2_census_51 ?_
                refine lv_iload hC.1.1 hC.1.2.1 dX2_census_54 (lv_at hl 0 rfl) ?_
                refine m_ld_code hC hI dX2_census_56 ?_
                refine m_st_sum (x := u38.2.1 i) hC hI dX2_census_57 (fun v57 H locs v57_0 v57_1 v57_2 v57_3 hI => ?_)
                refine lv_iinc (v := (nI (i + 1))) (lv' := [(4, .int (nI (i + 1))), (3, .int (nI j)), (2, .int (nI g)), (0, .ref h), (1, .int x)]) hC.1.1 hC.1.2.1 dX2_census_58 hl (k := 0) rfl (ni_inc i) (by decide) rfl (fun ls hl => ?_)
                refine lv_goto (tgt := 38) hC.1.1 hC.1.2.1 dX2_census_61 (by decide) ?_
                exact ih38 (i + 1) v57 _ _ _ (by omega) (by omega) (by rw [v57_0, hv1, hv3, v32_0, ov_lt (by omega)]; exact ov_s _ (vl (j &&& 31) (j / 2 ^ 5)) i) (by rw [v57_1, hv2]) (by rw [v57_2, hv3]) (by rw [v57_3, hv4]) hI (lv_sub hl [0, 1, 2, 3, 4] rfl)
          exact lp38 (6) 0 v32 _ _ _ (by omega) (by omega) (by rw [ov_0, v32_2]) rfl rfl rfl hI (lv_sub hl [0, 1, 2, 3, 4] rfl)
  exact lp4 (mMax kk + 1) 0 0 u _ _ _ (Nat.zero_le _) (by omega) rfl rfl rfl hc hs hI (lv_sub hl [0, 1, 2, 3] rfl)
end
section
set_option maxRecDepth 100000
/-! the laws of the field of 32 elements -/
def gT : Nat := 108047903208776182301821177221103242476143116593955060130293304589979379624792515153448842048557508062944046124406229695296066925914606762581689461002085778494869921253308993299871816092985491976045169017559410915641250367137487077474267762475165846192052592168025461595576071664656168551390812030282810547142273575707685992071951630439607196763160003983695986142552761857137002861441091538854289825063246106996111585522612270594387893792604677643806278420866095200429498834875164278453909318858873928361350451542075359389585350846896032637281038213167798410357414190746885591238672396555286314927225104490276004281802275612186310538897012821309466952071474062567291510724844240328231794507178969064997669581675260890171579661861804781287947179868346279216925369372792570769878690061895251633690187934766853249525474952930834331809573725942322942128859614576856896107208964457676110404290123549830361915177833475321143338419370844702955843687682335496728704246540419906221753620676385508341937256156840096544712112163214344887431563846620792143299057294129562689729500658535791013600437345014523103774325441249963724119162034606046898190840942821086017654297642452944418259132037807734164211605724739782819781353435761009390836216362900777584713462606884327330779408941635095127726452318274311602862610838031905185084111375203469849716078223880040803555184033898903431904408499901976387979014468435507345745772488651003084902781458751948967454175797339287002946443741078296424767125593778879332774650111994871979244289813779477452088152162304
/-- the product by one table: quick in the kernel -/
def gf (a b : Nat) : Nat := (gT >>> (5 * (32 * a + b))) % 32
theorem gf_gm : ∀ a, a < 32 → ∀ b, b < 32 → gm a b = gf a b := by decide +kernel
theorem all1 {f : Nat → Bool} (h : (List.range 32).all f = true) {a : Nat} (ha : a < 32) : f a = true := List.all_eq_true.mp h a (List.mem_range.mpr ha)
theorem all2 {f : Nat → Nat → Bool} (h : (List.range 32).all (fun a => (List.range 32).all (f a)) = true) {a b : Nat} (ha : a < 32) (hb : b < 32) : f a b = true := all1 (all1 h ha) hb
theorem all3 {f : Nat → Nat → Nat → Bool} (h : (List.range 32).all (fun a => (List.range 32).all (fun b => (List.range 32).all (f a b))) = true) {a b c : Nat} (ha : a < 32) (hb : b < 32) (hc : c < 32) : f a b c = true := all1 (all2 h ha hb) hc
theorem gf_lt (a b : Nat) : gf a b < 32 := Nat.mod_lt _ (by decide)
theorem gf_as : (List.range 32).all (fun a => (List.range 32).all (fun b => (List.range 32).all (fun c => gf (gf a b) c == gf a (gf b c)))) = true := by decide +kernel
theorem gf_di : (List.range 32).all (fun a => (List.range 32).all (fun b => (List.range 32).all (fun c => gf a (b ^^^ c) == gf a b ^^^ gf a c))) = true := by decide +kernel
theorem gm_comm (a b : Nat) : gm a b = gm b a := by
  unfold gm
  rw [Nat.add_comm]
  by_cases h : a = 0 ∨ b = 0
  · rw [if_pos h, if_pos h.symm]
  · rw [if_neg h, if_neg (fun q => h q.symm)]
theorem gm_assoc {a b c : Nat} (ha : a < 32) (hb : b < 32) (hc : c < 32) : gm (gm a b) c = gm a (gm b c) := by
  rw [gf_gm _ (gm_lt _ _) _ hc, gf_gm a ha b hb, gf_gm a ha _ (gm_lt _ _), gf_gm b hb c hc]
  exact eq_of_beq (all3 gf_as ha hb hc)
theorem gm_xor {a b c : Nat} (ha : a < 32) (hb : b < 32) (hc : c < 32) : gm a (b ^^^ c) = gm a b ^^^ gm a c := by
  rw [gf_gm a ha _ (x_lt hb hc), gf_gm a ha b hb, gf_gm a ha c hc]
  exact eq_of_beq (all3 gf_di ha hb hc)
theorem gm_xor' {a b c : Nat} (ha : a < 32) (hb : b < 32) (hc : c < 32) : gm (a ^^^ b) c = gm a c ^^^ gm b c := by
  rw [gm_comm, gm_xor hc ha hb, gm_comm c a, gm_comm c b]
theorem gm_z (a : Nat) : gm a 0 = 0 := gm_0 (Or.inr rfl)
theorem z_gm (a : Nat) : gm 0 a = 0 := gm_0 (Or.inl rfl)
theorem gm_1 : ∀ a, a < 32 → gm 1 a = a := by decide +kernel
theorem gm_one {a : Nat} (h : a < 32) : gm a 1 = a := by rw [gm_comm, gm_1 a h]
theorem gm_gd : ∀ a, a < 32 → ∀ b, b < 32 → ¬ b = 0 → gm (gd a b) b = a := by decide +kernel
theorem gd_gm : ∀ a, a < 32 → ∀ b, b < 32 → ¬ b = 0 → gd (gm a b) b = a := by decide +kernel
theorem gd_self : ∀ a, a < 32 → ¬ a = 0 → gd a a = 1 := by decide +kernel
theorem gd_z (b : Nat) : gd 0 b = 0 := gd_0 rfl
theorem PW_ne : ∀ j, j < 62 → ¬ PW j = 0 := by decide +kernel
theorem gm_eq0 {a b : Nat} (h : gm a b = 0) : a = 0 ∨ b = 0 := by
  by_cases h1 : a = 0 ∨ b = 0
  · exact h1
  · unfold gm at h
    rw [if_neg h1] at h
    exact absurd h (PW_ne _ (by have := LG_30 a; have := LG_30 b; omega))
theorem fr_5 : ∀ a, a < 32 → fr a 5 = a := by decide +kernel
theorem sq_x : ∀ a, a < 32 → ∀ b, b < 32 → gm (a ^^^ b) (a ^^^ b) = gm a a ^^^ gm b b := by decide +kernel
theorem sq_m : ∀ a, a < 32 → ∀ b, b < 32 → gm (gm a b) (gm a b) = gm (gm a a) (gm b b) := by decide +kernel
theorem fr_xor {a b : Nat} (ha : a < 32) (hb : b < 32) : ∀ n, fr (a ^^^ b) n = fr a n ^^^ fr b n
  | 0 => rfl
  | n + 1 => by
    show gm (fr (a ^^^ b) n) (fr (a ^^^ b) n) = gm (fr a n) (fr a n) ^^^ gm (fr b n) (fr b n)
    rw [fr_xor ha hb n, sq_x _ (fr_lt ha n) _ (fr_lt hb n)]
theorem fr_mul {a b : Nat} (ha : a < 32) (hb : b < 32) : ∀ n, fr (gm a b) n = gm (fr a n) (fr b n)
  | 0 => rfl
  | n + 1 => by
    show gm (fr (gm a b) n) (fr (gm a b) n) = gm (gm (fr a n) (fr a n)) (gm (fr b n) (fr b n))
    rw [fr_mul ha hb n, sq_m _ (fr_lt ha n) _ (fr_lt hb n)]
theorem fr_add {a : Nat} (m : Nat) : ∀ n, fr (fr a m) n = fr a (m + n)
  | 0 => rfl
  | n + 1 => by
    show gm (fr (fr a m) n) (fr (fr a m) n) = gm (fr a (m + n)) (fr a (m + n))
    rw [fr_add m n]
theorem fr_0 : ∀ n, fr 0 n = 0
  | 0 => rfl
  | n + 1 => by show gm (fr 0 n) (fr 0 n) = 0; rw [fr_0 n]; rfl
theorem xs (a : Nat) : a ^^^ a = 0 := Nat.xor_self a
theorem xe {a b : Nat} (h : a ^^^ b = 0) : a = b := by
  have := x2 a b
  rw [h, Nat.zero_xor] at this
  exact this.symm
/-- linearized polynomials -/
def ev (a b c z : Nat) : Nat := gm a z ^^^ gm b (fr z 1) ^^^ gm c (fr z 2)
theorem ev_lt (a b c z : Nat) : ev a b c z < 32 := x_lt (x_lt (gm_lt _ _) (gm_lt _ _)) (gm_lt _ _)
theorem ev_0 (a b c : Nat) : ev a b c 0 = 0 := by
  unfold ev
  rw [fr_0, fr_0, gm_z, gm_z, gm_z]
  rfl
theorem x6 (a b c d e f : Nat) : (a ^^^ b) ^^^ (c ^^^ d) ^^^ (e ^^^ f) = (a ^^^ c ^^^ e) ^^^ (b ^^^ d ^^^ f) := by
  apply Nat.eq_of_testBit_eq; intro i; simp only [Nat.testBit_xor]
  cases a.testBit i <;> cases b.testBit i <;> cases c.testBit i <;> cases d.testBit i <;> cases e.testBit i <;> cases f.testBit i <;> rfl
theorem ev_xor {a b c x y : Nat} (ha : a < 32) (hb : b < 32) (hc : c < 32) (hx : x < 32) (hy : y < 32) : ev a b c (x ^^^ y) = ev a b c x ^^^ ev a b c y := by
  unfold ev
  rw [fr_xor hx hy, fr_xor hx hy, gm_xor ha hx hy, gm_xor hb (fr_lt hx _) (fr_lt hy _), gm_xor hc (fr_lt hx _) (fr_lt hy _), x6]
theorem ev_add {a b c a' b' c' z : Nat} (ha : a < 32) (hb : b < 32) (hc : c < 32) (ha' : a' < 32) (hb' : b' < 32) (hc' : c' < 32) (hz : z < 32) : ev (a ^^^ a') (b ^^^ b') (c ^^^ c') z = ev a b c z ^^^ ev a' b' c' z := by
  unfold ev
  rw [gm_xor' ha ha' hz, gm_xor' hb hb' (fr_lt hz _), gm_xor' hc hc' (fr_lt hz _), x6]
theorem gm_ev {s a b c z : Nat} (hs : s < 32) (ha : a < 32) (hb : b < 32) (hc : c < 32) (hz : z < 32) : gm s (ev a b c z) = ev (gm s a) (gm s b) (gm s c) z := by
  unfold ev
  rw [gm_xor hs (x_lt (gm_lt _ _) (gm_lt _ _)) (gm_lt _ _), gm_xor hs (gm_lt _ _) (gm_lt _ _), gm_assoc hs ha hz, gm_assoc hs hb (fr_lt hz _), gm_assoc hs hc (fr_lt hz _)]
end
section
set_option maxRecDepth 100000
/-! the rank: by elimination and by the span are one -/
def cnt (M : Nat → Bool) : Nat := (List.range 32).countP M
theorem cp_or {p q : Nat → Bool} (h : ∀ x, ¬ (p x = true ∧ q x = true)) : ∀ l : List Nat, l.countP (fun x => p x || q x) = l.countP p + l.countP q
  | [] => rfl
  | a :: l => by
    rw [List.countP_cons, List.countP_cons, List.countP_cons, cp_or h l]
    cases hp : p a with
    | true =>
      cases hq : q a with
      | true => exact absurd ⟨hp, hq⟩ (h a)
      | false => simp; omega
    | false =>
      cases hq : q a with
      | true => simp; omega
      | false => simp
theorem perm_x : ∀ s, s < 32 → ((List.range 32).map (fun x => x ^^^ s)).Perm (List.range 32) := by decide +kernel
theorem cnt_x (M : Nat → Bool) {s : Nat} (h : s < 32) : cnt (fun x => M (x ^^^ s)) = cnt M := by
  unfold cnt
  rw [← (perm_x s h).countP_eq M, List.countP_map]
  rfl
theorem cnt_sp {v : Nat → Nat} (hv : b32 v) : ∀ i, cnt (sp v i) = 2 ^ rkS v i
  | 0 => by
    show (List.range 32).countP (fun x => decide (x = 0)) = 2 ^ 0
    decide +kernel
  | i + 1 => by
    have ih := cnt_sp hv i
    show cnt (sp v (i + 1)) = 2 ^ (rkS v i + _)
    by_cases h : sp v i (v i) = true
    · rw [if_pos h, show sp v (i + 1) = sp v i from funext (sp_k h), ih]
      rfl
    · rw [if_neg h, Nat.pow_succ, ← ih]
      show (List.range 32).countP (fun x => sp v i x || sp v i (x ^^^ v i)) = _
      rw [cp_or (fun x ⟨h1, h2⟩ => h (by
        have := sp_x v i _ _ h1 h2
        rw [x3, xs, Nat.zero_xor] at this
        exact this))]
      have := cnt_x (sp v i) (hv i)
      unfold cnt at this ⊢
      rw [this]
      omega
theorem sp_mem (v : Nat → Nat) : ∀ i j, j < i → sp v i (v j) = true
  | 0 => fun j h => by omega
  | i + 1 => fun j h => by
    show (sp v i (v j) || sp v i (v j ^^^ v i)) = true
    by_cases e : j = i
    · subst e; rw [xs, sp_0, Bool.or_true]
    · rw [sp_mem v i j (by omega), Bool.true_or]
theorem sp_in {d e : Nat → Nat} {n : Nat} (h : ∀ j, j < n → sp e 5 (d j) = true) : ∀ i, i ≤ n → ∀ x, sp d i x = true → sp e 5 x = true
  | 0 => fun _ x hx => by
    have : x = 0 := of_decide_eq_true hx
    subst this; exact sp_0 e 5
  | i + 1 => fun hi x hx => by
    have hx : (sp d i x || sp d i (x ^^^ d i)) = true := hx
    rw [Bool.or_eq_true] at hx
    rcases hx with hx | hx
    · exact sp_in h i (by omega) x hx
    · have h1 := sp_in h i (by omega) _ hx
      have h2 := sp_x e 5 _ _ h1 (h i (by omega))
      rw [x2] at h2
      exact h2
theorem sp_same {d e : Nat → Nat} (h1 : ∀ j, j < 5 → sp e 5 (d j) = true) (h2 : ∀ j, j < 5 → sp d 5 (e j) = true) : sp d 5 = sp e 5 := by
  funext x
  rw [Bool.eq_iff_iff]
  exact ⟨sp_in h1 5 (by omega) x, sp_in h2 5 (by omega) x⟩
theorem pow_inj : ∀ a, a < 6 → ∀ b, b < 6 → 2 ^ a = 2 ^ b → a = b := by decide +kernel
theorem rkM_same {d e : Nat → Nat} (hd : b32 d) (he : b32 e) (h : sp d 5 = sp e 5) : rkM d = rkM e := by
  have h1 := cnt_sp hd 5
  have h2 := cnt_sp he 5
  rw [h, h2] at h1
  have := rkS_le d 5
  have := rkS_le e 5
  exact (pow_inj _ (by omega) _ (by omega) h1).symm
/-- echelon: row j < r has a bit p j that no later row has; the rows from r on are 0 in the first b bits -/
def ech (d : Nat → Nat) (r b : Nat) (p : Nat → Nat) : Prop := (∀ j, j < r → (d j).testBit (p j) = true ∧ ∀ k, j < k → k < 5 → (d k).testBit (p j) = false) ∧ ∀ j, r ≤ j → j < 5 → ∀ t, t < b → (d j).testBit t = false
theorem ech_z {d : Nat → Nat} {r b : Nat} {p : Nat → Nat} (h : ech d r b p) : ∀ i, i ≤ r → r ≤ 5 → ∀ x, sp d i x = true → (∀ j, j < i → x.testBit (p j) = false) → x = 0
  | 0 => fun _ _ x hx _ => of_decide_eq_true hx
  | i + 1 => fun hi hr x hx hz => by
    have hx : (sp d i x || sp d i (x ^^^ d i)) = true := hx
    rw [Bool.or_eq_true] at hx
    rcases hx with hx | hx
    · exact ech_z h i (by omega) hr x hx (fun j hj => hz j (by omega))
    · have e := ech_z h i (by omega) hr _ hx (fun j hj => by
        rw [Nat.testBit_xor, hz j (by omega), (h.1 j (by omega)).2 i hj (by omega)]
        rfl)
      have e2 := xe e
      have h1 := (h.1 i (by omega)).1
      rw [← e2, hz i (by omega)] at h1
      cases h1
theorem ech_rk {d : Nat → Nat} {r : Nat} {p : Nat → Nat} (hd : b32 d) (h : ech d r 5 p) (hr : r ≤ 5) : rkM d = r := by
  have z : ∀ j, r ≤ j → j < 5 → d j = 0 := fun j h1 h2 => by
    apply Nat.eq_of_testBit_eq
    intro t
    rw [Nat.zero_testBit]
    by_cases ht : t < 5
    · exact h.2 j h1 h2 t ht
    · exact Nat.testBit_lt_two_pow (Nat.lt_of_lt_of_le (hd j) (Nat.pow_le_pow_right (by decide : 2 > 0) (by omega : 5 ≤ t)))
  have key : ∀ i, i ≤ 5 → rkS d i = if i ≤ r then i else r := by
    intro i
    induction i with
    | zero => intro _; rw [if_pos (by omega)]; rfl
    | succ i ih =>
      intro hi
      show rkS d i + _ = _
      rw [ih (by omega)]
      by_cases hir : i < r
      · have hn : ¬ sp d i (d i) = true := by
          intro q
          have e := ech_z h i (by omega) hr _ q (fun j hj => (h.1 j (by omega)).2 i hj (by omega))
          have h1 := (h.1 i hir).1
          rw [e, Nat.zero_testBit] at h1
          cases h1
        rw [if_neg hn, if_pos (show i ≤ r by omega), if_pos (show i + 1 ≤ r by omega)]
      · rw [z i (by omega) (by omega), sp_0, if_pos rfl]
        by_cases e : i ≤ r
        · rw [if_pos e, if_neg (by omega)]; omega
        · rw [if_neg e, if_neg (by omega)]; rfl
  show rkS d 5 = r
  rw [key 5 (by omega)]
  split <;> omega
/-- one bit: the span stays, the echelon grows -/
theorem sw_at {d : Nat → Nat} {z f : Nat} (j : Nat) : sw d z f j = if j = f then d z else if j = z then d f else d j := rfl
theorem cb_row {d : Nat → Nat} {f b z : Nat} (hf : f ≤ z) (j : Nat) (hj : j < 5) : (ov (sw d z f) (eg (sw d z f) (d z) b (f + 1)) 5) j = if f + 1 ≤ j ∧ (sw d z f j).testBit b = true then sw d z f j ^^^ d z else sw d z f j := by
  rw [ov_lt hj]
  rfl
theorem cb_ok {d : Nat → Nat} {f b : Nat} {p : Nat → Nat} (hd : b32 d) (hf : f < 5) (h : ech d f b p) : sp d 5 = sp (cb d f b).2 5 ∧ ∃ p', ech (cb d f b).2 (f + (cb d f b).1) (b + 1) p' := by
  cases hl : lo (cbP d b) f (5 - f) with
  | zero =>
    rw [cb_0 hl]
    refine ⟨rfl, p, h.1, fun j h1 h2 t ht => ?_⟩
    by_cases e : t = b
    · subst e
      exact lo_0 _ _ _ hl j h1 (by omega)
    · exact h.2 j h1 h2 t (by omega)
  | succ z =>
    obtain ⟨g1, g2, g3, -⟩ := lo_1 _ _ _ _ hl
    have g3 : (d z).testBit b = true := g3
    rw [cb_1 hl]
    generalize hE : ov (sw d z f) (eg (sw d z f) (d z) b (f + 1)) 5 = E
    have row : ∀ j, j < 5 → E j = if f + 1 ≤ j ∧ (sw d z f j).testBit b = true then sw d z f j ^^^ d z else sw d z f j := fun j hj => by rw [← hE]; exact cb_row g1 j hj
    have rowf : E f = d z := by rw [row f hf, if_neg (by omega), sw_at, if_pos rfl]
    -- the rows of sw are rows of d
    have s1 : ∀ j, j < 5 → sp d 5 (sw d z f j) = true := fun j hj => by
      rw [sw_at]
      split
      · exact sp_mem d 5 z (by omega)
      · split
        · exact sp_mem d 5 f hf
        · exact sp_mem d 5 j hj
    have e1 : ∀ j, j < 5 → sp d 5 (E j) = true := fun j hj => by
      rw [row j hj]
      split
      · exact sp_x d 5 _ _ (s1 j hj) (sp_mem d 5 z (by omega))
      · exact s1 j hj
    have s2 : ∀ j, j < 5 → sp E 5 (sw d z f j) = true := fun j hj => by
      have r := row j hj
      have m := sp_mem E 5 j hj
      split at r
      · have := sp_x E 5 _ _ m (sp_mem E 5 f hf)
        rw [r, rowf, x2] at this
        exact this
      · rw [r] at m; exact m
    have e2 : ∀ j, j < 5 → sp E 5 (d j) = true := fun j hj => by
      by_cases a1 : j = z
      · have := s2 f hf
        rw [sw_at, if_pos rfl] at this
        rw [a1]; exact this
      · by_cases a2 : j = f
        · have := s2 z (by omega)
          rw [sw_at, if_neg (by omega), if_pos rfl] at this
          rw [a2]; exact this
        · have := s2 j hj
          rw [sw_at, if_neg a2, if_neg a1] at this
          exact this
    refine ⟨sp_same e2 e1, fun j => if j = f then b else p j, ?_, ?_⟩
    · intro j hj
      have hj : j < f + 1 := hj
      by_cases ej : j = f
      · subst ej
        dsimp only
        rw [if_pos rfl]
        refine ⟨by rw [rowf]; exact g3, fun k hk1 hk2 => ?_⟩
        rw [row k hk2]
        split
        · rename_i q
          rw [Nat.testBit_xor, q.2, g3]; rfl
        · rename_i q
          exact Bool.eq_false_iff.mpr (fun w => q ⟨by omega, w⟩)
      · dsimp only
        rw [if_neg ej]
        have lowj : E j = d j := by rw [row j (by omega), if_neg (by omega), sw_at, if_neg ej, if_neg (by omega)]
        refine ⟨by rw [lowj]; exact (h.1 j (by omega)).1, fun k hk1 hk2 => ?_⟩
        have sk : (sw d z f k).testBit (p j) = false := by
          rw [sw_at]
          split
          · exact (h.1 j (by omega)).2 z (by omega) (by omega)
          · split
            · exact (h.1 j (by omega)).2 f (by omega) (by omega)
            · exact (h.1 j (by omega)).2 k hk1 hk2
        rw [row k hk2]
        split
        · rw [Nat.testBit_xor, sk, (h.1 j (by omega)).2 z (by omega) (by omega)]; rfl
        · exact sk
    · intro j h1 h2 t ht
      have h1 : f + 1 ≤ j := h1
      have lowt : ∀ t, t < b → (sw d z f j).testBit t = false := fun t ht => by
        rw [sw_at]
        split
        · exact h.2 z g1 (by omega) t ht
        · split
          · exact h.2 f (by omega) hf t ht
          · exact h.2 j (by omega) h2 t ht
      show (E j).testBit t = false
      rw [row j h2]
      by_cases e : t = b
      · subst e
        split
        · rename_i q
          rw [Nat.testBit_xor, q.2, g3]; rfl
        · rename_i q
          exact Bool.eq_false_iff.mpr (fun w => q ⟨h1, w⟩)
      · split
        · rw [Nat.testBit_xor, lowt t (by omega), h.2 z g1 (by omega) t (by omega)]; rfl
        · exact lowt t (by omega)
theorem dst_ok {d : Nat → Nat} (hd : b32 d) : ∀ b, b ≤ 5 → sp d 5 = sp (dst d b).2 5 ∧ ∃ p, ech (dst d b).2 (dst d b).1 b p
  | 0 => fun _ => ⟨rfl, fun _ => 0, fun j hj => absurd hj (Nat.not_lt_zero j), fun j _ _ t ht => absurd ht (Nat.not_lt_zero t)⟩
  | b + 1 => fun hb => by
    obtain ⟨h1, p, h2⟩ := dst_ok hd b (by omega)
    have hl := dst_le d b
    obtain ⟨g1, g2⟩ := cb_ok (dst_b32 hd b) (show (dst d b).1 < 5 by omega) h2
    exact ⟨h1.trans g1, g2⟩
/-- THE RANK: elimination and span agree -/
theorem rkC_rkM {d : Nat → Nat} (hd : b32 d) : rkC d = rkM d := by
  obtain ⟨h1, p, h2⟩ := dst_ok hd 5 (by omega)
  have := ech_rk (dst_b32 hd 5) h2 (dst_le d 5)
  rw [rkM_same hd (dst_b32 hd 5) h1, this]
  rfl
/-- an additive image has no greater rank -/
theorem sp_map {v : Nat → Nat} {T : Nat → Nat} (hv : b32 v) (h0 : T 0 = 0) (hT : ∀ x y, x < 32 → y < 32 → T (x ^^^ y) = T x ^^^ T y) : ∀ i x, x < 32 → sp v i x = true → sp (fun j => T (v j)) i (T x) = true
  | 0 => fun x _ hx => by
    have : x = 0 := of_decide_eq_true hx
    subst this
    rw [h0]; rfl
  | i + 1 => fun x hlt hx => by
    have hx : (sp v i x || sp v i (x ^^^ v i)) = true := hx
    show (sp (fun j => T (v j)) i (T x) || sp (fun j => T (v j)) i (T x ^^^ T (v i))) = true
    rw [Bool.or_eq_true] at hx ⊢
    rcases hx with hx | hx
    · exact Or.inl (sp_map hv h0 hT i x hlt hx)
    · right
      rw [← hT x _ hlt (hv i)]
      exact sp_map hv h0 hT i _ (x_lt hlt (hv i)) hx
theorem rkS_map {v : Nat → Nat} {T : Nat → Nat} (hv : b32 v) (h0 : T 0 = 0) (hT : ∀ x y, x < 32 → y < 32 → T (x ^^^ y) = T x ^^^ T y) : ∀ i, rkS (fun j => T (v j)) i ≤ rkS v i
  | 0 => Nat.le_refl _
  | i + 1 => by
    have := rkS_map hv h0 hT i
    show rkS (fun j => T (v j)) i + _ ≤ rkS v i + _
    by_cases h : sp v i (v i) = true
    · rw [if_pos h, if_pos (sp_map hv h0 hT i _ (hv i) h)]
      omega
    · rw [if_neg h]
      split <;> omega
theorem rk_0 {v : Nat → Nat} (h : rkM v = 0) : ∀ j, j < 5 → v j = 0 := by
  have key : ∀ i, rkS v i = 0 → ∀ x, sp v i x = true → x = 0 := by
    intro i
    induction i with
    | zero => intro _ x hx; exact of_decide_eq_true hx
    | succ i ih =>
      intro hr x hx
      have hr : rkS v i + (if sp v i (v i) = true then 0 else 1) = 0 := hr
      by_cases hs : sp v i (v i) = true
      · rw [sp_k hs] at hx
        exact ih (by omega) x hx
      · rw [if_neg hs] at hr; omega
  intro j hj
  exact key 5 h _ (sp_mem v 5 j hj)
theorem rk_z {v : Nat → Nat} (h : ∀ j, j < 5 → v j = 0) : rkM v = 0 := by
  have key : ∀ i, i ≤ 5 → rkS v i = 0 := by
    intro i
    induction i with
    | zero => intro _; rfl
    | succ i ih =>
      intro hi
      show rkS v i + _ = 0
      rw [ih (by omega), h i (by omega), sp_0, if_pos rfl]
  exact key 5 (by omega)
end
section
set_option maxRecDepth 100000
/-! the solution of the equations -/
def dot (f x : Nat → Nat) : Nat → Nat
  | 0 => 0
  | n + 1 => dot f x n ^^^ gm (f n) (x n)
theorem dot_lt (f x : Nat → Nat) : ∀ n, dot f x n < 32
  | 0 => by show 0 < 32; decide
  | n + 1 => x_lt (dot_lt f x n) (gm_lt _ _)
theorem dot_congr {f g x : Nat → Nat} : ∀ n, (∀ c, c < n → f c = g c) → dot f x n = dot g x n
  | 0 => fun _ => rfl
  | n + 1 => fun h => by
    show dot f x n ^^^ gm (f n) (x n) = dot g x n ^^^ gm (g n) (x n)
    rw [dot_congr n (fun c hc => h c (by omega)), h n (by omega)]
theorem dot_z {f x : Nat → Nat} : ∀ n, (∀ c, c < n → gm (f c) (x c) = 0) → dot f x n = 0
  | 0 => fun _ => rfl
  | n + 1 => fun h => by
    show dot f x n ^^^ gm (f n) (x n) = 0
    rw [dot_z n (fun c hc => h c (by omega)), h n (by omega)]
    rfl
theorem dot_1 {f x : Nat → Nat} {c : Nat} : ∀ n, c < n → (∀ k, k < n → ¬ k = c → gm (f k) (x k) = 0) → dot f x n = gm (f c) (x c)
  | 0 => fun h _ => by omega
  | n + 1 => fun h hz => by
    show dot f x n ^^^ gm (f n) (x n) = _
    by_cases e : c = n
    · subst e
      rw [dot_z c (fun k hk => hz k (by omega) (by omega)), Nat.zero_xor]
    · rw [dot_1 n (by omega) (fun k hk => hz k (by omega)), hz n (by omega) (by omega), Nat.xor_zero]
theorem dot_2 {f x : Nat → Nat} {c d : Nat} (hcd : ¬ c = d) : ∀ n, c < n → d < n → (∀ k, k < n → ¬ k = c → ¬ k = d → gm (f k) (x k) = 0) → dot f x n = gm (f c) (x c) ^^^ gm (f d) (x d)
  | 0 => fun h _ _ => by omega
  | n + 1 => fun h1 h2 hz => by
    show dot f x n ^^^ gm (f n) (x n) = _
    by_cases e1 : c = n
    · subst e1
      rw [dot_1 (c := d) c (by omega) (fun k hk ne => hz k (by omega) (by omega) ne), Nat.xor_comm]
    · by_cases e2 : d = n
      · subst e2
        rw [dot_1 (c := c) d (by omega) (fun k hk ne => hz k (by omega) ne (by omega))]
      · rw [dot_2 hcd n (by omega) (by omega) (fun k hk => hz k (by omega)), hz n (by omega) (by omega) (by omega), Nat.xor_zero]
theorem x22 (a b c d : Nat) : (a ^^^ b) ^^^ (c ^^^ d) = (a ^^^ c) ^^^ (b ^^^ d) := by
  apply Nat.eq_of_testBit_eq; intro i; simp only [Nat.testBit_xor]
  cases a.testBit i <;> cases b.testBit i <;> cases c.testBit i <;> cases d.testBit i <;> rfl
/-- a row plus s times another -/
theorem dot_add {f g x : Nat → Nat} {s : Nat} (hf : ∀ c, f c < 32) (hg : ∀ c, g c < 32) (hx : b32 x) (hs : s < 32) : ∀ n, dot (fun c => f c ^^^ gm (g c) s) x n = dot f x n ^^^ gm s (dot g x n)
  | 0 => by show 0 = 0 ^^^ gm s 0; rw [gm_z]; rfl
  | n + 1 => by
    show dot (fun c => f c ^^^ gm (g c) s) x n ^^^ gm (f n ^^^ gm (g n) s) (x n) = (dot f x n ^^^ gm (f n) (x n)) ^^^ gm s (dot g x n ^^^ gm (g n) (x n))
    rw [dot_add hf hg hx hs n, gm_xor' (hf n) (gm_lt _ _) (hx n), gm_xor hs (dot_lt _ _ _) (gm_lt _ _), gm_comm (g n) s, gm_assoc hs (hg n) (hx n), x22]
theorem dot_scale {f x : Nat → Nat} {s : Nat} (hf : ∀ c, f c < 32) (hx : b32 x) (hs : s < 32) : ∀ n, dot (fun c => gm s (f c)) x n = gm s (dot f x n)
  | 0 => by show 0 = gm s 0; rw [gm_z]
  | n + 1 => by
    show dot (fun c => gm s (f c)) x n ^^^ gm (gm s (f n)) (x n) = gm s (dot f x n ^^^ gm (f n) (x n))
    rw [dot_scale hf hx hs n, gm_xor hs (dot_lt _ _ _) (gm_lt _ _), gm_assoc hs (hf n) (hx n)]
def rw6 (C : Nat → Nat) (i : Nat) : Nat → Nat := fun c => C (i * 6 + c)
def sol (C x : Nat → Nat) (n : Nat) : Prop := ∀ i, i < 5 → dot (rw6 C i) x n = 0
/-- the swapped table's rows -/
theorem swp_row {C : Nat → Nat} {z r i c : Nat} (hc : c < 6) : swp C z r 6 (i * 6 + c) = if i = z then C (r * 6 + c) else if i = r then C (z * 6 + c) else C (i * 6 + c) := by
  unfold swp
  rw [m6 hc, d6 hc, if_pos hc]
theorem red_row {B : Nat → Nat} {r x i c : Nat} (hc : c < 6) (hx : x < 6) (hi : i < 5) (hr : r < 5) : red B r x (i * 6 + c) = if i = r then gd (B (r * 6 + c)) (B (r * 6 + x)) else B (i * 6 + c) ^^^ gm (gd (B (r * 6 + c)) (B (r * 6 + x))) (B (i * 6 + x)) := by
  have hd : ∀ y, y < 6 → dvr B r (B (r * 6 + x)) 6 (r * 6 + y) = gd (B (r * 6 + y)) (B (r * 6 + x)) := fun y hy => by
    unfold dvr
    rw [m6 hy, d6 hy, if_pos ⟨rfl, hy⟩]
  have hn : ∀ y, y < 6 → ¬ i = r → dvr B r (B (r * 6 + x)) 6 (i * 6 + y) = B (i * 6 + y) := fun y hy ne => by
    unfold dvr
    rw [m6 hy, d6 hy, if_neg (fun q => ne q.1)]
  unfold red rdc
  rw [m6 hc, d6 hc]
  by_cases e : i = r
  · rw [if_neg (by omega), if_pos e, e, hd c hc]
  · rw [if_pos ⟨e, hi⟩, if_neg e, hn c hc e, hn x hx e, hd c hc]
theorem sol_swp {C x : Nat → Nat} {z r n : Nat} (hz : z < 5) (hr : r < 5) (hn : n ≤ 6) : sol (swp C z r 6) x n ↔ sol C x n := by
  have row : ∀ i, dot (rw6 (swp C z r 6) i) x n = dot (rw6 C (if i = z then r else if i = r then z else i)) x n := fun i => by
    apply dot_congr
    intro c hc
    unfold rw6
    rw [swp_row (by omega)]
    split
    · rfl
    · split <;> rfl
  constructor
  · intro h i hi
    have := h (if i = z then r else if i = r then z else i) (by split; exact hr; split; exact hz; exact hi)
    rw [row] at this
    have e : (if (if i = z then r else if i = r then z else i) = z then r else if (if i = z then r else if i = r then z else i) = r then z else (if i = z then r else if i = r then z else i)) = i := by
      by_cases h1 : i = z
      · rw [if_pos h1]
        by_cases h2 : r = z
        · rw [if_pos h2]; omega
        · rw [if_neg h2, if_pos rfl]; omega
      · rw [if_neg h1]
        by_cases h2 : i = r
        · rw [if_pos h2, if_pos rfl]; omega
        · rw [if_neg h2, if_neg h1, if_neg h2]
    rw [e] at this
    exact this
  · intro h i hi
    rw [row]
    exact h _ (by split; exact hr; split; exact hz; exact hi)
theorem gd_gm1 : ∀ a, a < 32 → ∀ b, b < 32 → ¬ b = 0 → gd a b = gm (gd 1 b) a := by decide +kernel
theorem sol_red {B x : Nat → Nat} {r y n : Nat} (hB : b32 B) (hx : b32 x) (hr : r < 5) (hy : y < 6) (hn : n ≤ 6) (hp : ¬ B (r * 6 + y) = 0) : sol (red B r y) x n ↔ sol B x n := by
  have r1 : dot (rw6 (red B r y) r) x n = gm (gd 1 (B (r * 6 + y))) (dot (rw6 B r) x n) := by
    rw [← dot_scale (f := rw6 B r) (fun c => hB _) hx (gd_lt _ _) n]
    apply dot_congr
    intro c hc
    show red B r y (r * 6 + c) = gm _ (B (r * 6 + c))
    rw [red_row (by omega) hy hr hr, if_pos rfl, gd_gm1 _ (hB _) _ (hB _) hp]
  have r2 : ∀ i, i < 5 → ¬ i = r → dot (rw6 (red B r y) i) x n = dot (rw6 B i) x n ^^^ gm (B (i * 6 + y)) (gm (gd 1 (B (r * 6 + y))) (dot (rw6 B r) x n)) := fun i hi ne => by
    rw [← dot_scale (f := rw6 B r) (fun c => hB _) hx (gd_lt _ _) n, ← dot_add (f := rw6 B i) (fun c => hB _) (fun c => gm_lt _ _) hx (hB _) n]
    apply dot_congr
    intro c hc
    show red B r y (i * 6 + c) = B (i * 6 + c) ^^^ gm (gm _ (B (r * 6 + c))) _
    rw [red_row (by omega) hy hi hr, if_neg ne, gd_gm1 _ (hB _) _ (hB _) hp]
  constructor
  · intro h
    have h0 : dot (rw6 B r) x n = 0 := by
      have := h r hr
      rw [r1] at this
      rcases gm_eq0 this with q | q
      · have g := gm_gd 1 (by decide) _ (hB (r * 6 + y)) hp
        rw [q, z_gm] at g
        cases g
      · exact q
    intro i hi
    by_cases e : i = r
    · rw [e]; exact h0
    · have := h i hi
      rw [r2 i hi e, h0, gm_z, gm_z, Nat.xor_zero] at this
      exact this
  · intro h i hi
    by_cases e : i = r
    · rw [e, r1, h r hr, gm_z]
    · rw [r2 i hi e, h i hi, h r hr, gm_z, gm_z]
      rfl
/-- what the columns so far look like -/
def cln (S : SS) (c : Nat) : Prop :=
  (∀ k, k < c → (S.2.2.1 k = 0 → ∀ i, S.1 ≤ i → i < 5 → S.2.2.2 (i * 6 + k) = 0) ∧ (∀ p, S.2.2.1 k = p + 1 → p < S.1 ∧ S.2.2.2 (p * 6 + k) = 1 ∧ ∀ i, i < 5 → ¬ i = p → S.2.2.2 (i * 6 + k) = 0)) ∧
  (∀ i, i < S.1 → ∃ k, k < c ∧ S.2.2.1 k = i + 1) ∧ (∀ k j, k < c → j < c → S.2.2.1 k = S.2.2.1 j → ¬ S.2.2.1 k = 0 → k = j) ∧
  (S.2.1 = 0 → ∀ k, k < c → ¬ S.2.2.1 k = 0) ∧ (∀ f, S.2.1 = f + 1 → f < c ∧ S.2.2.1 f = 0)
theorem sst_ok {S : SS} {c : Nat} (hc : c < 6) (hr5 : S.1 ≤ 5) (hb : b32 S.2.2.2) (h : cln S c) : cln (sst S c) (c + 1) ∧ ∀ (x : Nat → Nat) (n : Nat), b32 x → n ≤ 6 → (sol (sst S c).2.2.2 x n ↔ sol S.2.2.2 x n) := by
  obtain ⟨r, f, pv, C⟩ := S
  have hr5 : r ≤ 5 := hr5
  have hb : b32 C := hb
  obtain ⟨h1, h2, h3, h4, h5⟩ := h
  dsimp only at h1 h2 h3 h4 h5
  cases hl : lo (nzP C c) r (5 - r) with
  | zero =>
    rw [sst_0 hl]
    have hz : ∀ i, r ≤ i → i < 5 → C (i * 6 + c) = 0 := fun i g1 g2 => by
      have := lo_0 _ _ _ hl i g1 (by omega)
      unfold nzP at this
      rw [Bool.not_eq_false'] at this
      exact of_decide_eq_true this
    refine ⟨⟨?_, ?_, ?_, ?_, ?_⟩, fun x n _ _ => Iff.rfl⟩
    · intro k hk
      dsimp only
      by_cases e : k = c
      · subst e
        rw [up_s]
        exact ⟨fun _ => hz, fun p q => by cases q⟩
      · rw [up_n _ _ e]
        exact h1 k (by omega)
    · intro i hi
      obtain ⟨k, hk, e⟩ := h2 i hi
      refine ⟨k, by omega, ?_⟩
      dsimp only
      rw [up_n _ _ (by omega)]
      exact e
    · intro k j hk hj e ne
      dsimp only at e ne
      by_cases ek : k = c
      · subst ek; rw [up_s] at ne; exact absurd rfl ne
      · by_cases ej : j = c
        · subst ej; rw [e, up_s] at ne; exact absurd rfl ne
        · rw [up_n _ _ ek, up_n _ _ ej] at e
          rw [up_n _ _ ek] at ne
          exact h3 k j (by omega) (by omega) e ne
    · intro q
      dsimp only at q
      split at q <;> omega
    · intro f' q
      dsimp only at q ⊢
      by_cases ef : f = 0
      · rw [if_pos ef] at q
        have : f' = c := by omega
        subst this
        exact ⟨by omega, up_s _ _ _⟩
      · rw [if_neg ef] at q
        obtain ⟨g1, g2⟩ := h5 f' q
        refine ⟨by omega, ?_⟩
        rw [up_n _ _ (by omega)]
        exact g2
  | succ z =>
    rw [sst_1 hl]
    obtain ⟨g1, g2, g3, -⟩ := lo_1 _ _ _ _ hl
    have hz5 : z < 5 := by omega
    have hr : r < 5 := by omega
    have hp : ¬ C (z * 6 + c) = 0 := by
      unfold nzP at g3
      rw [Bool.not_eq_true'] at g3
      exact of_decide_eq_false g3
    have hB := swp_b32 hb z r 6
    have hBr : ∀ k, k < 6 → swp C z r 6 (r * 6 + k) = C (z * 6 + k) := fun k hk => by
      rw [swp_row hk]
      by_cases e : r = z
      · rw [if_pos e, e]
      · rw [if_neg e, if_pos rfl]
    have hpB : ¬ swp C z r 6 (r * 6 + c) = 0 := by rw [hBr c hc]; exact hp
    refine ⟨⟨?_, ?_, ?_, ?_, ?_⟩, fun x n hx hn => ?_⟩
    · intro k hk
      dsimp only
      by_cases e : k = c
      · subst e
        rw [up_s]
        refine ⟨fun q => by omega, fun p q => ?_⟩
        have : p = r := by omega
        subst this
        refine ⟨by omega, ?_, fun i hi ne => ?_⟩
        · rw [red_row hc hc hr hr, if_pos rfl, gd_self _ (hB _) hpB]
        · rw [red_row hc hc hi hr, if_neg ne, gd_self _ (hB _) hpB, gm_1 _ (hB _), xs]
      · rw [up_n _ _ e, up_n _ _ e]
        obtain ⟨a1, a2⟩ := h1 k (by omega)
        have hk6 : k < 6 := by omega
        refine ⟨fun q i i1 i2 => ?_, fun p q => ?_⟩
        · have zr : C (z * 6 + k) = 0 := a1 q z g1 hz5
          have i1 : r + 1 ≤ i := i1
          rw [red_row hk6 hc i2 hr, if_neg (by omega), hBr k hk6, zr, gd_z, z_gm, Nat.xor_zero, swp_row hk6]
          split
          · exact a1 q r (by omega) hr
          · rw [if_neg (by omega)]
            exact a1 q i (by omega) i2
        · obtain ⟨p1, p2, p3⟩ := a2 p q
          have zr : C (z * 6 + k) = 0 := p3 z hz5 (by omega)
          refine ⟨by omega, ?_, fun i hi ne => ?_⟩
          · rw [red_row hk6 hc (by omega) hr, if_neg (by omega), hBr k hk6, zr, gd_z, z_gm, Nat.xor_zero, swp_row hk6, if_neg (by omega), if_neg (by omega)]
            exact p2
          · by_cases er : i = r
            · rw [er, red_row hk6 hc hr hr, if_pos rfl, hBr k hk6, zr, gd_z]
            · rw [red_row hk6 hc hi hr, if_neg er, hBr k hk6, zr, gd_z, z_gm, Nat.xor_zero, swp_row hk6]
              split
              · exact p3 r hr (by omega)
              · first | exact p3 i hi ne | (rw [if_neg er]; exact p3 i hi ne)
    · intro i hi
      have hi : i < r + 1 := hi
      dsimp only
      by_cases e : i = r
      · exact ⟨c, by omega, by rw [up_s, e]⟩
      · obtain ⟨k, hk, ek⟩ := h2 i (by omega)
        exact ⟨k, by omega, by rw [up_n _ _ (by omega), up_n _ _ (by omega)]; exact ek⟩
    · intro k j hk hj e ne
      dsimp only at e ne
      by_cases ek : k = c
      · by_cases ej : j = c
        · omega
        · subst ek
          rw [up_s, up_n _ _ ej, up_n _ _ ej] at e
          have := ((h1 j (by omega)).2 r e.symm).1
          omega
      · by_cases ej : j = c
        · subst ej
          rw [up_n _ _ ek, up_n _ _ ek, up_s] at e
          have := ((h1 k (by omega)).2 r e).1
          omega
        · rw [up_n _ _ ek, up_n _ _ ek, up_n _ _ ej, up_n _ _ ej] at e
          rw [up_n _ _ ek, up_n _ _ ek] at ne
          exact h3 k j (by omega) (by omega) e ne
    · intro q k hk
      dsimp only at q ⊢
      by_cases ek : k = c
      · subst ek; rw [up_s]; omega
      · rw [up_n _ _ ek, up_n _ _ ek]
        exact h4 q k (by omega)
    · intro f' q
      dsimp only at q ⊢
      obtain ⟨a1, a2⟩ := h5 f' q
      refine ⟨by omega, ?_⟩
      rw [up_n _ _ (by omega), up_n _ _ (by omega)]
      exact a2
    · show sol (red (swp C z r 6) r c) x n ↔ sol C x n
      rw [sol_red hB hx hr hc hn hpB, sol_swp hz5 hr hn]
theorem slv_cln (pv : Nat → Nat) {C : Nat → Nat} (hb : b32 C) : ∀ c, c ≤ 6 → cln (slv pv C c) c ∧ ∀ (x : Nat → Nat) (n : Nat), b32 x → n ≤ 6 → (sol (slv pv C c).2.2.2 x n ↔ sol C x n)
  | 0 => fun _ => ⟨⟨fun k hk => by omega, fun i hi => absurd hi (Nat.not_lt_zero i), fun k j hk => by omega, fun _ k hk => by omega, fun f q => by cases q⟩, fun x n _ _ => Iff.rfl⟩
  | c + 1 => fun hc => by
    obtain ⟨h1, h2⟩ := slv_cln pv hb c (by omega)
    obtain ⟨o1, -, -, o4⟩ := slv_ok pv hb c
    obtain ⟨g1, g2⟩ := sst_ok (by omega) o1 o4 h1
    exact ⟨g1, fun x n hx hn => (g2 x n hx hn).trans (h2 x n hx hn)⟩
/-- no free column: only zeros solve -/
theorem slv_none (pv : Nat → Nat) {C : Nat → Nat} (hb : b32 C) {n : Nat} (hn : n ≤ 6) (hf : (slv pv C n).2.1 = 0) {x : Nat → Nat} (hx : b32 x) (hs : sol C x n) : ∀ c, c < n → x c = 0 := by
  obtain ⟨⟨h1, -, h3, h4, -⟩, h2⟩ := slv_cln pv hb n hn
  obtain ⟨o1, -, -, -⟩ := slv_ok pv hb n
  have hs2 := (h2 x n hx hn).mpr hs
  intro c hc
  have hp := h4 hf c hc
  obtain ⟨p, ep⟩ : ∃ p, (slv pv C n).2.2.1 c = p + 1 := ⟨(slv pv C n).2.2.1 c - 1, by omega⟩
  obtain ⟨a1, a2, -⟩ := (h1 c hc).2 p ep
  have hrow := hs2 p (by omega)
  rw [dot_1 (c := c) n hc (fun k hk ne => by
    have hpk := h4 hf k hk
    obtain ⟨p', ep'⟩ : ∃ p', (slv pv C n).2.2.1 k = p' + 1 := ⟨(slv pv C n).2.2.1 k - 1, by omega⟩
    have np : ¬ p = p' := fun e => ne (h3 k c hk hc (by rw [ep, ep', e]) hpk)
    rw [show rw6 (slv pv C n).2.2.2 p k = 0 from ((h1 k hk).2 p' ep').2.2 p (by omega) np, z_gm])] at hrow
  rw [show rw6 (slv pv C n).2.2.2 p c = 1 from a2, gm_1 _ (hx c)] at hrow
  exact hrow
/-- a free column: the root solves -/
theorem slv_root (pv : Nat → Nat) {C rt : Nat → Nat} (hb : b32 C) {n f : Nat} (hn : n ≤ 6) (hf : (slv pv C n).2.1 = f + 1) (hrt : b32 rt) : f < n ∧ sol C (up (ov rt (rtF (slv pv C n).2.2.1 (slv pv C n).2.2.2 f) n) f 1) n := by
  obtain ⟨⟨h1, h6, h3, -, h5⟩, h2⟩ := slv_cln pv hb n hn
  obtain ⟨o1, -, -, o4⟩ := slv_ok pv hb n
  obtain ⟨f1, f2⟩ := h5 f hf
  refine ⟨f1, (h2 _ n (up_b32 (ov_b32 hrt (rtF_b32 _ o4 _) _) _ (by decide)) hn).mp ?_⟩
  generalize hS : slv pv C n = S at *
  intro i hi
  have xz : ∀ k, k < n → ¬ k = f → S.2.2.1 k = 0 → up (ov rt (rtF S.2.2.1 S.2.2.2 f) n) f 1 k = 0 := fun k hk ne e => by
    rw [up_n _ _ ne, ov_lt hk, rtF_0 e]
  by_cases hir : i < S.1
  · obtain ⟨c, hc, ec⟩ := h6 i hir
    have ncf : ¬ c = f := fun e => by rw [e, f2] at ec; cases ec
    rw [dot_2 (c := c) (d := f) ncf n hc f1 (fun k hk k1 k2 => by
      by_cases e : S.2.2.1 k = 0
      · rw [xz k hk k2 e, gm_z]
      · obtain ⟨p', ep'⟩ : ∃ p', S.2.2.1 k = p' + 1 := ⟨S.2.2.1 k - 1, by omega⟩
        have np : ¬ i = p' := fun e2 => k1 (h3 k c hk hc (by rw [ec, ep', e2]) e)
        rw [show rw6 S.2.2.2 i k = 0 from ((h1 k hk).2 p' ep').2.2 i hi np, z_gm])]
    rw [up_s, up_n _ _ ncf, ov_lt hc, rtF_1 ec, show rw6 S.2.2.2 i c = 1 from ((h1 c hc).2 i ec).2.1]
    show gm 1 (S.2.2.2 (i * 6 + f)) ^^^ gm (S.2.2.2 (i * 6 + f)) 1 = 0
    rw [gm_1 _ (o4 _), gm_one (o4 _), xs]
  · refine dot_z n (fun k hk => ?_)
    by_cases e : S.2.2.1 k = 0
    · rw [show rw6 S.2.2.2 i k = 0 from (h1 k hk).1 e i (by omega) hi, z_gm]
    · obtain ⟨p', ep'⟩ : ∃ p', S.2.2.1 k = p' + 1 := ⟨S.2.2.1 k - 1, by omega⟩
      have := (h1 k hk).2 p' ep'
      rw [show rw6 S.2.2.2 i k = 0 from this.2.2 i hi (by omega), z_gm]
end
section
set_option maxRecDepth 100000
/-! decoding: a message within the radius is the quotient of any solution -/
def v2 (kk : Nat) (x : Nat → Nat) : Nat := if kk = 1 then x 2 else 0
theorem v2_lt {x : Nat → Nat} (h : b32 x) (kk : Nat) : v2 kk x < 32 := by
  unfold v2
  split
  · exact h _
  · decide
def es (w : Nat → Nat) (kk : Nat) (x : Nat → Nat) : Prop := ∀ i, i < 5 → ev (x 0) (x 1) (v2 kk x) (w i) = ev (x (4 - kk)) (x (5 - kk)) (x (6 - kk)) (2 ^ i)
theorem x6a (a b c d e f : Nat) : 0 ^^^ a ^^^ b ^^^ c ^^^ d ^^^ e ^^^ f = (a ^^^ b ^^^ c) ^^^ (d ^^^ e ^^^ f) := by
  apply Nat.eq_of_testBit_eq; intro i; simp only [Nat.testBit_xor, Nat.zero_testBit]
  cases a.testBit i <;> cases b.testBit i <;> cases c.testBit i <;> cases d.testBit i <;> cases e.testBit i <;> cases f.testBit i <;> rfl
theorem x5a (a b d e f : Nat) : 0 ^^^ a ^^^ b ^^^ d ^^^ e ^^^ f = (a ^^^ b ^^^ 0) ^^^ (d ^^^ e ^^^ f) := by
  apply Nat.eq_of_testBit_eq; intro i; simp only [Nat.testBit_xor, Nat.zero_testBit]
  cases a.testBit i <;> cases b.testBit i <;> cases d.testBit i <;> cases e.testBit i <;> cases f.testBit i <;> rfl
theorem dot_er {w x : Nat → Nat} {kk i : Nat} (hk : kk = 1 ∨ kk = 2) : dot (er w kk i) x (7 - kk) = ev (x 0) (x 1) (v2 kk x) (w i) ^^^ ev (x (4 - kk)) (x (5 - kk)) (x (6 - kk)) (2 ^ i) := by
  rcases hk with rfl | rfl
  · show 0 ^^^ gm (fr (w i) 0) (x 0) ^^^ gm (fr (w i) 1) (x 1) ^^^ gm (fr (w i) 2) (x 2) ^^^ gm (fr (2 ^ i) 0) (x 3) ^^^ gm (fr (2 ^ i) 1) (x 4) ^^^ gm (fr (2 ^ i) 2) (x 5) = (gm (x 0) (w i) ^^^ gm (x 1) (fr (w i) 1) ^^^ gm (x 2) (fr (w i) 2)) ^^^ (gm (x 3) (2 ^ i) ^^^ gm (x 4) (fr (2 ^ i) 1) ^^^ gm (x 5) (fr (2 ^ i) 2))
    rw [gm_comm (x 0), gm_comm (x 1), gm_comm (x 2), gm_comm (x 3), gm_comm (x 4), gm_comm (x 5), x6a]
    rfl
  · show 0 ^^^ gm (fr (w i) 0) (x 0) ^^^ gm (fr (w i) 1) (x 1) ^^^ gm (fr (2 ^ i) 0) (x 2) ^^^ gm (fr (2 ^ i) 1) (x 3) ^^^ gm (fr (2 ^ i) 2) (x 4) = (gm (x 0) (w i) ^^^ gm (x 1) (fr (w i) 1) ^^^ gm 0 (fr (w i) 2)) ^^^ (gm (x 2) (2 ^ i) ^^^ gm (x 3) (fr (2 ^ i) 1) ^^^ gm (x 4) (fr (2 ^ i) 2))
    rw [gm_comm (x 0), gm_comm (x 1), gm_comm (x 2), gm_comm (x 3), gm_comm (x 4), z_gm, x5a]
    rfl
theorem sol_es {c w x : Nat → Nat} {kk : Nat} (hk : kk = 1 ∨ kk = 2) : sol (eqa c w kk 5) x (7 - kk) ↔ es w kk x := by
  have row : ∀ i, i < 5 → dot (rw6 (eqa c w kk 5) i) x (7 - kk) = dot (er w kk i) x (7 - kk) := fun i hi => by
    apply dot_congr
    intro y hy
    show eqa c w kk 5 (i * 6 + y) = _
    unfold eqa
    rw [d6 (show y < 6 by omega), m6 (show y < 6 by omega), if_pos ⟨hi, hy⟩]
  constructor
  · intro h i hi
    have := h i hi
    rw [row i hi, dot_er hk] at this
    exact xe this
  · intro h i hi
    rw [row i hi, dot_er hk, h i hi, xs]
/-- V(f(z)) as a polynomial -/
theorem ev_comp {v0 v1 vv a b z : Nat} (h0 : v0 < 32) (h1 : v1 < 32) (h2 : vv < 32) (ha : a < 32) (hb : b < 32) (hz : z < 32) (hvb : vv = 0 ∨ b = 0) :
    ev v0 v1 vv (gm a z ^^^ gm b (gm z z)) = ev (gm v0 a) (gm v1 (fr a 1) ^^^ gm v0 b) (gm vv (fr a 2) ^^^ gm v1 (fr b 1)) z := by
  have hz1 := fr_lt hz 1
  have e1 : ev v0 v1 vv (gm a z) = ev (gm v0 a) (gm v1 (fr a 1)) (gm vv (fr a 2)) z := by
    unfold ev
    rw [fr_mul ha hz, fr_mul ha hz, gm_assoc h0 ha hz, gm_assoc h1 (fr_lt ha _) hz1, gm_assoc h2 (fr_lt ha _) (fr_lt hz _)]
  have e2 : ev v0 v1 vv (gm b (gm z z)) = ev 0 (gm v0 b) (gm v1 (fr b 1)) z := by
    have e3 : gm vv (fr (gm b (gm z z)) 2) = 0 := by
      rcases hvb with q | q
      · rw [q, z_gm]
      · rw [q, z_gm, fr_0, gm_z]
    unfold ev
    rw [e3, fr_mul hb (gm_lt _ _), z_gm, Nat.xor_zero, Nat.zero_xor]
    show gm v0 (gm b (fr z 1)) ^^^ gm v1 (gm (fr b 1) (fr z 2)) = gm (gm v0 b) (fr z 1) ^^^ gm (gm v1 (fr b 1)) (fr z 2)
    rw [gm_assoc h0 hb hz1, gm_assoc h1 (fr_lt hb _) (fr_lt hz _)]
  rw [ev_xor h0 h1 h2 (gm_lt _ _) (gm_lt _ _), e1, e2, ← ev_add (gm_lt _ _) (gm_lt _ _) (gm_lt _ _) (by decide) (gm_lt _ _) (gm_lt _ _) hz, Nat.xor_zero]
/-! a polynomial of three terms, not all 0, has rank at least 3 -/
def evf (a b c z : Nat) : Nat := gf a z ^^^ gf b (gf z z) ^^^ gf c (gf (gf z z) (gf z z))
theorem ev_evf {a b c z : Nat} (ha : a < 32) (hb : b < 32) (hc : c < 32) (hz : z < 32) : ev a b c z = evf a b c z := by
  show gm a z ^^^ gm b (gm z z) ^^^ gm c (gm (gm z z) (gm z z)) = _
  unfold evf
  rw [gf_gm a ha z hz, gf_gm z hz z hz, gf_gm b hb _ (gf_lt _ _), gf_gm _ (gf_lt _ _) _ (gf_lt _ _), gf_gm c hc _ (gf_lt _ _)]
def hrt (a b c i : Nat) : Bool := (List.range (2 ^ i)).any (fun y => evf a b c (2 ^ i ^^^ y) == 0)
def nrt (a b c : Nat) : Nat → Nat
  | 0 => 0
  | i + 1 => nrt a b c i + (hrt a b c i).toNat
theorem chk1 : (List.range 32).all (fun a => (List.range 32).all (fun b => Nat.ble (nrt a b 1 5) 2)) = true := by decide +kernel
theorem chk2 : (List.range 32).all (fun a => Nat.ble (nrt a 1 0 5) 2) = true := by decide +kernel
theorem chk3 : Nat.ble (nrt 1 0 0 5) 2 = true := by decide +kernel
theorem p5x {i y : Nat} (hi : i < 5) (hy : y < 2 ^ i) : 2 ^ i ^^^ y < 2 ^ (i + 1) := Nat.xor_lt_two_pow (Nat.pow_lt_pow_right (by decide) (by omega)) (Nat.lt_trans hy (Nat.pow_lt_pow_right (by decide) (by omega)))
theorem p5l {i : Nat} (hi : i ≤ 5) : 2 ^ i ≤ 32 := (by decide : ∀ i, i < 6 → 2 ^ i ≤ 32) i (by omega)
theorem sp_ev {a b c : Nat} {g : Nat → Nat} (ha : a < 32) (hb : b < 32) (hc : c < 32) (hg : ∀ i, i < 5 → g i = ev a b c (2 ^ i)) : ∀ i, i ≤ 5 → ∀ x, sp g i x = true → ∃ y, y < 2 ^ i ∧ x = ev a b c y
  | 0 => fun _ x hx => ⟨0, by decide, by rw [ev_0]; exact of_decide_eq_true hx⟩
  | i + 1 => fun hi x hx => by
    have hx : (sp g i x || sp g i (x ^^^ g i)) = true := hx
    rw [Bool.or_eq_true] at hx
    have hpw : 2 ^ i < 2 ^ (i + 1) := Nat.pow_lt_pow_right (by decide) (by omega)
    rcases hx with hx | hx
    · obtain ⟨y, h1, h2⟩ := sp_ev ha hb hc hg i (by omega) x hx
      exact ⟨y, Nat.lt_trans h1 hpw, h2⟩
    · obtain ⟨y, h1, h2⟩ := sp_ev ha hb hc hg i (by omega) _ hx
      have hp := p5l (i := i) (by omega)
      refine ⟨y ^^^ 2 ^ i, by rw [Nat.xor_comm]; exact p5x (by omega) h1, ?_⟩
      rw [ev_xor ha hb hc (by omega) (p5 (by omega)), ← h2, ← hg i (by omega), x2]
theorem sp_hrt {a b c : Nat} {g : Nat → Nat} (ha : a < 32) (hb : b < 32) (hc : c < 32) (hg : ∀ i, i < 5 → g i = ev a b c (2 ^ i)) {i : Nat} (hi : i < 5) (h : sp g i (g i) = true) : hrt a b c i = true := by
  obtain ⟨y, h1, h2⟩ := sp_ev ha hb hc hg i (by omega) _ h
  have hp := p5l (i := i) (by omega)
  unfold hrt
  rw [List.any_eq_true]
  refine ⟨y, List.mem_range.mpr h1, ?_⟩
  rw [← ev_evf ha hb hc (x_lt (p5 hi) (by omega)), ev_xor ha hb hc (p5 hi) (by omega), ← h2, ← hg i hi, xs]
  rfl
theorem rk_nrt {a b c : Nat} {g : Nat → Nat} (ha : a < 32) (hb : b < 32) (hc : c < 32) (hg : ∀ i, i < 5 → g i = ev a b c (2 ^ i)) : ∀ i, i ≤ 5 → i ≤ rkS g i + nrt a b c i
  | 0 => fun _ => Nat.zero_le _
  | i + 1 => fun hi => by
    have ih := rk_nrt ha hb hc hg i (by omega)
    show i + 1 ≤ (rkS g i + _) + (nrt a b c i + _)
    by_cases h : sp g i (g i) = true
    · rw [if_pos h, sp_hrt ha hb hc hg (by omega) h]
      show i + 1 ≤ _ + (_ + 1)
      omega
    · rw [if_neg h]; omega
theorem hrt_sc {a b c s : Nat} (ha : a < 32) (hb : b < 32) (hc : c < 32) (hs : s < 32) (hn : ¬ s = 0) {i : Nat} (hi : i < 5) (h : hrt a b c i = true) : hrt (gd a s) (gd b s) (gd c s) i = true := by
  unfold hrt at h ⊢
  rw [List.any_eq_true] at h ⊢
  obtain ⟨y, h1, h2⟩ := h
  have hp := p5l (i := i) (by omega)
  have hy : y < 2 ^ i := List.mem_range.mp h1
  have hz : 2 ^ i ^^^ y < 32 := x_lt (p5 hi) (by omega)
  refine ⟨y, h1, ?_⟩
  rw [← ev_evf ha hb hc hz] at h2
  rw [← ev_evf (gd_lt _ _) (gd_lt _ _) (gd_lt _ _) hz]
  have h2 := eq_of_beq h2
  have e := gm_ev (z := 2 ^ i ^^^ y) hs (gd_lt a s) (gd_lt b s) (gd_lt c s) hz
  rw [gm_comm s (gd a s), gm_comm s (gd b s), gm_comm s (gd c s), gm_gd a ha s hs hn, gm_gd b hb s hs hn, gm_gd c hc s hs hn, h2] at e
  rcases gm_eq0 e with q | q
  · exact absurd q hn
  · rw [q]; rfl
theorem nrt_sc {a b c s : Nat} (ha : a < 32) (hb : b < 32) (hc : c < 32) (hs : s < 32) (hn : ¬ s = 0) : ∀ i, i ≤ 5 → nrt a b c i ≤ nrt (gd a s) (gd b s) (gd c s) i
  | 0 => fun _ => Nat.le_refl _
  | i + 1 => fun hi => by
    have ih := nrt_sc ha hb hc hs hn i (by omega)
    show nrt a b c i + _ ≤ nrt (gd a s) (gd b s) (gd c s) i + _
    cases h : hrt a b c i with
    | true => rw [hrt_sc ha hb hc hs hn (by omega) h]; omega
    | false => show nrt a b c i + 0 ≤ _; omega
theorem ev_rk {a b c : Nat} {g : Nat → Nat} (ha : a < 32) (hb : b < 32) (hc : c < 32) (hg : ∀ i, i < 5 → g i = ev a b c (2 ^ i)) (hr : rkM g ≤ 2) : a = 0 ∧ b = 0 ∧ c = 0 := by
  have h5 := rk_nrt ha hb hc hg 5 (by omega)
  have hr : rkS g 5 ≤ 2 := hr
  by_cases ec : c = 0
  · by_cases eb : b = 0
    · by_cases ea : a = 0
      · exact ⟨ea, eb, ec⟩
      · have := nrt_sc ha hb hc ha ea 5 (by omega)
        rw [ec, eb, gd_z, gd_self a ha ea] at this
        have h3 := Nat.le_of_ble_eq_true chk3
        rw [ec, eb] at h5
        omega
    · have := nrt_sc ha hb hc hb eb 5 (by omega)
      rw [ec, gd_z, gd_self b hb eb] at this
      have h3 := Nat.le_of_ble_eq_true (all1 chk2 (gd_lt a b))
      rw [ec] at h5
      omega
  · have := nrt_sc ha hb hc hc ec 5 (by omega)
    rw [gd_self c hc ec] at this
    have h3 := Nat.le_of_ble_eq_true (all2 chk1 (gd_lt a c) (gd_lt b c))
    omega
/-! an annihilator of a span of rank at most 2 -/
theorem spb {e : Nat → Nat} (he : b32 e) : ∀ i, (rkS e i = 0 → ∀ z, sp e i z = true → z = 0) ∧ (rkS e i = 1 → ∃ x, x < 32 ∧ ∀ z, sp e i z = true → z = 0 ∨ z = x) ∧ (rkS e i = 2 → ∃ x y, x < 32 ∧ y < 32 ∧ ∀ z, sp e i z = true → z = 0 ∨ z = x ∨ z = y ∨ z = x ^^^ y)
  | 0 => ⟨fun _ z hz => of_decide_eq_true hz, fun h => (by cases h), fun h => (by cases h)⟩
  | i + 1 => by
    obtain ⟨h0, h1, h2⟩ := spb he i
    have er : rkS e (i + 1) = rkS e i + (if sp e i (e i) = true then 0 else 1) := rfl
    by_cases h : sp e i (e i) = true
    · rw [if_pos h] at er
      have es : sp e (i + 1) = sp e i := funext (sp_k h)
      rw [er, es]
      exact ⟨h0, h1, h2⟩
    · rw [if_neg h] at er
      have split : ∀ z, sp e (i + 1) z = true → sp e i z = true ∨ sp e i (z ^^^ e i) = true := fun z hz => by
        have hz : (sp e i z || sp e i (z ^^^ e i)) = true := hz
        rwa [Bool.or_eq_true] at hz
      refine ⟨fun q => by omega, fun q => ?_, fun q => ?_⟩
      · refine ⟨e i, he i, fun z hz => ?_⟩
        rcases split z hz with a | a
        · exact Or.inl (h0 (by omega) z a)
        · exact Or.inr (xe (h0 (by omega) _ a))
      · obtain ⟨x, hx, hall⟩ := h1 (by omega)
        refine ⟨x, e i, hx, he i, fun z hz => ?_⟩
        rcases split z hz with a | a
        · rcases hall z a with b | b
          · exact Or.inl b
          · exact Or.inr (Or.inl b)
        · rcases hall _ a with b | b
          · exact Or.inr (Or.inr (Or.inl (xe b)))
          · right; right; right
            rw [← b, x2]
theorem an1 : ∀ x, x < 32 → ev x 1 0 x = 0 := by decide +kernel
theorem an2 : ∀ x, x < 32 → ∀ y, y < 32 → ev (gm (gm y y ^^^ gm x y) x) (gm x x ^^^ (gm y y ^^^ gm x y)) 1 x = 0 ∧ ev (gm (gm y y ^^^ gm x y) x) (gm x x ^^^ (gm y y ^^^ gm x y)) 1 y = 0 := by decide +kernel
theorem ann {e : Nat → Nat} (he : b32 e) (hr : rkM e ≤ 2) : ∃ a b c, a < 32 ∧ b < 32 ∧ c < 32 ∧ ¬ (a = 0 ∧ b = 0 ∧ c = 0) ∧ (rkM e ≤ 1 → c = 0) ∧ ∀ j, j < 5 → ev a b c (e j) = 0 := by
  obtain ⟨h0, h1, h2⟩ := spb he 5
  have hr : rkS e 5 ≤ 2 := hr
  rcases (show rkS e 5 = 0 ∨ rkS e 5 = 1 ∨ rkS e 5 = 2 by omega) with q | q | q
  · refine ⟨1, 0, 0, by decide, by decide, by decide, by decide, fun _ => rfl, fun j hj => ?_⟩
    rw [h0 q _ (sp_mem e 5 j hj), ev_0]
  · obtain ⟨x, hx, hall⟩ := h1 q
    refine ⟨x, 1, 0, hx, by decide, by decide, fun z => (by cases z.2.1), fun _ => rfl, fun j hj => ?_⟩
    rcases hall _ (sp_mem e 5 j hj) with z | z
    · rw [z, ev_0]
    · rw [z]; exact an1 x hx
  · obtain ⟨x, y, hx, hy, hall⟩ := h2 q
    have e2 := an2 x hx y hy
    have l1 : gm x x ^^^ (gm y y ^^^ gm x y) < 32 := x_lt (gm_lt _ _) (x_lt (gm_lt _ _) (gm_lt _ _))
    refine ⟨gm (gm y y ^^^ gm x y) x, gm x x ^^^ (gm y y ^^^ gm x y), 1, gm_lt _ _, l1, by decide, fun z => (by cases z.2.2), fun z => (by have z : rkS e 5 ≤ 1 := z; omega), fun j hj => ?_⟩
    rcases hall _ (sp_mem e 5 j hj) with z | z | z | z
    · rw [z, ev_0]
    · rw [z]; exact e2.1
    · rw [z]; exact e2.2
    · rw [z, ev_xor (gm_lt _ _) l1 (by decide) hx hy, e2.1, e2.2]
      rfl
/-! the message out of a solution -/
theorem vl_ev (a b i : Nat) : vl a b i = gm a (2 ^ i) ^^^ gm b (gm (2 ^ i) (2 ^ i)) := rfl
theorem key {w x : Nat → Nat} {kk a b : Nat} (hk : kk = 1 ∨ kk = 2) (hw : b32 w) (hx : b32 x) (hs : es w kk x) (hn : nr kk w a b) :
    x (4 - kk) = gm (x 0) a ∧ x (5 - kk) = gm (x 1) (fr a 1) ^^^ gm (x 0) b ∧ x (6 - kk) = gm (v2 kk x) (fr a 2) ^^^ gm (x 1) (fr b 1) := by
  obtain ⟨ha, hb, hb1, hrk⟩ := hn
  have hv := v2_lt hx kk
  have hvb : v2 kk x = 0 ∨ b = 0 := by
    rcases hk with q | q
    · exact Or.inr (hb1 q)
    · left; unfold v2; rw [if_neg (by omega)]
  have hg : ∀ i, i < 5 → (fun j => ev (x 0) (x 1) (v2 kk x) (df w a b j)) i = ev (x (4 - kk) ^^^ gm (x 0) a) (x (5 - kk) ^^^ (gm (x 1) (fr a 1) ^^^ gm (x 0) b)) (x (6 - kk) ^^^ (gm (v2 kk x) (fr a 2) ^^^ gm (x 1) (fr b 1))) (2 ^ i) := fun i hi => by
    show ev (x 0) (x 1) (v2 kk x) (w i ^^^ vl a b i) = _
    rw [ev_add (hx _) (hx _) (hx _) (gm_lt _ _) (x_lt (gm_lt _ _) (gm_lt _ _)) (x_lt (gm_lt _ _) (gm_lt _ _)) (p5 hi), ← hs i hi, ev_xor (hx _) (hx _) hv (hw _) (vl_lt _ _ _), vl_ev, ev_comp (hx _) (hx _) hv ha hb (p5 hi) hvb]
  have hr : rkM (fun j => ev (x 0) (x 1) (v2 kk x) (df w a b j)) ≤ 2 := by
    have := rkS_map (df_b32 hw a b) (ev_0 (x 0) (x 1) (v2 kk x)) (fun y z hy hz => ev_xor (hx 0) (hx 1) hv hy hz) 5
    have hrk : rkS (df w a b) 5 ≤ 3 - kk := hrk
    exact Nat.le_trans this (by omega)
  obtain ⟨z1, z2, z3⟩ := ev_rk (x_lt (hx _) (gm_lt _ _)) (x_lt (hx _) (x_lt (gm_lt _ _) (gm_lt _ _))) (x_lt (hx _) (x_lt (gm_lt _ _) (gm_lt _ _))) hg hr
  exact ⟨xe z1, xe z2, xe z3⟩
theorem gd_of {v y : Nat} (hv : v < 32) (hy : y < 32) (hn : ¬ v = 0) : gd (gm v y) v = y := by rw [gm_comm, gd_gm y hy v hv hn]
theorem fr_back {a : Nat} (ha : a < 32) {w : Nat} (hw : w ≤ 5) : fr (fr a w) (5 - w) = a := by rw [fr_add, show w + (5 - w) = 5 by omega, fr_5 a ha]
theorem rP_1 {x : Nat → Nat} {c : Nat} (h : rP x c = true) : ¬ x c = 0 := by
  unfold rP at h
  rw [Bool.not_eq_true'] at h
  exact of_decide_eq_false h
theorem rP_0 {x : Nat → Nat} {c : Nat} (h : rP x c = false) : x c = 0 := by
  unfold rP at h
  rw [Bool.not_eq_false'] at h
  exact of_decide_eq_true h
theorem quot {w x f : Nat → Nat} {kk a b : Nat} (hk : kk = 1 ∨ kk = 2) (hw : b32 w) (hx : b32 x) (hs : es w kk x) (hnz : ∃ c, c < 7 - kk ∧ ¬ x c = 0) (hn : nr kk w a b) :
    ∃ l, lo (rP x) 0 (4 - kk) = l + 1 ∧ fdv x kk l f kk 0 = a ∧ fdv x kk l f kk 1 = b := by
  obtain ⟨k0, k1, k2⟩ := key hk hw hx hs hn
  obtain ⟨ha, hb, hb1, -⟩ := hn
  cases hl : lo (rP x) 0 (4 - kk) with
  | zero =>
    exfalso
    have hz : ∀ c, c < 4 - kk → x c = 0 := fun c hc => rP_0 (lo_0 _ _ _ hl c (by omega) (by omega))
    have z0 := hz 0 (by omega)
    have z1 := hz 1 (by omega)
    have zv : v2 kk x = 0 := by
      unfold v2
      split
      · exact hz 2 (by omega)
      · rfl
    rw [z0, z_gm] at k0
    rw [z0, z1, z_gm, z_gm] at k1
    rw [zv, z1, z_gm, z_gm] at k2
    obtain ⟨c, hc, hne⟩ := hnz
    by_cases h1 : c < 4 - kk
    · exact hne (hz c h1)
    · rcases (show c = 4 - kk ∨ c = 5 - kk ∨ c = 6 - kk by omega) with q | q | q
      · rw [q] at hne; exact hne k0
      · rw [q] at hne; exact hne k1
      · rw [q] at hne; exact hne k2
  | succ l =>
    obtain ⟨-, g2, g3, g4⟩ := lo_1 _ _ _ _ hl
    have hne := rP_1 g3
    have hlow : ∀ c, c < l → x c = 0 := fun c hc => rP_0 (g4 c (by omega) hc)
    refine ⟨l, rfl, ?_⟩
    rcases hk with rfl | rfl
    · have hb0 := hb1 rfl
      subst hb0
      have k0 : x 3 = gm (x 0) a := k0
      have k1 : x 4 = gm (x 1) (fr a 1) ^^^ gm (x 0) 0 := k1
      have k2 : x 5 = gm (x 2) (fr a 2) ^^^ gm (x 1) (fr 0 1) := k2
      rw [gm_z, Nat.xor_zero] at k1
      rw [fr_0, gm_z, Nat.xor_zero] at k2
      have hq : x (3 + l) = gm (x l) (fr a l) := by
        rcases (show l = 0 ∨ l = 1 ∨ l = 2 by omega) with rfl | rfl | rfl
        · exact k0
        · exact k1
        · exact k2
      refine ⟨?_, ?_⟩
      · show up (up f 1 0) 0 (fr (gd (rs x 1 l (up f 1 0) 0) (x l)) (5 - l)) 0 = a
        rw [up_s, rs_f (by omega)]
        show fr (gd (x (3 + l)) (x l)) (5 - l) = a
        rw [hq, gd_of (hx _) (fr_lt ha _) hne, fr_back ha (by omega)]
      · show up (up f 1 0) 0 (fr (gd (rs x 1 l (up f 1 0) 0) (x l)) (5 - l)) 1 = 0
        rw [up_n _ _ (by decide), up_s]
    · have k0 : x 2 = gm (x 0) a := k0
      have k1 : x 3 = gm (x 1) (fr a 1) ^^^ gm (x 0) b := k1
      have k2 : x 4 = gm 0 (fr a 2) ^^^ gm (x 1) (fr b 1) := k2
      rw [z_gm, Nat.zero_xor] at k2
      have h0 : ∀ g : Nat → Nat, fr (gd (rs x 2 l g 0) (x l)) (5 - l) = a := fun g => by
        rw [rs_f (by omega)]
        show fr (gd (x (2 + l)) (x l)) (5 - l) = a
        rcases (show l = 0 ∨ l = 1 by omega) with rfl | rfl
        · rw [k0, gd_of (hx _) ha hne]; exact fr_5 a ha
        · rw [k1, hlow 0 (by omega), z_gm, Nat.xor_zero, gd_of (hx _) (fr_lt ha _) hne, fr_back ha (by omega)]
      have h1 : ∀ g : Nat → Nat, g 0 = a → fr (gd (rs x 2 l g 1) (x l)) (5 - l) = b := fun g hg => by
        rcases (show l = 0 ∨ l = 1 by omega) with rfl | rfl
        · rw [rs_t (by decide), hg]
          show fr (gd (x 3 ^^^ gm (x 1) (fr a 1)) (x 0)) 5 = b
          rw [k1, Nat.xor_comm (gm (x 1) (fr a 1)), x2, gd_of (hx _) hb hne, fr_5 b hb]
        · rw [rs_f (by decide)]
          show fr (gd (x 4) (x 1)) (5 - 1) = b
          rw [k2, gd_of (hx _) (fr_lt hb _) hne, fr_back hb (by omega)]
      have e1 : fdv x 2 l f 1 = up (up f 1 0) 0 a := by
        show up (up f 1 0) 0 (fr (gd (rs x 2 l (up f 1 0) 0) (x l)) (5 - l)) = _
        rw [h0]
      have e2 : fdv x 2 l f 2 = up (up (up f 1 0) 0 a) 1 b := by
        show up (fdv x 2 l f 1) 1 (fr (gd (rs x 2 l (fdv x 2 l f 1) 1) (x l)) (5 - l)) = _
        rw [e1, h1 _ (up_s _ _ _)]
      rw [e2]
      exact ⟨by rw [up_n _ _ (by decide), up_s], up_s _ _ _⟩
/-- a message within the radius gives a solution -/
theorem has_sol {w : Nat → Nat} {kk a b : Nat} (hk : kk = 1 ∨ kk = 2) (hw : b32 w) (hn : nr kk w a b) : ∃ x, b32 x ∧ es w kk x ∧ ∃ c, c < 7 - kk ∧ ¬ x c = 0 := by
  obtain ⟨ha, hb, hb1, hrk⟩ := hn
  obtain ⟨v0, v1, vv, h0, h1, h2, hne, hv1, hann⟩ := ann (df_b32 hw a b) (Nat.le_trans hrk (by omega))
  have hvb : vv = 0 ∨ b = 0 := by
    rcases hk with q | q
    · exact Or.inr (hb1 q)
    · exact Or.inl (hv1 (by omega))
  have heq : ∀ i, i < 5 → ev v0 v1 vv (w i) = ev (gm v0 a) (gm v1 (fr a 1) ^^^ gm v0 b) (gm vv (fr a 2) ^^^ gm v1 (fr b 1)) (2 ^ i) := fun i hi => by
    have := hann i hi
    unfold df at this
    rw [ev_xor h0 h1 h2 (hw _) (vl_lt _ _ _)] at this
    rw [xe this, vl_ev, ev_comp h0 h1 h2 ha hb (p5 hi) hvb]
  rcases hk with rfl | rfl
  · refine ⟨fun c => if c = 0 then v0 else if c = 1 then v1 else if c = 2 then vv else if c = 3 then gm v0 a else if c = 4 then gm v1 (fr a 1) ^^^ gm v0 b else if c = 5 then gm vv (fr a 2) ^^^ gm v1 (fr b 1) else 0, ?_, fun i hi => heq i hi, ?_⟩
    · intro c
      dsimp only
      split
      · exact h0
      split
      · exact h1
      split
      · exact h2
      split
      · exact gm_lt _ _
      split
      · exact x_lt (gm_lt _ _) (gm_lt _ _)
      split
      · exact x_lt (gm_lt _ _) (gm_lt _ _)
      · decide
    · by_cases e0 : v0 = 0
      · by_cases e1 : v1 = 0
        · exact ⟨2, by decide, fun q => hne ⟨e0, e1, q⟩⟩
        · exact ⟨1, by decide, e1⟩
      · exact ⟨0, by decide, e0⟩
  · have hvz : vv = 0 := hv1 (by omega)
    subst hvz
    refine ⟨fun c => if c = 0 then v0 else if c = 1 then v1 else if c = 2 then gm v0 a else if c = 3 then gm v1 (fr a 1) ^^^ gm v0 b else if c = 4 then gm 0 (fr a 2) ^^^ gm v1 (fr b 1) else 0, ?_, fun i hi => heq i hi, ?_⟩
    · intro c
      dsimp only
      split
      · exact h0
      split
      · exact h1
      split
      · exact gm_lt _ _
      split
      · exact x_lt (gm_lt _ _) (gm_lt _ _)
      split
      · exact x_lt (gm_lt _ _) (gm_lt _ _)
      · decide
    · by_cases e0 : v0 = 0
      · exact ⟨1, by decide, fun q => hne ⟨e0, q, rfl⟩⟩
      · exact ⟨0, by decide, e0⟩
/-- ONE message within the radius -/
theorem nr_uniq {w : Nat → Nat} {kk a b a' b' : Nat} (hk : kk = 1 ∨ kk = 2) (hw : b32 w) (h1 : nr kk w a b) (h2 : nr kk w a' b') : a = a' ∧ b = b' := by
  obtain ⟨x, hx, hs, hnz⟩ := has_sol hk hw h1
  obtain ⟨l, e1, e2, e3⟩ := quot (f := fun _ => 0) hk hw hx hs hnz h1
  obtain ⟨l', g1, g2, g3⟩ := quot (f := fun _ => 0) hk hw hx hs hnz h2
  have : l = l' := by omega
  subst this
  exact ⟨e2.symm.trans g2, e3.symm.trans g3⟩
/-- decode: no solution -/
theorem dec_none {c w pv : Nat → Nat} {kk : Nat} (hk : kk = 1 ∨ kk = 2) (hc : b32 c) (hw : b32 w) (hf : (slv pv (eqa c w kk 5) (7 - kk)).2.1 = 0) : ∀ a b, ¬ nr kk w a b := by
  intro a b hn
  obtain ⟨x, hx, hs, y, hy, hne⟩ := has_sol hk hw hn
  exact hne (slv_none pv (eqa_b32 hc hw kk (by decide)) (by omega) hf hx ((sol_es hk).mpr hs) y hy)
/-- decode: the root's quotient -/
theorem dec_some {c w pv rt f : Nat → Nat} {kk fr0 a b : Nat} (hk : kk = 1 ∨ kk = 2) (hc : b32 c) (hw : b32 w) (hrt : b32 rt) (hf : (slv pv (eqa c w kk 5) (7 - kk)).2.1 = fr0 + 1) (hn : nr kk w a b) :
    ∃ l, lo (rP (up (ov rt (rtF (slv pv (eqa c w kk 5) (7 - kk)).2.2.1 (slv pv (eqa c w kk 5) (7 - kk)).2.2.2 fr0) (7 - kk)) fr0 1)) 0 (4 - kk) = l + 1 ∧ fdv (up (ov rt (rtF (slv pv (eqa c w kk 5) (7 - kk)).2.2.1 (slv pv (eqa c w kk 5) (7 - kk)).2.2.2 fr0) (7 - kk)) fr0 1) kk l f kk 0 = a ∧ fdv (up (ov rt (rtF (slv pv (eqa c w kk 5) (7 - kk)).2.2.1 (slv pv (eqa c w kk 5) (7 - kk)).2.2.2 fr0) (7 - kk)) fr0 1) kk l f kk 1 = b := by
  have hb := eqa_b32 hc hw kk (n := 5) (by decide)
  obtain ⟨h1, h2⟩ := slv_root pv hb (n := 7 - kk) (by omega) hf hrt
  have hx : b32 (up (ov rt (rtF (slv pv (eqa c w kk 5) (7 - kk)).2.2.1 (slv pv (eqa c w kk 5) (7 - kk)).2.2.2 fr0) (7 - kk)) fr0 1) := up_b32 (ov_b32 hrt (rtF_b32 _ (slv_ok pv hb _).2.2.2 _) _) _ (by decide)
  exact quot hk hw hx ((sol_es hk).mp h2) ⟨fr0, h1, by rw [up_s]; decide⟩ hn
end
section
set_option maxRecDepth 100000
def cOK (u : CS) : Prop := b32 u.1 ∧ b32 u.2.1 ∧ b32 u.2.2.1 ∧ b32 u.2.2.2.2.1 ∧ b32 u.2.2.2.2.2
theorem fdv_1 {r f : Nat → Nat} {kk w : Nat} (hk : kk = 1) : fdv r kk w f kk 1 = 0 := by
  subst hk
  show up (up f 1 0) 0 _ 1 = 0
  rw [up_n _ _ (by decide), up_s]
theorem nI1_0 : ¬ nI 1 = 0 := by decide +kernel
abbrev rmX1_decode : Room := { frames := 4, cells := 0, slots := 0, locals := 96 }
theorem hdX1_decode : yX1_decode.cls = RX1 ∧ yX1_decode.cls ≠ "java/lang/invoke/MethodHandle" ∧ yX1_decode.cls ≠ "java/lang/invoke/VarHandle" ∧ (parseMethodDescriptor yX1_decode.desc).map (fun d => d.parameters.length) = some 0 := by decide +kernel
theorem lkX1_decode : GoodIn lw_all (wsV RX1 98 RX1 yX1_decode (ws_ yX1_decode cX1_decode 4 (some .boolean))) := lw_V q136 q138 qs6 q28 q139
set_option maxHeartbeats 4000000 in
set_option maxRecDepth 100000 in
/-- decode -/
theorem kX1_decode (l : Launch) (D : va_G) (h : Nat) (q : Nat → Nat) (dA : ClassId) (kk : Nat) (u : CS)  (hk : kk = 1 ∨ kk = 2) (hu : cOK u) : cMi l yX1_decode (ws_ yX1_decode cX1_decode 4 (some .boolean)) rmX1_decode D h q dA kk [] u (fun r u' => ((r = nI 1 ∧ nr kk u.1 (u'.2.2.2.2.2 0) (u'.2.2.2.2.2 1)) ∨ (r = nI 0 ∧ ∀ a b, ¬ nr kk u.1 a b)) ∧ u'.1 = u.1 ∧ cOK u') := by
  refine cMi_of (lv := [(0, .ref h)]) (by decide) rfl (Nat.le_of_ble_eq_true rfl) rfl ?_
  intro p e s m args below meth c A Q ls hC hI hl hret
  obtain ⟨o1, o2, o3, o4, o5⟩ := id hu
  refine lv_iconst (v := (nI 0)) hC.1.1 hC.1.2.1 dX1_decode_0 (by decide +kernel) ?_
  refine lv_istore_n (lv' := [(1, .int (nI 0)), (0, .ref h)]) hC.1.1 hC.1.2.1 dX1_decode_1 rfl hl (by decide) rfl (fun ls hl => ?_)
  have lp2 : ∀ (n : Nat) (i : Nat) (u2 : CS) (H : Heap) (locs : List Loc) (ls : Array Slot), i ≤ 5 → 5 < i + n → u2.2.2.1 = eqa u.2.2.1 u.1 kk i → u2.1 = u.1 → u2.2.1 = u.2.1 → u2.2.2.2 = u.2.2.2 → cI D h q dA kk A s.heap u2 H locs → lv_has ls 4 [(1, .int (nI i)), (0, .ref h)] → W p l e rmX1_decode s m args below meth c H locs 0 0 Q (F0 m 2 ls []) := by
    intro n
    induction n with
    | zero => intro i u2 H locs ls hi hn hu1 hu2 hu3 hu4; exfalso; omega
    | succ n ih =>
      intro i u2 H locs ls hi hn hu1 hu2 hu3 hu4 hI hl
      have ih2 := ih
      clear ih
      refine lv_iload_n hC.1.1 hC.1.2.1 dX1_decode_2 rfl (lv_at hl 0 rfl) ?_
      refine lv_iconst (v := (nI 5)) hC.1.1 hC.1.2.1 dX1_decode_3 (by decide +kernel) ?_
      refine n_icmp_ge hC.1 (tgt := 18) dX1_decode_4 (by decide) (fun c4 => ?_) (fun c4 => ?_)
      · have hi5 : i = 5 := by omega
        refine lv_aload_n hC.1.1 hC.1.2.1 dX1_decode_18 rfl (lv_at hl 1 rfl) ?_
        refine c_calli (rest := []) hC hI (kX1_solve l D h q dA kk u2 hk (by rw [hu1]; exact eqa_b32 o3 o1 kk hi) (by rw [hu4]; exact o4)) lkX1_solve hdX1_solve ⟨rfl, rfl⟩ ⟨Nat.le_of_ble_eq_true rfl, Nat.le_of_ble_eq_true rfl⟩ rfl hl.1 rfl (Nat.le_of_ble_eq_true rfl) ⟨Nat.le_of_ble_eq_true rfl, Nat.le_of_ble_eq_true rfl⟩ dX1_decode_19 (fun r19 v19 H locs hp19 hI => ?_)
        obtain ⟨hSv, v19_0, v19_1, v19_2, v19_3, v19_4⟩ := hp19
        refine lv_istore_n (lv' := [(1, .int r19), (0, .ref h)]) hC.1.1 hC.1.2.1 dX1_decode_22 rfl hl (by decide) rfl (fun ls hl => ?_)
        refine lv_iload_n hC.1.1 hC.1.2.1 dX1_decode_23 rfl (lv_at hl 0 rfl) ?_
        refine lv_if_ne hC.1.1 hC.1.2.1 (tgt := 29) dX1_decode_24 (by decide) (fun c24 => ?_) (fun c24 => ?_)
        · obtain ⟨f0, hf1, hrt⟩ : ∃ f0, (slv u.2.2.2.1 (eqa u.2.2.1 u.1 kk 5) (7 - kk)).2.1 = f0 + 1 ∧ v19.2.2.2.2.1 = up (ov u.2.2.2.2.1 (rtF (slv u.2.2.2.1 (eqa u.2.2.1 u.1 kk 5) (7 - kk)).2.2.1 (slv u.2.2.2.1 (eqa u.2.2.1 u.1 kk 5) (7 - kk)).2.2.2 f0) (7 - kk)) f0 1 := by
            rw [hu1, hu4, hi5] at hSv
            rcases hSv with ⟨-, e⟩ | ⟨f0, e1, -, e2⟩
            · exact absurd (e.trans nI_0) c24
            · exact ⟨f0, e1, e2⟩
          have hds : ∀ a b, nr kk u.1 a b → ∃ l, lo (rP v19.2.2.2.2.1) 0 (4 - kk) = l + 1 ∧ fdv v19.2.2.2.2.1 kk l v19.2.2.2.2.2 kk 0 = a ∧ fdv v19.2.2.2.2.1 kk l v19.2.2.2.2.2 kk 1 = b := fun a b hn => by rw [hrt]; exact dec_some hk o3 o1 o4 hf1 hn
          refine lv_aload_n hC.1.1 hC.1.2.1 dX1_decode_29 rfl (lv_at hl 1 rfl) ?_
          refine c_calli (rest := []) hC hI (kX1_divide l D h q dA kk v19 hk v19_4 (by rw [v19_2, hu4]; exact o5)) lkX1_divide hdX1_divide ⟨rfl, rfl⟩ ⟨Nat.le_of_ble_eq_true rfl, Nat.le_of_ble_eq_true rfl⟩ rfl hl.1 rfl (Nat.le_of_ble_eq_true rfl) ⟨Nat.le_of_ble_eq_true rfl, Nat.le_of_ble_eq_true rfl⟩ dX1_decode_30 (fun r30 v30 H locs hp30 hI => ?_)
          refine lv_istore_n (lv' := [(2, .int r30), (1, .int r19), (0, .ref h)]) hC.1.1 hC.1.2.1 dX1_decode_33 rfl hl (by decide) rfl (fun ls hl => ?_)
          refine lv_iload_n hC.1.1 hC.1.2.1 dX1_decode_34 rfl (lv_at hl 0 rfl) ?_
          refine lv_if_ne hC.1.1 hC.1.2.1 (tgt := 40) dX1_decode_35 (by decide) (fun c35 => ?_) (fun c35 => ?_)
          · obtain ⟨w, hlw, hfd, d1, d2, d3, d4⟩ : ∃ w, lo (rP v19.2.2.2.2.1) 0 (4 - kk) = w + 1 ∧ v30.2.2.2.2.2 = fdv v19.2.2.2.2.1 kk w v19.2.2.2.2.2 kk ∧ v30.1 = v19.1 ∧ v30.2.1 = v19.2.1 ∧ v30.2.2.1 = v19.2.2.1 ∧ v30.2.2.2.2.1 = v19.2.2.2.2.1 := by
              rcases hp30 with ⟨-, e, -⟩ | ⟨w, e1, -, e2⟩
              · exact absurd (e.trans nI_0) c35
              · exact ⟨w, e1, e2⟩
            have hfb : b32 v30.2.2.2.2.2 := by rw [hfd]; exact fdv_b32 (by rw [v19_2, hu4]; exact o5) _ _ _
            have hwd : v30.1 = u.1 := by rw [d1, v19_0, hu2]
            have hk1 : kk = 1 → v30.2.2.2.2.2 1 = 0 := fun e => by rw [hfd]; exact fdv_1 e
            refine lv_aload_n hC.1.1 hC.1.2.1 dX1_decode_40 rfl (lv_at hl 2 rfl) ?_
            refine lv_aload_n hC.1.1 hC.1.2.1 dX1_decode_41 rfl (lv_at hl 2 rfl) ?_
            refine c_get_found hC hI dX1_decode_42 ?_
            refine lv_iconst (v := (nI 0)) hC.1.1 hC.1.2.1 dX1_decode_45 (by decide +kernel) ?_
            refine c_ld_found hC hI dX1_decode_46 ?_
            refine lv_aload_n hC.1.1 hC.1.2.1 dX1_decode_47 rfl (lv_at hl 2 rfl) ?_
            refine c_get_found hC hI dX1_decode_48 ?_
            refine lv_iconst (v := (nI 1)) hC.1.1 hC.1.2.1 dX1_decode_51 (by decide +kernel) ?_
            refine c_ld_found hC hI dX1_decode_52 ?_
            refine c_calli (rest := []) hC hI (kX1_distance l D h q dA kk v30 ((nI (v30.2.2.2.2.2 0))) ((nI (v30.2.2.2.2.2 1))) hk (by rw [hwd]; exact o1) (by rw [d2, v19_1, hu3]; exact o2)) lkX1_distance hdX1_distance ⟨rfl, rfl⟩ ⟨Nat.le_of_ble_eq_true rfl, Nat.le_of_ble_eq_true rfl⟩ rfl hl.1 rfl (Nat.le_of_ble_eq_true rfl) ⟨Nat.le_of_ble_eq_true rfl, Nat.le_of_ble_eq_true rfl⟩ dX1_decode_53 (fun r53 v53 H locs hp53 hI => ?_)
            obtain ⟨rfl, v53_0, v53_1, v53_2⟩ := hp53
            refine n_top (y := (nI (rkC (df v30.1 (v30.2.2.2.2.2 0) (v30.2.2.2.2.2 1))))) (sDist_n (hfb _) (hfb _) hk1) ?_
            refine lv_istore_n (lv' := [(3, .int (nI (rkC (df v30.1 (v30.2.2.2.2.2 0) (v30.2.2.2.2.2 1))))), (2, .int r30), (1, .int r19), (0, .ref h)]) hC.1.1 hC.1.2.1 dX1_decode_56 rfl hl (by decide) rfl (fun ls hl => ?_)
            refine lv_iload_n hC.1.1 hC.1.2.1 dX1_decode_57 rfl (lv_at hl 0 rfl) ?_
            refine lv_aload_n hC.1.1 hC.1.2.1 dX1_decode_58 rfl (lv_at hl 3 rfl) ?_
            refine c_get_t hC hI dX1_decode_59 ?_
            refine n_icmp_gt hC.1 (tgt := 69) dX1_decode_62 (by decide) (fun c62 => ?_) (fun c62 => ?_) (Nat.lt_of_le_of_lt (dst_le _ 5) (by decide)) (by omega)
            · refine lv_iconst (v := (nI 0)) hC.1.1 hC.1.2.1 dX1_decode_69 (by decide +kernel) ?_
              exact hret _ _ _ _ _ _ dX1_decode_70 rfl ⟨Or.inr ⟨rfl, fun a b hn => by obtain ⟨l, e, ea, eb⟩ := hds a b hn; rw [hwd, rkC_rkM (df_b32 o1 _ _)] at c62; have el : w = l := (by omega); subst el; rw [← hfd] at ea eb; rw [ea, eb] at c62; have := hn.2.2.2; omega⟩, by rw [v53_0, hwd], ⟨by rw [v53_0, hwd]; exact o1, v53_2, by rw [v53_1, d3]; exact v19_3, by rw [v53_1, d4]; exact v19_4, by rw [v53_1]; exact hfb⟩⟩ hI
            · refine lv_iconst (v := (nI 1)) hC.1.1 hC.1.2.1 dX1_decode_65 (by decide +kernel) ?_
              refine lv_goto (tgt := 70) hC.1.1 hC.1.2.1 dX1_decode_66 (by decide) ?_
              exact hret _ _ _ _ _ _ dX1_decode_70 rfl ⟨Or.inl ⟨rfl, by rw [v53_1]; refine ⟨hfb _, hfb _, hk1, ?_⟩; rw [hwd, rkC_rkM (df_b32 o1 _ _)] at c62; exact c62⟩, by rw [v53_0, hwd], ⟨by rw [v53_0, hwd]; exact o1, v53_2, by rw [v53_1, d3]; exact v19_3, by rw [v53_1, d4]; exact v19_4, by rw [v53_1]; exact hfb⟩⟩ hI
          · obtain ⟨hl0, hvv⟩ : lo (rP v19.2.2.2.2.1) 0 (4 - kk) = 0 ∧ v19 = v30 := by
              rcases hp30 with ⟨e, -, e2⟩ | ⟨w, -, e, -⟩
              · exact ⟨e, e2⟩
              · exact absurd (e.symm.trans c35) nI1_0
            subst hvv
            refine lv_iconst (v := (nI 0)) hC.1.1 hC.1.2.1 dX1_decode_38 (by decide +kernel) ?_
            exact hret _ _ _ _ _ _ dX1_decode_39 rfl ⟨Or.inr ⟨rfl, fun a b hn => by obtain ⟨l, e, -, -⟩ := hds a b hn; omega⟩, by rw [v19_0, hu2], ⟨by rw [v19_0, hu2]; exact o1, by rw [v19_1, hu3]; exact o2, v19_3, v19_4, by rw [v19_2, hu4]; exact o5⟩⟩ hI
        · have hf0 : (slv u.2.2.2.1 (eqa u.2.2.1 u.1 kk 5) (7 - kk)).2.1 = 0 := by
            rw [hu1, hu4, hi5] at hSv
            rcases hSv with ⟨e, -⟩ | ⟨f0, -, e, -⟩
            · exact e
            · exact absurd (e.symm.trans c24) nI1_0
          refine lv_iconst (v := (nI 0)) hC.1.1 hC.1.2.1 dX1_decode_27 (by decide +kernel) ?_
          exact hret _ _ _ _ _ _ dX1_decode_28 rfl ⟨Or.inr ⟨rfl, dec_none hk o3 o1 hf0⟩, by rw [v19_0, hu2], ⟨by rw [v19_0, hu2]; exact o1, by rw [v19_1, hu3]; exact o2, v19_3, v19_4, by rw [v19_2, hu4]; exact o5⟩⟩ hI
      · refine lv_aload_n hC.1.1 hC.1.2.1 dX1_decode_7 rfl (lv_at hl 1 rfl) ?_
        refine lv_iload_n hC.1.1 hC.1.2.1 dX1_decode_8 rfl (lv_at hl 0 rfl) ?_
        refine c_callv (rest := []) hC hI (kX1_equation l D h q dA kk u2 i hk (by omega) (by rw [hu2]; exact o1)) lkX1_equation hdX1_equation ⟨rfl, rfl⟩ ⟨Nat.le_of_ble_eq_true rfl, Nat.le_of_ble_eq_true rfl⟩ rfl hl.1 rfl (Nat.le_of_ble_eq_true rfl) ⟨Nat.le_of_ble_eq_true rfl, Nat.le_of_ble_eq_true rfl⟩ dX1_decode_9 (fun v9 H locs hp9 hI => ?_)
        obtain ⟨v9_0, v9_1, v9_2, v9_3⟩ := hp9
        refine lv_iinc (v := (nI (i + 1))) (lv' := [(1, .int (nI (i + 1))), (0, .ref h)]) hC.1.1 hC.1.2.1 dX1_decode_12 hl (k := 0) rfl (ni_inc i) (by decide) rfl (fun ls hl => ?_)
        refine lv_goto (tgt := 2) hC.1.1 hC.1.2.1 dX1_decode_15 (by decide) ?_
        exact ih2 (i + 1) v9 _ _ _ (by omega) (by omega) (by rw [v9_0, hu1, hu2, eqa_s]) (by rw [v9_1, hu2]) (by rw [v9_2, hu3]) (by rw [v9_3, hu4]) hI (lv_sub hl [0, 1] rfl)
  exact lp2 (6) 0 u _ _ _ (by omega) (by omega) (eqa_0 _ _ _).symm rfl rfl rfl hI (lv_sub hl [0, 1] rfl)
abbrev rmX1_errors : Room := { frames := 5, cells := 0, slots := 0, locals := 119 }
theorem hdX1_errors : yX1_errors.cls = RX1 ∧ yX1_errors.cls ≠ "java/lang/invoke/MethodHandle" ∧ yX1_errors.cls ≠ "java/lang/invoke/VarHandle" ∧ (parseMethodDescriptor yX1_errors.desc).map (fun d => d.parameters.length) = some 0 := by decide +kernel
theorem lkX1_errors : GoodIn lw_all (wsV RX1 101 RX1 yX1_errors (ws_ yX1_errors cX1_errors 2 (some .int))) := lw_V q180 q133 q134 q28 q135
set_option maxHeartbeats 4000000 in
set_option maxRecDepth 100000 in
/-- errors -/
theorem kX1_errors (l : Launch) (D : va_G) (h : Nat) (q : Nat → Nat) (dA : ClassId) (kk : Nat) (u : CS)  (hk : kk = 1 ∨ kk = 2) (hu : cOK u) : cMi l yX1_errors (ws_ yX1_errors cX1_errors 2 (some .int)) rmX1_errors D h q dA kk [] u (fun r u' => ((nr kk u.1 (u'.2.2.2.2.2 0) (u'.2.2.2.2.2 1) ∧ r = nI (rkM (df u.1 (u'.2.2.2.2.2 0) (u'.2.2.2.2.2 1)))) ∨ ((∀ a b, ¬ nr kk u.1 a b) ∧ r = (-4))) ∧ u'.1 = u.1 ∧ cOK u') := by
  refine cMi_of (lv := [(0, .ref h)]) (by decide) rfl (Nat.le_of_ble_eq_true rfl) rfl ?_
  intro p e s m args below meth c A Q ls hC hI hl hret
  obtain ⟨o1, o2, o3, o4, o5⟩ := id hu
  refine lv_aload_n hC.1.1 hC.1.2.1 dX1_errors_0 rfl (lv_at hl 0 rfl) ?_
  refine c_calli (rest := []) hC hI (kX1_decode l D h q dA kk u hk hu) lkX1_decode hdX1_decode ⟨rfl, rfl⟩ ⟨Nat.le_of_ble_eq_true rfl, Nat.le_of_ble_eq_true rfl⟩ rfl hl.1 rfl (Nat.le_of_ble_eq_true rfl) ⟨Nat.le_of_ble_eq_true rfl, Nat.le_of_ble_eq_true rfl⟩ dX1_errors_1 (fun r1 v1 H locs hp1 hI => ?_)
  obtain ⟨hDc, v1_0, v1_1⟩ := hp1
  refine lv_istore_n (lv' := [(1, .int r1), (0, .ref h)]) hC.1.1 hC.1.2.1 dX1_errors_4 rfl hl (by decide) rfl (fun ls hl => ?_)
  refine lv_iload_n hC.1.1 hC.1.2.1 dX1_errors_5 rfl (lv_at hl 0 rfl) ?_
  refine lv_if_eq hC.1.1 hC.1.2.1 (tgt := 28) dX1_errors_6 (by decide) (fun c6 => ?_) (fun c6 => ?_)
  · have hno := (hDc.resolve_left (fun z => nI1_0 (z.1.symm.trans c6))).2
    refine lv_bipush (v := ((-4))) hC.1.1 hC.1.2.1 dX1_errors_28 (by decide +kernel) ?_
    exact hret _ _ _ _ _ _ dX1_errors_30 rfl ⟨Or.inr ⟨hno, rfl⟩, v1_0, v1_1⟩ hI
  · have hnr := hDc.resolve_right (fun z => c6 (z.1.trans nI_0))
    replace hnr := hnr.2
    obtain ⟨w1, w2, w3, w4, w5⟩ := id v1_1
    refine lv_aload_n hC.1.1 hC.1.2.1 dX1_errors_9 rfl (lv_at hl 1 rfl) ?_
    refine lv_aload_n hC.1.1 hC.1.2.1 dX1_errors_10 rfl (lv_at hl 1 rfl) ?_
    refine c_get_found hC hI dX1_errors_11 ?_
    refine lv_iconst (v := (nI 0)) hC.1.1 hC.1.2.1 dX1_errors_14 (by decide +kernel) ?_
    refine c_ld_found hC hI dX1_errors_15 ?_
    refine lv_aload_n hC.1.1 hC.1.2.1 dX1_errors_16 rfl (lv_at hl 1 rfl) ?_
    refine c_get_found hC hI dX1_errors_17 ?_
    refine lv_iconst (v := (nI 1)) hC.1.1 hC.1.2.1 dX1_errors_20 (by decide +kernel) ?_
    refine c_ld_found hC hI dX1_errors_21 ?_
    refine c_calli (rest := []) hC hI (kX1_distance l D h q dA kk v1 ((nI (v1.2.2.2.2.2 0))) ((nI (v1.2.2.2.2.2 1))) hk w1 w2) lkX1_distance hdX1_distance ⟨rfl, rfl⟩ ⟨Nat.le_of_ble_eq_true rfl, Nat.le_of_ble_eq_true rfl⟩ rfl hl.1 rfl (Nat.le_of_ble_eq_true rfl) ⟨Nat.le_of_ble_eq_true rfl, Nat.le_of_ble_eq_true rfl⟩ dX1_errors_22 (fun r22 v22 H locs hp22 hI => ?_)
    obtain ⟨rfl, v22_0, v22_1, v22_2⟩ := hp22
    refine n_top (y := (nI (rkM (df v1.1 (v1.2.2.2.2.2 0) (v1.2.2.2.2.2 1))))) (by rw [sDist_n hnr.1 hnr.2.1 hnr.2.2.1, rkC_rkM (df_b32 w1 _ _)]) ?_
    refine lv_goto (tgt := 30) hC.1.1 hC.1.2.1 dX1_errors_25 (by decide) ?_
    exact hret _ _ _ _ _ _ dX1_errors_30 rfl ⟨Or.inl ⟨by rw [v22_1]; exact hnr, by rw [v22_1, v1_0]⟩, by rw [v22_0, v1_0], ⟨by rw [v22_0]; exact w1, v22_2, by rw [v22_1]; exact w3, by rw [v22_1]; exact w4, by rw [v22_1]; exact w5⟩⟩ hI
abbrev rmX1_message : Room := { frames := 5, cells := 0, slots := 0, locals := 119 }
theorem hdX1_message : yX1_message.cls = RX1 ∧ yX1_message.cls ≠ "java/lang/invoke/MethodHandle" ∧ yX1_message.cls ≠ "java/lang/invoke/VarHandle" ∧ (parseMethodDescriptor yX1_message.desc).map (fun d => d.parameters.length) = some 1 := by decide +kernel
set_option maxHeartbeats 4000000 in
set_option maxRecDepth 100000 in
/-- message -/
theorem kX1_message (l : Launch) (D : va_G) (h : Nat) (q : Nat → Nat) (dA : ClassId) (kk : Nat) (u : CS) (x : Int32) (hk : kk = 1 ∨ kk = 2) (hu : cOK u) : cMi l yX1_message (ws_ yX1_message cX1_message 3 (some .int)) rmX1_message D h q dA kk [.int x] u (fun r u' => MR kk u.1 x r ∧ u'.1 = u.1 ∧ cOK u') := by
  refine cMi_of (lv := [(0, .ref h), (1, .int x)]) (by decide) rfl (Nat.le_of_ble_eq_true rfl) rfl ?_
  intro p e s m args below meth c A Q ls hC hI hl hret
  refine lv_iload_n hC.1.1 hC.1.2.1 dX1_message_0 rfl (lv_at hl 1 rfl) ?_
  refine lv_if_lt hC.1.1 hC.1.2.1 (tgt := 12) dX1_message_1 (by decide) (fun c1 => ?_) (fun c1 => ?_)
  · refine lv_iconst (v := (pI 0)) hC.1.1 hC.1.2.1 dX1_message_12 (by decide +kernel) ?_
    exact hret _ _ _ _ _ _ dX1_message_13 rfl ⟨Or.inl ⟨by first | exact Or.inl c1 | exact Or.inr c9, rfl⟩, rfl, hu⟩ hI
  · refine lv_iload_n hC.1.1 hC.1.2.1 dX1_message_4 rfl (lv_at hl 1 rfl) ?_
    refine lv_aload_n hC.1.1 hC.1.2.1 dX1_message_5 rfl (lv_at hl 0 rfl) ?_
    refine c_get_k hC hI dX1_message_6 ?_
    refine lv_icmp_lt hC.1.1 hC.1.2.1 (tgt := 14) dX1_message_9 (by decide) (fun c9 => ?_) (fun c9 => ?_)
    · refine lv_aload_n hC.1.1 hC.1.2.1 dX1_message_14 rfl (lv_at hl 0 rfl) ?_
      refine c_calli (rest := []) hC hI (kX1_decode l D h q dA kk u hk hu) lkX1_decode hdX1_decode ⟨rfl, rfl⟩ ⟨Nat.le_of_ble_eq_true rfl, Nat.le_of_ble_eq_true rfl⟩ rfl hl.1 rfl (Nat.le_of_ble_eq_true rfl) ⟨Nat.le_of_ble_eq_true rfl, Nat.le_of_ble_eq_true rfl⟩ dX1_message_15 (fun r15 v15 H locs hp15 hI => ?_)
      obtain ⟨hDc, v15_0, v15_1⟩ := hp15
      refine lv_istore_n (lv' := [(2, .int r15), (0, .ref h), (1, .int x)]) hC.1.1 hC.1.2.1 dX1_message_18 rfl hl (by decide) rfl (fun ls hl => ?_)
      refine lv_iload_n hC.1.1 hC.1.2.1 dX1_message_19 rfl (lv_at hl 0 rfl) ?_
      refine lv_if_eq hC.1.1 hC.1.2.1 (tgt := 32) dX1_message_20 (by decide) (fun c20 => ?_) (fun c20 => ?_)
      · have hno := (hDc.resolve_left (fun z => nI1_0 (z.1.symm.trans c20))).2
        refine lv_bipush (v := ((-4))) hC.1.1 hC.1.2.1 dX1_message_32 (by decide +kernel) ?_
        exact hret _ _ _ _ _ _ dX1_message_34 rfl ⟨Or.inr ⟨fun q => q.elim c1 (fun z => z c9), Or.inr ⟨hno, rfl⟩⟩, v15_0, v15_1⟩ hI
      · have hnr := hDc.resolve_right (fun z => c20 (z.1.trans nI_0))
        replace hnr := hnr.2
        obtain ⟨w1, w2, w3, w4, w5⟩ := id v15_1
        obtain ⟨j, hj, rfl⟩ : ∃ j, j < kk ∧ x = nI j := by
          obtain ⟨j, hj, e⟩ := nI_of c1
          exact ⟨j, (nI_ltI hj (by omega)).mp (by rw [← e]; exact c9), e⟩
        refine lv_aload_n hC.1.1 hC.1.2.1 dX1_message_23 rfl (lv_at hl 1 rfl) ?_
        refine c_get_found hC hI dX1_message_24 ?_
        refine lv_iload_n hC.1.1 hC.1.2.1 dX1_message_27 rfl (lv_at hl 2 rfl) ?_
        refine c_ld_found hC hI dX1_message_28 ?_
        refine lv_goto (tgt := 34) hC.1.1 hC.1.2.1 dX1_message_29 (by decide) ?_
        exact hret _ _ _ _ _ _ dX1_message_34 rfl ⟨Or.inr ⟨fun q => q.elim c1 (fun z => z c9), Or.inl ⟨_, _, hnr, by rcases (show j = 0 ∨ j = 1 by omega) with e | e <;> subst e <;> rfl⟩⟩, v15_0, v15_1⟩ hI
    · refine lv_iconst (v := (pI 0)) hC.1.1 hC.1.2.1 dX1_message_12 (by decide +kernel) ?_
      exact hret _ _ _ _ _ _ dX1_message_13 rfl ⟨Or.inl ⟨by first | exact Or.inl c1 | exact Or.inr c9, rfl⟩, rfl, hu⟩ hI
abbrev rmX1_correct : Room := { frames := 6, cells := 0, slots := 0, locals := 140 }
theorem hdX1_correct : yX1_correct.cls = RX1 ∧ yX1_correct.cls ≠ "java/lang/invoke/MethodHandle" ∧ yX1_correct.cls ≠ "java/lang/invoke/VarHandle" ∧ (parseMethodDescriptor yX1_correct.desc).map (fun d => d.parameters.length) = some 0 := by decide +kernel
set_option maxHeartbeats 4000000 in
set_option maxRecDepth 100000 in
/-- correct -/
theorem kX1_correct (l : Launch) (D : va_G) (h : Nat) (q : Nat → Nat) (dA : ClassId) (kk : Nat) (u : CS)  (hk : kk = 1 ∨ kk = 2) (hu : cOK u) : cMi l yX1_correct (ws_ yX1_correct cX1_correct 2 (some .int)) rmX1_correct D h q dA kk [] u (fun r u' => CR kk u.1 r u'.1 ∧ cOK u') := by
  refine cMi_of (lv := [(0, .ref h)]) (by decide) rfl (Nat.le_of_ble_eq_true rfl) rfl ?_
  intro p e s m args below meth c A Q ls hC hI hl hret
  refine lv_aload_n hC.1.1 hC.1.2.1 dX1_correct_0 rfl (lv_at hl 0 rfl) ?_
  refine c_calli (rest := []) hC hI (kX1_errors l D h q dA kk u hk hu) lkX1_errors hdX1_errors ⟨rfl, rfl⟩ ⟨Nat.le_of_ble_eq_true rfl, Nat.le_of_ble_eq_true rfl⟩ rfl hl.1 rfl (Nat.le_of_ble_eq_true rfl) ⟨Nat.le_of_ble_eq_true rfl, Nat.le_of_ble_eq_true rfl⟩ dX1_correct_1 (fun r1 v1 H locs hp1 hI => ?_)
  obtain ⟨hE, v1_0, v1_1⟩ := hp1
  refine lv_istore_n (lv' := [(1, .int r1), (0, .ref h)]) hC.1.1 hC.1.2.1 dX1_correct_4 rfl hl (by decide) rfl (fun ls hl => ?_)
  refine lv_iload_n hC.1.1 hC.1.2.1 dX1_correct_5 rfl (lv_at hl 0 rfl) ?_
  refine lv_if_lt hC.1.1 hC.1.2.1 (tgt := 26) dX1_correct_6 (by decide) (fun c6 => ?_) (fun c6 => ?_)
  · obtain ⟨hno, rfl⟩ := hE.resolve_left (fun z => by rw [z.2] at c6; exact nI_pos (Nat.lt_of_le_of_lt (rkM_le _) (by decide)) c6)
    refine lv_iload_n hC.1.1 hC.1.2.1 dX1_correct_26 rfl (lv_at hl 0 rfl) ?_
    exact hret _ _ _ _ _ _ dX1_correct_27 rfl ⟨Or.inr ⟨hno, rfl, v1_0⟩, v1_1⟩ hI
  · obtain ⟨hnr, rfl⟩ := hE.resolve_right (fun z => by rw [z.2] at c6; exact c6 (by decide +kernel))
    obtain ⟨w1, w2, w3, w4, w5⟩ := id v1_1
    refine lv_aload_n hC.1.1 hC.1.2.1 dX1_correct_9 rfl (lv_at hl 1 rfl) ?_
    refine lv_aload_n hC.1.1 hC.1.2.1 dX1_correct_10 rfl (lv_at hl 1 rfl) ?_
    refine c_get_found hC hI dX1_correct_11 ?_
    refine lv_iconst (v := (nI 0)) hC.1.1 hC.1.2.1 dX1_correct_14 (by decide +kernel) ?_
    refine c_ld_found hC hI dX1_correct_15 ?_
    refine lv_aload_n hC.1.1 hC.1.2.1 dX1_correct_16 rfl (lv_at hl 1 rfl) ?_
    refine c_get_found hC hI dX1_correct_17 ?_
    refine lv_iconst (v := (nI 1)) hC.1.1 hC.1.2.1 dX1_correct_20 (by decide +kernel) ?_
    refine c_ld_found hC hI dX1_correct_21 ?_
    refine c_calli (rest := []) hC hI (kX1_encode l D h q dA kk v1 ((nI (v1.2.2.2.2.2 0))) ((nI (v1.2.2.2.2.2 1))) hk) lkX1_encode hdX1_encode ⟨rfl, rfl⟩ ⟨Nat.le_of_ble_eq_true rfl, Nat.le_of_ble_eq_true rfl⟩ rfl hl.1 rfl (Nat.le_of_ble_eq_true rfl) ⟨Nat.le_of_ble_eq_true rfl, Nat.le_of_ble_eq_true rfl⟩ dX1_correct_22 (fun r22 v22 H locs hp22 hI => ?_)
    obtain ⟨rfl, v22_0, v22_1⟩ := hp22
    refine lv_pop hC.1.1 hC.1.2.1 dX1_correct_25 rfl ?_
    refine lv_iload_n hC.1.1 hC.1.2.1 dX1_correct_26 rfl (lv_at hl 0 rfl) ?_
    exact hret _ _ _ _ _ _ dX1_correct_27 rfl ⟨Or.inl ⟨_, _, hnr, rfl, by rw [v22_0, v1_0]; unfold wEnc; rw [bM_nI hnr.1 hnr.2.1 hnr.2.2.1, tN_nI hnr.1, tN_nI hnr.2.1]; rfl⟩, ⟨by rw [v22_0, v1_0]; unfold wEnc; rw [bM_nI hnr.1 hnr.2.1 hnr.2.2.1]; exact ov_b32 hu.1 (fun j => vl_lt _ _ _) _, by rw [v22_1]; exact w2, by rw [v22_1]; exact w3, by rw [v22_1]; exact w4, by rw [v22_1]; exact w5⟩⟩ hI
end
section
set_option maxRecDepth 100000
/-! chosen symbols: interpolation against trial; the census -/
def AG (kk : Nat) (w : Nat → Nat) (s : Nat) : Prop := ∃ a b, a < 32 ∧ b < 32 ∧ (kk = 1 → b = 0) ∧ ∀ i, i < 5 → s.testBit i = true → vl a b i = w i
theorem mt_iff (w : Nat → Nat) (a b z : Nat) : ∀ n, mt w a b z n = true ↔ ∀ i, i < n → z.testBit i = true → vl a b i = w i
  | 0 => ⟨fun _ i hi => by omega, fun _ => rfl⟩
  | n + 1 => by
    have ih := mt_iff w a b z n
    by_cases h : z.testBit n = true
    · rw [mt_t h, Bool.and_eq_true, ih, decide_eq_true_iff]
      constructor
      · rintro ⟨h1, h2⟩ i hi hz
        by_cases e : i = n
        · subst e; exact h2
        · exact h1 i (by omega) hz
      · intro g
        exact ⟨fun i hi => g i (by omega), g n (by omega) h⟩
    · rw [mt_f h, ih]
      constructor
      · intro g i hi hz
        by_cases e : i = n
        · subst e; exact absurd hz h
        · exact g i (by omega) hz
      · intro g i hi
        exact g i (by omega)
theorem cl_bit : ∀ s, s < 32 → ∀ i, i < 5 → ∀ j, j < 5 → (cl s i).testBit j = (s.testBit j && !decide (j = i)) := by decide +kernel
theorem p2_ne {i : Nat} (hi : i < 5) : ¬ 2 ^ i = 0 := (by decide : ∀ i, i < 5 → ¬ 2 ^ i = 0) i hi
theorem p2_x : ∀ i, i < 5 → ∀ j, j < 5 → ¬ i = j → ¬ 2 ^ i ^^^ 2 ^ j = 0 := by decide +kernel
/-- a symbol of a code word, over its point -/
theorem vl_pt {a b i : Nat} (ha : a < 32) (hb : b < 32) (hi : i < 5) : vl a b i = gm (a ^^^ gm b (2 ^ i)) (2 ^ i) := by
  rw [gm_xor' ha (gm_lt _ _) (p5 hi), gm_assoc hb (p5 hi) (p5 hi)]
  rfl
theorem vl_iff {a b i y : Nat} (ha : a < 32) (hb : b < 32) (hi : i < 5) (hy : y < 32) : vl a b i = y ↔ a ^^^ gm b (2 ^ i) = gd y (2 ^ i) := by
  rw [vl_pt ha hb hi]
  constructor
  · intro h
    rw [← h, gd_gm _ (x_lt ha (gm_lt _ _)) _ (p5 hi) (p2_ne hi)]
  · intro h
    rw [h, gm_gd y hy _ (p5 hi) (p2_ne hi)]
theorem xsw {a b c : Nat} (h : a ^^^ b = c) : a = c ^^^ b := by rw [← h, x2]
theorem ag_iff {kk : Nat} {w : Nat → Nat} {s : Nat} (hk : kk = 1 ∨ kk = 2) (hw : b32 w) (hs : s < 32) : ag kk w s = true ↔ AG kk w s := by
  cases hl : lo (zP s) 0 5 with
  | zero =>
    rw [ag_0 hl]
    refine ⟨fun _ => ⟨0, 0, by decide, by decide, fun _ => rfl, fun i hi hz => ?_⟩, fun _ => rfl⟩
    have := lo_0 _ _ _ hl i (by omega) (by omega)
    unfold zP at this
    rw [this] at hz
    cases hz
  | succ i =>
    obtain ⟨-, hi, hbi, -⟩ := lo_1 _ _ _ _ hl
    have hi : i < 5 := by omega
    have hbi : s.testBit i = true := hbi
    have clr : ∀ j, j < 5 → (cl s i).testBit j = true → s.testBit j = true := fun j hj h => by
      rw [cl_bit s hs i hi j hj, Bool.and_eq_true] at h
      exact h.1
    have cls : ∀ j, j < 5 → s.testBit j = true → ¬ j = i → (cl s i).testBit j = true := fun j hj h ne => by
      rw [cl_bit s hs i hi j hj, h, decide_eq_false ne]
      rfl
    have hui := gd_lt (w i) (2 ^ i)
    by_cases hk1 : kk = 1
    · rw [ag_1 hl hk1, mt_iff]
      constructor
      · intro h
        refine ⟨_, 0, hui, by decide, fun _ => rfl, fun j hj hz => ?_⟩
        by_cases e : j = i
        · subst e
          rw [vl_iff hui (by decide) hj (hw _), z_gm, Nat.xor_zero]
        · exact h j hj (cls j hj hz e)
      · rintro ⟨a, b, ha, hb, hb1, h⟩ j hj hz
        have hb0 := hb1 hk1
        subst hb0
        have e := (vl_iff ha hb hi (hw _)).mp (h i hi hbi)
        rw [z_gm, Nat.xor_zero] at e
        rw [← e]
        exact h j hj (clr j hj hz)
    · cases hl2 : lo (zP (cl s i)) 0 5 with
      | zero =>
        rw [ag_2 hl hk1 hl2]
        refine ⟨fun _ => ⟨_, 0, hui, by decide, fun _ => rfl, fun j hj hz => ?_⟩, fun _ => rfl⟩
        by_cases e : j = i
        · subst e
          rw [vl_iff hui (by decide) hj (hw _), z_gm, Nat.xor_zero]
        · have h1 := lo_0 _ _ _ hl2 j (by omega) (by omega)
          unfold zP at h1
          rw [cls j hj hz e] at h1
          cases h1
      | succ j =>
        obtain ⟨-, hj, hbj, -⟩ := lo_1 _ _ _ _ hl2
        have hj : j < 5 := by omega
        have hbj : (cl s i).testBit j = true := hbj
        have hij : ¬ i = j := fun e => by
          rw [← e, cl_bit s hs i hi i hi, decide_eq_true rfl, Bool.not_true, Bool.and_false] at hbj
          cases hbj
        have huj := gd_lt (w j) (2 ^ j)
        rw [ag_3 hl hk1 hl2, mt_iff]
        have hm := gd_lt (gd (w i) (2 ^ i) ^^^ gd (w j) (2 ^ j)) (2 ^ i ^^^ 2 ^ j)
        constructor
        · intro h
          refine ⟨_, _, x_lt hui (gm_lt (gd (gd (w i) (2 ^ i) ^^^ gd (w j) (2 ^ j)) (2 ^ i ^^^ 2 ^ j)) (2 ^ i)), hm, fun e => absurd e hk1, fun y hy hz => ?_⟩
          by_cases e : y = i
          · subst e
            rw [vl_iff (x_lt hui (gm_lt _ _)) hm hy (hw _), x2]
          · exact h y hy (cls y hy hz e)
        · rintro ⟨a, b, ha, hb, -, h⟩ y hy hz
          have e1 := (vl_iff ha hb hi (hw _)).mp (h i hi hbi)
          have e2 := (vl_iff ha hb hj (hw _)).mp (h j hj (clr j hj hbj))
          have e3 : gd (w i) (2 ^ i) ^^^ gd (w j) (2 ^ j) = gm b (2 ^ i ^^^ 2 ^ j) := by
            rw [← e1, ← e2, gm_xor hb (p5 hi) (p5 hj), x22, xs, Nat.zero_xor]
          have e4 : gd (gd (w i) (2 ^ i) ^^^ gd (w j) (2 ^ j)) (2 ^ i ^^^ 2 ^ j) = b := by
            rw [e3, gd_gm b hb _ (x_lt (p5 hi) (p5 hj)) (p2_x i hi j hj hij)]
          rw [e4, ← xsw e1]
          exact h y hy (clr y hy hz)
/-- the messages by number -/
theorem AG_m {kk : Nat} {w : Nat → Nat} {s : Nat} (hk : kk = 1 ∨ kk = 2) : AG kk w s ↔ ∃ m, m < mMax kk ∧ ∀ i, i < 5 → s.testBit i = true → vl (m &&& 31) (m / 2 ^ 5) i = w i := by
  constructor
  · rintro ⟨a, b, ha, hb, hb1, h⟩
    have e1 : (b * 32 + a) % 32 = a := by omega
    have e2 : (b * 32 + a) / 2 ^ 5 = b := by omega
    refine ⟨b * 32 + a, ?_, ?_⟩
    · unfold mMax
      rcases hk with rfl | rfl
      · rw [if_neg (by decide), hb1 rfl]; omega
      · rw [if_pos rfl]; omega
    · rw [show (b * 32 + a) &&& 31 = (b * 32 + a) % 32 from Nat.and_two_pow_sub_one_eq_mod _ 5, e1, e2]
      exact h
  · rintro ⟨m, hm, h⟩
    have := mMax_le kk
    refine ⟨_, _, mA_lt m, mB_lt (by omega), fun e => ?_, h⟩
    unfold mMax at hm
    rw [if_neg (by omega)] at hm
    omega
theorem plF_bit (w f : Nat → Nat) : ∀ n, n ≤ 5 → ∀ j, (plF w f n).testBit j = (decide (j < n) && !decide (f j = w j))
  | 0 => fun _ j => by
    show (0 : Nat).testBit j = _
    rw [Nat.zero_testBit, decide_eq_false (by omega), Bool.false_and]
  | n + 1 => fun hn j => by
    have ih := plF_bit w f n (by omega) j
    by_cases h : f n = w n
    · rw [plF_t h, ih]
      by_cases e : j = n
      · subst e
        rw [decide_eq_true h, Bool.not_true, Bool.and_false, Bool.and_false]
      · rw [show decide (j < n) = decide (j < n + 1) from decide_eq_decide.mpr (by omega)]
    · rw [plF_f h, Nat.testBit_or, ih, Nat.testBit_two_pow]
      by_cases e : j = n
      · subst e
        rw [decide_eq_false (show ¬ j < j by omega), decide_eq_true (show j < j + 1 by omega), decide_eq_false h, decide_eq_true rfl]
        rfl
      · rw [decide_eq_false (show ¬ n = j by omega), Bool.or_false, show decide (j < n) = decide (j < n + 1) from decide_eq_decide.mpr (by omega)]
theorem and_0 {p s : Nat} (hp : p < 32) : p &&& s = 0 ↔ ∀ j, j < 5 → s.testBit j = true → p.testBit j = false := by
  constructor
  · intro h j hj hs
    have := congrArg (fun z => Nat.testBit z j) h
    simp only [Nat.testBit_and, Nat.zero_testBit, hs, Bool.and_true] at this
    exact this
  · intro h
    apply Nat.eq_of_testBit_eq
    intro j
    rw [Nat.testBit_and, Nat.zero_testBit]
    by_cases hj : j < 5
    · cases hs : s.testBit j with
      | true => rw [h j hj hs]; rfl
      | false => rw [Bool.and_false]
    · rw [Nat.testBit_lt_two_pow (Nat.lt_of_lt_of_le hp (Nat.pow_le_pow_right (by decide : 2 > 0) (by omega : 5 ≤ j))), Bool.false_and]
theorem chF_iff (c w : Nat → Nat) : ∀ n p, ¬ chF c w n p = 0 ↔ ¬ c p = 0 ∨ ∃ m, m < n ∧ pl w m = p
  | 0 => fun p => ⟨fun h => Or.inl h, fun h => h.elim id (fun ⟨m, hm, _⟩ => by omega)⟩
  | n + 1 => fun p => by
    have ih := chF_iff c w n p
    show ¬ up (chF c w n) (pl w n) 1 p = 0 ↔ _
    by_cases e : p = pl w n
    · rw [e, up_s]
      exact ⟨fun _ => Or.inr ⟨n, by omega, rfl⟩, fun _ => by decide⟩
    · rw [up_n _ _ e, ih]
      constructor
      · rintro (h | ⟨m, hm, h⟩)
        · exact Or.inl h
        · exact Or.inr ⟨m, by omega, h⟩
      · rintro (h | ⟨m, hm, h⟩)
        · exact Or.inl h
        · by_cases em : m = n
          · subst em; exact absurd h.symm e
          · exact Or.inr ⟨m, by omega, h⟩
theorem cvS_iff (ch : Nat → Nat) (z : Nat) : ∀ n, cvS ch z n = true ↔ ∃ p, p < n ∧ ¬ ch p = 0 ∧ p &&& (31 ^^^ z) = 0
  | 0 => ⟨fun h => (by cases h), fun ⟨p, hp, _⟩ => (by omega)⟩
  | n + 1 => by
    rw [cvS_s, Bool.or_eq_true, cvS_iff ch z n, Bool.and_eq_true, Bool.not_eq_true', decide_eq_false_iff_not, decide_eq_true_iff]
    constructor
    · rintro (⟨p, hp, h⟩ | h)
      · exact ⟨p, by omega, h⟩
      · exact ⟨n, by omega, h⟩
    · rintro ⟨p, hp, h⟩
      by_cases e : p = n
      · subst e; exact Or.inr h
      · exact Or.inl ⟨p, by omega, h⟩
theorem cov_eq {kk : Nat} {w c : Nat → Nat} (hk : kk = 1 ∨ kk = 2) (hw : b32 w) {z : Nat} (hz : z < 32) : ag kk w (31 ^^^ z) = cvS (chF (ov c (fun _ => 0) 32) w (mMax kk)) z 32 := by
  rw [Bool.eq_iff_iff, ag_iff hk hw (x_lt (by decide) hz), AG_m hk, cvS_iff]
  have pl32 : ∀ m, pl w m < 32 := fun m => plF_lt _ _ 5 (by decide)
  have eqv : ∀ m, (pl w m &&& (31 ^^^ z) = 0) ↔ ∀ i, i < 5 → (31 ^^^ z).testBit i = true → vl (m &&& 31) (m / 2 ^ 5) i = w i := fun m => by
    rw [and_0 (pl32 m)]
    constructor
    · intro h i hi hs
      have := h i hi hs
      unfold pl at this
      rw [plF_bit _ _ 5 (by decide), decide_eq_true hi, Bool.true_and, Bool.not_eq_false'] at this
      exact of_decide_eq_true this
    · intro h i hi hs
      unfold pl
      rw [plF_bit _ _ 5 (by decide), decide_eq_true hi, Bool.true_and, Bool.not_eq_false']
      exact decide_eq_true (h i hi hs)
  constructor
  · rintro ⟨m, hm, h⟩
    exact ⟨pl w m, pl32 m, (chF_iff _ _ _ _).mpr (Or.inr ⟨m, hm, rfl⟩), (eqv m).mpr h⟩
  · rintro ⟨p, hp, h1, h2⟩
    rcases (chF_iff _ _ _ _).mp h1 with q | ⟨m, hm, e⟩
    · rw [ov_lt hp] at q; exact absurd rfl q
    · rw [← e] at h2
      exact ⟨m, hm, (eqv m).mp h2⟩
theorem cov_all {kk : Nat} {w c : Nat → Nat} (hk : kk = 1 ∨ kk = 2) (hw : b32 w) : ∀ n, n ≤ 32 → cv kk w n = cvM (chF (ov c (fun _ => 0) 32) w (mMax kk)) n
  | 0 => fun _ => rfl
  | n + 1 => fun hn => by
    show cv kk w n + (ag kk w (31 ^^^ n)).toNat = cvM _ n + (cvS _ n 32).toNat
    rw [cov_all hk hw n (by omega), cov_eq (c := c) hk hw (by omega)]
/-- clean -/
theorem b31 : ∀ i, i < 5 → (31 : Nat).testBit i = true := by decide +kernel
theorem clean_eq {kk : Nat} {w : Nat → Nat} {r0 : Int32} (hk : kk = 1 ∨ kk = 2) (hw : b32 w) (hE : ER kk w r0) : ag kk w 31 = decide (r0 = 0) := by
  rw [Bool.eq_iff_iff, ag_iff hk hw (by decide), decide_eq_true_iff]
  constructor
  · rintro ⟨a, b, ha, hb, hb1, h⟩
    have hd : rkM (df w a b) = 0 := rk_z (fun j hj => by show w j ^^^ vl a b j = 0; rw [h j hj (b31 j hj), xs])
    have hn : nr kk w a b := ⟨ha, hb, hb1, by omega⟩
    rcases hE with ⟨a', b', hn', e⟩ | ⟨hno, -⟩
    · obtain ⟨e1, e2⟩ := nr_uniq hk hw hn hn'
      rw [e, ← e1, ← e2, hd]
      exact nI_0
    · exact absurd hn (hno a b)
  · intro h0
    rcases hE with ⟨a, b, hn, e⟩ | ⟨-, e⟩
    · have hz : rkM (df w a b) = 0 := (nI_eq (Nat.lt_of_le_of_lt (rkM_le _) (by decide)) (by decide)).mp (by rw [← e, h0]; exact nI_0.symm)
      exact ⟨a, b, hn.1, hn.2.1, hn.2.2.1, fun i hi _ => (xe (rk_0 hz i hi)).symm⟩
    · rw [h0] at e
      exact absurd e (by decide +kernel)
theorem ER_f {kk : Nat} {w : Nat → Nat} {r r' : Int32} (hk : kk = 1 ∨ kk = 2) (hw : b32 w) (h : ER kk w r) (h' : ER kk w r') : r = r' := by
  rcases h with ⟨a, b, hn, e⟩ | ⟨hno, e⟩ <;> rcases h' with ⟨a', b', hn', e'⟩ | ⟨hno', e'⟩
  · obtain ⟨rfl, rfl⟩ := nr_uniq hk hw hn hn'
    rw [e, e']
  · exact absurd hn (hno' _ _)
  · exact absurd hn' (hno _ _)
  · rw [e, e']
theorem MR_f {kk : Nat} {w : Nat → Nat} {i r r' : Int32} (hk : kk = 1 ∨ kk = 2) (hw : b32 w) (h : MR kk w i r) (h' : MR kk w i r') : r = r' := by
  rcases h with ⟨hb, e⟩ | ⟨hb, h⟩ <;> rcases h' with ⟨hb', e'⟩ | ⟨hb', h'⟩
  · rw [e, e']
  · exact absurd hb hb'
  · exact absurd hb' hb
  · rcases h with ⟨a, b, hn, e⟩ | ⟨hno, e⟩ <;> rcases h' with ⟨a', b', hn', e'⟩ | ⟨hno', e'⟩
    · obtain ⟨rfl, rfl⟩ := nr_uniq hk hw hn hn'
      rw [e, e']
    · exact absurd hn (hno' _ _)
    · exact absurd hn' (hno _ _)
    · rw [e, e']
theorem CR_f {kk : Nat} {w w1 w2 : Nat → Nat} {r r' : Int32} (hk : kk = 1 ∨ kk = 2) (hw : b32 w) (h : CR kk w r w1) (h' : CR kk w r' w2) : r = r' ∧ w1 = w2 := by
  rcases h with ⟨a, b, hn, e, f⟩ | ⟨hno, e, f⟩ <;> rcases h' with ⟨a', b', hn', e', f'⟩ | ⟨hno', e', f'⟩
  · obtain ⟨rfl, rfl⟩ := nr_uniq hk hw hn hn'
    rw [e, e', f, f']
    exact ⟨rfl, rfl⟩
  · exact absurd hn (hno' _ _)
  · exact absurd hn' (hno _ _)
  · rw [e, e', f, f']
    exact ⟨rfl, rfl⟩
/-! the census -/
def vlf (a b i : Nat) : Nat := gf a (2 ^ i) ^^^ gf b (gf (2 ^ i) (2 ^ i))
theorem vl_vlf {a b i : Nat} (ha : a < 32) (hb : b < 32) (hi : i < 5) : vl a b i = vlf a b i := by
  unfold vl vlf
  rw [gf_gm a ha _ (p5 hi), gf_gm _ (p5 hi) _ (p5 hi), gf_gm b hb _ (gf_lt _ _)]
def fM (m : Nat) : Nat := if m = 0 then 0 else if m % 32 = 0 ∨ m / 32 = 0 then 5 else 4
theorem rk_tab : (List.range 1024).all (fun m => rkM (vlf (m % 32) (m / 32)) == fM m) = true := by decide +kernel
theorem rk_fM {m : Nat} (hm : m < 1024) : rkM (vl (m &&& 31) (m / 2 ^ 5)) = fM m := by
  have h := eq_of_beq (List.all_eq_true.mp rk_tab m (List.mem_range.mpr hm))
  rw [← h, show m &&& 31 = m % 32 from Nat.and_two_pow_sub_one_eq_mod _ 5]
  exact rkS_congr 5 (fun j hj => vl_vlf (by omega) (by omega) hj)
def cnN (j : Nat) : Nat → Nat
  | 0 => 0
  | m + 1 => cnN j m + (if fM m = j then 1 else 0)
theorem fM_le (m : Nat) : fM m ≤ 5 := by
  unfold fM
  split
  · omega
  · split <;> omega
theorem cn_eq {j : Nat} (hj : j < 6) : ∀ n, n ≤ 1024 → cnM (nI j) n = cnN j n
  | 0 => fun _ => rfl
  | n + 1 => fun hn => by
    show cnM (nI j) n + (if nI (rkM (vl (n &&& 31) (n / 2 ^ 5))) = nI j then 1 else 0) = cnN j n + (if fM n = j then 1 else 0)
    rw [cn_eq hj n (by omega), rk_fM (by omega)]
    have := fM_le n
    by_cases e : fM n = j
    · rw [if_pos e, if_pos (by rw [e])]
    · rw [if_neg e, if_neg (fun q => e ((nI_eq (by omega) (by omega)).mp q))]
theorem cn_0 {x : Int32} (h : o5 x = true) : ∀ n, cnM x n = 0
  | 0 => rfl
  | n + 1 => by
    show cnM x n + _ = 0
    rw [cn_0 h n, if_neg]
    intro e
    have := rkM_le (vl (n &&& 31) (n / 2 ^ 5))
    rw [← e, o5_nI (by omega)] at h
    cases h
theorem cen_1 : ∀ j, j < 6 → cenN 1 j = nI (cnN j 32) := by decide +kernel
theorem cen_2 : ∀ j, j < 6 → cenN 2 j = nI (cnN j 1024) := by decide +kernel
theorem cen_eq {kk : Nat} (hk : kk = 1 ∨ kk = 2) (x : Int32) : sCen kk x = nI (cnM x (mMax kk)) := by
  by_cases h : o5 x = true
  · unfold sCen
    rw [if_pos h, cn_0 h]
  · have h5 : o5 x = false := Bool.eq_false_iff.mpr h
    obtain ⟨j, hj, rfl⟩ : ∃ j, j < 6 ∧ x = nI j := by
      unfold o5 at h5
      rw [Bool.or_eq_false_iff, Bool.not_eq_false'] at h5
      obtain ⟨j, hj, e⟩ := nI_of2 (M := nI 5) (n := 5) (by decide +kernel) (of_decide_eq_false h5.1) (of_decide_eq_true h5.2)
      exact ⟨j, by omega, e⟩
    rw [sCen_n hj]
    rcases hk with rfl | rfl
    · rw [show mMax 1 = 32 from rfl, cn_eq hj 32 (by decide)]
      exact cen_1 j hj
    · rw [show mMax 2 = 1024 from rfl, cn_eq hj 1024 (by decide)]
      exact cen_2 j hj
theorem dist_eq {kk : Nat} {w : Nat → Nat} (hw : b32 w) (a b : Int32) : sDist kk w a b = rDist kk w a b := by
  unfold sDist rDist
  rw [rkC_rkM (df_b32 hw _ _)]
theorem wDis_b32 {w : Nat → Nat} (hw : b32 w) (a z : Int32) : b32 (wDis w a z) := by
  unfold wDis
  split
  · exact hw
  · rename_i h
    have h := Bool.eq_false_iff.mpr h
    rw [Bool.or_eq_false_iff] at h
    obtain ⟨i, hi, rfl⟩ := oB_ex h.1
    rw [tN_nI hi]
    exact ov_b32 hw (dF_b32 hw hi _) _
theorem dis_eq {w : Nat → Nat} (hw : b32 w) (a z : Int32) : sDis w a z = rDis w a z := by
  unfold sDis rDis
  rw [rkC_rkM (df_b32 (wDis_b32 hw a z) _ _)]
theorem wEnc_b32 {kk : Nat} {w : Nat → Nat} (hw : b32 w) (a b : Int32) : b32 (wEnc kk w a b) := by
  unfold wEnc
  split
  · exact hw
  · exact ov_b32 hw (fun j => vl_lt _ _ _) _
theorem wPut_b32 {w : Nat → Nat} (hw : b32 w) (i c : Int32) : b32 (wPut w i c) := by
  unfold wPut
  split
  · exact hw
  · rename_i h
    have h := Bool.eq_false_iff.mpr h
    rw [Bool.or_eq_false_iff] at h
    obtain ⟨j, hj, rfl⟩ := oB_ex h.2
    rw [tN_nI hj]
    exact up_b32 hw _ hj
end
section
set_option maxRecDepth 100000
/-- the code's dimension: 1 or 2 -/
def kkF (x : Int32) : Nat := if x ≤ nI 1 then 1 else 2
theorem kkF_2 (x : Int32) : kkF x = 1 ∨ kkF x = 2 := by unfold kkF; split <;> simp
theorem kkF_lt {x : Int32} (h : ¬ nI 1 ≤ x) : kkF x = 1 := by
  unfold kkF
  rw [if_pos]
  rw [Int32.le_iff_toInt_le] at h ⊢
  omega
theorem kkF_gt {x : Int32} (h : ¬ x ≤ nI 2) : kkF x = 2 := by
  unfold kkF
  rw [if_neg]
  intro q
  rw [Int32.le_iff_toInt_le] at h q
  have e1 : (nI 1).toInt = 1 := by decide +kernel
  have e2 : (nI 2).toInt = 2 := by decide +kernel
  omega
theorem kkF_in {x : Int32} (h1 : nI 1 ≤ x) (h2 : x ≤ nI 2) : x = nI (kkF x) := by
  have h0 : ¬ x < 0 := by
    rw [Int32.le_iff_toInt_le] at h1
    rw [Int32.lt_iff_toInt_lt, Int32.toInt_zero]
    have e1 : (nI 1).toInt = 1 := by decide +kernel
    omega
  obtain ⟨j, hj, rfl⟩ := nI_of2 (M := nI 2) (n := 2) (by decide +kernel) h0 h2
  have h1 := (nI_leI (by omega) (by omega)).mp h1
  rcases (show j = 1 ∨ j = 2 by omega) with rfl | rfl <;> decide +kernel
def pwA (i : Nat) : Nat → Nat := fun j => if j < i ∨ (31 ≤ j ∧ j < 31 + i) then PW j else 0
def lgA (i : Nat) : Nat → Nat := fun j => if j < 32 ∧ ¬ j = 0 ∧ LG j < i then LG j else 0
theorem pw31 : ∀ i, i < 31 → PW (i + 31) = PW i := by decide +kernel
theorem lgpw : ∀ i, i < 31 → LG (PW i) = i ∧ ¬ PW i = 0 := by decide +kernel
theorem pwlg : ∀ j, j < 32 → ¬ j = 0 → PW (LG j) = j := by decide +kernel
theorem pw_n : ∀ i, i < 31 → (PW i * 2 ^ 1 ≤ 31 → PW (i + 1) = PW i * 2 ^ 1) ∧ (31 < PW i * 2 ^ 1 → PW (i + 1) = PW i * 2 ^ 1 ^^^ 37) := by decide +kernel
theorem pwA_s {i : Nat} (hi : i < 31) : up (up (pwA i) i (PW i)) (i + 31) (PW i) = pwA (i + 1) := by
  funext j
  unfold up pwA
  by_cases h1 : j = i + 31
  · rw [if_pos h1, if_pos (by omega), h1, pw31 i hi]
  · rw [if_neg h1]
    by_cases h2 : j = i
    · rw [if_pos h2, if_pos (by omega), h2]
    · rw [if_neg h2]
      by_cases h3 : j < i ∨ (31 ≤ j ∧ j < 31 + i)
      · rw [if_pos h3, if_pos (by omega)]
      · rw [if_neg h3, if_neg (by omega)]
theorem lgA_s {i : Nat} (hi : i < 31) : up (lgA i) (PW i) i = lgA (i + 1) := by
  funext j
  unfold up lgA
  have hp := lgpw i hi
  by_cases h1 : j = PW i
  · rw [if_pos h1, if_pos (by rw [h1]; exact ⟨PW_lt i, hp.2, by omega⟩), h1, hp.1]
  · rw [if_neg h1]
    by_cases h3 : j < 32 ∧ ¬ j = 0 ∧ LG j < i
    · rw [if_pos h3, if_pos ⟨h3.1, h3.2.1, by omega⟩]
    · rw [if_neg h3, if_neg]
      rintro ⟨a, b, c⟩
      have : LG j = i := by omega
      exact h1 (by rw [← this, pwlg j a b])
theorem PW_big {j : Nat} (h : 62 ≤ j) : PW j = 0 := by
  unfold PW
  rw [List.getD_eq_getElem?_getD, List.getElem?_eq_none (show PWl.length ≤ j by show 62 ≤ j; omega)]
  rfl
theorem LG_big {j : Nat} (h : 32 ≤ j) : LG j = 0 := by
  unfold LG
  rw [List.getD_eq_getElem?_getD, List.getElem?_eq_none (show LGl.length ≤ j by show 32 ≤ j; omega)]
  rfl
theorem pwA_31 : pwA 31 = PW := by
  funext j
  unfold pwA
  by_cases h : j < 31 ∨ (31 ≤ j ∧ j < 31 + 31)
  · rw [if_pos h]
  · rw [if_neg h, PW_big (by omega)]
theorem lgA_31 : lgA 31 = LG := by
  funext j
  unfold lgA
  have := LG_30 j
  by_cases h : j < 32 ∧ ¬ j = 0 ∧ LG j < 31
  · rw [if_pos h]
  · rw [if_neg h]
    by_cases h0 : j = 0
    · subst h0; rfl
    · rw [LG_big (by omega)]
theorem pwA_0 : pwA 0 = fun _ => 0 := by
  funext j
  unfold pwA
  rw [if_neg (by omega)]
theorem lgA_0 : lgA 0 = fun _ => 0 := by
  funext j
  unfold lgA
  rw [if_neg (by omega)]
def cS0 : CS := (fun _ => 0, fun _ => 0, fun _ => 0, fun _ => 1, fun _ => 0, fun _ => 0)
def mS0 : MS := (fun _ => 0, fun _ => 0, fun _ => 0, fun _ => 0)
abbrev cF0 : List Value := [.int 0, .int 0, .null, .null, .null, .null, .null, .null, .null, .null]
abbrev mF0 : List Value := [.null, .null, .null, .null, .int 0]
abbrev tW (h : Nat) (q : Nat → Nat) (dA : ClassId) (fs : List Value) (f0 f1 : Nat → Nat) : va_W := [(h, .inr (0, fs)), (q 2, .inl (dA, 64, .inl (nA f0))), (q 3, .inl (dA, 32, .inl (nA f1))), (q 4, .inl (dA, 5, .inl (nA fun _ => 0))), (q 5, .inl (dA, 5, .inl (nA fun _ => 0))), (q 6, .inl (dA, 30, .inl (nA fun _ => 0))), (q 7, .inl (dA, 6, .inl (pA fun _ => 1))), (q 8, .inl (dA, 6, .inl (nA fun _ => 0))), (q 9, .inl (dA, 2, .inl (nA fun _ => 0)))]
abbrev rmX1_init : Room := { frames := 1, cells := 8, slots := 150, locals := 12 }
abbrev rmX2_init : Room := { frames := 1, cells := 4, slots := 47, locals := 12 }
set_option maxHeartbeats 4000000 in
/-- the constructor -/
theorem kX1_init (l : Launch) (D : va_G) (h : Nat) (sz : Nat) (x : Int32) : Met l yX1_init (ws_ yX1_init cX1_init 5 none) rmX1_init (va_Pc [.ref h, .int x] (fun U => U.heap.size = sz ∧ va_P D vwCl [(h, .inr (0, cF0))] U.heap ∧ va_K D vwCl [] U ∧ va_D (fun _ => True) [(h, .inr (0, cF0))])) (va_Qv (fun _ : (Nat → Nat) × ClassId => True) (fun v t => cB D h v.1 v.2 (kkF x) (va_A [(h, .inr (0, cF0))] sz) cS0 t) (va_A [(h, .inr (0, cF0))] sz)) 8 150 (va_A [(h, .inr (0, cF0))] sz) := by
  refine Met.ofW (cc := cX1_init) (maxL := 5) (ret := none) (by decide) rfl ?_
  intro p e s m args below meth c s₁ B hml hv
  obtain ⟨rfl, hsz, hP, hK, hD0⟩ := hv
  have hx := B.exec
  have hb := B.bytes
  have hr := B.returns
  have hts := atoms_spec (ws := ws_ yX1_init cX1_init 5 none) B.pre
  have hts : ∀ w ∈ lw_all, w.before _ s = true := fun w h => hts w (List.mem_cons_of_mem _ h)
  have hown : s.vm.findClass RX1 = some m.cls := findClass_of_methodNamed B.named
  have hlocks := B.notSynchronized
  have hin : meth.name = "<init>" := (name_of_methodNamed B.named B.method).1
  subst hsz
  have hD := hD0.self (sz := s.heap.size)
  generalize hAe : va_A [(h, .inr (0, cF0))] s.heap.size = A at hD ⊢
  have hA : ∀ q : Nat, s.heap.size ≤ q → A q := fun q h => by rw [← hAe]; exact Or.inr h
  have hS : va_S A s.heap s.heap [] := va_S.rf
  have hl := lv_entry ([.ref h, .int x]) (n := 5) (Nat.le_of_ble_eq_true rfl)
  rw [lg_entry_eq]
  generalize (lg_sl ([.ref h, .int x]) ++ List.replicate (5 - (lg_sl ([.ref h, .int x])).length) Slot.unset).toArray = ls at hl ⊢
  have hl : lv_has ls 5 [(0, .ref h), (1, .int x)] := hl
  refine lv_aload_n hx hb dX1_init_0 rfl (lv_at hl 0 rfl) ?_
  refine W.objInit hx hb hown (hts _ q35) (hts _ q36) (hts _ q37) rfl (by rw [hml]; exact hl.1) rfl dX1_init_1 (Nat.le_of_ble_eq_true rfl) (Nat.le_of_ble_eq_true rfl) ?_
  refine W.eq (g2 := F0 m 4 ls []) rfl ?_
  refine lv_aload_n hx hb dX1_init_4 rfl (lv_at hl 0 rfl) ?_
  refine lv_bipush (v := 64) hx hb dX1_init_5 (by decide +kernel) ?_
  refine va_newa (atype := .int) (ty := .int) (N' := 64) (a0 := (64, .inl (nA fun _ => 0))) hx hb (hts _ q69) rfl hK hP hD hS hA (fun _ => rfl) (by decide +kernel) (by decide +kernel) (by decide) (Nat.le_of_ble_eq_true rfl) (Nat.le_of_ble_eq_true rfl) dX1_init_7 (fun p2 c2 H hK hP hD hS => ?_)
  have hP : va_P D vwCl [(h, .inr (0, [.int 0, .int 0, .null, .null, .null, .null, .null, .null, .null, .null])), (p2, .inl (c2, 64, .inl (nA fun _ => 0)))] H := hP
  have hD : va_D A [(h, .inr (0, [.int 0, .int 0, .null, .null, .null, .null, .null, .null, .null, .null])), (p2, .inl (c2, 64, .inl (nA fun _ => 0)))] := hD
  have hK : va_K D vwCl [(c2, .int)] s := hK
  refine va_putF (D := D) (ci := 0) (v := .ref p2) (ty := .array .int) (C := RX1) (T := TX1) (N := 10) hx hb hts in_X1 tyX1 tyX1_ok nmX1 hown hK hP hD hS 0 rfl rfl 2 (by decide) (hts _ q40) (fun _ h9 => h9) rfl hin rfl (by decide +kernel) rfl rfl (Nat.le_of_ble_eq_true rfl) dX1_init_9 (fun H locs hP hD hS => ?_)
  have hP : va_P D vwCl [(h, .inr (0, [.int 0, .int 0, .ref p2, .null, .null, .null, .null, .null, .null, .null])), (p2, .inl (c2, 64, .inl (nA fun _ => 0)))] H := hP
  have hD : va_D A [(h, .inr (0, [.int 0, .int 0, .ref p2, .null, .null, .null, .null, .null, .null, .null])), (p2, .inl (c2, 64, .inl (nA fun _ => 0)))] := hD
  refine lv_aload_n hx hb dX1_init_12 rfl (lv_at hl 0 rfl) ?_
  refine lv_bipush (v := 32) hx hb dX1_init_13 (by decide +kernel) ?_
  refine va_newa (atype := .int) (ty := .int) (N' := 32) (a0 := (32, .inl (nA fun _ => 0))) hx hb (hts _ q69) rfl hK hP hD hS hA (fun _ => rfl) (by decide +kernel) (by decide +kernel) (by decide) (Nat.le_of_ble_eq_true rfl) (Nat.le_of_ble_eq_true rfl) dX1_init_15 (fun p3 c3 H hK hP hD hS => ?_)
  have hP : va_P D vwCl [(h, .inr (0, [.int 0, .int 0, .ref p2, .null, .null, .null, .null, .null, .null, .null])), (p2, .inl (c2, 64, .inl (nA fun _ => 0))), (p3, .inl (c3, 32, .inl (nA fun _ => 0)))] H := hP
  have hD : va_D A [(h, .inr (0, [.int 0, .int 0, .ref p2, .null, .null, .null, .null, .null, .null, .null])), (p2, .inl (c2, 64, .inl (nA fun _ => 0))), (p3, .inl (c3, 32, .inl (nA fun _ => 0)))] := hD
  have hK : va_K D vwCl [(c2, .int), (c3, .int)] s := hK
  refine va_putF (D := D) (ci := 0) (v := .ref p3) (ty := .array .int) (C := RX1) (T := TX1) (N := 10) hx hb hts in_X1 tyX1 tyX1_ok nmX1 hown hK hP hD hS 0 rfl rfl 3 (by decide) (hts _ q41) (fun _ h9 => h9) rfl hin rfl (by decide +kernel) rfl rfl (Nat.le_of_ble_eq_true rfl) dX1_init_17 (fun H locs hP hD hS => ?_)
  have hP : va_P D vwCl [(h, .inr (0, [.int 0, .int 0, .ref p2, .ref p3, .null, .null, .null, .null, .null, .null])), (p2, .inl (c2, 64, .inl (nA fun _ => 0))), (p3, .inl (c3, 32, .inl (nA fun _ => 0)))] H := hP
  have hD : va_D A [(h, .inr (0, [.int 0, .int 0, .ref p2, .ref p3, .null, .null, .null, .null, .null, .null])), (p2, .inl (c2, 64, .inl (nA fun _ => 0))), (p3, .inl (c3, 32, .inl (nA fun _ => 0)))] := hD
  refine lv_aload_n hx hb dX1_init_20 rfl (lv_at hl 0 rfl) ?_
  refine lv_iconst (v := 5) hx hb dX1_init_21 (by decide +kernel) ?_
  refine va_newa (atype := .int) (ty := .int) (N' := 5) (a0 := (5, .inl (nA fun _ => 0))) hx hb (hts _ q69) rfl hK hP hD hS hA (fun _ => rfl) (by decide +kernel) (by decide +kernel) (by decide) (Nat.le_of_ble_eq_true rfl) (Nat.le_of_ble_eq_true rfl) dX1_init_22 (fun p4 c4 H hK hP hD hS => ?_)
  have hP : va_P D vwCl [(h, .inr (0, [.int 0, .int 0, .ref p2, .ref p3, .null, .null, .null, .null, .null, .null])), (p2, .inl (c2, 64, .inl (nA fun _ => 0))), (p3, .inl (c3, 32, .inl (nA fun _ => 0))), (p4, .inl (c4, 5, .inl (nA fun _ => 0)))] H := hP
  have hD : va_D A [(h, .inr (0, [.int 0, .int 0, .ref p2, .ref p3, .null, .null, .null, .null, .null, .null])), (p2, .inl (c2, 64, .inl (nA fun _ => 0))), (p3, .inl (c3, 32, .inl (nA fun _ => 0))), (p4, .inl (c4, 5, .inl (nA fun _ => 0)))] := hD
  have hK : va_K D vwCl [(c2, .int), (c3, .int), (c4, .int)] s := hK
  refine va_putF (D := D) (ci := 0) (v := .ref p4) (ty := .array .int) (C := RX1) (T := TX1) (N := 10) hx hb hts in_X1 tyX1 tyX1_ok nmX1 hown hK hP hD hS 0 rfl rfl 4 (by decide) (hts _ q42) (fun _ h9 => h9) rfl hin rfl (by decide +kernel) rfl rfl (Nat.le_of_ble_eq_true rfl) dX1_init_24 (fun H locs hP hD hS => ?_)
  have hP : va_P D vwCl [(h, .inr (0, [.int 0, .int 0, .ref p2, .ref p3, .ref p4, .null, .null, .null, .null, .null])), (p2, .inl (c2, 64, .inl (nA fun _ => 0))), (p3, .inl (c3, 32, .inl (nA fun _ => 0))), (p4, .inl (c4, 5, .inl (nA fun _ => 0)))] H := hP
  have hD : va_D A [(h, .inr (0, [.int 0, .int 0, .ref p2, .ref p3, .ref p4, .null, .null, .null, .null, .null])), (p2, .inl (c2, 64, .inl (nA fun _ => 0))), (p3, .inl (c3, 32, .inl (nA fun _ => 0))), (p4, .inl (c4, 5, .inl (nA fun _ => 0)))] := hD
  refine lv_aload_n hx hb dX1_init_27 rfl (lv_at hl 0 rfl) ?_
  refine lv_iconst (v := 5) hx hb dX1_init_28 (by decide +kernel) ?_
  refine va_newa (atype := .int) (ty := .int) (N' := 5) (a0 := (5, .inl (nA fun _ => 0))) hx hb (hts _ q69) rfl hK hP hD hS hA (fun _ => rfl) (by decide +kernel) (by decide +kernel) (by decide) (Nat.le_of_ble_eq_true rfl) (Nat.le_of_ble_eq_true rfl) dX1_init_29 (fun p5 c5 H hK hP hD hS => ?_)
  have hP : va_P D vwCl [(h, .inr (0, [.int 0, .int 0, .ref p2, .ref p3, .ref p4, .null, .null, .null, .null, .null])), (p2, .inl (c2, 64, .inl (nA fun _ => 0))), (p3, .inl (c3, 32, .inl (nA fun _ => 0))), (p4, .inl (c4, 5, .inl (nA fun _ => 0))), (p5, .inl (c5, 5, .inl (nA fun _ => 0)))] H := hP
  have hD : va_D A [(h, .inr (0, [.int 0, .int 0, .ref p2, .ref p3, .ref p4, .null, .null, .null, .null, .null])), (p2, .inl (c2, 64, .inl (nA fun _ => 0))), (p3, .inl (c3, 32, .inl (nA fun _ => 0))), (p4, .inl (c4, 5, .inl (nA fun _ => 0))), (p5, .inl (c5, 5, .inl (nA fun _ => 0)))] := hD
  have hK : va_K D vwCl [(c2, .int), (c3, .int), (c4, .int), (c5, .int)] s := hK
  refine va_putF (D := D) (ci := 0) (v := .ref p5) (ty := .array .int) (C := RX1) (T := TX1) (N := 10) hx hb hts in_X1 tyX1 tyX1_ok nmX1 hown hK hP hD hS 0 rfl rfl 5 (by decide) (hts _ q43) (fun _ h9 => h9) rfl hin rfl (by decide +kernel) rfl rfl (Nat.le_of_ble_eq_true rfl) dX1_init_31 (fun H locs hP hD hS => ?_)
  have hP : va_P D vwCl [(h, .inr (0, [.int 0, .int 0, .ref p2, .ref p3, .ref p4, .ref p5, .null, .null, .null, .null])), (p2, .inl (c2, 64, .inl (nA fun _ => 0))), (p3, .inl (c3, 32, .inl (nA fun _ => 0))), (p4, .inl (c4, 5, .inl (nA fun _ => 0))), (p5, .inl (c5, 5, .inl (nA fun _ => 0)))] H := hP
  have hD : va_D A [(h, .inr (0, [.int 0, .int 0, .ref p2, .ref p3, .ref p4, .ref p5, .null, .null, .null, .null])), (p2, .inl (c2, 64, .inl (nA fun _ => 0))), (p3, .inl (c3, 32, .inl (nA fun _ => 0))), (p4, .inl (c4, 5, .inl (nA fun _ => 0))), (p5, .inl (c5, 5, .inl (nA fun _ => 0)))] := hD
  refine lv_aload_n hx hb dX1_init_34 rfl (lv_at hl 0 rfl) ?_
  refine lv_bipush (v := 30) hx hb dX1_init_35 (by decide +kernel) ?_
  refine va_newa (atype := .int) (ty := .int) (N' := 30) (a0 := (30, .inl (nA fun _ => 0))) hx hb (hts _ q69) rfl hK hP hD hS hA (fun _ => rfl) (by decide +kernel) (by decide +kernel) (by decide) (Nat.le_of_ble_eq_true rfl) (Nat.le_of_ble_eq_true rfl) dX1_init_37 (fun p6 c6 H hK hP hD hS => ?_)
  have hP : va_P D vwCl [(h, .inr (0, [.int 0, .int 0, .ref p2, .ref p3, .ref p4, .ref p5, .null, .null, .null, .null])), (p2, .inl (c2, 64, .inl (nA fun _ => 0))), (p3, .inl (c3, 32, .inl (nA fun _ => 0))), (p4, .inl (c4, 5, .inl (nA fun _ => 0))), (p5, .inl (c5, 5, .inl (nA fun _ => 0))), (p6, .inl (c6, 30, .inl (nA fun _ => 0)))] H := hP
  have hD : va_D A [(h, .inr (0, [.int 0, .int 0, .ref p2, .ref p3, .ref p4, .ref p5, .null, .null, .null, .null])), (p2, .inl (c2, 64, .inl (nA fun _ => 0))), (p3, .inl (c3, 32, .inl (nA fun _ => 0))), (p4, .inl (c4, 5, .inl (nA fun _ => 0))), (p5, .inl (c5, 5, .inl (nA fun _ => 0))), (p6, .inl (c6, 30, .inl (nA fun _ => 0)))] := hD
  have hK : va_K D vwCl [(c2, .int), (c3, .int), (c4, .int), (c5, .int), (c6, .int)] s := hK
  refine va_putF (D := D) (ci := 0) (v := .ref p6) (ty := .array .int) (C := RX1) (T := TX1) (N := 10) hx hb hts in_X1 tyX1 tyX1_ok nmX1 hown hK hP hD hS 0 rfl rfl 6 (by decide) (hts _ q44) (fun _ h9 => h9) rfl hin rfl (by decide +kernel) rfl rfl (Nat.le_of_ble_eq_true rfl) dX1_init_39 (fun H locs hP hD hS => ?_)
  have hP : va_P D vwCl [(h, .inr (0, [.int 0, .int 0, .ref p2, .ref p3, .ref p4, .ref p5, .ref p6, .null, .null, .null])), (p2, .inl (c2, 64, .inl (nA fun _ => 0))), (p3, .inl (c3, 32, .inl (nA fun _ => 0))), (p4, .inl (c4, 5, .inl (nA fun _ => 0))), (p5, .inl (c5, 5, .inl (nA fun _ => 0))), (p6, .inl (c6, 30, .inl (nA fun _ => 0)))] H := hP
  have hD : va_D A [(h, .inr (0, [.int 0, .int 0, .ref p2, .ref p3, .ref p4, .ref p5, .ref p6, .null, .null, .null])), (p2, .inl (c2, 64, .inl (nA fun _ => 0))), (p3, .inl (c3, 32, .inl (nA fun _ => 0))), (p4, .inl (c4, 5, .inl (nA fun _ => 0))), (p5, .inl (c5, 5, .inl (nA fun _ => 0))), (p6, .inl (c6, 30, .inl (nA fun _ => 0)))] := hD
  refine lv_aload_n hx hb dX1_init_42 rfl (lv_at hl 0 rfl) ?_
  refine lv_bipush (v := 6) hx hb dX1_init_43 (by decide +kernel) ?_
  refine va_newa (atype := .int) (ty := .int) (N' := 6) (a0 := (6, .inl (pA fun _ => 1))) hx hb (hts _ q69) rfl hK hP hD hS hA (fun _ => rfl) (by decide +kernel) (by decide +kernel) (by decide) (Nat.le_of_ble_eq_true rfl) (Nat.le_of_ble_eq_true rfl) dX1_init_45 (fun p7 c7 H hK hP hD hS => ?_)
  have hP : va_P D vwCl [(h, .inr (0, [.int 0, .int 0, .ref p2, .ref p3, .ref p4, .ref p5, .ref p6, .null, .null, .null])), (p2, .inl (c2, 64, .inl (nA fun _ => 0))), (p3, .inl (c3, 32, .inl (nA fun _ => 0))), (p4, .inl (c4, 5, .inl (nA fun _ => 0))), (p5, .inl (c5, 5, .inl (nA fun _ => 0))), (p6, .inl (c6, 30, .inl (nA fun _ => 0))), (p7, .inl (c7, 6, .inl (pA fun _ => 1)))] H := hP
  have hD : va_D A [(h, .inr (0, [.int 0, .int 0, .ref p2, .ref p3, .ref p4, .ref p5, .ref p6, .null, .null, .null])), (p2, .inl (c2, 64, .inl (nA fun _ => 0))), (p3, .inl (c3, 32, .inl (nA fun _ => 0))), (p4, .inl (c4, 5, .inl (nA fun _ => 0))), (p5, .inl (c5, 5, .inl (nA fun _ => 0))), (p6, .inl (c6, 30, .inl (nA fun _ => 0))), (p7, .inl (c7, 6, .inl (pA fun _ => 1)))] := hD
  have hK : va_K D vwCl [(c2, .int), (c3, .int), (c4, .int), (c5, .int), (c6, .int), (c7, .int)] s := hK
  refine va_putF (D := D) (ci := 0) (v := .ref p7) (ty := .array .int) (C := RX1) (T := TX1) (N := 10) hx hb hts in_X1 tyX1 tyX1_ok nmX1 hown hK hP hD hS 0 rfl rfl 7 (by decide) (hts _ q45) (fun _ h9 => h9) rfl hin rfl (by decide +kernel) rfl rfl (Nat.le_of_ble_eq_true rfl) dX1_init_47 (fun H locs hP hD hS => ?_)
  have hP : va_P D vwCl [(h, .inr (0, [.int 0, .int 0, .ref p2, .ref p3, .ref p4, .ref p5, .ref p6, .ref p7, .null, .null])), (p2, .inl (c2, 64, .inl (nA fun _ => 0))), (p3, .inl (c3, 32, .inl (nA fun _ => 0))), (p4, .inl (c4, 5, .inl (nA fun _ => 0))), (p5, .inl (c5, 5, .inl (nA fun _ => 0))), (p6, .inl (c6, 30, .inl (nA fun _ => 0))), (p7, .inl (c7, 6, .inl (pA fun _ => 1)))] H := hP
  have hD : va_D A [(h, .inr (0, [.int 0, .int 0, .ref p2, .ref p3, .ref p4, .ref p5, .ref p6, .ref p7, .null, .null])), (p2, .inl (c2, 64, .inl (nA fun _ => 0))), (p3, .inl (c3, 32, .inl (nA fun _ => 0))), (p4, .inl (c4, 5, .inl (nA fun _ => 0))), (p5, .inl (c5, 5, .inl (nA fun _ => 0))), (p6, .inl (c6, 30, .inl (nA fun _ => 0))), (p7, .inl (c7, 6, .inl (pA fun _ => 1)))] := hD
  refine lv_aload_n hx hb dX1_init_50 rfl (lv_at hl 0 rfl) ?_
  refine lv_bipush (v := 6) hx hb dX1_init_51 (by decide +kernel) ?_
  refine va_newa (atype := .int) (ty := .int) (N' := 6) (a0 := (6, .inl (nA fun _ => 0))) hx hb (hts _ q69) rfl hK hP hD hS hA (fun _ => rfl) (by decide +kernel) (by decide +kernel) (by decide) (Nat.le_of_ble_eq_true rfl) (Nat.le_of_ble_eq_true rfl) dX1_init_53 (fun p8 c8 H hK hP hD hS => ?_)
  have hP : va_P D vwCl [(h, .inr (0, [.int 0, .int 0, .ref p2, .ref p3, .ref p4, .ref p5, .ref p6, .ref p7, .null, .null])), (p2, .inl (c2, 64, .inl (nA fun _ => 0))), (p3, .inl (c3, 32, .inl (nA fun _ => 0))), (p4, .inl (c4, 5, .inl (nA fun _ => 0))), (p5, .inl (c5, 5, .inl (nA fun _ => 0))), (p6, .inl (c6, 30, .inl (nA fun _ => 0))), (p7, .inl (c7, 6, .inl (pA fun _ => 1))), (p8, .inl (c8, 6, .inl (nA fun _ => 0)))] H := hP
  have hD : va_D A [(h, .inr (0, [.int 0, .int 0, .ref p2, .ref p3, .ref p4, .ref p5, .ref p6, .ref p7, .null, .null])), (p2, .inl (c2, 64, .inl (nA fun _ => 0))), (p3, .inl (c3, 32, .inl (nA fun _ => 0))), (p4, .inl (c4, 5, .inl (nA fun _ => 0))), (p5, .inl (c5, 5, .inl (nA fun _ => 0))), (p6, .inl (c6, 30, .inl (nA fun _ => 0))), (p7, .inl (c7, 6, .inl (pA fun _ => 1))), (p8, .inl (c8, 6, .inl (nA fun _ => 0)))] := hD
  have hK : va_K D vwCl [(c2, .int), (c3, .int), (c4, .int), (c5, .int), (c6, .int), (c7, .int), (c8, .int)] s := hK
  refine va_putF (D := D) (ci := 0) (v := .ref p8) (ty := .array .int) (C := RX1) (T := TX1) (N := 10) hx hb hts in_X1 tyX1 tyX1_ok nmX1 hown hK hP hD hS 0 rfl rfl 8 (by decide) (hts _ q46) (fun _ h9 => h9) rfl hin rfl (by decide +kernel) rfl rfl (Nat.le_of_ble_eq_true rfl) dX1_init_55 (fun H locs hP hD hS => ?_)
  have hP : va_P D vwCl [(h, .inr (0, [.int 0, .int 0, .ref p2, .ref p3, .ref p4, .ref p5, .ref p6, .ref p7, .ref p8, .null])), (p2, .inl (c2, 64, .inl (nA fun _ => 0))), (p3, .inl (c3, 32, .inl (nA fun _ => 0))), (p4, .inl (c4, 5, .inl (nA fun _ => 0))), (p5, .inl (c5, 5, .inl (nA fun _ => 0))), (p6, .inl (c6, 30, .inl (nA fun _ => 0))), (p7, .inl (c7, 6, .inl (pA fun _ => 1))), (p8, .inl (c8, 6, .inl (nA fun _ => 0)))] H := hP
  have hD : va_D A [(h, .inr (0, [.int 0, .int 0, .ref p2, .ref p3, .ref p4, .ref p5, .ref p6, .ref p7, .ref p8, .null])), (p2, .inl (c2, 64, .inl (nA fun _ => 0))), (p3, .inl (c3, 32, .inl (nA fun _ => 0))), (p4, .inl (c4, 5, .inl (nA fun _ => 0))), (p5, .inl (c5, 5, .inl (nA fun _ => 0))), (p6, .inl (c6, 30, .inl (nA fun _ => 0))), (p7, .inl (c7, 6, .inl (pA fun _ => 1))), (p8, .inl (c8, 6, .inl (nA fun _ => 0)))] := hD
  refine lv_aload_n hx hb dX1_init_58 rfl (lv_at hl 0 rfl) ?_
  refine lv_iconst (v := 2) hx hb dX1_init_59 (by decide +kernel) ?_
  refine va_newa (atype := .int) (ty := .int) (N' := 2) (a0 := (2, .inl (nA fun _ => 0))) hx hb (hts _ q69) rfl hK hP hD hS hA (fun _ => rfl) (by decide +kernel) (by decide +kernel) (by decide) (Nat.le_of_ble_eq_true rfl) (Nat.le_of_ble_eq_true rfl) dX1_init_60 (fun p9 c9 H hK hP hD hS => ?_)
  have hP : va_P D vwCl [(h, .inr (0, [.int 0, .int 0, .ref p2, .ref p3, .ref p4, .ref p5, .ref p6, .ref p7, .ref p8, .null])), (p2, .inl (c2, 64, .inl (nA fun _ => 0))), (p3, .inl (c3, 32, .inl (nA fun _ => 0))), (p4, .inl (c4, 5, .inl (nA fun _ => 0))), (p5, .inl (c5, 5, .inl (nA fun _ => 0))), (p6, .inl (c6, 30, .inl (nA fun _ => 0))), (p7, .inl (c7, 6, .inl (pA fun _ => 1))), (p8, .inl (c8, 6, .inl (nA fun _ => 0))), (p9, .inl (c9, 2, .inl (nA fun _ => 0)))] H := hP
  have hD : va_D A [(h, .inr (0, [.int 0, .int 0, .ref p2, .ref p3, .ref p4, .ref p5, .ref p6, .ref p7, .ref p8, .null])), (p2, .inl (c2, 64, .inl (nA fun _ => 0))), (p3, .inl (c3, 32, .inl (nA fun _ => 0))), (p4, .inl (c4, 5, .inl (nA fun _ => 0))), (p5, .inl (c5, 5, .inl (nA fun _ => 0))), (p6, .inl (c6, 30, .inl (nA fun _ => 0))), (p7, .inl (c7, 6, .inl (pA fun _ => 1))), (p8, .inl (c8, 6, .inl (nA fun _ => 0))), (p9, .inl (c9, 2, .inl (nA fun _ => 0)))] := hD
  have hK : va_K D vwCl [(c2, .int), (c3, .int), (c4, .int), (c5, .int), (c6, .int), (c7, .int), (c8, .int), (c9, .int)] s := hK
  refine va_putF (D := D) (ci := 0) (v := .ref p9) (ty := .array .int) (C := RX1) (T := TX1) (N := 10) hx hb hts in_X1 tyX1 tyX1_ok nmX1 hown hK hP hD hS 0 rfl rfl 9 (by decide) (hts _ q47) (fun _ h9 => h9) rfl hin rfl (by decide +kernel) rfl rfl (Nat.le_of_ble_eq_true rfl) dX1_init_62 (fun H locs hP hD hS => ?_)
  have hP : va_P D vwCl [(h, .inr (0, [.int 0, .int 0, .ref p2, .ref p3, .ref p4, .ref p5, .ref p6, .ref p7, .ref p8, .ref p9])), (p2, .inl (c2, 64, .inl (nA fun _ => 0))), (p3, .inl (c3, 32, .inl (nA fun _ => 0))), (p4, .inl (c4, 5, .inl (nA fun _ => 0))), (p5, .inl (c5, 5, .inl (nA fun _ => 0))), (p6, .inl (c6, 30, .inl (nA fun _ => 0))), (p7, .inl (c7, 6, .inl (pA fun _ => 1))), (p8, .inl (c8, 6, .inl (nA fun _ => 0))), (p9, .inl (c9, 2, .inl (nA fun _ => 0)))] H := hP
  have hD : va_D A [(h, .inr (0, [.int 0, .int 0, .ref p2, .ref p3, .ref p4, .ref p5, .ref p6, .ref p7, .ref p8, .ref p9])), (p2, .inl (c2, 64, .inl (nA fun _ => 0))), (p3, .inl (c3, 32, .inl (nA fun _ => 0))), (p4, .inl (c4, 5, .inl (nA fun _ => 0))), (p5, .inl (c5, 5, .inl (nA fun _ => 0))), (p6, .inl (c6, 30, .inl (nA fun _ => 0))), (p7, .inl (c7, 6, .inl (pA fun _ => 1))), (p8, .inl (c8, 6, .inl (nA fun _ => 0))), (p9, .inl (c9, 2, .inl (nA fun _ => 0)))] := hD
  obtain rfl : c2 = c3 := Option.some.inj ((show s.vm.findClass ("[" ++ FieldType.int.toString) = some c2 from (hK.2 0 _ rfl).2).symm.trans (show s.vm.findClass ("[" ++ FieldType.int.toString) = some c3 from (hK.2 1 _ rfl).2))
  obtain rfl : c2 = c4 := Option.some.inj ((show s.vm.findClass ("[" ++ FieldType.int.toString) = some c2 from (hK.2 0 _ rfl).2).symm.trans (show s.vm.findClass ("[" ++ FieldType.int.toString) = some c4 from (hK.2 2 _ rfl).2))
  obtain rfl : c2 = c5 := Option.some.inj ((show s.vm.findClass ("[" ++ FieldType.int.toString) = some c2 from (hK.2 0 _ rfl).2).symm.trans (show s.vm.findClass ("[" ++ FieldType.int.toString) = some c5 from (hK.2 3 _ rfl).2))
  obtain rfl : c2 = c6 := Option.some.inj ((show s.vm.findClass ("[" ++ FieldType.int.toString) = some c2 from (hK.2 0 _ rfl).2).symm.trans (show s.vm.findClass ("[" ++ FieldType.int.toString) = some c6 from (hK.2 4 _ rfl).2))
  obtain rfl : c2 = c7 := Option.some.inj ((show s.vm.findClass ("[" ++ FieldType.int.toString) = some c2 from (hK.2 0 _ rfl).2).symm.trans (show s.vm.findClass ("[" ++ FieldType.int.toString) = some c7 from (hK.2 5 _ rfl).2))
  obtain rfl : c2 = c8 := Option.some.inj ((show s.vm.findClass ("[" ++ FieldType.int.toString) = some c2 from (hK.2 0 _ rfl).2).symm.trans (show s.vm.findClass ("[" ++ FieldType.int.toString) = some c8 from (hK.2 6 _ rfl).2))
  obtain rfl : c2 = c9 := Option.some.inj ((show s.vm.findClass ("[" ++ FieldType.int.toString) = some c2 from (hK.2 0 _ rfl).2).symm.trans (show s.vm.findClass ("[" ++ FieldType.int.toString) = some c9 from (hK.2 7 _ rfl).2))
  obtain ⟨q, e2, e3, e4, e5, e6, e7, e8, e9⟩ : ∃ q : Nat → Nat, p2 = q 2 ∧ p3 = q 3 ∧ p4 = q 4 ∧ p5 = q 5 ∧ p6 = q 6 ∧ p7 = q 7 ∧ p8 = q 8 ∧ p9 = q 9 := ⟨fun j => if j = 2 then p2 else if j = 3 then p3 else if j = 4 then p4 else if j = 5 then p5 else if j = 6 then p6 else if j = 7 then p7 else if j = 8 then p8 else if j = 9 then p9 else 0, rfl, rfl, rfl, rfl, rfl, rfl, rfl, rfl⟩
  subst e2
  subst e3
  subst e4
  subst e5
  subst e6
  subst e7
  subst e8
  subst e9
  have hP : va_P D vwCl (tW h q c2 [.int 0, .int 0, .ref (q 2), .ref (q 3), .ref (q 4), .ref (q 5), .ref (q 6), .ref (q 7), .ref (q 8), .ref (q 9)] (fun _ => 0) (fun _ => 0)) H := hP
  have hD : va_D A (tW h q c2 [.int 0, .int 0, .ref (q 2), .ref (q 3), .ref (q 4), .ref (q 5), .ref (q 6), .ref (q 7), .ref (q 8), .ref (q 9)] (fun _ => 0) (fun _ => 0)) := hD
  have hK : va_K D vwCl [(c2, .int)] s := hK.sub [0] rfl
  refine W.widen (k := 8) (n := 150) (Nat.le_of_ble_eq_true rfl) (Nat.le_of_ble_eq_true rfl) ?_
  have hC : CallFix p m c cX1_init 5 s _ lw_all RX1 := ⟨hx, hb, hml, hown, hts⟩
  generalize hQ : MQ below _ _ s 8 150 A = Q
  generalize hkk : kkF x = kk at hQ
  have hk : kk = 1 ∨ kk = 2 := by rw [← hkk]; exact kkF_2 x
  have j81 : ∀ ls : Array Slot, lv_has ls 5 [(2, .int (nI kk)), (0, .ref h)] → W p l e (headSpec (ws_ yX1_init cX1_init 5 none) rmX1_init).room s m ([.ref h, .int x] : List Value).toArray below meth c H locs 8 150 Q (F0 m 81 ls []) := by
    intro ls hl
    refine lv_aload_n hx hb dX1_init_81 rfl (lv_at hl 1 rfl) ?_
    refine lv_iload_n hx hb dX1_init_82 rfl (lv_at hl 0 rfl) ?_
    refine va_putF (D := D) (ci := 0) (v := .int (nI kk)) (ty := .int) (C := RX1) (T := TX1) (N := 10) hx hb hts in_X1 tyX1 tyX1_ok nmX1 hown hK hP hD hS 0 rfl rfl 0 (by decide) (hts _ q38) (fun _ h9 => h9) rfl hin rfl (by decide +kernel) rfl rfl (Nat.le_of_ble_eq_true rfl) dX1_init_83 (fun H locs hP hD hS => ?_)
    have hP : va_P D vwCl (tW h q c2 [.int (nI kk), .int 0, .ref (q 2), .ref (q 3), .ref (q 4), .ref (q 5), .ref (q 6), .ref (q 7), .ref (q 8), .ref (q 9)] (fun _ => 0) (fun _ => 0)) H := hP
    have hD : va_D A (tW h q c2 [.int (nI kk), .int 0, .ref (q 2), .ref (q 3), .ref (q 4), .ref (q 5), .ref (q 6), .ref (q 7), .ref (q 8), .ref (q 9)] (fun _ => 0) (fun _ => 0)) := hD
    refine lv_aload_n hx hb dX1_init_86 rfl (lv_at hl 1 rfl) ?_
    refine lv_iconst (v := nI 3) hx hb dX1_init_87 (by decide +kernel) ?_
    refine lv_iload_n hx hb dX1_init_88 rfl (lv_at hl 0 rfl) ?_
    refine n_isub hC dX1_init_89 ?_
    refine va_putF (D := D) (ci := 0) (v := .int (nI (3 - kk))) (ty := .int) (C := RX1) (T := TX1) (N := 10) hx hb hts in_X1 tyX1 tyX1_ok nmX1 hown hK hP hD hS 0 rfl rfl 1 (by decide) (hts _ q39) (fun _ h9 => h9) rfl hin rfl (by decide +kernel) rfl rfl (Nat.le_of_ble_eq_true rfl) dX1_init_90 (fun H locs hP hD hS => ?_)
    have hP : va_P D vwCl (tW h q c2 (cF q kk) (pwA 0) (lgA 0)) H := by rw [pwA_0, lgA_0]; exact hP
    have hD : va_D A (tW h q c2 (cF q kk) (pwA 0) (lgA 0)) := by rw [pwA_0, lgA_0]; exact hD
    refine lv_iconst (v := nI 1) hx hb dX1_init_93 (by decide +kernel) ?_
    refine lv_istore_n (lv' := [(3, .int (nI 1)), (2, .int (nI kk)), (0, .ref h)]) hx hb dX1_init_94 rfl hl (by decide) rfl (fun ls hl => ?_)
    refine lv_iconst (v := nI 0) hx hb dX1_init_95 (by decide +kernel) ?_
    refine lv_istore (lv' := [(4, .int (nI 0)), (3, .int (nI 1)), (2, .int (nI kk)), (0, .ref h)]) hx hb dX1_init_96 hl (by decide) rfl (fun ls hl => ?_)
    have lp : ∀ (n i : Nat) (H : Heap) (locs : List Loc) (ls : Array Slot), i ≤ 31 → 31 < i + n → va_P D vwCl (tW h q c2 (cF q kk) (pwA i) (lgA i)) H → va_D A (tW h q c2 (cF q kk) (pwA i) (lgA i)) → va_S A s.heap H locs → lv_has ls 5 [(4, .int (nI i)), (3, .int (nI (PW i))), (0, .ref h)] → W p l e (headSpec (ws_ yX1_init cX1_init 5 none) rmX1_init).room s m ([.ref h, .int x] : List Value).toArray below meth c H locs 8 150 Q (F0 m 98 ls []) := by
      intro n
      induction n with
      | zero => intro i H locs ls hi hn; exfalso; omega
      | succ n ih =>
        intro i H locs ls hi hn hP hD hS hl
        have hpw := PW_lt i
        refine lv_iload hx hb dX1_init_98 (lv_at hl 0 rfl) ?_
        refine lv_bipush (v := nI 31) hx hb dX1_init_100 (by decide +kernel) ?_
        refine n_icmp_ge (tgt := 153) hC dX1_init_102 (by decide) (fun c1 => ?_) (fun c1 => ?_)
        · rw [show i = 31 by omega, pwA_31, lgA_31] at hP hD
          subst hQ
          exact W.vret hx hb hr (fun t ht hW => ⟨⟨(q, c2), rfl, trivial, by rw [ht]; exact hP, va_K.moved hW.alike hK, hD⟩, hS.F ht⟩) hS.2.2 dX1_init_153
        · refine lv_aload_n hx hb dX1_init_105 rfl (lv_at hl 2 rfl) ?_
          refine va_get (D := D) (ci := 0) (v := .ref (q 2)) (C := RX1) (T := TX1) (N := 10) hx hb hts in_X1 hown hK hP 0 rfl rfl 2 (by decide) (hts _ q40) (fun _ h9 => h9) rfl dX1_init_106 ?_
          refine lv_iload hx hb dX1_init_109 (lv_at hl 0 rfl) ?_
          refine lv_iload_n hx hb dX1_init_111 rfl (lv_at hl 1 rfl) ?_
          refine va_iast hx hb hK hP hD hS 1 0 rfl rfl (vp_in_nI (show i < 64 by omega) (by decide)) dX1_init_112 (fun H locs hP hD hS => ?_)
          rw [nI_clamp (show i < 2 ^ 31 by omega), nA_upd] at hP hD
          have hP : va_P D vwCl (tW h q c2 (cF q kk) (up (pwA i) i (PW i)) (lgA i)) H := hP
          have hD : va_D A (tW h q c2 (cF q kk) (up (pwA i) i (PW i)) (lgA i)) := hD
          refine lv_aload_n hx hb dX1_init_113 rfl (lv_at hl 2 rfl) ?_
          refine va_get (D := D) (ci := 0) (v := .ref (q 2)) (C := RX1) (T := TX1) (N := 10) hx hb hts in_X1 hown hK hP 0 rfl rfl 2 (by decide) (hts _ q40) (fun _ h9 => h9) rfl dX1_init_114 ?_
          refine lv_iload hx hb dX1_init_117 (lv_at hl 0 rfl) ?_
          refine lv_bipush (v := nI 31) hx hb dX1_init_119 (by decide +kernel) ?_
          refine n_iadd hC dX1_init_121 ?_
          refine lv_iload_n hx hb dX1_init_122 rfl (lv_at hl 1 rfl) ?_
          refine va_iast hx hb hK hP hD hS 1 0 rfl rfl (vp_in_nI (show i + 31 < 64 by omega) (by decide)) dX1_init_123 (fun H locs hP hD hS => ?_)
          rw [nI_clamp (show i + 31 < 2 ^ 31 by omega), nA_upd] at hP hD
          have hP : va_P D vwCl (tW h q c2 (cF q kk) (up (up (pwA i) i (PW i)) (i + 31) (PW i)) (lgA i)) H := hP
          have hD : va_D A (tW h q c2 (cF q kk) (up (up (pwA i) i (PW i)) (i + 31) (PW i)) (lgA i)) := hD
          rw [pwA_s c1] at hP hD
          refine lv_aload_n hx hb dX1_init_124 rfl (lv_at hl 2 rfl) ?_
          refine va_get (D := D) (ci := 0) (v := .ref (q 3)) (C := RX1) (T := TX1) (N := 10) hx hb hts in_X1 hown hK hP 0 rfl rfl 3 (by decide) (hts _ q41) (fun _ h9 => h9) rfl dX1_init_125 ?_
          refine lv_iload_n hx hb dX1_init_128 rfl (lv_at hl 1 rfl) ?_
          refine lv_iload hx hb dX1_init_129 (lv_at hl 0 rfl) ?_
          refine va_iast hx hb hK hP hD hS 2 0 rfl rfl (vp_in_nI (show PW i < 32 by omega) (by decide)) dX1_init_131 (fun H locs hP hD hS => ?_)
          rw [nI_clamp (show PW i < 2 ^ 31 by omega), nA_upd] at hP hD
          have hP : va_P D vwCl (tW h q c2 (cF q kk) (pwA (i + 1)) (up (lgA i) (PW i) i)) H := hP
          have hD : va_D A (tW h q c2 (cF q kk) (pwA (i + 1)) (up (lgA i) (PW i) i)) := hD
          rw [lgA_s c1] at hP hD
          refine lv_iload_n hx hb dX1_init_132 rfl (lv_at hl 1 rfl) ?_
          refine lv_iconst (v := nI 1) hx hb dX1_init_133 (by decide +kernel) ?_
          refine n_ishl hC dX1_init_134 ?_
          refine lv_istore_n (lv' := [(3, .int (nI (PW i * 2 ^ 1))), (4, .int (nI i)), (0, .ref h)]) hx hb dX1_init_135 rfl hl (by decide) rfl (fun ls hl => ?_)
          refine lv_iload_n hx hb dX1_init_136 rfl (lv_at hl 0 rfl) ?_
          refine lv_bipush (v := nI 31) hx hb dX1_init_137 (by decide +kernel) ?_
          refine n_icmp_le (tgt := 147) hC dX1_init_139 (by decide) (fun c2' => ?_) (fun c2' => ?_)
          · refine lv_iinc (v := nI (i + 1)) (lv' := [(4, .int (nI (i + 1))), (3, .int (nI (PW i * 2 ^ 1))), (0, .ref h)]) hx hb dX1_init_147 hl (k := 1) rfl (ni_inc i) (by decide) rfl (fun ls hl => ?_)
            refine lv_goto (tgt := 98) hx hb dX1_init_150 (by decide) ?_
            rw [← (pw_n i c1).1 c2'] at hl
            exact ih (i + 1) _ _ _ (by omega) (by omega) hP hD hS hl
          · refine lv_iload_n hx hb dX1_init_142 rfl (lv_at hl 0 rfl) ?_
            refine lv_bipush (v := nI 37) hx hb dX1_init_143 (by decide +kernel) ?_
            refine n_ixor hC dX1_init_145 ?_
            refine lv_istore_n (lv' := [(3, .int (nI (PW i * 2 ^ 1 ^^^ 37))), (4, .int (nI i)), (0, .ref h)]) hx hb dX1_init_146 rfl hl (by decide) rfl (fun ls hl => ?_)
            refine lv_iinc (v := nI (i + 1)) (lv' := [(4, .int (nI (i + 1))), (3, .int (nI (PW i * 2 ^ 1 ^^^ 37))), (0, .ref h)]) hx hb dX1_init_147 hl (k := 1) rfl (ni_inc i) (by decide) rfl (fun ls hl => ?_)
            refine lv_goto (tgt := 98) hx hb dX1_init_150 (by decide) ?_
            rw [← (pw_n i c1).2 c2'] at hl
            exact ih (i + 1) _ _ _ (by omega) (by omega) hP hD hS hl
    exact lp 32 0 _ _ _ (by omega) (by omega) hP hD hS (lv_sub hl [0, 1, 3] rfl)
  refine lv_iload_n hx hb dX1_init_65 rfl (lv_at hl 1 rfl) ?_
  refine lv_istore_n (lv' := [(2, .int x), (0, .ref h), (1, .int x)]) hx hb dX1_init_66 rfl hl (by decide) rfl (fun ls hl => ?_)
  refine lv_iload_n hx hb dX1_init_67 rfl (lv_at hl 0 rfl) ?_
  refine lv_iconst (v := nI 1) hx hb dX1_init_68 (by decide +kernel) ?_
  refine lv_icmp_ge (tgt := 74) hx hb dX1_init_69 (by decide) (fun b1 => ?_) (fun b1 => ?_)
  · refine lv_iload_n hx hb dX1_init_74 rfl (lv_at hl 0 rfl) ?_
    refine lv_iconst (v := nI 2) hx hb dX1_init_75 (by decide +kernel) ?_
    refine lv_icmp_le (tgt := 81) hx hb dX1_init_76 (by decide) (fun b2 => ?_) (fun b2 => ?_)
    · have ex := kkF_in b1 b2
      rw [hkk] at ex
      exact j81 ls (by rw [← ex]; exact lv_sub hl [0, 1] rfl)
    · refine lv_iconst (v := nI 2) hx hb dX1_init_79 (by decide +kernel) ?_
      refine lv_istore_n (lv' := [(2, .int (nI 2)), (0, .ref h), (1, .int x)]) hx hb dX1_init_80 rfl hl (by decide) rfl (fun ls hl => ?_)
      exact j81 ls (by rw [← hkk, kkF_gt b2]; exact lv_sub hl [0, 1] rfl)
  · refine lv_iconst (v := nI 1) hx hb dX1_init_72 (by decide +kernel) ?_
    refine lv_istore_n (lv' := [(2, .int (nI 1)), (0, .ref h), (1, .int x)]) hx hb dX1_init_73 rfl hl (by decide) rfl (fun ls hl => ?_)
    refine lv_iload_n hx hb dX1_init_74 rfl (lv_at hl 0 rfl) ?_
    refine lv_iconst (v := nI 2) hx hb dX1_init_75 (by decide +kernel) ?_
    refine n_icmp_le (tgt := 81) hC dX1_init_76 (by decide) (fun b2 => ?_) (fun b2 => ?_)
    · exact j81 ls (by rw [← hkk, kkF_lt b1]; exact lv_sub hl [0, 1] rfl)
    · exfalso; omega
set_option maxHeartbeats 4000000 in
/-- the constructor -/
theorem kX2_init (l : Launch) (D : va_G) (h : Nat) (sz : Nat) (x : Int32) : Met l yX2_init (ws_ yX2_init cX2_init 2 none) rmX2_init (va_Pc [.ref h, .int x] (fun U => U.heap.size = sz ∧ va_P D vwCl [(h, .inr (1, mF0))] U.heap ∧ va_K D vwCl [] U ∧ va_D (fun _ => True) [(h, .inr (1, mF0))])) (va_Qv (fun _ : (Nat → Nat) × (ClassId × ClassId) => True) (fun v t => mB D h v.1 v.2 (kkF x) (va_A [(h, .inr (1, mF0))] sz) mS0 t) (va_A [(h, .inr (1, mF0))] sz)) 4 47 (va_A [(h, .inr (1, mF0))] sz) := by
  refine Met.ofW (cc := cX2_init) (maxL := 2) (ret := none) (by decide) rfl ?_
  intro p e s m args below meth c s₁ B hml hv
  obtain ⟨rfl, hsz, hP, hK, hD0⟩ := hv
  have hx := B.exec
  have hb := B.bytes
  have hr := B.returns
  have hts := atoms_spec (ws := ws_ yX2_init cX2_init 2 none) B.pre
  have hts : ∀ w ∈ lw_all, w.before _ s = true := fun w h => hts w (List.mem_cons_of_mem _ h)
  have hown : s.vm.findClass RX2 = some m.cls := findClass_of_methodNamed B.named
  have hlocks := B.notSynchronized
  have hin : meth.name = "<init>" := (name_of_methodNamed B.named B.method).1
  subst hsz
  have hD := hD0.self (sz := s.heap.size)
  generalize hAe : va_A [(h, .inr (1, mF0))] s.heap.size = A at hD ⊢
  have hA : ∀ q : Nat, s.heap.size ≤ q → A q := fun q h => by rw [← hAe]; exact Or.inr h
  have hS : va_S A s.heap s.heap [] := va_S.rf
  have hl := lv_entry ([.ref h, .int x]) (n := 2) (Nat.le_of_ble_eq_true rfl)
  rw [lg_entry_eq]
  generalize (lg_sl ([.ref h, .int x]) ++ List.replicate (2 - (lg_sl ([.ref h, .int x])).length) Slot.unset).toArray = ls at hl ⊢
  have hl : lv_has ls 2 [(0, .ref h), (1, .int x)] := hl
  refine lv_aload_n hx hb dX2_init_0 rfl (lv_at hl 0 rfl) ?_
  refine W.objInit hx hb hown (hts _ q218) (hts _ q36) (hts _ q37) rfl (by rw [hml]; exact hl.1) rfl dX2_init_1 (Nat.le_of_ble_eq_true rfl) (Nat.le_of_ble_eq_true rfl) ?_
  refine W.eq (g2 := F0 m 4 ls []) rfl ?_
  refine lv_aload_n hx hb dX2_init_4 rfl (lv_at hl 0 rfl) ?_
  refine lv_iconst (v := 5) hx hb dX2_init_5 (by decide +kernel) ?_
  refine va_newa (atype := .int) (ty := .int) (N' := 5) (a0 := (5, .inl (nA fun _ => 0))) hx hb (hts _ q69) rfl hK hP hD hS hA (fun _ => rfl) (by decide +kernel) (by decide +kernel) (by decide) (Nat.le_of_ble_eq_true rfl) (Nat.le_of_ble_eq_true rfl) dX2_init_6 (fun p0 c0 H hK hP hD hS => ?_)
  have hP : va_P D vwCl [(h, .inr (1, [.null, .null, .null, .null, .int 0])), (p0, .inl (c0, 5, .inl (nA fun _ => 0)))] H := hP
  have hD : va_D A [(h, .inr (1, [.null, .null, .null, .null, .int 0])), (p0, .inl (c0, 5, .inl (nA fun _ => 0)))] := hD
  have hK : va_K D vwCl [(c0, .int)] s := hK
  refine va_putF (D := D) (ci := 1) (v := .ref p0) (ty := .array .int) (C := RX2) (T := TX2) (N := 5) hx hb hts in_X2 tyX2 tyX2_ok nmX2 hown hK hP hD hS 0 rfl rfl 0 (by decide) (hts _ q219) (fun _ h9 => h9) rfl hin rfl (by decide +kernel) rfl rfl (Nat.le_of_ble_eq_true rfl) dX2_init_8 (fun H locs hP hD hS => ?_)
  have hP : va_P D vwCl [(h, .inr (1, [.ref p0, .null, .null, .null, .int 0])), (p0, .inl (c0, 5, .inl (nA fun _ => 0)))] H := hP
  have hD : va_D A [(h, .inr (1, [.ref p0, .null, .null, .null, .int 0])), (p0, .inl (c0, 5, .inl (nA fun _ => 0)))] := hD
  refine lv_aload_n hx hb dX2_init_11 rfl (lv_at hl 0 rfl) ?_
  refine lv_iconst (v := 5) hx hb dX2_init_12 (by decide +kernel) ?_
  refine va_newa (atype := .int) (ty := .int) (N' := 5) (a0 := (5, .inl (nA fun _ => 0))) hx hb (hts _ q69) rfl hK hP hD hS hA (fun _ => rfl) (by decide +kernel) (by decide +kernel) (by decide) (Nat.le_of_ble_eq_true rfl) (Nat.le_of_ble_eq_true rfl) dX2_init_13 (fun p1 c1 H hK hP hD hS => ?_)
  have hP : va_P D vwCl [(h, .inr (1, [.ref p0, .null, .null, .null, .int 0])), (p0, .inl (c0, 5, .inl (nA fun _ => 0))), (p1, .inl (c1, 5, .inl (nA fun _ => 0)))] H := hP
  have hD : va_D A [(h, .inr (1, [.ref p0, .null, .null, .null, .int 0])), (p0, .inl (c0, 5, .inl (nA fun _ => 0))), (p1, .inl (c1, 5, .inl (nA fun _ => 0)))] := hD
  have hK : va_K D vwCl [(c0, .int), (c1, .int)] s := hK
  refine va_putF (D := D) (ci := 1) (v := .ref p1) (ty := .array .int) (C := RX2) (T := TX2) (N := 5) hx hb hts in_X2 tyX2 tyX2_ok nmX2 hown hK hP hD hS 0 rfl rfl 1 (by decide) (hts _ q220) (fun _ h9 => h9) rfl hin rfl (by decide +kernel) rfl rfl (Nat.le_of_ble_eq_true rfl) dX2_init_15 (fun H locs hP hD hS => ?_)
  have hP : va_P D vwCl [(h, .inr (1, [.ref p0, .ref p1, .null, .null, .int 0])), (p0, .inl (c0, 5, .inl (nA fun _ => 0))), (p1, .inl (c1, 5, .inl (nA fun _ => 0)))] H := hP
  have hD : va_D A [(h, .inr (1, [.ref p0, .ref p1, .null, .null, .int 0])), (p0, .inl (c0, 5, .inl (nA fun _ => 0))), (p1, .inl (c1, 5, .inl (nA fun _ => 0)))] := hD
  refine lv_aload_n hx hb dX2_init_18 rfl (lv_at hl 0 rfl) ?_
  refine lv_iconst (v := 5) hx hb dX2_init_19 (by decide +kernel) ?_
  refine va_newa (atype := .int) (ty := .int) (N' := 5) (a0 := (5, .inl (nA fun _ => 0))) hx hb (hts _ q69) rfl hK hP hD hS hA (fun _ => rfl) (by decide +kernel) (by decide +kernel) (by decide) (Nat.le_of_ble_eq_true rfl) (Nat.le_of_ble_eq_true rfl) dX2_init_20 (fun p2 c2 H hK hP hD hS => ?_)
  have hP : va_P D vwCl [(h, .inr (1, [.ref p0, .ref p1, .null, .null, .int 0])), (p0, .inl (c0, 5, .inl (nA fun _ => 0))), (p1, .inl (c1, 5, .inl (nA fun _ => 0))), (p2, .inl (c2, 5, .inl (nA fun _ => 0)))] H := hP
  have hD : va_D A [(h, .inr (1, [.ref p0, .ref p1, .null, .null, .int 0])), (p0, .inl (c0, 5, .inl (nA fun _ => 0))), (p1, .inl (c1, 5, .inl (nA fun _ => 0))), (p2, .inl (c2, 5, .inl (nA fun _ => 0)))] := hD
  have hK : va_K D vwCl [(c0, .int), (c1, .int), (c2, .int)] s := hK
  refine va_putF (D := D) (ci := 1) (v := .ref p2) (ty := .array .int) (C := RX2) (T := TX2) (N := 5) hx hb hts in_X2 tyX2 tyX2_ok nmX2 hown hK hP hD hS 0 rfl rfl 2 (by decide) (hts _ q221) (fun _ h9 => h9) rfl hin rfl (by decide +kernel) rfl rfl (Nat.le_of_ble_eq_true rfl) dX2_init_22 (fun H locs hP hD hS => ?_)
  have hP : va_P D vwCl [(h, .inr (1, [.ref p0, .ref p1, .ref p2, .null, .int 0])), (p0, .inl (c0, 5, .inl (nA fun _ => 0))), (p1, .inl (c1, 5, .inl (nA fun _ => 0))), (p2, .inl (c2, 5, .inl (nA fun _ => 0)))] H := hP
  have hD : va_D A [(h, .inr (1, [.ref p0, .ref p1, .ref p2, .null, .int 0])), (p0, .inl (c0, 5, .inl (nA fun _ => 0))), (p1, .inl (c1, 5, .inl (nA fun _ => 0))), (p2, .inl (c2, 5, .inl (nA fun _ => 0)))] := hD
  refine lv_aload_n hx hb dX2_init_25 rfl (lv_at hl 0 rfl) ?_
  refine lv_bipush (v := 32) hx hb dX2_init_26 (by decide +kernel) ?_
  refine va_newa (atype := .boolean) (ty := .boolean) (N' := 32) (a0 := (32, .inl (nA fun _ => 0))) hx hb (hts _ q235) rfl hK hP hD hS hA (fun _ => rfl) (by decide +kernel) (by decide +kernel) (by decide) (Nat.le_of_ble_eq_true rfl) (Nat.le_of_ble_eq_true rfl) dX2_init_28 (fun p3 c3 H hK hP hD hS => ?_)
  have hP : va_P D vwCl [(h, .inr (1, [.ref p0, .ref p1, .ref p2, .null, .int 0])), (p0, .inl (c0, 5, .inl (nA fun _ => 0))), (p1, .inl (c1, 5, .inl (nA fun _ => 0))), (p2, .inl (c2, 5, .inl (nA fun _ => 0))), (p3, .inl (c3, 32, .inl (nA fun _ => 0)))] H := hP
  have hD : va_D A [(h, .inr (1, [.ref p0, .ref p1, .ref p2, .null, .int 0])), (p0, .inl (c0, 5, .inl (nA fun _ => 0))), (p1, .inl (c1, 5, .inl (nA fun _ => 0))), (p2, .inl (c2, 5, .inl (nA fun _ => 0))), (p3, .inl (c3, 32, .inl (nA fun _ => 0)))] := hD
  have hK : va_K D vwCl [(c0, .int), (c1, .int), (c2, .int), (c3, .boolean)] s := hK
  refine va_putF (D := D) (ci := 1) (v := .ref p3) (ty := .array .boolean) (C := RX2) (T := TX2) (N := 5) hx hb hts in_X2 tyX2 tyX2_ok nmX2 hown hK hP hD hS 0 rfl rfl 3 (by decide) (hts _ q222) (fun _ h9 => h9) rfl hin rfl (by decide +kernel) rfl rfl (Nat.le_of_ble_eq_true rfl) dX2_init_30 (fun H locs hP hD hS => ?_)
  have hP : va_P D vwCl [(h, .inr (1, [.ref p0, .ref p1, .ref p2, .ref p3, .int 0])), (p0, .inl (c0, 5, .inl (nA fun _ => 0))), (p1, .inl (c1, 5, .inl (nA fun _ => 0))), (p2, .inl (c2, 5, .inl (nA fun _ => 0))), (p3, .inl (c3, 32, .inl (nA fun _ => 0)))] H := hP
  have hD : va_D A [(h, .inr (1, [.ref p0, .ref p1, .ref p2, .ref p3, .int 0])), (p0, .inl (c0, 5, .inl (nA fun _ => 0))), (p1, .inl (c1, 5, .inl (nA fun _ => 0))), (p2, .inl (c2, 5, .inl (nA fun _ => 0))), (p3, .inl (c3, 32, .inl (nA fun _ => 0)))] := hD
  obtain rfl : c0 = c1 := Option.some.inj ((show s.vm.findClass ("[" ++ FieldType.int.toString) = some c0 from (hK.2 0 _ rfl).2).symm.trans (show s.vm.findClass ("[" ++ FieldType.int.toString) = some c1 from (hK.2 1 _ rfl).2))
  obtain rfl : c0 = c2 := Option.some.inj ((show s.vm.findClass ("[" ++ FieldType.int.toString) = some c0 from (hK.2 0 _ rfl).2).symm.trans (show s.vm.findClass ("[" ++ FieldType.int.toString) = some c2 from (hK.2 2 _ rfl).2))
  obtain ⟨q, e0, e1, e2, e3⟩ : ∃ q : Nat → Nat, p0 = q 0 ∧ p1 = q 1 ∧ p2 = q 2 ∧ p3 = q 3 := ⟨fun j => if j = 0 then p0 else if j = 1 then p1 else if j = 2 then p2 else if j = 3 then p3 else 0, rfl, rfl, rfl, rfl⟩
  subst e0
  subst e1
  subst e2
  subst e3
  have hP : va_P D vwCl [(h, .inr (1, [.ref (q 0), .ref (q 1), .ref (q 2), .ref (q 3), .int 0])), (q 0, .inl (c0, 5, .inl (nA fun _ => 0))), (q 1, .inl (c0, 5, .inl (nA fun _ => 0))), (q 2, .inl (c0, 5, .inl (nA fun _ => 0))), (q 3, .inl (c3, 32, .inl (nA fun _ => 0)))] H := hP
  have hD : va_D A [(h, .inr (1, [.ref (q 0), .ref (q 1), .ref (q 2), .ref (q 3), .int 0])), (q 0, .inl (c0, 5, .inl (nA fun _ => 0))), (q 1, .inl (c0, 5, .inl (nA fun _ => 0))), (q 2, .inl (c0, 5, .inl (nA fun _ => 0))), (q 3, .inl (c3, 32, .inl (nA fun _ => 0)))] := hD
  have hK : va_K D vwCl [(c0, .int), (c3, .boolean)] s := hK.sub [0, 3] rfl
  refine W.widen (k := 4) (n := 47) (Nat.le_of_ble_eq_true rfl) (Nat.le_of_ble_eq_true rfl) ?_
  generalize hQ : MQ below _ _ s 4 47 A = Q
  have j53 : ∀ ls : Array Slot, W p l e (headSpec (ws_ yX2_init cX2_init 2 none) rmX2_init).room s m ([.ref h, .int x] : List Value).toArray below meth c H locs 4 47 Q (F0 m 53 ls [.int (nI (kkF x)), .ref h]) := by
    intro ls
    refine va_put (D := D) (ci := 1) (v := .int (nI (kkF x))) (ty := .int) (C := RX2) (T := TX2) (N := 5) hx hb hts in_X2 tyX2 tyX2_ok nmX2 hown hK hP hD hS 0 rfl rfl 4 (by decide) (hts _ q223) (fun _ h9 => h9) rfl (by decide +kernel) rfl rfl (Nat.le_of_ble_eq_true rfl) dX2_init_53 (fun H locs hP hD hS => ?_)
    have hP : va_P D vwCl (mW h q (c0, c3) (kkF x) mS0) H := hP
    have hD : va_D A (mW h q (c0, c3) (kkF x) mS0) := hD
    subst hQ
    exact W.vret hx hb hr (fun t ht hW => ⟨⟨(q, (c0, c3)), rfl, trivial, by rw [ht]; exact hP, va_K.moved hW.alike hK, hD⟩, hS.F ht⟩) hS.2.2 dX2_init_56
  refine lv_aload_n hx hb dX2_init_33 rfl (lv_at hl 0 rfl) ?_
  refine lv_iload_n hx hb dX2_init_34 rfl (lv_at hl 1 rfl) ?_
  refine lv_iconst (v := nI 1) hx hb dX2_init_35 (by decide +kernel) ?_
  refine lv_icmp_ge (tgt := 43) hx hb dX2_init_36 (by decide) (fun b1 => ?_) (fun b1 => ?_)
  · refine lv_iload_n hx hb dX2_init_43 rfl (lv_at hl 1 rfl) ?_
    refine lv_iconst (v := nI 2) hx hb dX2_init_44 (by decide +kernel) ?_
    refine lv_icmp_le (tgt := 52) hx hb dX2_init_45 (by decide) (fun b2 => ?_) (fun b2 => ?_)
    · refine lv_iload_n hx hb dX2_init_52 rfl (lv_at hl 1 rfl) ?_
      exact n_top (kkF_in b1 b2) (j53 ls)
    · refine lv_iconst (v := nI 2) hx hb dX2_init_48 (by decide +kernel) ?_
      refine lv_goto (tgt := 53) hx hb dX2_init_49 (by decide) ?_
      exact n_top (by rw [kkF_gt b2]) (j53 ls)
  · refine lv_iconst (v := nI 1) hx hb dX2_init_39 (by decide +kernel) ?_
    refine lv_goto (tgt := 53) hx hb dX2_init_40 (by decide) ?_
    exact n_top (by rw [kkF_lt b1]) (j53 ls)
end
section
set_option maxRecDepth 100000
/-! THE CLAIM OUT OF ONE WALK OF THE LAW'S BODY. Your part is whole_start (and what it stands on); all else here is the same for every law, but numbers. -/
def R_law : String := "RankMetricCodeLaw"
def lw_P (b : Addr) (xs : List Int32) (args : Array Value) (s : State) : Prop := args = #[.ref b] ∧ s.IntsAt b xs ∧ xs.length ≤ 193 ∧ (Jvm.Cond.and given_1 narrow_1).before args s = true
def lw_Q (_ : Array Value) (s : State) (o : Outcome) (t : State) : Prop := o = .returned (some (.int 1)) ∧ Framed s o t [] 600000 7290000
def lw_Z (below : List Frame) (a : Array Value) (s : State) : State → Prop := fun t => ∃ o, t.status = .running ∧ Ended t below o ∧ lw_Q a s o t
/-- the law's own end, with 1 on the stack, nothing written that was there before, its room as the claim has it -/
theorem lw_ret {p : Program} {l : Launch} {e : Env} {s : State} {m : MethodId} {below : List Frame} {meth : Method} {c : Code} {b : Nat} (hx : p.tables.exec = Jvm.exec) (hb : c.code = code) (hr : meth.sig.returnType = ret) (hlocks : meth.locks = false) {pc : Nat} {H : Heap} {ls : Array Slot} (hdg : decode code pc = .ok (.ireturn, 1)) : W p l e room_1 s m #[Value.ref b] below meth c H [] 600000 7290000 (lw_Z below #[Value.ref b] s) (F0 m pc ls [.int 1]) := by
  intro T hT X
  obtain ⟨fs, hret, hrun, hended, hW, hframe⟩ := X.leave (v := some (.int 1)) (hlocks := hlocks) (fun h => by rw [hr] at h; cases h)
  have hmeth' : T.vm.method? m = some meth := X.method'
  refine ⟨T.setFrames fs, ?_, .returned (some (.int 1)), hrun, hended, rfl, ⟨_, rfl⟩, hW, hframe⟩
  jvm_step X.here [X.here.top, hx, hb, hdg, hmeth', hr, ret, narrow_b1]
  (try refine ⟨rfl, ?_⟩); (try refine ⟨rfl, ?_⟩)
  first | (intro acts; rw [hret _ acts rfl rfl rfl]) | rw [hret _ _ rfl rfl rfl]
  exact Steps.refl _
/-- what holds at the law's entry: the machine, the code, the tables' words (any of lw_tbl by 'hts w (by decide +kernel)'), the script of L ints xs at the cell b, what the Statement gives of the start (any of its parts by flat_of_before) -/
def lw_At (p : Program) (s : State) (m : MethodId) (meth : Method) (c : Code) (b L : Nat) (xs : Nat → Int32) : Prop :=
  p.tables.exec = Jvm.exec ∧ c.code = code ∧ meth.sig.returnType = ret ∧ c.maxLocals = 4 ∧ s.vm.findClass R_law = some m.cls ∧ (∀ w ∈ lw_tbl, w.before #[Value.ref b] s = true) ∧ va_X b L xs s s.heap ∧ b < s.heap.size ∧ meth.locks = false ∧ (Jvm.Cond.and given_1 narrow_1).before #[Value.ref b] s = true
/-- the law's world: the component's cells and the model's -/
abbrev lW (h : Nat) (q : Nat → Nat) (dA : ClassId) (g : Nat) (z : Nat → Nat) (dB : ClassId × ClassId) (kk : Nat) (u : CS) (v : MS) : va_W := cW h q dA kk u ++ mW g z dB kk v
def lI (D : va_G) (h : Nat) (q : Nat → Nat) (dA : ClassId) (g : Nat) (z : Nat → Nat) (dB : ClassId × ClassId) (kk : Nat) (A : Nat → Prop) (H0 : Heap) (u : CS) (v : MS) (H : Heap) (locs : List Loc) : Prop := va_P D vwCl (lW h q dA g z dB kk u v) H ∧ va_D A (lW h q dA g z dB kk u v) ∧ va_S A H0 H locs ∧ ∀ y, H0.size ≤ y → A y
def lX (p : Program) (m : MethodId) (c : Code) (cc : ByteArray) (nL : Nat) (s : State) (args : Array Value) (D : va_G) (dA : ClassId) (dB : ClassId × ClassId) : Prop := CallFix p m c cc nL s args lw_all RX0 ∧ va_K D vwCl (cT dA ++ mT dB) s
section LROWS
variable {p : Program} {l : Launch} {e : Env} {R : Room} {s : State} {m : MethodId} {args : Array Value} {below : List Frame} {meth : Method} {c : Code} {H : Heap} {locs : List Loc} {cells slots : Nat} {Q : State → Prop}
variable {cc : ByteArray} {pc nL : Nat} {ls : Array Slot} {rest : List Value}
variable {D : va_G} {h : Nat} {q : Nat → Nat} {dA : ClassId} {g : Nat} {z : Nat → Nat} {dB : ClassId × ClassId} {kk : Nat} {A : Nat → Prop} {u : CS} {v : MS}
theorem l_callc (hC : lX p m c cc nL s args D dA dB) (hI : lI D h q dA g z dB kk A s.heap u v H locs) {y : MethodName} {bytes : ByteArray} {maxL n index : Nat} {ret : Option FieldType} {rm : Room} {As st : List Value} {post : Int32 → CS → Prop} (hM : cMi l y (ws_ y bytes maxL ret) rm D h q dA kk As u post) (hT : GoodIn lw_all (wsV RX0 index RX1 y (ws_ y bytes maxL ret)))
    (hd : y.cls = RX1 ∧ y.cls ≠ "java/lang/invoke/MethodHandle" ∧ y.cls ≠ "java/lang/invoke/VarHandle" ∧ (parseMethodDescriptor y.desc).map (fun d => d.parameters.length) = some n) (hz : rm.cells = 0 ∧ rm.slots = 0) (hR : rm.frames + 1 ≤ R.frames ∧ 8 + (maxL + 11) + rm.locals ≤ R.locals) (hn : As.length = n) (hsz : ls.size = nL) (hst : st = As.reverse ++ .ref h :: rest) (hrest : (rest.map fun v => v.category).sum ≤ 8) (hcs : cells ≤ R.cells ∧ slots ≤ R.slots) (hdg : decode cc pc = .ok (.invokevirtual index, 3))
    (kk2 : ∀ (r : Int32) (u' : CS) (H1 : Heap) (locs1 : List Loc), post r u' → lI D h q dA g z dB kk A s.heap u' v H1 locs1 → W p l e R s m args below meth c H1 locs1 cells slots Q (F0 m (pc + 3) ls (.int r :: rest))) : W p l e R s m args below meth c H locs cells slots Q (F0 m pc ls st) := by
  have hPc : va_P D vwCl (cW h q dA kk u) H := hI.1.sub [0, 1, 2, 3, 4, 5, 6, 7, 8] rfl
  have hDc : va_D A (cW h q dA kk u) := hI.2.1.sub [0, 1, 2, 3, 4, 5, 6, 7, 8] (by decide) rfl
  have hKc : va_K D vwCl (cT dA) s := hC.2.sub [0] rfl
  have hFc := va_free (wc := cW h q dA kk u) hI.2.1 hI.2.2.1 hI.2.2.2 [0, 1, 2, 3, 4, 5, 6, 7, 8] rfl
  refine va_calli (va_runV (As := As) (rest := rest) (index := index) hC.1 (hM H.size) (cwV n hC.1.2.2.2.2 hT rfl hz.1 hz.2 hd hR) ⟨fun a U g mk z => by obtain ⟨q0, q1, qP, qK, qD⟩ := z; exact ⟨q0, q1, qP, va_K.moved (u := U) (U := U.calling g mk a) (Vm.Alike.refl U.vm) qK, qD⟩, va_recv hKc hPc (ci := 0) (q0 := 0) rfl rfl, fun U hU hW => ⟨rfl, by rw [hU], by rw [hU]; exact hPc, va_K.moved hW.alike hKc, hDc.weaken (fun _ _ _ _ => trivial)⟩⟩ rfl hn hsz hst (lv_room hrest) hdg hcs) hI.2.2.1 (fun z _ h => hFc z h) hFc (fun r u' t H1 locs1 ht hvm hp hB hz1 hk1 hS => ?_)
  obtain ⟨hP1, hK1, hD1⟩ := hB
  rw [ht] at hP1
  obtain ⟨hP2, hD2⟩ := va_join (wr := mW g z dB kk v) (w1 := cW h q dA kk u') hI.1 hI.2.1 [0, 1, 2, 3, 4, 5, 6, 7, 8] [9, 10, 11, 12, 13] rfl rfl (by decide) (by decide) hk1 hFc hP1 hD1
  exact kk2 r u' H1 locs1 hp ⟨hP2.sub [5, 6, 7, 8, 9, 10, 11, 12, 13, 0, 1, 2, 3, 4] rfl, hD2.sub [5, 6, 7, 8, 9, 10, 11, 12, 13, 0, 1, 2, 3, 4] (by decide) rfl, hS, hI.2.2.2⟩
theorem l_callm (hC : lX p m c cc nL s args D dA dB) (hI : lI D h q dA g z dB kk A s.heap u v H locs) {y : MethodName} {bytes : ByteArray} {maxL n index : Nat} {ret : Option FieldType} {rm : Room} {As st : List Value} {post : Int32 → MS → Prop} (hM : mMi l y (ws_ y bytes maxL ret) rm D g z dB kk As v post) (hT : GoodIn lw_all (wsV RX0 index RX2 y (ws_ y bytes maxL ret)))
    (hd : y.cls = RX2 ∧ y.cls ≠ "java/lang/invoke/MethodHandle" ∧ y.cls ≠ "java/lang/invoke/VarHandle" ∧ (parseMethodDescriptor y.desc).map (fun d => d.parameters.length) = some n) (hz : rm.cells = 0 ∧ rm.slots = 0) (hR : rm.frames + 1 ≤ R.frames ∧ 8 + (maxL + 11) + rm.locals ≤ R.locals) (hn : As.length = n) (hsz : ls.size = nL) (hst : st = As.reverse ++ .ref g :: rest) (hrest : (rest.map fun v => v.category).sum ≤ 8) (hcs : cells ≤ R.cells ∧ slots ≤ R.slots) (hdg : decode cc pc = .ok (.invokevirtual index, 3))
    (kk2 : ∀ (r : Int32) (u' : MS) (H1 : Heap) (locs1 : List Loc), post r u' → lI D h q dA g z dB kk A s.heap u u' H1 locs1 → W p l e R s m args below meth c H1 locs1 cells slots Q (F0 m (pc + 3) ls (.int r :: rest))) : W p l e R s m args below meth c H locs cells slots Q (F0 m pc ls st) := by
  have hPc : va_P D vwCl (mW g z dB kk v) H := hI.1.sub [9, 10, 11, 12, 13] rfl
  have hDc : va_D A (mW g z dB kk v) := hI.2.1.sub [9, 10, 11, 12, 13] (by decide) rfl
  have hKc : va_K D vwCl (mT dB) s := hC.2.sub [1, 2] rfl
  have hFc := va_free (wc := mW g z dB kk v) hI.2.1 hI.2.2.1 hI.2.2.2 [9, 10, 11, 12, 13] rfl
  refine va_calli (va_runV (As := As) (rest := rest) (index := index) hC.1 (hM H.size) (cwV n hC.1.2.2.2.2 hT rfl hz.1 hz.2 hd hR) ⟨fun a U g mk z => by obtain ⟨q0, q1, qP, qK, qD⟩ := z; exact ⟨q0, q1, qP, va_K.moved (u := U) (U := U.calling g mk a) (Vm.Alike.refl U.vm) qK, qD⟩, va_recv hKc hPc (ci := 1) (q0 := 0) rfl rfl, fun U hU hW => ⟨rfl, by rw [hU], by rw [hU]; exact hPc, va_K.moved hW.alike hKc, hDc.weaken (fun _ _ _ _ => trivial)⟩⟩ rfl hn hsz hst (lv_room hrest) hdg hcs) hI.2.2.1 (fun z _ h => hFc z h) hFc (fun r u' t H1 locs1 ht hvm hp hB hz1 hk1 hS => ?_)
  obtain ⟨hP1, hK1, hD1⟩ := hB
  rw [ht] at hP1
  obtain ⟨hP2, hD2⟩ := va_join (wr := cW h q dA kk u) (w1 := mW g z dB kk u') hI.1 hI.2.1 [9, 10, 11, 12, 13] [0, 1, 2, 3, 4, 5, 6, 7, 8] rfl rfl (by decide) (by decide) hk1 hFc hP1 hD1
  exact kk2 r u' H1 locs1 hp ⟨hP2.sub [0, 1, 2, 3, 4, 5, 6, 7, 8, 9, 10, 11, 12, 13] rfl, hD2.sub [0, 1, 2, 3, 4, 5, 6, 7, 8, 9, 10, 11, 12, 13] (by decide) rfl, hS, hI.2.2.2⟩
end LROWS
abbrev rmX0_cell : Room := { frames := 0, cells := 0, slots := 0, locals := 0 }
def xs0 (L : Nat) (xs : Nat → Int32) : Int32 := if 0 < L then xs 0 else nI 0
set_option maxHeartbeats 4000000 in
/-- cell(script, 0) -/
theorem kX0_cell (l : Launch) (b L : Nat) (xs : Nat → Int32) (hL : L ≤ 193) : Met l yX0_cell (ws_ yX0_cell cX0_cell 2 (some .int)) rmX0_cell (va_Pc [.ref b, .int (nI 0)] (fun U => va_X b L xs U U.heap)) (va_Qi (fun r (_ : Unit) => r = xs0 L xs) (fun _ _ => True) (fun _ => False)) 0 0 (fun _ => False) := by
  refine Met.ofW (cc := cX0_cell) (maxL := 2) (ret := some .int) (by decide) rfl ?_
  intro p e s m args below meth c s₁ B hml hv
  obtain ⟨rfl, hX⟩ := hv
  have hx := B.exec
  have hb := B.bytes
  have hr := B.returns
  have hts := atoms_spec (ws := ws_ yX0_cell cX0_cell 2 (some .int)) B.pre
  have hts : ∀ w ∈ lw_all, w.before _ s = true := fun w h => hts w (List.mem_cons_of_mem _ h)
  have hown : s.vm.findClass RX0 = some m.cls := findClass_of_methodNamed B.named
  have hlocks := B.notSynchronized
  have hS : va_S (fun _ => False) s.heap s.heap [] := va_S.rf
  have hC : CallFix p m c cX0_cell 2 s _ lw_all RX0 := ⟨hx, hb, hml, hown, hts⟩
  have hbl : b < s.heap.size := by obtain ⟨scr, h1, -⟩ := hX; exact (Array.getElem?_eq_some_iff.mp h1).1
  have hl := lv_entry ([.ref b, .int (nI 0)]) (n := 2) (Nat.le_of_ble_eq_true rfl)
  rw [lg_entry_eq]
  generalize (lg_sl ([.ref b, .int (nI 0)]) ++ List.replicate (2 - (lg_sl ([.ref b, .int (nI 0)])).length) Slot.unset).toArray = ls at hl ⊢
  have hl : lv_has ls 2 [(0, .ref b), (1, .int (nI 0))] := hl
  refine lv_iload_n hx hb dX0_cell_0 rfl (lv_at hl 1 rfl) ?_
  refine lv_aload_n hx hb dX0_cell_1 rfl (lv_at hl 0 rfl) ?_
  refine va_slen hx hb hX hbl (fun h => h) hS dX0_cell_2 ?_
  refine n_top (y := nI L) rfl ?_
  refine n_icmp_ge (tgt := 12) hC dX0_cell_3 (by decide) (fun c3 => ?_) (fun c3 => ?_)
  · refine lv_iconst (v := nI 0) hx hb dX0_cell_12 (by decide +kernel) ?_
    exact W.iret (v := nI 0) hx hb hr (fun t ht hW => ⟨⟨_, (), rfl, by unfold xs0; rw [if_neg (by omega)], trivial⟩, hS.F ht⟩) hS.2.2 dX0_cell_13
  · refine lv_aload_n hx hb dX0_cell_6 rfl (lv_at hl 0 rfl) ?_
    refine lv_iload_n hx hb dX0_cell_7 rfl (lv_at hl 1 rfl) ?_
    refine va_sld hx hb hX hbl (fun h => h) hS (vp_in_nI c3 (by omega)) dX0_cell_8 ?_
    refine lv_goto (tgt := 13) hx hb dX0_cell_9 (by decide) ?_
    exact W.iret hx hb hr (fun t ht hW => ⟨⟨_, (), rfl, by unfold xs0; rw [if_pos c3]; exact congrArg xs (nI_clamp (by decide)), trivial⟩, hS.F ht⟩) hS.2.2 dX0_cell_13
theorem llX1_size : GoodIn lw_all (wsV RX0 21 RX1 yX1_size (ws_ yX1_size cX1_size 1 (some .int))) := lw_V q70 q71 q72 q28 q73
theorem llX2_size : GoodIn lw_all (wsV RX0 25 RX2 yX2_size (ws_ yX2_size cX2_size 1 (some .int))) := lw_V q236 q237 q238 q29 q239
theorem llX1_times : GoodIn lw_all (wsV RX0 26 RX1 yX1_times (ws_ yX1_times cX1_times 3 (some .int))) := lw_V q74 q75 q76 q28 q77
theorem llX2_times : GoodIn lw_all (wsV RX0 30 RX2 yX2_times (ws_ yX2_times cX2_times 3 (some .int))) := lw_V q240 q241 q242 q29 q243
theorem llX1_over : GoodIn lw_all (wsV RX0 31 RX1 yX1_over (ws_ yX1_over cX1_over 3 (some .int))) := lw_V q86 q87 q88 q28 q89
theorem llX2_over : GoodIn lw_all (wsV RX0 34 RX2 yX2_over (ws_ yX2_over cX2_over 5 (some .int))) := lw_V q252 q253 q254 q29 q255
theorem llX1_encode : GoodIn lw_all (wsV RX0 35 RX1 yX1_encode (ws_ yX1_encode cX1_encode 4 (some .int))) := lw_V q94 q95 q96 q28 q97
theorem llX2_encode : GoodIn lw_all (wsV RX0 38 RX2 yX2_encode (ws_ yX2_encode cX2_encode 4 (some .int))) := lw_V q256 q257 q258 q29 q259
theorem llX1_put : GoodIn lw_all (wsV RX0 39 RX1 yX1_put (ws_ yX1_put cX1_put 4 (some .int))) := lw_V q106 q107 q108 q28 q109
theorem llX2_put : GoodIn lw_all (wsV RX0 42 RX2 yX2_put (ws_ yX2_put cX2_put 4 (some .int))) := lw_V q268 q269 q270 q29 q271
theorem llX1_symbol : GoodIn lw_all (wsV RX0 43 RX1 yX1_symbol (ws_ yX1_symbol cX1_symbol 2 (some .int))) := lw_V q110 q111 q112 q28 q113
theorem llX2_symbol : GoodIn lw_all (wsV RX0 47 RX2 yX2_symbol (ws_ yX2_symbol cX2_symbol 2 (some .int))) := lw_V q272 q273 q274 q29 q275
theorem llX1_disturb : GoodIn lw_all (wsV RX0 48 RX1 yX1_disturb (ws_ yX1_disturb cX1_disturb 4 (some .int))) := lw_V q114 q115 q116 q28 q117
theorem llX2_disturb : GoodIn lw_all (wsV RX0 51 RX2 yX2_disturb (ws_ yX2_disturb cX2_disturb 4 (some .int))) := lw_V q276 q277 q278 q29 q279
theorem llX1_rank : GoodIn lw_all (wsV RX0 52 RX1 yX1_rank (ws_ yX1_rank cX1_rank 1 (some .int))) := lw_V q130 q119 q120 q28 q121
theorem llX2_rank : GoodIn lw_all (wsV RX0 55 RX2 yX2_rank (ws_ yX2_rank cX2_rank 1 (some .int))) := lw_V q292 q281 q282 q29 q283
theorem llX1_distance : GoodIn lw_all (wsV RX0 56 RX1 yX1_distance (ws_ yX1_distance cX1_distance 6 (some .int))) := lw_V q131 q123 q124 q28 q125
theorem llX2_distance : GoodIn lw_all (wsV RX0 59 RX2 yX2_distance (ws_ yX2_distance cX2_distance 3 (some .int))) := lw_V q293 q294 q295 q29 q296
theorem llX1_errors : GoodIn lw_all (wsV RX0 60 RX1 yX1_errors (ws_ yX1_errors cX1_errors 2 (some .int))) := lw_V q132 q133 q134 q28 q135
theorem llX2_errors : GoodIn lw_all (wsV RX0 63 RX2 yX2_errors (ws_ yX2_errors cX2_errors 2 (some .int))) := lw_V q297 q298 q299 q29 q300
theorem llX1_message : GoodIn lw_all (wsV RX0 64 RX1 yX1_message (ws_ yX1_message cX1_message 3 (some .int))) := lw_V q172 q173 q174 q28 q175
theorem llX2_message : GoodIn lw_all (wsV RX0 67 RX2 yX2_message (ws_ yX2_message cX2_message 3 (some .int))) := lw_V q305 q306 q307 q29 q308
theorem llX1_correct : GoodIn lw_all (wsV RX0 68 RX1 yX1_correct (ws_ yX1_correct cX1_correct 2 (some .int))) := lw_V q176 q177 q178 q28 q179
theorem llX2_correct : GoodIn lw_all (wsV RX0 71 RX2 yX2_correct (ws_ yX2_correct cX2_correct 3 (some .int))) := lw_V q309 q310 q311 q29 q312
theorem llX1_clean : GoodIn lw_all (wsV RX0 72 RX1 yX1_clean (ws_ yX1_clean cX1_clean 1 (some .boolean))) := lw_V q182 q183 q184 q28 q185
theorem llX2_clean : GoodIn lw_all (wsV RX0 76 RX2 yX2_clean (ws_ yX2_clean cX2_clean 1 (some .boolean))) := lw_V q314 q315 q316 q29 q317
theorem llX1_coverings : GoodIn lw_all (wsV RX0 77 RX1 yX1_coverings (ws_ yX1_coverings cX1_coverings 3 (some .int))) := lw_V q198 q199 q200 q28 q201
theorem llX2_coverings : GoodIn lw_all (wsV RX0 80 RX2 yX2_coverings (ws_ yX2_coverings cX2_coverings 5 (some .int))) := lw_V q319 q320 q321 q29 q322
theorem llX1_census : GoodIn lw_all (wsV RX0 81 RX1 yX1_census (ws_ yX1_census cX1_census 8 (some .int))) := lw_V q202 q203 q204 q28 q205
theorem llX2_census : GoodIn lw_all (wsV RX0 84 RX2 yX2_census (ws_ yX2_census cX2_census 5 (some .int))) := lw_V q327 q328 q329 q29 q330
end
section
set_option maxRecDepth 100000
def mOK (v : MS) : Prop := b32 v.2.1 ∧ b32 v.2.2.1
theorem l_le {L i : Nat} (hL : L ≤ 193) (hi : i ≤ 400) (h : ¬ nI L - nI 3 < nI i) : i + 3 ≤ L := by
  rw [Int32.lt_iff_toInt_lt, pk_sub_toInt (by omega) (by omega), nI_toInt (by omega)] at h
  omega
theorem l_15 (x : Int32) : ∃ j, j < 16 ∧ x &&& nI 15 = nI j := pk_andE x 4 (by decide +kernel)
theorem l_inc (i : Nat) : nI i + Int32.ofInt 3 = nI (i + 3) := nI_add i 3
theorem EP_ER {kk : Nat} {w : Nat → Nat} {r : Int32} {a b : Nat} (h : (nr kk w a b ∧ r = nI (rkM (df w a b))) ∨ ((∀ a b, ¬ nr kk w a b) ∧ r = (-4))) : ER kk w r := h.elim (fun h => Or.inl ⟨a, b, h⟩) Or.inr
set_option maxHeartbeats 8000000 in
/-- the law's loop -/
theorem law_loop {p : Program} {l : Launch} {e : Env} {s : State} {m : MethodId} {below : List Frame} {meth : Method} {c : Code} {b L : Nat} {xs : Nat → Int32} {D : va_G} {h : Nat} {q : Nat → Nat} {dA : ClassId} {g : Nat} {z : Nat → Nat} {dB : ClassId × ClassId} {kk : Nat} (hL : L ≤ 193) (hk : kk = 1 ∨ kk = 2) (hC : lX p m c cL_law 4 s #[Value.ref b] D dA dB) (hr : meth.sig.returnType = ret) (hlocks : meth.locks = false) (hX : va_X b L xs s s.heap) (hbl : b < s.heap.size) :
    ∀ (n i : Nat) (u : CS) (v : MS) (H : Heap) (locs : List Loc) (ls : Array Slot), i ≤ 196 → 196 < i + n → cOK u → mOK v → v.1 = u.1 → lI D h q dA g z dB kk (fun y => s.heap.size ≤ y) s.heap u v H locs → lv_has ls 4 [(3, .int (nI i)), (0, .ref b), (1, .ref h), (2, .ref g)] → W p l e room_1 s m #[Value.ref b] below meth c H locs 600000 7290000 (lw_Z below #[Value.ref b] s) (F0 m 28 ls []) := by
  have hx := hC.1.1
  have hb := hC.1.2.1
  have hbA : ¬ (fun y : Nat => s.heap.size ≤ y) b := Nat.not_le.mpr hbl
  intro n
  induction n with
  | zero => intro i u v H locs ls h1 h2; exfalso; omega
  | succ n ih =>
    intro i u v H locs ls hi hn hu hv hw hI hl
    have hS := hI.2.2.1
    refine lv_iload_n hx hb dL_law_28 rfl (lv_at hl 0 rfl) ?_
    refine lv_aload_n hx hb dL_law_29 rfl (lv_at hl 1 rfl) ?_
    refine va_slen hx hb hX hbl hbA hS dL_law_30 ?_
    refine lv_iconst (v := nI 3) hx hb dL_law_31 (by decide +kernel) ?_
    refine lv_isub hx hb dL_law_32 ?_
    refine lv_icmp_gt (tgt := 467) hx hb dL_law_33 (by decide) (fun c33 => ?_) (fun c33 => ?_)
    · refine lv_iconst (v := 1) hx hb dL_law_467 (by decide +kernel) ?_
      refine va_forget (fun y hy => hS.2.2 y hy) ?_
      exact lw_ret hx hb hr hlocks dL_law_468
    · have hi3 : i + 3 ≤ L := l_le hL (by omega) c33
      have j461 : ∀ (u : CS) (v : MS) (H : Heap) (locs : List Loc), cOK u → mOK v → v.1 = u.1 → lI D h q dA g z dB kk (fun y => s.heap.size ≤ y) s.heap u v H locs → W p l e room_1 s m #[Value.ref b] below meth c H locs 600000 7290000 (lw_Z below #[Value.ref b] s) (F0 m 461 ls []) := by
        intro u v H locs hu hv hw hI
        refine lv_iinc (v := nI (i + 3)) (lv' := [(3, .int (nI (i + 3))), (0, .ref b), (1, .ref h), (2, .ref g)]) hx hb dL_law_461 hl (k := 0) rfl (l_inc i) (by decide) rfl (fun ls hl => ?_)
        refine lv_goto (tgt := 28) hx hb dL_law_464 (by decide) ?_
        exact ih (i + 3) u v H locs ls (by omega) (by omega) hu hv hw hI hl
      clear ih
      refine lv_aload_n hx hb dL_law_36 rfl (lv_at hl 1 rfl) ?_
      refine lv_iload_n hx hb dL_law_37 rfl (lv_at hl 0 rfl) ?_
      refine va_sld hx hb hX hbl hbA hS (vp_in_nI (show i < L by omega) (by omega)) dL_law_38 ?_
      refine lv_bipush (v := nI 15) hx hb dL_law_39 (by decide +kernel) ?_
      refine lv_iand hx hb dL_law_41 ?_
      obtain ⟨j, hj, ej⟩ := l_15 (xs (nI i).toNatClampNeg)
      refine n_top ej ?_
      rcases (show j = 0 ∨ j = 1 ∨ j = 2 ∨ j = 3 ∨ j = 4 ∨ j = 5 ∨ j = 6 ∨ j = 7 ∨ j = 8 ∨ j = 9 ∨ j = 10 ∨ j = 11 ∨ j = 12 ∨ j = 13 ∨ j = 14 ∨ j = 15 by omega) with rfl | rfl | rfl | rfl | rfl | rfl | rfl | rfl | rfl | rfl | rfl | rfl | rfl | rfl | rfl | rfl
      · refine lv_tableIn (off := 74) (tgt := 116) hx hb dL_law_42 (by decide +kernel) (by decide +kernel) rfl (by decide) ?_
        refine lv_aload_n hx hb dL_law_116 rfl (lv_at hl 2 rfl) ?_
        refine l_callc (As := []) (rest := []) hC hI (kX1_size l D h q dA kk u ) llX1_size hdX1_size ⟨rfl, rfl⟩ ⟨Nat.le_of_ble_eq_true rfl, Nat.le_of_ble_eq_true rfl⟩ rfl hl.1 rfl (Nat.le_of_ble_eq_true rfl) ⟨Nat.le_of_ble_eq_true rfl, Nat.le_of_ble_eq_true rfl⟩ dL_law_117 (fun r1 u1 H locs hp1 hI => ?_)
        refine lv_aload_n hx hb dL_law_120 rfl (lv_at hl 3 rfl) ?_
        refine l_callm (As := []) (rest := [.int r1]) hC hI (kX2_size l D g z dB kk v ) llX2_size hdX2_size ⟨rfl, rfl⟩ ⟨Nat.le_of_ble_eq_true rfl, Nat.le_of_ble_eq_true rfl⟩ rfl hl.1 rfl (Nat.le_of_ble_eq_true rfl) ⟨Nat.le_of_ble_eq_true rfl, Nat.le_of_ble_eq_true rfl⟩ dL_law_121 (fun r2 v1 H locs hp2 hI => ?_)
        obtain ⟨rfl, rfl⟩ := hp1
        obtain ⟨rfl, rfl⟩ := hp2
        refine lv_icmp_eq (tgt := 461) hx hb dL_law_124 (by decide) (fun _ => j461 u v H locs hu hv hw hI) (fun ne => absurd rfl ne)
      · refine lv_tableIn (off := 87) (tgt := 129) hx hb dL_law_42 (by decide +kernel) (by decide +kernel) rfl (by decide) ?_
        refine lv_aload_n hx hb dL_law_129 rfl (lv_at hl 2 rfl) ?_
        refine lv_aload_n hx hb dL_law_130 rfl (lv_at hl 1 rfl) ?_
        refine lv_iload_n hx hb dL_law_131 rfl (lv_at hl 0 rfl) ?_
        refine lv_iconst (v := nI 1) hx hb dL_law_132 (by decide +kernel) ?_
        refine n_iadd hC.1 dL_law_133 ?_
        refine va_sld hx hb hX hbl hbA hI.2.2.1 (vp_in_nI (show i + 1 < L by omega) (by omega)) dL_law_134 ?_
        refine n_top (congrArg xs (nI_clamp (show i + 1 < 2 ^ 31 by omega))) ?_
        refine lv_aload_n hx hb dL_law_135 rfl (lv_at hl 1 rfl) ?_
        refine lv_iload_n hx hb dL_law_136 rfl (lv_at hl 0 rfl) ?_
        refine lv_iconst (v := nI 2) hx hb dL_law_137 (by decide +kernel) ?_
        refine n_iadd hC.1 dL_law_138 ?_
        refine va_sld hx hb hX hbl hbA hI.2.2.1 (vp_in_nI (show i + 2 < L by omega) (by omega)) dL_law_139 ?_
        refine n_top (congrArg xs (nI_clamp (show i + 2 < 2 ^ 31 by omega))) ?_
        refine l_callc (As := [.int (xs (i + 1)), .int (xs (i + 2))]) (rest := []) hC hI (kX1_times l D h q dA kk u (xs (i + 1)) (xs (i + 2))) llX1_times hdX1_times ⟨rfl, rfl⟩ ⟨Nat.le_of_ble_eq_true rfl, Nat.le_of_ble_eq_true rfl⟩ rfl hl.1 rfl (Nat.le_of_ble_eq_true rfl) ⟨Nat.le_of_ble_eq_true rfl, Nat.le_of_ble_eq_true rfl⟩ dL_law_140 (fun r1 u1 H locs hp1 hI => ?_)
        refine lv_aload_n hx hb dL_law_143 rfl (lv_at hl 3 rfl) ?_
        refine lv_aload_n hx hb dL_law_144 rfl (lv_at hl 1 rfl) ?_
        refine lv_iload_n hx hb dL_law_145 rfl (lv_at hl 0 rfl) ?_
        refine lv_iconst (v := nI 1) hx hb dL_law_146 (by decide +kernel) ?_
        refine n_iadd hC.1 dL_law_147 ?_
        refine va_sld hx hb hX hbl hbA hI.2.2.1 (vp_in_nI (show i + 1 < L by omega) (by omega)) dL_law_148 ?_
        refine n_top (congrArg xs (nI_clamp (show i + 1 < 2 ^ 31 by omega))) ?_
        refine lv_aload_n hx hb dL_law_149 rfl (lv_at hl 1 rfl) ?_
        refine lv_iload_n hx hb dL_law_150 rfl (lv_at hl 0 rfl) ?_
        refine lv_iconst (v := nI 2) hx hb dL_law_151 (by decide +kernel) ?_
        refine n_iadd hC.1 dL_law_152 ?_
        refine va_sld hx hb hX hbl hbA hI.2.2.1 (vp_in_nI (show i + 2 < L by omega) (by omega)) dL_law_153 ?_
        refine n_top (congrArg xs (nI_clamp (show i + 2 < 2 ^ 31 by omega))) ?_
        refine l_callm (As := [.int (xs (i + 1)), .int (xs (i + 2))]) (rest := [.int r1]) hC hI (kX2_times l D g z dB kk v (xs (i + 1)) (xs (i + 2))) llX2_times hdX2_times ⟨rfl, rfl⟩ ⟨Nat.le_of_ble_eq_true rfl, Nat.le_of_ble_eq_true rfl⟩ rfl hl.1 rfl (Nat.le_of_ble_eq_true rfl) ⟨Nat.le_of_ble_eq_true rfl, Nat.le_of_ble_eq_true rfl⟩ dL_law_154 (fun r2 v1 H locs hp2 hI => ?_)
        obtain ⟨rfl, rfl⟩ := hp1
        obtain ⟨rfl, rfl⟩ := hp2
        refine lv_icmp_eq (tgt := 461) hx hb dL_law_157 (by decide) (fun _ => j461 u v H locs hu hv hw hI) (fun ne => absurd rfl ne)
      · refine lv_tableIn (off := 120) (tgt := 162) hx hb dL_law_42 (by decide +kernel) (by decide +kernel) rfl (by decide) ?_
        refine lv_aload_n hx hb dL_law_162 rfl (lv_at hl 2 rfl) ?_
        refine lv_aload_n hx hb dL_law_163 rfl (lv_at hl 1 rfl) ?_
        refine lv_iload_n hx hb dL_law_164 rfl (lv_at hl 0 rfl) ?_
        refine lv_iconst (v := nI 1) hx hb dL_law_165 (by decide +kernel) ?_
        refine n_iadd hC.1 dL_law_166 ?_
        refine va_sld hx hb hX hbl hbA hI.2.2.1 (vp_in_nI (show i + 1 < L by omega) (by omega)) dL_law_167 ?_
        refine n_top (congrArg xs (nI_clamp (show i + 1 < 2 ^ 31 by omega))) ?_
        refine lv_aload_n hx hb dL_law_168 rfl (lv_at hl 1 rfl) ?_
        refine lv_iload_n hx hb dL_law_169 rfl (lv_at hl 0 rfl) ?_
        refine lv_iconst (v := nI 2) hx hb dL_law_170 (by decide +kernel) ?_
        refine n_iadd hC.1 dL_law_171 ?_
        refine va_sld hx hb hX hbl hbA hI.2.2.1 (vp_in_nI (show i + 2 < L by omega) (by omega)) dL_law_172 ?_
        refine n_top (congrArg xs (nI_clamp (show i + 2 < 2 ^ 31 by omega))) ?_
        refine l_callc (As := [.int (xs (i + 1)), .int (xs (i + 2))]) (rest := []) hC hI (kX1_over l D h q dA kk u (xs (i + 1)) (xs (i + 2))) llX1_over hdX1_over ⟨rfl, rfl⟩ ⟨Nat.le_of_ble_eq_true rfl, Nat.le_of_ble_eq_true rfl⟩ rfl hl.1 rfl (Nat.le_of_ble_eq_true rfl) ⟨Nat.le_of_ble_eq_true rfl, Nat.le_of_ble_eq_true rfl⟩ dL_law_173 (fun r1 u1 H locs hp1 hI => ?_)
        refine lv_aload_n hx hb dL_law_176 rfl (lv_at hl 3 rfl) ?_
        refine lv_aload_n hx hb dL_law_177 rfl (lv_at hl 1 rfl) ?_
        refine lv_iload_n hx hb dL_law_178 rfl (lv_at hl 0 rfl) ?_
        refine lv_iconst (v := nI 1) hx hb dL_law_179 (by decide +kernel) ?_
        refine n_iadd hC.1 dL_law_180 ?_
        refine va_sld hx hb hX hbl hbA hI.2.2.1 (vp_in_nI (show i + 1 < L by omega) (by omega)) dL_law_181 ?_
        refine n_top (congrArg xs (nI_clamp (show i + 1 < 2 ^ 31 by omega))) ?_
        refine lv_aload_n hx hb dL_law_182 rfl (lv_at hl 1 rfl) ?_
        refine lv_iload_n hx hb dL_law_183 rfl (lv_at hl 0 rfl) ?_
        refine lv_iconst (v := nI 2) hx hb dL_law_184 (by decide +kernel) ?_
        refine n_iadd hC.1 dL_law_185 ?_
        refine va_sld hx hb hX hbl hbA hI.2.2.1 (vp_in_nI (show i + 2 < L by omega) (by omega)) dL_law_186 ?_
        refine n_top (congrArg xs (nI_clamp (show i + 2 < 2 ^ 31 by omega))) ?_
        refine l_callm (As := [.int (xs (i + 1)), .int (xs (i + 2))]) (rest := [.int r1]) hC hI (kX2_over l D g z dB kk v (xs (i + 1)) (xs (i + 2))) llX2_over hdX2_over ⟨rfl, rfl⟩ ⟨Nat.le_of_ble_eq_true rfl, Nat.le_of_ble_eq_true rfl⟩ rfl hl.1 rfl (Nat.le_of_ble_eq_true rfl) ⟨Nat.le_of_ble_eq_true rfl, Nat.le_of_ble_eq_true rfl⟩ dL_law_187 (fun r2 v1 H locs hp2 hI => ?_)
        obtain ⟨rfl, rfl⟩ := hp1
        obtain ⟨rfl, rfl⟩ := hp2
        refine lv_icmp_eq (tgt := 461) hx hb dL_law_190 (by decide) (fun _ => j461 u v H locs hu hv hw hI) (fun ne => absurd rfl ne)
      · refine lv_tableIn (off := 153) (tgt := 195) hx hb dL_law_42 (by decide +kernel) (by decide +kernel) rfl (by decide) ?_
        refine lv_aload_n hx hb dL_law_195 rfl (lv_at hl 2 rfl) ?_
        refine lv_aload_n hx hb dL_law_196 rfl (lv_at hl 1 rfl) ?_
        refine lv_iload_n hx hb dL_law_197 rfl (lv_at hl 0 rfl) ?_
        refine lv_iconst (v := nI 1) hx hb dL_law_198 (by decide +kernel) ?_
        refine n_iadd hC.1 dL_law_199 ?_
        refine va_sld hx hb hX hbl hbA hI.2.2.1 (vp_in_nI (show i + 1 < L by omega) (by omega)) dL_law_200 ?_
        refine n_top (congrArg xs (nI_clamp (show i + 1 < 2 ^ 31 by omega))) ?_
        refine lv_aload_n hx hb dL_law_201 rfl (lv_at hl 1 rfl) ?_
        refine lv_iload_n hx hb dL_law_202 rfl (lv_at hl 0 rfl) ?_
        refine lv_iconst (v := nI 2) hx hb dL_law_203 (by decide +kernel) ?_
        refine n_iadd hC.1 dL_law_204 ?_
        refine va_sld hx hb hX hbl hbA hI.2.2.1 (vp_in_nI (show i + 2 < L by omega) (by omega)) dL_law_205 ?_
        refine n_top (congrArg xs (nI_clamp (show i + 2 < 2 ^ 31 by omega))) ?_
        refine l_callc (As := [.int (xs (i + 1)), .int (xs (i + 2))]) (rest := []) hC hI (kX1_encode l D h q dA kk u (xs (i + 1)) (xs (i + 2)) hk) llX1_encode hdX1_encode ⟨rfl, rfl⟩ ⟨Nat.le_of_ble_eq_true rfl, Nat.le_of_ble_eq_true rfl⟩ rfl hl.1 rfl (Nat.le_of_ble_eq_true rfl) ⟨Nat.le_of_ble_eq_true rfl, Nat.le_of_ble_eq_true rfl⟩ dL_law_206 (fun r1 u1 H locs hp1 hI => ?_)
        refine lv_aload_n hx hb dL_law_209 rfl (lv_at hl 3 rfl) ?_
        refine lv_aload_n hx hb dL_law_210 rfl (lv_at hl 1 rfl) ?_
        refine lv_iload_n hx hb dL_law_211 rfl (lv_at hl 0 rfl) ?_
        refine lv_iconst (v := nI 1) hx hb dL_law_212 (by decide +kernel) ?_
        refine n_iadd hC.1 dL_law_213 ?_
        refine va_sld hx hb hX hbl hbA hI.2.2.1 (vp_in_nI (show i + 1 < L by omega) (by omega)) dL_law_214 ?_
        refine n_top (congrArg xs (nI_clamp (show i + 1 < 2 ^ 31 by omega))) ?_
        refine lv_aload_n hx hb dL_law_215 rfl (lv_at hl 1 rfl) ?_
        refine lv_iload_n hx hb dL_law_216 rfl (lv_at hl 0 rfl) ?_
        refine lv_iconst (v := nI 2) hx hb dL_law_217 (by decide +kernel) ?_
        refine n_iadd hC.1 dL_law_218 ?_
        refine va_sld hx hb hX hbl hbA hI.2.2.1 (vp_in_nI (show i + 2 < L by omega) (by omega)) dL_law_219 ?_
        refine n_top (congrArg xs (nI_clamp (show i + 2 < 2 ^ 31 by omega))) ?_
        refine l_callm (As := [.int (xs (i + 1)), .int (xs (i + 2))]) (rest := [.int r1]) hC hI (kX2_encode l D g z dB kk v (xs (i + 1)) (xs (i + 2)) hk hv.1) llX2_encode hdX2_encode ⟨rfl, rfl⟩ ⟨Nat.le_of_ble_eq_true rfl, Nat.le_of_ble_eq_true rfl⟩ rfl hl.1 rfl (Nat.le_of_ble_eq_true rfl) ⟨Nat.le_of_ble_eq_true rfl, Nat.le_of_ble_eq_true rfl⟩ dL_law_220 (fun r2 v1 H locs hp2 hI => ?_)
        obtain ⟨rfl, p1, p2⟩ := hp1
        obtain ⟨rfl, m1, m2, m3⟩ := hp2
        refine lv_icmp_eq (tgt := 461) hx hb dL_law_223 (by decide) (fun _ => j461 u1 v1 H locs ⟨by rw [p1]; exact wEnc_b32 hu.1 _ _, by rw [p2]; exact hu.2.1, by rw [p2]; exact hu.2.2.1, by rw [p2]; exact hu.2.2.2.1, by rw [p2]; exact hu.2.2.2.2⟩ ⟨m3, by rw [m2]; exact hv.2⟩ (by rw [m1, p1, hw]) hI) (fun ne => absurd rfl ne)
      · refine lv_tableIn (off := 186) (tgt := 228) hx hb dL_law_42 (by decide +kernel) (by decide +kernel) rfl (by decide) ?_
        refine lv_aload_n hx hb dL_law_228 rfl (lv_at hl 2 rfl) ?_
        refine lv_aload_n hx hb dL_law_229 rfl (lv_at hl 1 rfl) ?_
        refine lv_iload_n hx hb dL_law_230 rfl (lv_at hl 0 rfl) ?_
        refine lv_iconst (v := nI 1) hx hb dL_law_231 (by decide +kernel) ?_
        refine n_iadd hC.1 dL_law_232 ?_
        refine va_sld hx hb hX hbl hbA hI.2.2.1 (vp_in_nI (show i + 1 < L by omega) (by omega)) dL_law_233 ?_
        refine n_top (congrArg xs (nI_clamp (show i + 1 < 2 ^ 31 by omega))) ?_
        refine lv_aload_n hx hb dL_law_234 rfl (lv_at hl 1 rfl) ?_
        refine lv_iload_n hx hb dL_law_235 rfl (lv_at hl 0 rfl) ?_
        refine lv_iconst (v := nI 2) hx hb dL_law_236 (by decide +kernel) ?_
        refine n_iadd hC.1 dL_law_237 ?_
        refine va_sld hx hb hX hbl hbA hI.2.2.1 (vp_in_nI (show i + 2 < L by omega) (by omega)) dL_law_238 ?_
        refine n_top (congrArg xs (nI_clamp (show i + 2 < 2 ^ 31 by omega))) ?_
        refine l_callc (As := [.int (xs (i + 1)), .int (xs (i + 2))]) (rest := []) hC hI (kX1_put l D h q dA kk u (xs (i + 1)) (xs (i + 2))) llX1_put hdX1_put ⟨rfl, rfl⟩ ⟨Nat.le_of_ble_eq_true rfl, Nat.le_of_ble_eq_true rfl⟩ rfl hl.1 rfl (Nat.le_of_ble_eq_true rfl) ⟨Nat.le_of_ble_eq_true rfl, Nat.le_of_ble_eq_true rfl⟩ dL_law_239 (fun r1 u1 H locs hp1 hI => ?_)
        refine lv_aload_n hx hb dL_law_242 rfl (lv_at hl 3 rfl) ?_
        refine lv_aload_n hx hb dL_law_243 rfl (lv_at hl 1 rfl) ?_
        refine lv_iload_n hx hb dL_law_244 rfl (lv_at hl 0 rfl) ?_
        refine lv_iconst (v := nI 1) hx hb dL_law_245 (by decide +kernel) ?_
        refine n_iadd hC.1 dL_law_246 ?_
        refine va_sld hx hb hX hbl hbA hI.2.2.1 (vp_in_nI (show i + 1 < L by omega) (by omega)) dL_law_247 ?_
        refine n_top (congrArg xs (nI_clamp (show i + 1 < 2 ^ 31 by omega))) ?_
        refine lv_aload_n hx hb dL_law_248 rfl (lv_at hl 1 rfl) ?_
        refine lv_iload_n hx hb dL_law_249 rfl (lv_at hl 0 rfl) ?_
        refine lv_iconst (v := nI 2) hx hb dL_law_250 (by decide +kernel) ?_
        refine n_iadd hC.1 dL_law_251 ?_
        refine va_sld hx hb hX hbl hbA hI.2.2.1 (vp_in_nI (show i + 2 < L by omega) (by omega)) dL_law_252 ?_
        refine n_top (congrArg xs (nI_clamp (show i + 2 < 2 ^ 31 by omega))) ?_
        refine l_callm (As := [.int (xs (i + 1)), .int (xs (i + 2))]) (rest := [.int r1]) hC hI (kX2_put l D g z dB kk v (xs (i + 1)) (xs (i + 2))) llX2_put hdX2_put ⟨rfl, rfl⟩ ⟨Nat.le_of_ble_eq_true rfl, Nat.le_of_ble_eq_true rfl⟩ rfl hl.1 rfl (Nat.le_of_ble_eq_true rfl) ⟨Nat.le_of_ble_eq_true rfl, Nat.le_of_ble_eq_true rfl⟩ dL_law_253 (fun r2 v1 H locs hp2 hI => ?_)
        obtain ⟨rfl, p1, p2⟩ := hp1
        obtain ⟨rfl, m1, m2⟩ := hp2
        refine lv_icmp_eq (tgt := 461) hx hb dL_law_256 (by decide) (fun _ => j461 u1 v1 H locs ⟨by rw [p1]; exact wPut_b32 hu.1 _ _, by rw [p2]; exact hu.2.1, by rw [p2]; exact hu.2.2.1, by rw [p2]; exact hu.2.2.2.1, by rw [p2]; exact hu.2.2.2.2⟩ ⟨by rw [m2]; exact hv.1, by rw [m2]; exact hv.2⟩ (by rw [m1, p1, hw]) hI) (fun ne => absurd (by rw [hw]) ne)
      · refine lv_tableIn (off := 219) (tgt := 261) hx hb dL_law_42 (by decide +kernel) (by decide +kernel) rfl (by decide) ?_
        refine lv_aload_n hx hb dL_law_261 rfl (lv_at hl 2 rfl) ?_
        refine lv_aload_n hx hb dL_law_262 rfl (lv_at hl 1 rfl) ?_
        refine lv_iload_n hx hb dL_law_263 rfl (lv_at hl 0 rfl) ?_
        refine lv_iconst (v := nI 1) hx hb dL_law_264 (by decide +kernel) ?_
        refine n_iadd hC.1 dL_law_265 ?_
        refine va_sld hx hb hX hbl hbA hI.2.2.1 (vp_in_nI (show i + 1 < L by omega) (by omega)) dL_law_266 ?_
        refine n_top (congrArg xs (nI_clamp (show i + 1 < 2 ^ 31 by omega))) ?_
        refine l_callc (As := [.int (xs (i + 1))]) (rest := []) hC hI (kX1_symbol l D h q dA kk u (xs (i + 1))) llX1_symbol hdX1_symbol ⟨rfl, rfl⟩ ⟨Nat.le_of_ble_eq_true rfl, Nat.le_of_ble_eq_true rfl⟩ rfl hl.1 rfl (Nat.le_of_ble_eq_true rfl) ⟨Nat.le_of_ble_eq_true rfl, Nat.le_of_ble_eq_true rfl⟩ dL_law_267 (fun r1 u1 H locs hp1 hI => ?_)
        refine lv_aload_n hx hb dL_law_270 rfl (lv_at hl 3 rfl) ?_
        refine lv_aload_n hx hb dL_law_271 rfl (lv_at hl 1 rfl) ?_
        refine lv_iload_n hx hb dL_law_272 rfl (lv_at hl 0 rfl) ?_
        refine lv_iconst (v := nI 1) hx hb dL_law_273 (by decide +kernel) ?_
        refine n_iadd hC.1 dL_law_274 ?_
        refine va_sld hx hb hX hbl hbA hI.2.2.1 (vp_in_nI (show i + 1 < L by omega) (by omega)) dL_law_275 ?_
        refine n_top (congrArg xs (nI_clamp (show i + 1 < 2 ^ 31 by omega))) ?_
        refine l_callm (As := [.int (xs (i + 1))]) (rest := [.int r1]) hC hI (kX2_symbol l D g z dB kk v (xs (i + 1))) llX2_symbol hdX2_symbol ⟨rfl, rfl⟩ ⟨Nat.le_of_ble_eq_true rfl, Nat.le_of_ble_eq_true rfl⟩ rfl hl.1 rfl (Nat.le_of_ble_eq_true rfl) ⟨Nat.le_of_ble_eq_true rfl, Nat.le_of_ble_eq_true rfl⟩ dL_law_276 (fun r2 v1 H locs hp2 hI => ?_)
        obtain ⟨rfl, rfl⟩ := hp1
        obtain ⟨rfl, rfl⟩ := hp2
        refine lv_icmp_eq (tgt := 461) hx hb dL_law_279 (by decide) (fun _ => j461 u v H locs hu hv hw hI) (fun ne => absurd (by rw [hw]) ne)
      · refine lv_tableIn (off := 242) (tgt := 284) hx hb dL_law_42 (by decide +kernel) (by decide +kernel) rfl (by decide) ?_
        refine lv_aload_n hx hb dL_law_284 rfl (lv_at hl 2 rfl) ?_
        refine lv_aload_n hx hb dL_law_285 rfl (lv_at hl 1 rfl) ?_
        refine lv_iload_n hx hb dL_law_286 rfl (lv_at hl 0 rfl) ?_
        refine lv_iconst (v := nI 1) hx hb dL_law_287 (by decide +kernel) ?_
        refine n_iadd hC.1 dL_law_288 ?_
        refine va_sld hx hb hX hbl hbA hI.2.2.1 (vp_in_nI (show i + 1 < L by omega) (by omega)) dL_law_289 ?_
        refine n_top (congrArg xs (nI_clamp (show i + 1 < 2 ^ 31 by omega))) ?_
        refine lv_aload_n hx hb dL_law_290 rfl (lv_at hl 1 rfl) ?_
        refine lv_iload_n hx hb dL_law_291 rfl (lv_at hl 0 rfl) ?_
        refine lv_iconst (v := nI 2) hx hb dL_law_292 (by decide +kernel) ?_
        refine n_iadd hC.1 dL_law_293 ?_
        refine va_sld hx hb hX hbl hbA hI.2.2.1 (vp_in_nI (show i + 2 < L by omega) (by omega)) dL_law_294 ?_
        refine n_top (congrArg xs (nI_clamp (show i + 2 < 2 ^ 31 by omega))) ?_
        refine l_callc (As := [.int (xs (i + 1)), .int (xs (i + 2))]) (rest := []) hC hI (kX1_disturb l D h q dA kk u (xs (i + 1)) (xs (i + 2)) hk hu.1 hu.2.1) llX1_disturb hdX1_disturb ⟨rfl, rfl⟩ ⟨Nat.le_of_ble_eq_true rfl, Nat.le_of_ble_eq_true rfl⟩ rfl hl.1 rfl (Nat.le_of_ble_eq_true rfl) ⟨Nat.le_of_ble_eq_true rfl, Nat.le_of_ble_eq_true rfl⟩ dL_law_295 (fun r1 u1 H locs hp1 hI => ?_)
        refine lv_aload_n hx hb dL_law_298 rfl (lv_at hl 3 rfl) ?_
        refine lv_aload_n hx hb dL_law_299 rfl (lv_at hl 1 rfl) ?_
        refine lv_iload_n hx hb dL_law_300 rfl (lv_at hl 0 rfl) ?_
        refine lv_iconst (v := nI 1) hx hb dL_law_301 (by decide +kernel) ?_
        refine n_iadd hC.1 dL_law_302 ?_
        refine va_sld hx hb hX hbl hbA hI.2.2.1 (vp_in_nI (show i + 1 < L by omega) (by omega)) dL_law_303 ?_
        refine n_top (congrArg xs (nI_clamp (show i + 1 < 2 ^ 31 by omega))) ?_
        refine lv_aload_n hx hb dL_law_304 rfl (lv_at hl 1 rfl) ?_
        refine lv_iload_n hx hb dL_law_305 rfl (lv_at hl 0 rfl) ?_
        refine lv_iconst (v := nI 2) hx hb dL_law_306 (by decide +kernel) ?_
        refine n_iadd hC.1 dL_law_307 ?_
        refine va_sld hx hb hX hbl hbA hI.2.2.1 (vp_in_nI (show i + 2 < L by omega) (by omega)) dL_law_308 ?_
        refine n_top (congrArg xs (nI_clamp (show i + 2 < 2 ^ 31 by omega))) ?_
        refine l_callm (As := [.int (xs (i + 1)), .int (xs (i + 2))]) (rest := [.int r1]) hC hI (kX2_disturb l D g z dB kk v (xs (i + 1)) (xs (i + 2)) (by rw [hw]; exact hu.1) hv.1 hv.2) llX2_disturb hdX2_disturb ⟨rfl, rfl⟩ ⟨Nat.le_of_ble_eq_true rfl, Nat.le_of_ble_eq_true rfl⟩ rfl hl.1 rfl (Nat.le_of_ble_eq_true rfl) ⟨Nat.le_of_ble_eq_true rfl, Nat.le_of_ble_eq_true rfl⟩ dL_law_309 (fun r2 v1 H locs hp2 hI => ?_)
        obtain ⟨rfl, p1, p2, p3⟩ := hp1
        obtain ⟨rfl, m1, m2, m3, m4⟩ := hp2
        refine lv_icmp_eq (tgt := 461) hx hb dL_law_312 (by decide) (fun _ => j461 u1 v1 H locs ⟨by rw [p1]; exact wDis_b32 hu.1 _ _, p3, by rw [p2]; exact hu.2.2.1, by rw [p2]; exact hu.2.2.2.1, by rw [p2]; exact hu.2.2.2.2⟩ ⟨m3, m4⟩ (by rw [m1, p1, hw]) hI) (fun ne => absurd (by rw [hw]; exact dis_eq hu.1 _ _) ne)
      · refine lv_tableIn (off := 275) (tgt := 317) hx hb dL_law_42 (by decide +kernel) (by decide +kernel) rfl (by decide) ?_
        refine lv_aload_n hx hb dL_law_317 rfl (lv_at hl 2 rfl) ?_
        refine l_callc (As := []) (rest := []) hC hI (kX1_rank l D h q dA kk u hk hu.1 hu.2.1) llX1_rank hdX1_rank ⟨rfl, rfl⟩ ⟨Nat.le_of_ble_eq_true rfl, Nat.le_of_ble_eq_true rfl⟩ rfl hl.1 rfl (Nat.le_of_ble_eq_true rfl) ⟨Nat.le_of_ble_eq_true rfl, Nat.le_of_ble_eq_true rfl⟩ dL_law_318 (fun r1 u1 H locs hp1 hI => ?_)
        refine lv_aload_n hx hb dL_law_321 rfl (lv_at hl 3 rfl) ?_
        refine l_callm (As := []) (rest := [.int r1]) hC hI (kX2_rank l D g z dB kk v (by rw [hw]; exact hu.1) hv.1 hv.2) llX2_rank hdX2_rank ⟨rfl, rfl⟩ ⟨Nat.le_of_ble_eq_true rfl, Nat.le_of_ble_eq_true rfl⟩ rfl hl.1 rfl (Nat.le_of_ble_eq_true rfl) ⟨Nat.le_of_ble_eq_true rfl, Nat.le_of_ble_eq_true rfl⟩ dL_law_322 (fun r2 v1 H locs hp2 hI => ?_)
        obtain ⟨rfl, p1, p2, p3⟩ := hp1
        obtain ⟨rfl, m1, m2, m3, m4⟩ := hp2
        refine lv_icmp_eq (tgt := 461) hx hb dL_law_325 (by decide) (fun _ => j461 u1 v1 H locs ⟨by rw [p1]; exact hu.1, p3, by rw [p2]; exact hu.2.2.1, by rw [p2]; exact hu.2.2.2.1, by rw [p2]; exact hu.2.2.2.2⟩ ⟨m3, m4⟩ (by rw [m1, p1, hw]) hI) (fun ne => absurd (by rw [hw, rkC_rkM (df_b32 hu.1 _ _)]) ne)
      · refine lv_tableIn (off := 288) (tgt := 330) hx hb dL_law_42 (by decide +kernel) (by decide +kernel) rfl (by decide) ?_
        refine lv_aload_n hx hb dL_law_330 rfl (lv_at hl 2 rfl) ?_
        refine lv_aload_n hx hb dL_law_331 rfl (lv_at hl 1 rfl) ?_
        refine lv_iload_n hx hb dL_law_332 rfl (lv_at hl 0 rfl) ?_
        refine lv_iconst (v := nI 1) hx hb dL_law_333 (by decide +kernel) ?_
        refine n_iadd hC.1 dL_law_334 ?_
        refine va_sld hx hb hX hbl hbA hI.2.2.1 (vp_in_nI (show i + 1 < L by omega) (by omega)) dL_law_335 ?_
        refine n_top (congrArg xs (nI_clamp (show i + 1 < 2 ^ 31 by omega))) ?_
        refine lv_aload_n hx hb dL_law_336 rfl (lv_at hl 1 rfl) ?_
        refine lv_iload_n hx hb dL_law_337 rfl (lv_at hl 0 rfl) ?_
        refine lv_iconst (v := nI 2) hx hb dL_law_338 (by decide +kernel) ?_
        refine n_iadd hC.1 dL_law_339 ?_
        refine va_sld hx hb hX hbl hbA hI.2.2.1 (vp_in_nI (show i + 2 < L by omega) (by omega)) dL_law_340 ?_
        refine n_top (congrArg xs (nI_clamp (show i + 2 < 2 ^ 31 by omega))) ?_
        refine l_callc (As := [.int (xs (i + 1)), .int (xs (i + 2))]) (rest := []) hC hI (kX1_distance l D h q dA kk u (xs (i + 1)) (xs (i + 2)) hk hu.1 hu.2.1) llX1_distance hdX1_distance ⟨rfl, rfl⟩ ⟨Nat.le_of_ble_eq_true rfl, Nat.le_of_ble_eq_true rfl⟩ rfl hl.1 rfl (Nat.le_of_ble_eq_true rfl) ⟨Nat.le_of_ble_eq_true rfl, Nat.le_of_ble_eq_true rfl⟩ dL_law_341 (fun r1 u1 H locs hp1 hI => ?_)
        refine lv_aload_n hx hb dL_law_344 rfl (lv_at hl 3 rfl) ?_
        refine lv_aload_n hx hb dL_law_345 rfl (lv_at hl 1 rfl) ?_
        refine lv_iload_n hx hb dL_law_346 rfl (lv_at hl 0 rfl) ?_
        refine lv_iconst (v := nI 1) hx hb dL_law_347 (by decide +kernel) ?_
        refine n_iadd hC.1 dL_law_348 ?_
        refine va_sld hx hb hX hbl hbA hI.2.2.1 (vp_in_nI (show i + 1 < L by omega) (by omega)) dL_law_349 ?_
        refine n_top (congrArg xs (nI_clamp (show i + 1 < 2 ^ 31 by omega))) ?_
        refine lv_aload_n hx hb dL_law_350 rfl (lv_at hl 1 rfl) ?_
        refine lv_iload_n hx hb dL_law_351 rfl (lv_at hl 0 rfl) ?_
        refine lv_iconst (v := nI 2) hx hb dL_law_352 (by decide +kernel) ?_
        refine n_iadd hC.1 dL_law_353 ?_
        refine va_sld hx hb hX hbl hbA hI.2.2.1 (vp_in_nI (show i + 2 < L by omega) (by omega)) dL_law_354 ?_
        refine n_top (congrArg xs (nI_clamp (show i + 2 < 2 ^ 31 by omega))) ?_
        refine l_callm (As := [.int (xs (i + 1)), .int (xs (i + 2))]) (rest := [.int r1]) hC hI (kX2_distance l D g z dB kk v (xs (i + 1)) (xs (i + 2)) hk (by rw [hw]; exact hu.1) hv.1 hv.2) llX2_distance hdX2_distance ⟨rfl, rfl⟩ ⟨Nat.le_of_ble_eq_true rfl, Nat.le_of_ble_eq_true rfl⟩ rfl hl.1 rfl (Nat.le_of_ble_eq_true rfl) ⟨Nat.le_of_ble_eq_true rfl, Nat.le_of_ble_eq_true rfl⟩ dL_law_355 (fun r2 v1 H locs hp2 hI => ?_)
        obtain ⟨rfl, p1, p2, p3⟩ := hp1
        obtain ⟨rfl, m1, m2, m3, m4⟩ := hp2
        refine lv_icmp_eq (tgt := 461) hx hb dL_law_358 (by decide) (fun _ => j461 u1 v1 H locs ⟨by rw [p1]; exact hu.1, p3, by rw [p2]; exact hu.2.2.1, by rw [p2]; exact hu.2.2.2.1, by rw [p2]; exact hu.2.2.2.2⟩ ⟨m3, m4⟩ (by rw [m1, p1, hw]) hI) (fun ne => absurd (by rw [hw]; exact dist_eq hu.1 _ _) ne)
      · refine lv_tableIn (off := 321) (tgt := 363) hx hb dL_law_42 (by decide +kernel) (by decide +kernel) rfl (by decide) ?_
        refine lv_aload_n hx hb dL_law_363 rfl (lv_at hl 2 rfl) ?_
        refine l_callc (As := []) (rest := []) hC hI (kX1_errors l D h q dA kk u hk hu) llX1_errors hdX1_errors ⟨rfl, rfl⟩ ⟨Nat.le_of_ble_eq_true rfl, Nat.le_of_ble_eq_true rfl⟩ rfl hl.1 rfl (Nat.le_of_ble_eq_true rfl) ⟨Nat.le_of_ble_eq_true rfl, Nat.le_of_ble_eq_true rfl⟩ dL_law_364 (fun r1 u1 H locs hp1 hI => ?_)
        refine lv_aload_n hx hb dL_law_367 rfl (lv_at hl 3 rfl) ?_
        refine l_callm (As := []) (rest := [.int r1]) hC hI (kX2_errors l D g z dB kk v hk (by rw [hw]; exact hu.1) hv.1 hv.2) llX2_errors hdX2_errors ⟨rfl, rfl⟩ ⟨Nat.le_of_ble_eq_true rfl, Nat.le_of_ble_eq_true rfl⟩ rfl hl.1 rfl (Nat.le_of_ble_eq_true rfl) ⟨Nat.le_of_ble_eq_true rfl, Nat.le_of_ble_eq_true rfl⟩ dL_law_368 (fun r2 v1 H locs hp2 hI => ?_)
        obtain ⟨p0, p1, p2⟩ := hp1
        obtain ⟨m0, m1, m2, m3, m4⟩ := hp2
        refine lv_icmp_eq (tgt := 461) hx hb dL_law_371 (by decide) (fun _ => j461 u1 v1 H locs p2 ⟨m3, m4⟩ (by rw [m1, p1, hw]) hI) (fun ne => absurd (ER_f hk hu.1 (EP_ER p0) (by rw [← hw]; exact m0)) ne)
      · refine lv_tableIn (off := 334) (tgt := 376) hx hb dL_law_42 (by decide +kernel) (by decide +kernel) rfl (by decide) ?_
        refine lv_aload_n hx hb dL_law_376 rfl (lv_at hl 2 rfl) ?_
        refine lv_aload_n hx hb dL_law_377 rfl (lv_at hl 1 rfl) ?_
        refine lv_iload_n hx hb dL_law_378 rfl (lv_at hl 0 rfl) ?_
        refine lv_iconst (v := nI 1) hx hb dL_law_379 (by decide +kernel) ?_
        refine n_iadd hC.1 dL_law_380 ?_
        refine va_sld hx hb hX hbl hbA hI.2.2.1 (vp_in_nI (show i + 1 < L by omega) (by omega)) dL_law_381 ?_
        refine n_top (congrArg xs (nI_clamp (show i + 1 < 2 ^ 31 by omega))) ?_
        refine l_callc (As := [.int (xs (i + 1))]) (rest := []) hC hI (kX1_message l D h q dA kk u (xs (i + 1)) hk hu) llX1_message hdX1_message ⟨rfl, rfl⟩ ⟨Nat.le_of_ble_eq_true rfl, Nat.le_of_ble_eq_true rfl⟩ rfl hl.1 rfl (Nat.le_of_ble_eq_true rfl) ⟨Nat.le_of_ble_eq_true rfl, Nat.le_of_ble_eq_true rfl⟩ dL_law_382 (fun r1 u1 H locs hp1 hI => ?_)
        refine lv_aload_n hx hb dL_law_385 rfl (lv_at hl 3 rfl) ?_
        refine lv_aload_n hx hb dL_law_386 rfl (lv_at hl 1 rfl) ?_
        refine lv_iload_n hx hb dL_law_387 rfl (lv_at hl 0 rfl) ?_
        refine lv_iconst (v := nI 1) hx hb dL_law_388 (by decide +kernel) ?_
        refine n_iadd hC.1 dL_law_389 ?_
        refine va_sld hx hb hX hbl hbA hI.2.2.1 (vp_in_nI (show i + 1 < L by omega) (by omega)) dL_law_390 ?_
        refine n_top (congrArg xs (nI_clamp (show i + 1 < 2 ^ 31 by omega))) ?_
        refine l_callm (As := [.int (xs (i + 1))]) (rest := [.int r1]) hC hI (kX2_message l D g z dB kk v (xs (i + 1)) hk (by rw [hw]; exact hu.1) hv.1 hv.2) llX2_message hdX2_message ⟨rfl, rfl⟩ ⟨Nat.le_of_ble_eq_true rfl, Nat.le_of_ble_eq_true rfl⟩ rfl hl.1 rfl (Nat.le_of_ble_eq_true rfl) ⟨Nat.le_of_ble_eq_true rfl, Nat.le_of_ble_eq_true rfl⟩ dL_law_391 (fun r2 v1 H locs hp2 hI => ?_)
        obtain ⟨p0, p1, p2⟩ := hp1
        obtain ⟨m0, m1, m2, m3, m4⟩ := hp2
        refine lv_icmp_eq (tgt := 461) hx hb dL_law_394 (by decide) (fun _ => j461 u1 v1 H locs p2 ⟨m3, m4⟩ (by rw [m1, p1, hw]) hI) (fun ne => absurd (MR_f hk hu.1 p0 (by rw [← hw]; exact m0)) ne)
      · refine lv_tableIn (off := 357) (tgt := 399) hx hb dL_law_42 (by decide +kernel) (by decide +kernel) rfl (by decide) ?_
        refine lv_aload_n hx hb dL_law_399 rfl (lv_at hl 2 rfl) ?_
        refine l_callc (As := []) (rest := []) hC hI (kX1_correct l D h q dA kk u hk hu) llX1_correct hdX1_correct ⟨rfl, rfl⟩ ⟨Nat.le_of_ble_eq_true rfl, Nat.le_of_ble_eq_true rfl⟩ rfl hl.1 rfl (Nat.le_of_ble_eq_true rfl) ⟨Nat.le_of_ble_eq_true rfl, Nat.le_of_ble_eq_true rfl⟩ dL_law_400 (fun r1 u1 H locs hp1 hI => ?_)
        refine lv_aload_n hx hb dL_law_403 rfl (lv_at hl 3 rfl) ?_
        refine l_callm (As := []) (rest := [.int r1]) hC hI (kX2_correct l D g z dB kk v hk (by rw [hw]; exact hu.1) hv.1 hv.2) llX2_correct hdX2_correct ⟨rfl, rfl⟩ ⟨Nat.le_of_ble_eq_true rfl, Nat.le_of_ble_eq_true rfl⟩ rfl hl.1 rfl (Nat.le_of_ble_eq_true rfl) ⟨Nat.le_of_ble_eq_true rfl, Nat.le_of_ble_eq_true rfl⟩ dL_law_404 (fun r2 v1 H locs hp2 hI => ?_)
        obtain ⟨p0, p1⟩ := hp1
        obtain ⟨m0, m2, m3, m4⟩ := hp2
        refine lv_icmp_eq (tgt := 461) hx hb dL_law_407 (by decide) (fun _ => j461 u1 v1 H locs p1 ⟨m3, m4⟩ (CR_f hk hu.1 p0 (by rw [← hw]; exact m0)).2.symm hI) (fun ne => absurd (CR_f hk hu.1 p0 (by rw [← hw]; exact m0)).1 ne)
      · refine lv_tableIn (off := 370) (tgt := 412) hx hb dL_law_42 (by decide +kernel) (by decide +kernel) rfl (by decide) ?_
        refine lv_aload_n hx hb dL_law_412 rfl (lv_at hl 2 rfl) ?_
        refine l_callc (As := []) (rest := []) hC hI (kX1_clean l D h q dA kk u hk hu.1) llX1_clean hdX1_clean ⟨rfl, rfl⟩ ⟨Nat.le_of_ble_eq_true rfl, Nat.le_of_ble_eq_true rfl⟩ rfl hl.1 rfl (Nat.le_of_ble_eq_true rfl) ⟨Nat.le_of_ble_eq_true rfl, Nat.le_of_ble_eq_true rfl⟩ dL_law_413 (fun r1 u1 H locs hp1 hI => ?_)
        refine lv_aload_n hx hb dL_law_416 rfl (lv_at hl 3 rfl) ?_
        refine l_callm (As := []) (rest := [.int r1]) hC hI (kX2_clean l D g z dB kk v hk (by rw [hw]; exact hu.1) hv.1 hv.2) llX2_clean hdX2_clean ⟨rfl, rfl⟩ ⟨Nat.le_of_ble_eq_true rfl, Nat.le_of_ble_eq_true rfl⟩ rfl hl.1 rfl (Nat.le_of_ble_eq_true rfl) ⟨Nat.le_of_ble_eq_true rfl, Nat.le_of_ble_eq_true rfl⟩ dL_law_417 (fun r2 v1 H locs hp2 hI => ?_)
        obtain ⟨rfl, rfl⟩ := hp1
        obtain ⟨⟨r0, E0, e0⟩, m1, m2, m3, m4⟩ := hp2
        refine lv_icmp_eq (tgt := 461) hx hb dL_law_420 (by decide) (fun _ => j461 u v1 H locs hu ⟨m3, m4⟩ (by rw [m1, hw]) hI) (fun ne => absurd (by rw [e0, clean_eq hk hu.1 (by rw [← hw]; exact E0)]) ne)
      · refine lv_tableIn (off := 383) (tgt := 425) hx hb dL_law_42 (by decide +kernel) (by decide +kernel) rfl (by decide) ?_
        refine lv_aload_n hx hb dL_law_425 rfl (lv_at hl 2 rfl) ?_
        refine l_callc (As := []) (rest := []) hC hI (kX1_coverings l D h q dA kk u hk hu.1) llX1_coverings hdX1_coverings ⟨rfl, rfl⟩ ⟨Nat.le_of_ble_eq_true rfl, Nat.le_of_ble_eq_true rfl⟩ rfl hl.1 rfl (Nat.le_of_ble_eq_true rfl) ⟨Nat.le_of_ble_eq_true rfl, Nat.le_of_ble_eq_true rfl⟩ dL_law_426 (fun r1 u1 H locs hp1 hI => ?_)
        refine lv_aload_n hx hb dL_law_429 rfl (lv_at hl 3 rfl) ?_
        refine l_callm (As := []) (rest := [.int r1]) hC hI (kX2_coverings l D g z dB kk v hk (by rw [hw]; exact hu.1) hv.1) llX2_coverings hdX2_coverings ⟨rfl, rfl⟩ ⟨Nat.le_of_ble_eq_true rfl, Nat.le_of_ble_eq_true rfl⟩ rfl hl.1 rfl (Nat.le_of_ble_eq_true rfl) ⟨Nat.le_of_ble_eq_true rfl, Nat.le_of_ble_eq_true rfl⟩ dL_law_430 (fun r2 v1 H locs hp2 hI => ?_)
        obtain ⟨rfl, rfl⟩ := hp1
        obtain ⟨rfl, m1, m2, m3⟩ := hp2
        refine lv_icmp_eq (tgt := 461) hx hb dL_law_433 (by decide) (fun _ => j461 u v1 H locs hu ⟨m2, by rw [m3]; exact hv.2⟩ (by rw [m1, hw]) hI) (fun ne => absurd (by rw [hw]; exact congrArg nI (cov_all hk hu.1 32 (by decide))) ne)
      · refine lv_tableIn (off := 396) (tgt := 438) hx hb dL_law_42 (by decide +kernel) (by decide +kernel) rfl (by decide) ?_
        refine lv_aload_n hx hb dL_law_438 rfl (lv_at hl 2 rfl) ?_
        refine lv_aload_n hx hb dL_law_439 rfl (lv_at hl 1 rfl) ?_
        refine lv_iload_n hx hb dL_law_440 rfl (lv_at hl 0 rfl) ?_
        refine lv_iconst (v := nI 1) hx hb dL_law_441 (by decide +kernel) ?_
        refine n_iadd hC.1 dL_law_442 ?_
        refine va_sld hx hb hX hbl hbA hI.2.2.1 (vp_in_nI (show i + 1 < L by omega) (by omega)) dL_law_443 ?_
        refine n_top (congrArg xs (nI_clamp (show i + 1 < 2 ^ 31 by omega))) ?_
        refine l_callc (As := [.int (xs (i + 1))]) (rest := []) hC hI (kX1_census l D h q dA kk u (xs (i + 1)) hk) llX1_census hdX1_census ⟨rfl, rfl⟩ ⟨Nat.le_of_ble_eq_true rfl, Nat.le_of_ble_eq_true rfl⟩ rfl hl.1 rfl (Nat.le_of_ble_eq_true rfl) ⟨Nat.le_of_ble_eq_true rfl, Nat.le_of_ble_eq_true rfl⟩ dL_law_444 (fun r1 u1 H locs hp1 hI => ?_)
        refine lv_aload_n hx hb dL_law_447 rfl (lv_at hl 3 rfl) ?_
        refine lv_aload_n hx hb dL_law_448 rfl (lv_at hl 1 rfl) ?_
        refine lv_iload_n hx hb dL_law_449 rfl (lv_at hl 0 rfl) ?_
        refine lv_iconst (v := nI 1) hx hb dL_law_450 (by decide +kernel) ?_
        refine n_iadd hC.1 dL_law_451 ?_
        refine va_sld hx hb hX hbl hbA hI.2.2.1 (vp_in_nI (show i + 1 < L by omega) (by omega)) dL_law_452 ?_
        refine n_top (congrArg xs (nI_clamp (show i + 1 < 2 ^ 31 by omega))) ?_
        refine l_callm (As := [.int (xs (i + 1))]) (rest := [.int r1]) hC hI (kX2_census l D g z dB kk v (xs (i + 1)) hk (by rw [hw]; exact hu.1) hv.1 hv.2) llX2_census hdX2_census ⟨rfl, rfl⟩ ⟨Nat.le_of_ble_eq_true rfl, Nat.le_of_ble_eq_true rfl⟩ rfl hl.1 rfl (Nat.le_of_ble_eq_true rfl) ⟨Nat.le_of_ble_eq_true rfl, Nat.le_of_ble_eq_true rfl⟩ dL_law_453 (fun r2 v1 H locs hp2 hI => ?_)
        obtain ⟨rfl, rfl⟩ := hp1
        obtain ⟨rfl, m1, m2, m3, m4⟩ := hp2
        refine lv_icmp_eq (tgt := 461) hx hb dL_law_456 (by decide) (fun _ => j461 u v1 H locs hu ⟨m3, m4⟩ (by rw [m1, hw]) hI) (fun ne => absurd (cen_eq hk _) ne)
      · refine lv_tableOut (tgt := 461) hx hb dL_law_42 (Or.inr (by decide +kernel)) (by decide) ?_
        exact j461 u v H locs hu hv hw hI
end
section
set_option maxRecDepth 100000
set_option maxHeartbeats 8000000 in
/-- THE LAW, from its entry -/
theorem whole_start {p : Program} {e : Env} {s : State} {m : MethodId} {below : List Frame} {meth : Method} {c : Code} (l : Launch) {b L : Nat} {xs : Nat → Int32} (hL : L ≤ 193) (C0 : lw_At p s m meth c b L xs) : W p l e room_1 s m #[Value.ref b] below meth c s.heap [] 0 0 (lw_Z below #[Value.ref b] s) (entryFrame m ([Value.ref b] : List Value).toArray 4) := by
  obtain ⟨hx, hb, hr, hml, hown, hts0, hX, hbl, hlocks, hgv⟩ := id C0
  have hts : ∀ w ∈ lw_all, w.before #[Value.ref b] s = true := fun w h => hts0 w (lw_all_tbl h)
  have hA : ∀ q : Nat, s.heap.size ≤ q → (fun q : Nat => s.heap.size ≤ q) q := fun _ h => h
  have hbA : ¬ (fun q : Nat => s.heap.size ≤ q) b := Nat.not_le.mpr hbl
  have hb : c.code = cL_law := hb
  have hown : s.vm.findClass RX0 = some m.cls := hown
  have hC : CallFix p m c cL_law 4 s #[Value.ref b] lw_all RX0 := ⟨hx, hb, hml, hown, hts⟩
  obtain ⟨c0_, iS0, hKn0⟩ := u_known (C := RX1) (T := TX1) (N := 10) (n := 10) hts0 (fun w h => lw_all_tbl (in_X1 w h)) (hts _ q31)
  obtain ⟨c1_, iS1, hKn1⟩ := u_known (C := RX2) (T := TX2) (N := 5) (n := 5) hts0 (fun w h => lw_all_tbl (in_X2 w h)) (hts _ q214)
  obtain ⟨D, hKc⟩ : ∃ D : va_G, ∀ (k : Nat) (q : vw_C), vwCl[k]? = some q → u_Kn s q.1 q.2.1 q.2.2 (D.1 k) (D.2 k) := by
    refine ⟨(fun k => if k = 0 then c0_ else c1_, fun k => if k = 0 then iS0 else iS1), ?_⟩
    intro k q hq
    match k, hq with
    | 0, hq => cases hq; exact hKn0
    | 1, hq => cases hq; exact hKn1
    | k + 2, hq => simp [vwCl] at hq
  have hS : va_S (fun q : Nat => s.heap.size ≤ q) s.heap s.heap [] := va_S.rf
  have hK : va_K D vwCl [] s := ⟨hKc, fun k q h => by simp at h⟩
  have hP : va_P D vwCl [] s.heap := fun k q h => by simp at h
  have hD : va_D (fun q : Nat => s.heap.size ≤ q) [] := ⟨fun i j p q h => by simp at h, fun k q h => by simp at h⟩
  have hl := lv_entry ([.ref b]) (n := 4) (Nat.le_of_ble_eq_true rfl)
  rw [lg_entry_eq]
  generalize (lg_sl ([.ref b]) ++ List.replicate (4 - (lg_sl ([.ref b])).length) Slot.unset).toArray = ls at hl ⊢
  have hl : lv_has ls 4 [(0, .ref b)] := hl
  have hpre : ∀ {A : Nat → Prop} {H : Heap} {locs : List Loc}, va_S (fun q : Nat => s.heap.size ≤ q) s.heap H locs → PreS s H (va_Pc [.ref b, .int (nI 0)] (fun U => va_X b L xs U U.heap)) [.ref b, .int (nI 0)] := fun {A H locs} hS => ⟨fun a U g mk q => ⟨q.1, va_X.moved (u := U) (U := U.calling g mk a) (Vm.Alike.refl U.vm) q.2⟩, fun U hU hW => ⟨rfl, by show va_X b L xs U U.heap; rw [hU]; exact va_X.moved hW.alike (hX.kept (hS.2.1 b hbl hbA))⟩⟩
  -- new RankMetricCode(cell(script, 0))
  refine va_new (ci := 0) (fs := cF0) (C := RX1) (T := TX1) (N := 10) hx hb hts in_X1 tyX1 tyX1_ok hown (hts _ q30) (hts _ q31) (hts _ q28) hK hP hD hS hA rfl (fun j hj => by rcases (show j = 0 ∨ j = 1 ∨ j = 2 ∨ j = 3 ∨ j = 4 ∨ j = 5 ∨ j = 6 ∨ j = 7 ∨ j = 8 ∨ j = 9 by omega) with rfl | rfl | rfl | rfl | rfl | rfl | rfl | rfl | rfl | rfl <;> rfl) (Nat.le_of_ble_eq_true rfl) (Nat.le_of_ble_eq_true rfl) dL_law_0 (fun h H hP hD hS => ?_)
  have hP : va_P D vwCl [(h, .inr (0, cF0))] H := hP
  have hD : va_D (fun q : Nat => s.heap.size ≤ q) [(h, .inr (0, cF0))] := hD
  refine lv_dup hx hb dL_law_3 rfl ?_
  refine lv_aload_n hx hb dL_law_4 rfl (lv_at hl 0 rfl) ?_
  refine lv_iconst (v := nI 0) hx hb dL_law_5 (by decide +kernel) ?_
  refine va_calli (va_runS (As := [.ref b, .int (nI 0)]) (rest := [.ref h, .ref h]) hC (kX0_cell l b L xs hL) (va_cwS 2 hts (lw_S q210 q211 q27 q212) rfl rfl rfl (by decide +kernel) ⟨Nat.le_of_ble_eq_true rfl, Nat.le_of_ble_eq_true rfl⟩) (hpre (A := fun _ => True) hS) rfl rfl hl.1 rfl (lv_room (Nat.le_of_ble_eq_true rfl)) dL_law_6 ⟨Nat.le_of_ble_eq_true rfl, Nat.le_of_ble_eq_true rfl⟩) hS (fun q _ h => h.elim) (fun q h => h.elim) (fun r u t H1 locs ht hvm hp _ hz1 hk1 hS => ?_)
  subst hp
  have hP := hP.kept (fun k q hk => hk1 q.1 (hP k q hk).lt (fun h => h))
  generalize H1 = H at hP hS ⊢
  have hFc := va_free (wc := [(h, .inr (0, cF0))]) hD hS hA [0] rfl
  refine va_callv (va_runI (As := [.int (xs0 L xs)]) (rest := [.ref h]) hC (kX1_init l D h H.size (xs0 L xs)) (cwI 1 hts (lw_meth q34) rfl rfl rfl (hts _ q28) (hts _ q32) (hts _ q33) rfl (by decide +kernel) ⟨Nat.le_of_ble_eq_true rfl, Nat.le_of_ble_eq_true rfl⟩) ⟨fun a U g mk q => by obtain ⟨q0, q1, qP, qK, qD⟩ := q; exact ⟨q0, q1, qP, va_K.moved (u := U) (U := U.calling g mk a) (Vm.Alike.refl U.vm) qK, qD⟩, fun U hU hW => ⟨rfl, by rw [hU], by rw [hU]; exact hP, va_K.moved hW.alike hK, hD.weaken (fun _ _ _ _ => trivial)⟩⟩ rfl rfl hl.1 rfl (lv_room (Nat.le_of_ble_eq_true rfl)) dL_law_9 ⟨Nat.le_of_ble_eq_true rfl, Nat.le_of_ble_eq_true rfl⟩) hS (fun q _ h => hFc q h) hFc (fun w t H1 locs ht hvm _ hB hz1 hk1 hS => ?_)
  obtain ⟨q, dA⟩ := w
  obtain ⟨hP1, hK1, hD1⟩ := hB
  rw [ht] at hP1
  have hK1 := va_K.moved hvm.symm hK1
  obtain ⟨hP, hD⟩ := va_join (wr := []) (w1 := cW h q dA (kkF (xs0 L xs)) cS0) hP hD [0] [] rfl rfl (by decide) (by decide) hk1 hFc hP1 hD1
  generalize H1 = H at hP hS ⊢
  have hP : va_P D vwCl (cW h q dA (kkF (xs0 L xs)) cS0) H := hP
  have hD : va_D (fun q : Nat => s.heap.size ≤ q) (cW h q dA (kkF (xs0 L xs)) cS0) := hD
  have hK : va_K D vwCl (cT dA) s := hK1
  refine lv_astore_n (lv' := [(1, .ref h), (0, .ref b)]) hx hb dL_law_12 rfl hl (by decide) rfl (fun ls hl => ?_)
  -- new RankMetricCodeModel(cell(script, 0))
  refine va_new (ci := 1) (fs := mF0) (C := RX2) (T := TX2) (N := 5) hx hb hts in_X2 tyX2 tyX2_ok hown (hts _ q213) (hts _ q214) (hts _ q29) hK hP hD hS hA rfl (fun j hj => by rcases (show j = 0 ∨ j = 1 ∨ j = 2 ∨ j = 3 ∨ j = 4 by omega) with rfl | rfl | rfl | rfl | rfl <;> rfl) (Nat.le_of_ble_eq_true rfl) (Nat.le_of_ble_eq_true rfl) dL_law_13 (fun g H hP hD hS => ?_)
  have hP : va_P D vwCl (cW h q dA (kkF (xs0 L xs)) cS0 ++ [(g, .inr (1, mF0))]) H := hP
  have hD : va_D (fun q : Nat => s.heap.size ≤ q) (cW h q dA (kkF (xs0 L xs)) cS0 ++ [(g, .inr (1, mF0))]) := hD
  refine lv_dup hx hb dL_law_16 rfl ?_
  refine lv_aload_n hx hb dL_law_17 rfl (lv_at hl 1 rfl) ?_
  refine lv_iconst (v := nI 0) hx hb dL_law_18 (by decide +kernel) ?_
  refine va_calli (va_runS (As := [.ref b, .int (nI 0)]) (rest := [.ref g, .ref g]) hC (kX0_cell l b L xs hL) (va_cwS 2 hts (lw_S q210 q211 q27 q212) rfl rfl rfl (by decide +kernel) ⟨Nat.le_of_ble_eq_true rfl, Nat.le_of_ble_eq_true rfl⟩) (hpre (A := fun _ => True) hS) rfl rfl hl.1 rfl (lv_room (Nat.le_of_ble_eq_true rfl)) dL_law_19 ⟨Nat.le_of_ble_eq_true rfl, Nat.le_of_ble_eq_true rfl⟩) hS (fun q _ h => h.elim) (fun q h => h.elim) (fun r u t H1 locs ht hvm hp _ hz1 hk1 hS => ?_)
  subst hp
  have hP := hP.kept (fun k q hk => hk1 q.1 (hP k q hk).lt (fun h => h))
  generalize H1 = H at hP hS ⊢
  have hPc : va_P D vwCl [(g, .inr (1, mF0))] H := hP.sub [9] rfl
  have hDc : va_D (fun q : Nat => s.heap.size ≤ q) [(g, .inr (1, mF0))] := hD.sub [9] (by decide) rfl
  have hKc2 : va_K D vwCl [] s := hK.sub [] rfl
  have hFc := va_free (wc := [(g, .inr (1, mF0))]) hD hS hA [9] rfl
  refine va_callv (va_runI (As := [.int (xs0 L xs)]) (rest := [.ref g]) hC (kX2_init l D g H.size (xs0 L xs)) (cwI 1 hts (lw_meth q217) rfl rfl rfl (hts _ q29) (hts _ q215) (hts _ q216) rfl (by decide +kernel) ⟨Nat.le_of_ble_eq_true rfl, Nat.le_of_ble_eq_true rfl⟩) ⟨fun a U g mk q => by obtain ⟨q0, q1, qP, qK, qD⟩ := q; exact ⟨q0, q1, qP, va_K.moved (u := U) (U := U.calling g mk a) (Vm.Alike.refl U.vm) qK, qD⟩, fun U hU hW => ⟨rfl, by rw [hU], by rw [hU]; exact hPc, va_K.moved hW.alike hKc2, hDc.weaken (fun _ _ _ _ => trivial)⟩⟩ rfl rfl hl.1 rfl (lv_room (Nat.le_of_ble_eq_true rfl)) dL_law_22 ⟨Nat.le_of_ble_eq_true rfl, Nat.le_of_ble_eq_true rfl⟩) hS (fun q _ h => hFc q h) hFc (fun w t H1 locs ht hvm _ hB hz1 hk1 hS => ?_)
  obtain ⟨z, dB⟩ := w
  obtain ⟨hP1, hK1, hD1⟩ := hB
  rw [ht] at hP1
  have hK1 := va_K.moved hvm.symm hK1
  obtain ⟨hP, hD⟩ := va_join (wr := cW h q dA (kkF (xs0 L xs)) cS0) (w1 := mW g z dB (kkF (xs0 L xs)) mS0) hP hD [9] [0, 1, 2, 3, 4, 5, 6, 7, 8] rfl rfl (by decide) (by decide) hk1 hFc hP1 hD1
  generalize H1 = H at hP hS ⊢
  refine lv_astore_n (lv' := [(2, .ref g), (1, .ref h), (0, .ref b)]) hx hb dL_law_25 rfl hl (by decide) rfl (fun ls hl => ?_)
  refine lv_iconst (v := nI 1) hx hb dL_law_26 (by decide +kernel) ?_
  refine lv_istore_n (lv' := [(3, .int (nI 1)), (2, .ref g), (1, .ref h), (0, .ref b)]) hx hb dL_law_27 rfl hl (by decide) rfl (fun ls hl => ?_)
  refine W.widen (k := 600000) (n := 7290000) (Nat.le_of_ble_eq_true rfl) (Nat.le_of_ble_eq_true rfl) ?_
  have hz : ∀ j : Nat, (fun _ : Nat => 0) j < 32 := fun j => by show 0 < 32; decide
  exact law_loop hL (kkF_2 _) ⟨hC, hK.app hK1⟩ hr hlocks hX hbl 196 1 cS0 mS0 H locs ls (by decide) (by decide) ⟨hz, hz, hz, hz, hz⟩ ⟨hz, hz⟩ rfl ⟨hP, hD, hS, hA⟩ (lv_sub hl [0, 3, 2, 1] rfl)
end
section
set_option maxHeartbeats 4000000 in
theorem lw_walk (l : Launch) (b : Addr) (xs : List Int32) : MetFree l x (headSpec (Jvm.Cond.code x code maxLocals ret :: tables_1) room_1) (lw_P b xs) (fun _ _ _ _ _ => True) lw_Q := by
  refine MetFree.of_bodyS (code := code) (maxLocals := maxLocals) (ret := ret) (by decide) ?_ ?_
  · intro args s m h hn
    obtain ⟨meth, c, h1, h2, h3, h4, h5, h6, -, -⟩ := Cond.code_spec hn (atoms_spec (ws := Jvm.Cond.code x code maxLocals ret :: tables_1) h _ List.mem_cons_self)
    exact ⟨meth, c, h1, h2, h3, h4, h5, h6⟩
  · intro p e s m args below meth c s₁ B hml0 hP _
    obtain ⟨rfl, hx, hbd, hgv⟩ := hP
    obtain ⟨scr, harrAt, hlist, hof, hsmall⟩ := hx
    obtain ⟨hcb, hkn, -, -⟩ := State.arrayAt?_spec harrAt
    have hown : s.vm.findClass R_law = some m.cls := findClass_of_methodNamed B.named
    have hts0 : ∀ c ∈ (Jvm.Cond.code x code maxLocals ret :: tables_1), c.before #[Value.ref b] s = true := atoms_spec (ws := Jvm.Cond.code x code maxLocals ret :: tables_1) B.pre
    have hts : ∀ w ∈ lw_tbl, w.before #[Value.ref b] s = true := k2_hts_sels lw_privs (fun w hw => hts0 w (List.mem_cons_of_mem _ hw)) lw_privs_ok
    have hml : c.maxLocals = 4 := B.maxLocals_eq (hts0 _ List.mem_cons_self)
    have X₀ : Stand p l e room_1 s m #[Value.ref b] below meth c s₁ [] 0 0 := Stand.of_body B
    have hh0 : s₁.heap = s.heap := by rw [B.state]; rfl
    have hsz : scr.slots.size = xs.length := by rw [← Array.length_toList, hlist, List.length_map]
    have hval : ∀ j : Nat, j < xs.length → scr.slots[j]? = some (.int (xs.getD j 0)) := fun j hj => by
      rw [← Array.getElem?_toList, hlist]
      simp [hj]
    have hbl : b < s.heap.size := (Array.getElem?_eq_some_iff.mp hcb).1
    have hX : va_X b xs.length (fun j => xs.getD j 0) s s.heap := ⟨scr, hcb, hof, hkn, hsz, hval⟩
    have K : W p l e room_1 s m #[Value.ref b] below meth c s₁.heap [] 0 0 (lw_Z below #[Value.ref b] s) (entryFrame m ([Value.ref b] : List Value).toArray 4) := by
      rw [hh0]
      exact whole_start l hbd ⟨B.exec, B.bytes, B.returns, hml, hown, hts, hX, hbl, B.notSynchronized, hgv⟩
    obtain ⟨t, a1, o, b1, b2, b3⟩ := K s₁ rfl X₀
    exact ⟨t, o, a1, b1, b2, b3⟩
theorem lw_pre_spec {args : Array Value} {s : State} (h : (Jvm.Cond.and given_1 narrow_1).before args s = true) (hr : rest_1_c.before args s = true) : ∃ (b : Addr) (xs : List Int32), lw_P b xs args s := by
  have hs := flat_of_before _ h
  have hq := flat_of_before _ hr
  have hc : (Cond.count 1).before args s = true := hs _ (by decide +kernel)
  have harr : (Cond.arrayOf (.arg 0) .int).before args s = true := hs _ (by decide +kernel)
  have hle : (Cond.le (.length (.arg 0)) (.int 193)).before args s = true := hs _ (by decide +kernel)
  have hlen : (Cond.isInt (.length (.arg 0))).before args s = true := hq _ (by decide +kernel)
  have hall : (Cond.all (.arg 0) (.isInt (.elem (.arg 0) (.index 0)))).before args s = true := hq _ (by decide +kernel)
  obtain ⟨b, xs, hb, hx⟩ := State.ints_of_pre rfl harr hlen hall
  have hsm : xs.length < 2 ^ 31 := hx.choose_spec.2.2.2
  have hev : (Term.length (.arg 0)).eval args s none [] s = some (.int xs.length.toInt32) := hx.length_eval hb
  have hv := Cond.le_ints hev (show (Term.int 193).eval args s none [] s = some (.int 193) from rfl)
  have hd : xs.length.toInt32 ≤ 193 := by
    simpa [Cond.before, Cond.holds, hv] using hle
  have hN : xs.length ≤ 193 := (Int32.ofNat_le_ofNat hsm (by decide)).mp (show Int32.ofNat xs.length ≤ Int32.ofNat 193 from hd)
  exact ⟨b, xs, Cond.one_arg hc (show args[0]? = some (.ref b) from hb), hx, hN, h⟩
theorem lw_comes (l : Launch) : Comes l x (Jvm.Cond.code x code maxLocals ret :: tables_1) room_1 (fun tb e args s => Calls_1 tb e args s ∧ rest_1 tb e args s ∧ Pre_1 tb e args s)
    (fun _ _ args s o t => lw_Q args s o t) := by
  intro p e ha hc hk s m args below hf hfit hheap happ hpre
  obtain ⟨b, xs, hP⟩ := lw_pre_spec hpre.2.2 hpre.2.1
  obtain ⟨k, o, h1, h2, h3, hQ⟩ := lw_walk l b xs p e ha hc hk s m args below hf ((Spec.applies_iff_loose hf).mp happ).1 hP trivial
  exact ⟨k, o, h1, h2, h3, hQ⟩
theorem lw_frame {s t : State} {o : Outcome} {args : Array Value} (h : Framed s o t [] 600000 7290000) :
    Framed s o t (fieldLocs frame_1_writes args s ++ arrayLocs frame_1_arrays args s ++ staticLocs frame_1_statics s) 600000 7290000 := h
theorem lw_limb (L : Cond) (hL : ∀ (args : Array Value) (s t : State), L.after args s (.returned (some (.int 1))) t = true) :
    ArmFor flags0 classFile x code maxLocals ret World_1 tables_1 room_1 Calls_1 rest_1 Pre_1
      (fun tb e a s o t => postC L tb e a s o t ∧ Framed s o t (fieldLocs frame_1_writes a s ++ arrayLocs frame_1_arrays a s ++ staticLocs frame_1_statics s) 600000 7290000) := by
  intro l _ _ _ p e ha hc hk s m args below hf hfit hheap happ hpre
  obtain ⟨k, o, h1, h2, h3, rfl, hF⟩ := lw_comes l p e ha hc hk s m args below hf hfit hheap happ hpre
  exact ⟨k, _, h1, h2, h3, hL args s _, lw_frame hF⟩
theorem i_vc : Claimed_1_1 ∧ Claimed_1_2 := ⟨lw_limb limb_1_1 (fun args s t => by simp [limb_1_1, Cond.after, Cond.holds, Cond.value]), lw_limb limb_1_2 (fun args s t => Cond.after_iff.mpr (by
  first | (rw [show limb_1_2 = Cond.eq .result (.int 1) from rfl, Cond.eq_ints (x := 1) (y := 1) rfl rfl]; simp; done) | (simp [limb_1_2, Cond.value, Term.eval]; done)))⟩
end
