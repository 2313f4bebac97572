section
-- ===== PART A: goes FIRST, ahead of the names: the tables' words, and 'selects' of the private methods out of them =====
/-- a private method of a class that the tables say can be made, by its rows of tables_1 -/
def lw_okq (q : MethodName × Nat) : Prop := (q.1.cls ≠ "java/lang/invoke/MethodHandle" ∧ q.1.cls ≠ "java/lang/invoke/VarHandle") ∧ Cond.instantiable q.1.cls q.2 ∈ tables_1 ∧ Cond.privateMethod q.1 ∈ tables_1 ∧ Cond.instanceMethod q.1 ∈ tables_1
set_option maxRecDepth 100000
theorem lw_t1 {w : Cond} (h : w ∈ tables_1_1) : w ∈ tables_1 := List.mem_append_left _ h
theorem lw_t2 {w : Cond} (h : w ∈ tables_1_2) : w ∈ tables_1 := List.mem_append_right _ h
theorem lw_p0 : lw_okq (⟨"BooleanBasis", "has", "(I)Z"⟩, 10) := ⟨⟨by decide +kernel, by decide +kernel⟩, lw_t1 (List.mem_of_getElem? (i := 4) rfl), lw_t1 (List.mem_of_getElem? (i := 53) rfl), lw_t1 (List.mem_of_getElem? (i := 54) rfl)⟩
theorem lw_p1 : lw_okq (⟨"BooleanBasis", "learn", "()V"⟩, 10) := ⟨⟨by decide +kernel, by decide +kernel⟩, lw_t1 (List.mem_of_getElem? (i := 4) rfl), lw_t1 (List.mem_of_getElem? (i := 83) rfl), lw_t1 (List.mem_of_getElem? (i := 84) rfl)⟩
theorem lw_p2 : lw_okq (⟨"BooleanBasis", "complete", "(I)V"⟩, 10) := ⟨⟨by decide +kernel, by decide +kernel⟩, lw_t1 (List.mem_of_getElem? (i := 4) rfl), lw_t1 (List.mem_of_getElem? (i := 87) rfl), lw_t1 (List.mem_of_getElem? (i := 88) rfl)⟩
theorem lw_p3 : lw_okq (⟨"BooleanBasis", "takeIn", "(I)Z"⟩, 10) := ⟨⟨by decide +kernel, by decide +kernel⟩, lw_t1 (List.mem_of_getElem? (i := 4) rfl), lw_t1 (List.mem_of_getElem? (i := 91) rfl), lw_t1 (List.mem_of_getElem? (i := 92) rfl)⟩
theorem lw_p4 : lw_okq (⟨"BooleanBasis", "reduce", "(I)I"⟩, 10) := ⟨⟨by decide +kernel, by decide +kernel⟩, lw_t1 (List.mem_of_getElem? (i := 4) rfl), lw_t1 (List.mem_of_getElem? (i := 95) rfl), lw_t1 (List.mem_of_getElem? (i := 96) rfl)⟩
theorem lw_p5 : lw_okq (⟨"BooleanBasis", "divisor", "(I)I"⟩, 10) := ⟨⟨by decide +kernel, by decide +kernel⟩, lw_t1 (List.mem_of_getElem? (i := 4) rfl), lw_t1 (List.mem_of_getElem? (i := 99) rfl), lw_t1 (List.mem_of_getElem? (i := 100) rfl)⟩
theorem lw_p6 : lw_okq (⟨"BooleanBasis", "takeSquares", "(I)V"⟩, 10) := ⟨⟨by decide +kernel, by decide +kernel⟩, lw_t1 (List.mem_of_getElem? (i := 4) rfl), lw_t1 (List.mem_of_getElem? (i := 106) rfl), lw_t1 (List.mem_of_getElem? (i := 107) rfl)⟩
theorem lw_p7 : lw_okq (⟨"BooleanBasis", "takeDifference", "(II)V"⟩, 10) := ⟨⟨by decide +kernel, by decide +kernel⟩, lw_t1 (List.mem_of_getElem? (i := 4) rfl), lw_t1 (List.mem_of_getElem? (i := 110) rfl), lw_t1 (List.mem_of_getElem? (i := 111) rfl)⟩
theorem lw_p8 : lw_okq (⟨"BooleanBasis", "leastBound", "(I)Z"⟩, 10) := ⟨⟨by decide +kernel, by decide +kernel⟩, lw_t1 (List.mem_of_getElem? (i := 4) rfl), lw_t1 (List.mem_of_getElem? (i := 114) rfl), lw_t1 (List.mem_of_getElem? (i := 115) rfl)⟩
theorem lw_p9 : lw_okq (⟨"BooleanBasis", "vanishes", "(I)Z"⟩, 10) := ⟨⟨by decide +kernel, by decide +kernel⟩, lw_t1 (List.mem_of_getElem? (i := 4) rfl), lw_t1 (List.mem_of_getElem? (i := 118) rfl), lw_t1 (List.mem_of_getElem? (i := 119) rfl)⟩
theorem lw_p10 : lw_okq (⟨"BooleanBasisModel", "polynomial", "(I)Z"⟩, 4) := ⟨⟨by decide +kernel, by decide +kernel⟩, lw_t1 (List.mem_of_getElem? (i := 158) rfl), lw_t1 (List.mem_of_getElem? (i := 182) rfl), lw_t1 (List.mem_of_getElem? (i := 183) rfl)⟩
theorem lw_p11 : lw_okq (⟨"BooleanBasisModel", "work", "(I)V"⟩, 4) := ⟨⟨by decide +kernel, by decide +kernel⟩, lw_t1 (List.mem_of_getElem? (i := 158) rfl), lw_t1 (List.mem_of_getElem? (i := 211) rfl), lw_t1 (List.mem_of_getElem? (i := 212) rfl)⟩
theorem lw_p12 : lw_okq (⟨"BooleanBasisModel", "keep", "(I)V"⟩, 4) := ⟨⟨by decide +kernel, by decide +kernel⟩, lw_t1 (List.mem_of_getElem? (i := 158) rfl), lw_t1 (List.mem_of_getElem? (i := 216) rfl), lw_t1 (List.mem_of_getElem? (i := 217) rfl)⟩
theorem lw_p13 : lw_okq (⟨"BooleanBasisModel", "reduce", "(I)I"⟩, 4) := ⟨⟨by decide +kernel, by decide +kernel⟩, lw_t1 (List.mem_of_getElem? (i := 158) rfl), lw_t1 (List.mem_of_getElem? (i := 220) rfl), lw_t1 (List.mem_of_getElem? (i := 221) rfl)⟩
theorem lw_p14 : lw_okq (⟨"BooleanBasisModel", "least", "(I)Z"⟩, 4) := ⟨⟨by decide +kernel, by decide +kernel⟩, lw_t1 (List.mem_of_getElem? (i := 158) rfl), lw_t1 (List.mem_of_getElem? (i := 229) rfl), lw_t1 (List.mem_of_getElem? (i := 230) rfl)⟩
theorem lw_p15 : lw_okq (⟨"BooleanBasisModel", "independent", "(I)Z"⟩, 4) := ⟨⟨by decide +kernel, by decide +kernel⟩, lw_t1 (List.mem_of_getElem? (i := 158) rfl), lw_t2 (List.mem_of_getElem? (i := 23) rfl), lw_t2 (List.mem_of_getElem? (i := 24) rfl)⟩
def lw_privs_1 : List (MethodName × Nat) := [(⟨"BooleanBasis", "has", "(I)Z"⟩, 10), (⟨"BooleanBasis", "learn", "()V"⟩, 10), (⟨"BooleanBasis", "complete", "(I)V"⟩, 10), (⟨"BooleanBasis", "takeIn", "(I)Z"⟩, 10), (⟨"BooleanBasis", "reduce", "(I)I"⟩, 10), (⟨"BooleanBasis", "divisor", "(I)I"⟩, 10), (⟨"BooleanBasis", "takeSquares", "(I)V"⟩, 10), (⟨"BooleanBasis", "takeDifference", "(II)V"⟩, 10), (⟨"BooleanBasis", "leastBound", "(I)Z"⟩, 10), (⟨"BooleanBasis", "vanishes", "(I)Z"⟩, 10), (⟨"BooleanBasisModel", "polynomial", "(I)Z"⟩, 4), (⟨"BooleanBasisModel", "work", "(I)V"⟩, 4), (⟨"BooleanBasisModel", "keep", "(I)V"⟩, 4), (⟨"BooleanBasisModel", "reduce", "(I)I"⟩, 4), (⟨"BooleanBasisModel", "least", "(I)Z"⟩, 4), (⟨"BooleanBasisModel", "independent", "(I)Z"⟩, 4)]
theorem lw_r1 : ∀ q ∈ lw_privs_1, lw_okq q := List.forall_mem_cons.mpr ⟨lw_p0, List.forall_mem_cons.mpr ⟨lw_p1, List.forall_mem_cons.mpr ⟨lw_p2, List.forall_mem_cons.mpr ⟨lw_p3, List.forall_mem_cons.mpr ⟨lw_p4, List.forall_mem_cons.mpr ⟨lw_p5, List.forall_mem_cons.mpr ⟨lw_p6, List.forall_mem_cons.mpr ⟨lw_p7, List.forall_mem_cons.mpr ⟨lw_p8, List.forall_mem_cons.mpr ⟨lw_p9, List.forall_mem_cons.mpr ⟨lw_p10, List.forall_mem_cons.mpr ⟨lw_p11, List.forall_mem_cons.mpr ⟨lw_p12, List.forall_mem_cons.mpr ⟨lw_p13, List.forall_mem_cons.mpr ⟨lw_p14, List.forall_mem_cons.mpr ⟨lw_p15, fun _ h => absurd h List.not_mem_nil⟩⟩⟩⟩⟩⟩⟩⟩⟩⟩⟩⟩⟩⟩⟩⟩
def lw_privs : List (MethodName × Nat) := lw_privs_1
def lw_tbl : List Cond := k2_sels lw_privs ++ tables_1
theorem lw_privs_ok : ∀ q ∈ lw_privs, lw_okq q := lw_r1
-- ===== ONE list of words for every method: the tables' words that hold all through a run =====
def lw_all : List Cond := lw_tbl.filter goodWord
/-- a word of the tables by its place: claim/WORDS.tsv -/
theorem lw_w {w : Cond} (i : Nat) (h : lw_tbl[i]? = some w) (g : goodWord w = true) : w ∈ lw_all := List.mem_filter.mpr ⟨List.mem_of_getElem? h, g⟩
theorem lw_all_tbl {w : Cond} (h : w ∈ lw_all) : w ∈ lw_tbl := (List.mem_filter.mp h).1
theorem lw_self : GoodIn lw_all lw_all := fun w h => ⟨h, good_of_word (List.mem_filter.mp h).2⟩
/-- a class's field words, by their places -/
theorem lw_in (ws : List Cond) (ps : List Nat) (hp : ws = ps.filterMap (fun i => lw_tbl[i]?)) (hg : ws.all goodWord = true) : ∀ w ∈ ws, w ∈ lw_all := by
  intro w h
  have h1 := List.all_eq_true.mp hg w h
  rw [hp] at h
  obtain ⟨i, -, hi⟩ := List.mem_filterMap.mp h
  exact lw_w i hi h1
/-- the words of a contract for the method y with code b, L locals, answer r -/
abbrev ws_ (y : MethodName) (b : ByteArray) (L : Nat) (r : Option FieldType) : List Cond := Cond.code y b L r :: lw_all
theorem lw_meth {y : MethodName} {b : ByteArray} {L : Nat} {r : Option FieldType} (h : Cond.code y b L r ∈ lw_all) : GoodIn lw_all (ws_ y b L r) := by
  intro w hw
  rcases List.mem_cons.mp hw with e | e
  · rw [e]
    exact lw_self _ h
  · exact lw_self _ e
theorem lw_app {a c : List Cond} (ha : ∀ w ∈ a, w ∈ lw_all) (hc : GoodIn lw_all c) : GoodIn lw_all (a ++ c) := by
  intro w hw
  rcases List.mem_append.mp hw with e | e
  · exact lw_self w (ha w e)
  · exact hc w e
/-- what a call through an object asks: cwV n hts (lw_V ..) -/
theorem lw_V {own : String} {idx : Nat} {C : String} {y : MethodName} {b : ByteArray} {L : Nat} {r : Option FieldType} (h1 : Cond.methodLink own idx y ∈ lw_all) (h2 : Cond.instanceMethod y ∈ lw_all) (h3 : Cond.selects C y y ∈ lw_all) (h4 : Cond.initialized C ∈ lw_all) (h5 : Cond.code y b L r ∈ lw_all) : GoodIn lw_all (wsV own idx C y (ws_ y b L r)) := by
  refine lw_app ?_ (lw_meth h5)
  intro w hw
  simp only [List.mem_cons, List.not_mem_nil, or_false] at hw
  rcases hw with e | e | e | e
  · rw [e]; exact h1
  · rw [e]; exact h2
  · rw [e]; exact h3
  · rw [e]; exact h4
/-- what a static call asks: va_cwS n hts (lw_S ..) -/
theorem lw_S {own : String} {idx : Nat} {y : MethodName} {b : ByteArray} {L : Nat} {r : Option FieldType} (h1 : Cond.methodLink own idx y ∈ lw_all) (h2 : Cond.static y ∈ lw_all) (h3 : Cond.initialized y.cls ∈ lw_all) (h4 : Cond.code y b L r ∈ lw_all) : GoodIn lw_all (va_wsS own idx y (ws_ y b L r)) := by
  refine lw_app ?_ (lw_meth h4)
  intro w hw
  simp only [List.mem_cons, List.not_mem_nil, or_false] at hw
  rcases hw with e | e | e
  · rw [e]; exact h1
  · rw [e]; exact h2
  · rw [e]; exact h3
/-- the words of a contract for a method WITH HANDLERS (hh: its table) -/
abbrev wsW_ (y : MethodName) (b : ByteArray) (L : Nat) (r : Option FieldType) (hh : List (Nat × Nat × Nat × Nat)) : List Cond := Cond.codeWith y b L r hh :: lw_all
theorem lw_methW {y : MethodName} {b : ByteArray} {L : Nat} {r : Option FieldType} {hh : List (Nat × Nat × Nat × Nat)} (h : Cond.codeWith y b L r hh ∈ lw_all) : GoodIn lw_all (wsW_ y b L r hh) := by
  intro w hw
  rcases List.mem_cons.mp hw with e | e
  · rw [e]
    exact lw_self _ h
  · exact lw_self _ e
/-- any list of words by their places (lw_in), good -/
theorem lw_good {ws : List Cond} (h : ∀ w ∈ ws, w ∈ lw_all) : GoodIn lw_all ws := fun w hw => lw_self w (h w hw)
/-- what a call of a method with handlers asks: vx_cwVW n hts (lw_VW ..), vx_cwSW n hts (lw_SW ..) -/
theorem lw_VW {own : String} {idx : Nat} {C : String} {y : MethodName} {b : ByteArray} {L : Nat} {r : Option FieldType} {hh : List (Nat × Nat × Nat × Nat)} (h1 : Cond.methodLink own idx y ∈ lw_all) (h2 : Cond.instanceMethod y ∈ lw_all) (h3 : Cond.selects C y y ∈ lw_all) (h4 : Cond.initialized C ∈ lw_all) (h5 : Cond.codeWith y b L r hh ∈ lw_all) : GoodIn lw_all (wsV own idx C y (wsW_ y b L r hh)) := by
  refine lw_app ?_ (lw_methW h5)
  intro w hw
  simp only [List.mem_cons, List.not_mem_nil, or_false] at hw
  rcases hw with e | e | e | e
  · rw [e]; exact h1
  · rw [e]; exact h2
  · rw [e]; exact h3
  · rw [e]; exact h4
theorem lw_SW {own : String} {idx : Nat} {y : MethodName} {b : ByteArray} {L : Nat} {r : Option FieldType} {hh : List (Nat × Nat × Nat × Nat)} (h1 : Cond.methodLink own idx y ∈ lw_all) (h2 : Cond.static y ∈ lw_all) (h3 : Cond.initialized y.cls ∈ lw_all) (h4 : Cond.codeWith y b L r hh ∈ lw_all) : GoodIn lw_all (va_wsS own idx y (wsW_ y b L r hh)) := by
  refine lw_app ?_ (lw_methW h4)
  intro w hw
  simp only [List.mem_cons, List.not_mem_nil, or_false] at hw
  rcases hw with e | e | e
  · rw [e]; exact h1
  · rw [e]; exact h2
  · rw [e]; exact h3
/-- a word by its place in its run of the tables -/
theorem lw_at {r : List Cond} (hr : ∀ w ∈ r, w ∈ lw_tbl) {w : Cond} (i : Nat) (h : r[i]? = some w) : w ∈ lw_tbl := hr w (List.mem_of_getElem? h)
theorem lw_g {w : Cond} (h : w ∈ lw_tbl) (g : goodWord w = true) : w ∈ lw_all := List.mem_filter.mpr ⟨h, g⟩
theorem lw_ms : ∀ w ∈ k2_sels lw_privs, w ∈ lw_tbl := fun w h => show w ∈ k2_sels lw_privs ++ tables_1 from List.mem_append_left _ h
theorem lw_m1 : ∀ w ∈ tables_1_1, w ∈ lw_tbl := fun w h => show w ∈ k2_sels lw_privs ++ tables_1 from List.mem_append_right (k2_sels lw_privs) (show w ∈ tables_1 from List.mem_append_left _ h)
theorem lw_m2 : ∀ w ∈ tables_1_2, w ∈ lw_tbl := fun w h => show w ∈ k2_sels lw_privs ++ tables_1 from List.mem_append_right (k2_sels lw_privs) (show w ∈ tables_1 from List.mem_append_right _ h)
theorem qs0 : (Cond.selects "BooleanBasis" ⟨"BooleanBasis", "has", "(I)Z"⟩ ⟨"BooleanBasis", "has", "(I)Z"⟩) ∈ lw_all := lw_g (lw_at lw_ms 0 rfl) rfl
theorem qs1 : (Cond.selects "BooleanBasis" ⟨"BooleanBasis", "learn", "()V"⟩ ⟨"BooleanBasis", "learn", "()V"⟩) ∈ lw_all := lw_g (lw_at lw_ms 1 rfl) rfl
theorem qs2 : (Cond.selects "BooleanBasis" ⟨"BooleanBasis", "complete", "(I)V"⟩ ⟨"BooleanBasis", "complete", "(I)V"⟩) ∈ lw_all := lw_g (lw_at lw_ms 2 rfl) rfl
theorem qs3 : (Cond.selects "BooleanBasis" ⟨"BooleanBasis", "takeIn", "(I)Z"⟩ ⟨"BooleanBasis", "takeIn", "(I)Z"⟩) ∈ lw_all := lw_g (lw_at lw_ms 3 rfl) rfl
theorem qs4 : (Cond.selects "BooleanBasis" ⟨"BooleanBasis", "reduce", "(I)I"⟩ ⟨"BooleanBasis", "reduce", "(I)I"⟩) ∈ lw_all := lw_g (lw_at lw_ms 4 rfl) rfl
theorem qs5 : (Cond.selects "BooleanBasis" ⟨"BooleanBasis", "divisor", "(I)I"⟩ ⟨"BooleanBasis", "divisor", "(I)I"⟩) ∈ lw_all := lw_g (lw_at lw_ms 5 rfl) rfl
theorem qs6 : (Cond.selects "BooleanBasis" ⟨"BooleanBasis", "takeSquares", "(I)V"⟩ ⟨"BooleanBasis", "takeSquares", "(I)V"⟩) ∈ lw_all := lw_g (lw_at lw_ms 6 rfl) rfl
theorem qs7 : (Cond.selects "BooleanBasis" ⟨"BooleanBasis", "takeDifference", "(II)V"⟩ ⟨"BooleanBasis", "takeDifference", "(II)V"⟩) ∈ lw_all := lw_g (lw_at lw_ms 7 rfl) rfl
theorem qs8 : (Cond.selects "BooleanBasis" ⟨"BooleanBasis", "leastBound", "(I)Z"⟩ ⟨"BooleanBasis", "leastBound", "(I)Z"⟩) ∈ lw_all := lw_g (lw_at lw_ms 8 rfl) rfl
theorem qs9 : (Cond.selects "BooleanBasis" ⟨"BooleanBasis", "vanishes", "(I)Z"⟩ ⟨"BooleanBasis", "vanishes", "(I)Z"⟩) ∈ lw_all := lw_g (lw_at lw_ms 9 rfl) rfl
theorem qs10 : (Cond.selects "BooleanBasisModel" ⟨"BooleanBasisModel", "polynomial", "(I)Z"⟩ ⟨"BooleanBasisModel", "polynomial", "(I)Z"⟩) ∈ lw_all := lw_g (lw_at lw_ms 10 rfl) rfl
theorem qs11 : (Cond.selects "BooleanBasisModel" ⟨"BooleanBasisModel", "work", "(I)V"⟩ ⟨"BooleanBasisModel", "work", "(I)V"⟩) ∈ lw_all := lw_g (lw_at lw_ms 11 rfl) rfl
theorem qs12 : (Cond.selects "BooleanBasisModel" ⟨"BooleanBasisModel", "keep", "(I)V"⟩ ⟨"BooleanBasisModel", "keep", "(I)V"⟩) ∈ lw_all := lw_g (lw_at lw_ms 12 rfl) rfl
theorem qs13 : (Cond.selects "BooleanBasisModel" ⟨"BooleanBasisModel", "reduce", "(I)I"⟩ ⟨"BooleanBasisModel", "reduce", "(I)I"⟩) ∈ lw_all := lw_g (lw_at lw_ms 13 rfl) rfl
theorem qs14 : (Cond.selects "BooleanBasisModel" ⟨"BooleanBasisModel", "least", "(I)Z"⟩ ⟨"BooleanBasisModel", "least", "(I)Z"⟩) ∈ lw_all := lw_g (lw_at lw_ms 14 rfl) rfl
theorem qs15 : (Cond.selects "BooleanBasisModel" ⟨"BooleanBasisModel", "independent", "(I)Z"⟩ ⟨"BooleanBasisModel", "independent", "(I)Z"⟩) ∈ lw_all := lw_g (lw_at lw_ms 15 rfl) rfl
-- ===== end of PART A; then your names; then what follows =====
end
section
/-! PURE WORDS of the claim: polynomials over four Boolean variables as numbers below 65536 (bit m: the monomial m), monomials as numbers below 16 -/
def bb_xs (φ : Nat → Nat) : Nat → Nat
  | 0 => 0
  | n + 1 => bb_xs φ n ^^^ φ n
/-- the linear map that sends the monomial m to φ m, over the monomials below n -/
def bb_lin (φ : Nat → Nat) (f : Nat) (n : Nat) : Nat := bb_xs (fun m => if f.testBit m = true then φ m else 0) n
/-- a polynomial times a monomial -/
def bb_tms (f t : Nat) : Nat := bb_lin (fun m => 2 ^ (m ||| t)) f 16
def bb_prod (f g : Nat) : Nat := bb_lin (fun n => bb_tms f n) g 16
/-- the value at a point -/
def bb_val (f p : Nat) : Nat := bb_lin (fun m => if m &&& p = m then 1 else 0) f 16
/-- the reference's product, partial sums -/
def bb_pi (f g m n : Nat) : Nat := bb_xs (fun n => if f.testBit m = true ∧ g.testBit n = true then 2 ^ (m ||| n) else 0) n
def bb_pM (f g m : Nat) : Nat := bb_xs (fun m => bb_pi f g m 16) m
/-- the greatest monomial below n, 0 for none -/
def bb_hd (f : Nat) : Nat → Nat
  | 0 => 0
  | n + 1 => if f.testBit n = true then n else bb_hd f n
/-- the same as headOf has it: -1 for none -/
def bb_hI (f : Nat) : Nat → Int32
  | 0 => -1
  | n + 1 => if f.testBit n = true then nI n else bb_hI f n
/-- monomials taken away by h from k - 1 down -/
def bb_rd (h : Nat → Nat) : Nat → Nat → Nat
  | 0, r => r
  | k + 1, r => bb_rd h k (if r.testBit k = true then r ^^^ h k else r)
def bb_red (h : Nat → Nat) (f : Nat) : Nat := bb_rd h 16 f
/-- the first place from i on, k places at most, whose head divides m -/
def bb_dv (hd : Nat → Nat) (m : Nat) : Nat → Nat → Option Nat
  | 0, _ => none
  | k + 1, i => if hd i &&& m = hd i then some i else bb_dv hd m k (i + 1)
def bb_oI (o : Option Nat) : Int32 := match o with
  | none => -1
  | some i => nI i
/-- what is left of m without h -/
def bb_df (m h : Nat) : Nat := m &&& (15 ^^^ h)
abbrev bb_St : Type := Nat × (Nat → Nat) × (Nat → Nat)
/-- by which multiple the monomial m is taken away, 0 for none -/
def bb_bq (st : bb_St) (m : Nat) : Nat := match bb_dv st.2.2 m st.1 0 with
  | none => 0
  | some g => bb_tms (st.2.1 g) (bb_df m (st.2.2 g))
def bb_tk (st : bb_St) (f : Nat) : bb_St := if bb_red (bb_bq st) f = 0 ∨ 32 ≤ st.1 then st else (st.1 + 1, va_up st.2.1 st.1 (bb_red (bb_bq st) f), va_up st.2.2 st.1 (bb_hd (bb_red (bb_bq st) f) 16))
/-- generators below n taken in -/
def bb_gn (set : Nat) (gv : Nat → Nat) (st : bb_St) : Nat → bb_St
  | 0 => st
  | n + 1 => if set.testBit n = true then bb_tk (bb_gn set gv st n) (gv n) else bb_gn set gv st n
def bb_sq1 (st : bb_St) (i v : Nat) : bb_St := if (st.2.2 i).testBit v = true then bb_tk st (bb_tms (st.2.1 i) (2 ^ v) ^^^ st.2.1 i) else st
def bb_sq (st : bb_St) (i : Nat) : Nat → bb_St
  | 0 => st
  | v + 1 => bb_sq1 (bb_sq st i v) i v
def bb_td (st : bb_St) (i j : Nat) : bb_St := bb_tk st (bb_tms (st.2.1 i) (bb_df (st.2.2 i ||| st.2.2 j) (st.2.2 i)) ^^^ bb_tms (st.2.1 j) (bb_df (st.2.2 i ||| st.2.2 j) (st.2.2 j)))
def bb_tds (st : bb_St) (i : Nat) : Nat → bb_St
  | 0 => st
  | j + 1 => bb_td (bb_tds st i j) i j
def bb_row (st : bb_St) (i : Nat) : bb_St := bb_tds (bb_sq st i 4) i i
def bb_lp : Nat → Nat → bb_St → bb_St
  | 0, _, st => st
  | k + 1, i, st => if i < st.1 then bb_lp k (i + 1) (bb_row st i) else st
def bb_cmp (set : Nat) (gv po hd : Nat → Nat) : bb_St := bb_lp 33 0 (bb_gn set gv (0, po, hd) 6)
/-- a set of numbers below n -/
def bb_bs (P : Nat → Bool) : Nat → Nat
  | 0 => 0
  | n + 1 => bb_bs P n ||| (if P n = true then 2 ^ n else 0)
def bb_bd (st : bb_St) (m : Nat) : Bool := (bb_dv st.2.2 m st.1 0).isSome
/-- no proper divisor of m by one of the first n variables is bound -/
def bb_lb (st : bb_St) (m : Nat) : Nat → Bool
  | 0 => true
  | v + 1 => bb_lb st m v && (bb_df m (2 ^ v) == m || !(bb_bd st (bb_df m (2 ^ v))))
def bb_least (st : bb_St) (m : Nat) : Bool := bb_bd st m && bb_lb st m 4
/-- the basis' count and polynomials, the monomials below n looked at -/
def bb_bl (L : Nat → Bool) (h : Nat → Nat) (ba : Nat → Nat) : Nat → Nat × (Nat → Nat)
  | 0 => (0, ba)
  | m + 1 => if L m = true then ((bb_bl L h ba m).1 + 1, va_up (bb_bl L h ba m).2 (bb_bl L h ba m).1 (2 ^ m ^^^ bb_red h (2 ^ m))) else bb_bl L h ba m
def bb_van (ba : Nat → Nat) (p : Nat) : Nat → Bool
  | 0 => true
  | k + 1 => bb_van ba p k && (bb_val (ba k) p == 0)
def bb_cnt (z : Nat) : Nat → Nat
  | 0 => 0
  | p + 1 => bb_cnt z p + (z >>> p &&& 1)
def bb_vals (z i : Nat) : Nat → Nat
  | 0 => 0
  | p + 1 => if z.testBit p = true then bb_vals z i p ||| 2 ^ (p >>> i &&& 1) else bb_vals z i p
def bb_seen (z vars : Nat) : Nat → Nat
  | 0 => 0
  | p + 1 => if z.testBit p = true then bb_seen z vars p ||| 2 ^ (p &&& vars) else bb_seen z vars p
/-- some point below n of the variables is unseen -/
def bb_uns (seen vars : Nat) : Nat → Bool
  | 0 => false
  | q + 1 => bb_uns seen vars q || ((q &&& vars == q) && !(seen.testBit q))
-- the reference
def bb_kp (h : Nat → Nat) (f : Nat) : Nat → Nat := if bb_red h f = 0 then h else va_up h (bb_hd (bb_red h f) 16) (bb_red h f)
def bb_wkm (sl : Bool) (g : Nat) (h : Nat → Nat) : Nat → Nat → Nat
  | 0 => h
  | t + 1 => if sl = true then bb_kp (bb_wkm sl g h t) (bb_tms g t) else bb_wkm sl g h t
def bb_wki (sel : Nat → Bool) (gv : Nat → Nat) (h : Nat → Nat) : Nat → Nat → Nat
  | 0 => h
  | i + 1 => bb_wkm (sel i) (gv i) (bb_wki sel gv h i) 16
/-- the heads behind the first n places are as they were -/
def bb_clr (h : Nat → Nat) : Nat → Nat → Nat
  | 0 => h
  | n + 1 => va_up (bb_clr h n) n 0
def bb_wk (sel : Nat → Bool) (gv h : Nat → Nat) : Nat → Nat := bb_wki sel gv (bb_clr h 16) 6
def bb_ml (h : Nat → Nat) (m : Nat) : Nat → Bool
  | 0 => !(h m == 0)
  | n + 1 => bb_ml h m n && !(!(n == m) && (n &&& m == n) && !(h n == 0))
/-- how many of the monomials below n are least -/
def bb_lc (L : Nat → Bool) : Nat → Nat
  | 0 => 0
  | m + 1 => if L m = true then bb_lc L m + 1 else bb_lc L m
def bb_zr (th gv : Nat → Nat) (p : Nat) : Nat → Bool
  | 0 => true
  | i + 1 => bb_zr th gv p i && (th i == 0 || bb_val (gv i) p == 0)
/-- independent: the heads kept so far, k places still to look at, the rest: the new heads if it is no sum of them -/
def bb_ind (o : Nat → Nat) : Nat → Nat → Option (Nat → Nat)
  | 0, _ => none
  | k + 1, r => if r.testBit k = true then (if o k = 0 then some (va_up o k r) else bb_ind o k (r ^^^ o k)) else bb_ind o k r
/-- relates: (found, others) behind the monomials below n -/
def bb_rel (h : Nat → Nat) (vars : Nat) (o : Nat → Nat) : Nat → Bool × (Nat → Nat)
  | 0 => (false, o)
  | m + 1 => if m &&& vars = m then (if (bb_rel h vars o m).1 = true then bb_rel h vars o m else match bb_ind (bb_rel h vars o m).2 16 (bb_red h (2 ^ m)) with
      | none => (true, (bb_rel h vars o m).2)
      | some o' => (false, o')) else bb_rel h vars o m
end
section
/-! PURE A: xor sums, linear maps, points -/
theorem bb_xs_succ (φ : Nat → Nat) (n : Nat) : bb_xs φ (n + 1) = bb_xs φ n ^^^ φ n := rfl
theorem bb_xs_congr {φ ψ : Nat → Nat} {n : Nat} (h : ∀ m, m < n → φ m = ψ m) : bb_xs φ n = bb_xs ψ n := by
  induction n with
  | zero => rfl
  | succ n ih => rw [bb_xs_succ, bb_xs_succ, ih (fun m hm => h m (by omega)), h n (by omega)]
theorem bb_x4 (a b c d : Nat) : (a ^^^ b) ^^^ (c ^^^ d) = (a ^^^ c) ^^^ (b ^^^ d) := by
  rw [Nat.xor_assoc, Nat.xor_assoc, ← Nat.xor_assoc b c d, Nat.xor_comm b c, Nat.xor_assoc c b d]
/-- a ^^^ b, and b again -/
theorem bb_xx (a b : Nat) : (a ^^^ b) ^^^ b = a := by rw [Nat.xor_assoc, Nat.xor_self, Nat.xor_zero]
theorem bb_xx' (a b : Nat) : a ^^^ (a ^^^ b) = b := by rw [← Nat.xor_assoc, Nat.xor_self, Nat.zero_xor]
theorem bb_xs_xor (φ ψ : Nat → Nat) (n : Nat) : bb_xs (fun m => φ m ^^^ ψ m) n = bb_xs φ n ^^^ bb_xs ψ n := by
  induction n with
  | zero => exact (Nat.xor_self 0).symm
  | succ n ih => rw [bb_xs_succ, bb_xs_succ, bb_xs_succ, ih, bb_x4]
theorem bb_xs_zero (n : Nat) : bb_xs (fun _ => 0) n = 0 := by
  induction n with
  | zero => rfl
  | succ n ih => rw [bb_xs_succ, ih]; rfl
theorem bb_xs_none {φ : Nat → Nat} {n : Nat} (h : ∀ m, m < n → φ m = 0) : bb_xs φ n = 0 := by
  rw [bb_xs_congr (ψ := fun _ => 0) h, bb_xs_zero]
theorem bb_xs_swap (F : Nat → Nat → Nat) (a b : Nat) : bb_xs (fun m => bb_xs (fun n => F m n) a) b = bb_xs (fun n => bb_xs (fun m => F m n) b) a := by
  induction b with
  | zero => exact (bb_xs_zero a).symm
  | succ b ih => rw [bb_xs_succ, ih, ← bb_xs_xor]; rfl
/-- a property that 0 has and xor keeps -/
def bb_cl (S : Nat → Prop) : Prop := S 0 ∧ ∀ a b, S a → S b → S (a ^^^ b)
theorem bb_cl_xs {S : Nat → Prop} (h : bb_cl S) {φ : Nat → Nat} {n : Nat} (hφ : ∀ m, m < n → S (φ m)) : S (bb_xs φ n) := by
  induction n with
  | zero => exact h.1
  | succ n ih => exact h.2 _ _ (ih (fun m hm => hφ m (by omega))) (hφ n (by omega))
theorem bb_cl_lin {S : Nat → Prop} (h : bb_cl S) {φ : Nat → Nat} {f n : Nat} (hφ : ∀ m, m < n → f.testBit m = true → S (φ m)) : S (bb_lin φ f n) := by
  refine bb_cl_xs h (fun m hm => ?_)
  by_cases e : f.testBit m = true
  · rw [if_pos e]; exact hφ m hm e
  · rw [if_neg e]; exact h.1
theorem bb_lin_succ (φ : Nat → Nat) (f n : Nat) : bb_lin φ f (n + 1) = bb_lin φ f n ^^^ (if f.testBit n = true then φ n else 0) := rfl
theorem bb_lin_t {φ : Nat → Nat} {f n : Nat} (h : f.testBit n = true) : bb_lin φ f (n + 1) = bb_lin φ f n ^^^ φ n := by rw [bb_lin_succ, if_pos h]
theorem bb_lin_f {φ : Nat → Nat} {f n : Nat} (h : f.testBit n = false) : bb_lin φ f (n + 1) = bb_lin φ f n := by
  rw [bb_lin_succ, if_neg (by rw [h]; decide), Nat.xor_zero]
theorem bb_lin_congr {φ ψ : Nat → Nat} {f n : Nat} (h : ∀ m, m < n → φ m = ψ m) : bb_lin φ f n = bb_lin ψ f n := by
  refine bb_xs_congr (fun m hm => ?_)
  rw [h m hm]
theorem bb_lin_none {φ : Nat → Nat} {f n : Nat} (h : ∀ m, m < n → f.testBit m = false) : bb_lin φ f n = 0 :=
  bb_xs_none (fun m hm => by rw [if_neg (by rw [h m hm]; decide)])
theorem bb_lin_xor (φ : Nat → Nat) (f g n : Nat) : bb_lin φ (f ^^^ g) n = bb_lin φ f n ^^^ bb_lin φ g n := by
  unfold bb_lin
  rw [← bb_xs_xor]
  refine bb_xs_congr (fun m _ => ?_)
  rw [Nat.testBit_xor]
  cases f.testBit m <;> cases g.testBit m <;> simp
theorem bb_lin_zero (φ : Nat → Nat) (n : Nat) : bb_lin φ 0 n = 0 := bb_lin_none (fun m _ => Nat.zero_testBit m)
theorem bb_lin_pow (φ : Nat → Nat) {k n : Nat} (h : k < n) : bb_lin φ (2 ^ k) n = φ k := by
  induction n with
  | zero => omega
  | succ n ih =>
    rw [bb_lin_succ]
    by_cases e : k = n
    · subst e
      rw [bb_lin_none (fun m hm => by rw [Nat.testBit_two_pow]; simp; omega), Nat.zero_xor, if_pos (by rw [Nat.testBit_two_pow]; simp)]
    · rw [ih (by omega), if_neg (by rw [Nat.testBit_two_pow]; simp; omega), Nat.xor_zero]
/-- linear -/
def bb_L (L : Nat → Nat) : Prop := L 0 = 0 ∧ ∀ a b, L (a ^^^ b) = L a ^^^ L b
theorem bb_lin_L (φ : Nat → Nat) (n : Nat) : bb_L (fun f => bb_lin φ f n) := ⟨bb_lin_zero φ n, fun a b => bb_lin_xor φ a b n⟩
theorem bb_L_xs {L : Nat → Nat} (h : bb_L L) (φ : Nat → Nat) (n : Nat) : L (bb_xs φ n) = bb_xs (fun m => L (φ m)) n := by
  induction n with
  | zero => exact h.1
  | succ n ih => rw [bb_xs_succ, h.2, ih]; rfl
theorem bb_L_lin {L : Nat → Nat} (h : bb_L L) (φ : Nat → Nat) (f n : Nat) : L (bb_lin φ f n) = bb_lin (fun m => L (φ m)) f n := by
  unfold bb_lin
  rw [bb_L_xs h]
  refine bb_xs_congr (fun m _ => ?_)
  by_cases e : f.testBit m = true
  · rw [if_pos e, if_pos e]
  · rw [if_neg e, if_neg e]; exact h.1
/-- the kernel of a linear map is closed -/
theorem bb_L_cl {L : Nat → Nat} (h : bb_L L) : bb_cl (fun x => L x = 0) := ⟨h.1, fun a b ha hb => by
  show L (a ^^^ b) = 0
  rw [h.2, show L a = 0 from ha, show L b = 0 from hb]; rfl⟩
theorem bb_tb_id (f n i : Nat) : (bb_lin (fun m => 2 ^ m) f n).testBit i = (decide (i < n) && f.testBit i) := by
  induction n with
  | zero => rw [show bb_lin (fun m => 2 ^ m) f 0 = 0 from rfl]; simp
  | succ n ih =>
    rw [bb_lin_succ, Nat.testBit_xor, ih]
    by_cases e : i = n
    · subst e
      cases h : f.testBit i <;> simp [Nat.testBit_two_pow]
    · have e2 : decide (i < n + 1) = decide (i < n) := by
        apply decide_eq_decide.mpr; omega
      rw [e2]
      by_cases h : f.testBit n = true
      · rw [if_pos h, Nat.testBit_two_pow, decide_eq_false (show ¬ n = i from fun q => e q.symm), Bool.xor_false]
      · rw [if_neg h, Nat.zero_testBit, Bool.xor_false]
theorem bb_tb_lt {f n i : Nat} (h : f < 2 ^ n) (hi : n ≤ i) : f.testBit i = false :=
  Nat.testBit_lt_two_pow (Nat.lt_of_lt_of_le h (Nat.pow_le_pow_right (by decide) hi))
theorem bb_id {f n : Nat} (h : f < 2 ^ n) : bb_lin (fun m => 2 ^ m) f n = f := by
  refine Nat.eq_of_testBit_eq (fun i => ?_)
  rw [bb_tb_id]
  by_cases e : i < n
  · simp [e]
  · simp [e, bb_tb_lt h (Nat.not_lt.mp e)]
theorem bb_xs_lt {φ : Nat → Nat} {n k : Nat} (h : ∀ m, m < n → φ m < 2 ^ k) : bb_xs φ n < 2 ^ k := by
  induction n with
  | zero => exact Nat.two_pow_pos k
  | succ n ih => exact Nat.xor_lt_two_pow (ih (fun m hm => h m (by omega))) (h n (by omega))
theorem bb_lin_lt {φ : Nat → Nat} {f n k : Nat} (h : ∀ m, m < n → f.testBit m = true → φ m < 2 ^ k) : bb_lin φ f n < 2 ^ k := by
  refine bb_xs_lt (fun m hm => ?_)
  by_cases e : f.testBit m = true
  · rw [if_pos e]; exact h m hm e
  · rw [if_neg e]; exact Nat.two_pow_pos k
/-- two linear maps that agree on the monomials -/
theorem bb_L_ext {L M : Nat → Nat} (hL : bb_L L) (hM : bb_L M) (h : ∀ m, m < 16 → L (2 ^ m) = M (2 ^ m)) {f : Nat} (hf : f < 65536) : L f = M f := by
  rw [← bb_id (n := 16) hf, bb_L_lin hL, bb_L_lin hM]
  exact bb_lin_congr h
-- monomials
theorem bb_or16 : ∀ a, a < 16 → ∀ b, b < 16 → a ||| b < 16 := by decide +kernel
theorem bb_tms_L (t : Nat) : bb_L (fun f => bb_tms f t) := bb_lin_L _ _
theorem bb_tms_xor (f g t : Nat) : bb_tms (f ^^^ g) t = bb_tms f t ^^^ bb_tms g t := (bb_tms_L t).2 f g
theorem bb_tms_zero (t : Nat) : bb_tms 0 t = 0 := (bb_tms_L t).1
theorem bb_tms_pow {m : Nat} (h : m < 16) (t : Nat) : bb_tms (2 ^ m) t = 2 ^ (m ||| t) := bb_lin_pow _ h
theorem bb_tms_lt (f : Nat) {t : Nat} (ht : t < 16) : bb_tms f t < 65536 :=
  bb_lin_lt (k := 16) (fun m hm _ => Nat.pow_lt_pow_right (by decide) (bb_or16 m hm t ht))
theorem bb_tms_tms (f : Nat) {s t : Nat} (hs : s < 16) : bb_tms (bb_tms f s) t = bb_tms f (s ||| t) := by
  unfold bb_tms
  rw [bb_L_lin (bb_lin_L _ 16)]
  refine bb_lin_congr (fun m hm => ?_)
  rw [bb_lin_pow _ (bb_or16 m hm s hs), Nat.or_assoc]
theorem bb_tms_0 {f : Nat} (h : f < 65536) : bb_tms f 0 = f := by
  have := bb_id (n := 16) h
  unfold bb_tms
  rw [bb_lin_congr (ψ := fun m => 2 ^ m) (fun m _ => by rw [Nat.or_zero])]
  exact this
theorem bb_prod_pow (f : Nat) {m : Nat} (h : m < 16) : bb_prod f (2 ^ m) = bb_tms f m := bb_lin_pow _ h
theorem bb_prod_lt (f g : Nat) : bb_prod f g < 65536 := bb_lin_lt (k := 16) (fun m hm _ => bb_tms_lt f hm)
/-- the reference's product is the class's -/
theorem bb_pM_eq (f g : Nat) : bb_pM f g 16 = bb_prod f g := by
  unfold bb_pM bb_pi bb_prod bb_tms bb_lin
  rw [bb_xs_swap]
  refine bb_xs_congr (fun n _ => ?_)
  by_cases e : g.testBit n = true
  · rw [if_pos e]
    refine bb_xs_congr (fun m _ => ?_)
    simp [e]
  · rw [if_neg e]
    exact bb_xs_none (fun m _ => by simp [e])
-- values
theorem bb_val_L (p : Nat) : bb_L (fun f => bb_val f p) := bb_lin_L _ _
theorem bb_val_xor (f g p : Nat) : bb_val (f ^^^ g) p = bb_val f p ^^^ bb_val g p := (bb_val_L p).2 f g
theorem bb_val_lt (f p : Nat) : bb_val f p < 2 := bb_lin_lt (k := 1) (fun m _ _ => by split <;> decide)
theorem bb_val_01 (f p : Nat) : bb_val f p = 0 ∨ bb_val f p = 1 := by have := bb_val_lt f p; omega
theorem bb_or_sub : ∀ m, m < 16 → ∀ t, t < 16 → ∀ p, p < 16 → t &&& p = t → (((m ||| t) &&& p = m ||| t) ↔ m &&& p = m) := by decide +kernel
theorem bb_or_nsub : ∀ m, m < 16 → ∀ t, t < 16 → ∀ p, p < 16 → ¬ t &&& p = t → ¬ ((m ||| t) &&& p = m ||| t) := by decide +kernel
theorem bb_val_pow {m : Nat} (h : m < 16) (p : Nat) : bb_val (2 ^ m) p = if m &&& p = m then 1 else 0 := bb_lin_pow _ h
theorem bb_val_tms (f : Nat) {t p : Nat} (ht : t < 16) (hp : p < 16) : bb_val (bb_tms f t) p = if t &&& p = t then bb_val f p else 0 := by
  have e : bb_val (bb_tms f t) p = bb_lin (fun m => bb_val (2 ^ (m ||| t)) p) f 16 := bb_L_lin (bb_val_L p) _ _ _
  rw [e]
  by_cases h : t &&& p = t
  · rw [if_pos h]
    refine bb_lin_congr (fun m hm => ?_)
    rw [bb_val_pow (bb_or16 m hm t ht)]
    have := bb_or_sub m hm t ht p hp h
    by_cases h2 : m &&& p = m
    · rw [if_pos h2, if_pos (this.mpr h2)]
    · rw [if_neg h2, if_neg (fun q => h2 (this.mp q))]
  · rw [if_neg h]
    rw [bb_lin_congr (ψ := fun _ => 0) (fun m hm => by rw [bb_val_pow (bb_or16 m hm t ht), if_neg (bb_or_nsub m hm t ht p hp h)])]
    exact bb_xs_none (fun m _ => by split <;> rfl)
/-- the polynomial that is 1 at the point p alone -/
def bb_zt (p : Nat) : Nat := bb_xs (fun q => if p &&& q = p then 2 ^ q else 0) 16
theorem bb_zt_lt (p : Nat) : bb_zt p < 65536 := bb_xs_lt (k := 16) (fun m hm => by
  split
  · exact Nat.pow_lt_pow_right (by decide) hm
  · decide)
theorem bb_01 (c : Nat → Prop) [DecidablePred c] (z g n : Nat) : bb_lin (fun m => if c m then z else 0) g n = if bb_lin (fun m => if c m then 1 else 0) g n = 1 then z else 0 := by
  have key : (bb_lin (fun m => if c m then 1 else 0) g n = 0 ∧ bb_lin (fun m => if c m then z else 0) g n = 0) ∨ (bb_lin (fun m => if c m then 1 else 0) g n = 1 ∧ bb_lin (fun m => if c m then z else 0) g n = z) := by
    induction n with
    | zero => exact Or.inl ⟨rfl, rfl⟩
    | succ n ih =>
      rw [bb_lin_succ, bb_lin_succ]
      by_cases h : g.testBit n = true
      · rw [if_pos h, if_pos h]
        by_cases h2 : c n
        · rw [if_pos h2, if_pos h2]
          rcases ih with ⟨a, b⟩ | ⟨a, b⟩
          · right; rw [a, b]; exact ⟨rfl, Nat.zero_xor z⟩
          · left; rw [a, b]; exact ⟨rfl, Nat.xor_self z⟩
        · rw [if_neg h2, if_neg h2, Nat.xor_zero, Nat.xor_zero]; exact ih
      · rw [if_neg h, if_neg h, Nat.xor_zero, Nat.xor_zero]; exact ih
  rcases key with ⟨a, b⟩ | ⟨a, b⟩
  · rw [a, b]; rfl
  · rw [a, b]; rfl
theorem bb_prod_L (g : Nat) : bb_L (fun f => bb_prod f g) := by
  refine ⟨?_, fun a b => ?_⟩
  · exact bb_xs_none (fun m _ => by
      split
      · exact bb_tms_zero m
      · rfl)
  · show bb_prod (a ^^^ b) g = bb_prod a g ^^^ bb_prod b g
    unfold bb_prod bb_lin
    rw [← bb_xs_xor]
    refine bb_xs_congr (fun m _ => ?_)
    by_cases e : g.testBit m = true
    · rw [if_pos e, if_pos e, if_pos e]; exact bb_tms_xor a b m
    · rw [if_neg e, if_neg e, if_neg e]; rfl
theorem bb_prod_zt0 : ∀ m, m < 16 → ∀ p, p < 16 → bb_prod (2 ^ m) (bb_zt p) = if m &&& p = m then bb_zt p else 0 := by decide +kernel
theorem bb_prod_zt {g p : Nat} (hg : g < 65536) (hp : p < 16) : bb_prod g (bb_zt p) = if bb_val g p = 1 then bb_zt p else 0 := by
  have e : bb_prod g (bb_zt p) = bb_lin (fun m => if m &&& p = m then bb_zt p else 0) g 16 := by
    refine bb_L_ext (bb_prod_L _) (bb_lin_L _ 16) (fun m hm => ?_) hg
    rw [bb_prod_zt0 m hm p hp, bb_lin_pow _ hm]
  rw [e, bb_01]
  rfl
theorem bb_pts0 : ∀ m, m < 16 → bb_xs (fun p => if bb_val (2 ^ m) p = 1 then bb_zt p else 0) 16 = 2 ^ m := by decide +kernel
theorem bb_pts_L : bb_L (fun f => bb_xs (fun p => if bb_val f p = 1 then bb_zt p else 0) 16) := by
  refine ⟨?_, fun a b => ?_⟩
  · refine bb_xs_none (fun p _ => ?_)
    rw [show bb_val 0 p = 0 from (bb_val_L p).1]; rfl
  · show bb_xs _ 16 = bb_xs _ 16 ^^^ bb_xs _ 16
    rw [← bb_xs_xor]
    refine bb_xs_congr (fun p _ => ?_)
    rw [bb_val_xor]
    rcases bb_val_01 a p with h | h <;> rcases bb_val_01 b p with h2 | h2 <;> rw [h, h2] <;> simp
/-- a polynomial is the sum of the points at which it is 1 -/
theorem bb_pts {f : Nat} (hf : f < 65536) : bb_xs (fun p => if bb_val f p = 1 then bb_zt p else 0) 16 = f := by
  have hid : bb_L (fun f => f) := ⟨rfl, fun _ _ => rfl⟩
  exact bb_L_ext bb_pts_L hid bb_pts0 hf
/-- what has no value anywhere is 0 -/
theorem bb_inj {f : Nat} (hf : f < 65536) (h : ∀ p, p < 16 → bb_val f p = 0) : f = 0 := by
  rw [← bb_pts hf]
  exact bb_xs_none (fun p hp => by rw [h p hp]; rfl)
/-- A: a closed S that has all multiples of the generators has all that vanishes where they do -/
theorem bb_A {S : Nat → Prop} (hS : bb_cl S) {G : Nat → Prop} (hG : ∀ g, G g → g < 65536) (hg : ∀ g, G g → ∀ t, t < 16 → S (bb_tms g t)) {f : Nat} (hf : f < 65536) (hv : ∀ p, p < 16 → (∀ g, G g → bb_val g p = 0) → bb_val f p = 0) : S f := by
  rw [← bb_pts hf]
  refine bb_cl_xs hS (fun p hp => ?_)
  by_cases e : bb_val f p = 1
  · rw [if_pos e]
    have hn : ¬ ∀ g, G g → bb_val g p = 0 := fun q => by have := hv p hp q; omega
    have : ∃ g, G g ∧ bb_val g p = 1 := Classical.byContradiction (fun q => hn (fun g h => by
      rcases bb_val_01 g p with h0 | h1
      · exact h0
      · exact absurd ⟨g, h, h1⟩ q))
    obtain ⟨g, h1, h2⟩ := this
    have e2 := bb_prod_zt (hG g h1) hp
    rw [if_pos h2] at e2
    rw [← e2]
    exact bb_cl_lin hS (fun m hm _ => hg g h1 m hm)
  · rw [if_neg e]; exact hS.1
end
section
/-! PURE B: heads, reducing by an echelon family, the reference's work -/
def bb_Hd (f h : Nat) : Prop := f < 2 ^ (h + 1) ∧ f.testBit h = true
theorem bb_Hd_ne {f h : Nat} (H : bb_Hd f h) : f ≠ 0 := fun e => by
  have := H.2
  rw [e, Nat.zero_testBit] at this
  cases this
theorem bb_lt_of {f n : Nat} (h : ∀ i, n ≤ i → f.testBit i = false) : f < 2 ^ n := Nat.lt_pow_two_of_testBit f h
theorem bb_Hd_un {f h : Nat} (H : bb_Hd f h) : f ^^^ 2 ^ h < 2 ^ h := by
  refine bb_lt_of (fun i hi => ?_)
  rw [Nat.testBit_xor, Nat.testBit_two_pow]
  by_cases e : h = i
  · subst e; rw [H.2]; simp
  · rw [bb_tb_lt H.1 (by omega), decide_eq_false e]; rfl
theorem bb_Hd_mk {f h : Nat} (H : f < 2 ^ h) : bb_Hd (f ^^^ 2 ^ h) h := by
  refine ⟨bb_lt_of (fun i hi => ?_), ?_⟩
  · rw [Nat.testBit_xor, Nat.testBit_two_pow, bb_tb_lt H (by omega), decide_eq_false (by omega)]; rfl
  · rw [Nat.testBit_xor, Nat.testBit_two_pow, bb_tb_lt H (Nat.le_refl _)]; simp
theorem bb_Hd_uniq {f a b : Nat} (h1 : bb_Hd f a) (h2 : bb_Hd f b) : a = b := by
  rcases Nat.lt_trichotomy a b with h | h | h
  · have := bb_tb_lt h1.1 (show a + 1 ≤ b by omega)
    rw [h2.2] at this; cases this
  · exact h
  · have := bb_tb_lt h2.1 (show b + 1 ≤ a by omega)
    rw [h1.2] at this; cases this
theorem bb_hd_spec {f n : Nat} (hf : f < 2 ^ n) (h0 : f ≠ 0) : bb_Hd f (bb_hd f n) ∧ bb_hd f n < n := by
  induction n with
  | zero => exact absurd (by simpa using hf) h0
  | succ n ih =>
    unfold bb_hd
    by_cases e : f.testBit n = true
    · rw [if_pos e]; exact ⟨⟨hf, e⟩, by omega⟩
    · rw [if_neg e]
      have : f < 2 ^ n := bb_lt_of (fun i hi => by
        rcases Nat.lt_or_eq_of_le hi with h | h
        · exact bb_tb_lt hf h
        · subst h; exact Bool.eq_false_iff.mpr e)
      have := ih this
      exact ⟨this.1, by omega⟩
theorem bb_hI_eq {f n : Nat} (hf : f < 2 ^ n) (h0 : f ≠ 0) : bb_hI f n = nI (bb_hd f n) := by
  induction n with
  | zero => exact absurd (by simpa using hf) h0
  | succ n ih =>
    unfold bb_hI bb_hd
    by_cases e : f.testBit n = true
    · rw [if_pos e, if_pos e]
    · rw [if_neg e, if_neg e]
      refine ih (bb_lt_of (fun i hi => ?_))
      rcases Nat.lt_or_eq_of_le hi with h | h
      · exact bb_tb_lt hf h
      · subst h; exact Bool.eq_false_iff.mpr e
-- reducing
theorem bb_rd_succ (h : Nat → Nat) (k r : Nat) : bb_rd h (k + 1) r = bb_rd h k (if r.testBit k = true then r ^^^ h k else r) := rfl
theorem bb_rd_t {h : Nat → Nat} {k r : Nat} (e : r.testBit k = true) : bb_rd h (k + 1) r = bb_rd h k (r ^^^ h k) := by rw [bb_rd_succ, if_pos e]
theorem bb_rd_f {h : Nat → Nat} {k r : Nat} (e : r.testBit k = false) : bb_rd h (k + 1) r = bb_rd h k r := by rw [bb_rd_succ, if_neg (by rw [e]; decide)]
theorem bb_rd_L (h : Nat → Nat) (k : Nat) : bb_L (bb_rd h k) := by
  induction k with
  | zero => exact ⟨rfl, fun _ _ => rfl⟩
  | succ k ih =>
    refine ⟨?_, fun a b => ?_⟩
    · rw [bb_rd_f (Nat.zero_testBit k)]; exact ih.1
    · rw [bb_rd_succ, bb_rd_succ, bb_rd_succ, ← ih.2, Nat.testBit_xor]
      congr 1
      cases a.testBit k <;> cases b.testBit k <;> simp
      · rw [Nat.xor_assoc]
      · rw [Nat.xor_assoc, Nat.xor_comm b, ← Nat.xor_assoc]
      · rw [bb_x4, Nat.xor_self, Nat.xor_zero]
theorem bb_red_L (h : Nat → Nat) : bb_L (bb_red h) := bb_rd_L h 16
theorem bb_red_xor (h : Nat → Nat) (a b : Nat) : bb_red h (a ^^^ b) = bb_red h a ^^^ bb_red h b := (bb_red_L h).2 a b
/-- what is taken away is a sum of the family -/
theorem bb_rd_S {S : Nat → Prop} (hS : bb_cl S) {h : Nat → Nat} {k : Nat} (hh : ∀ m, m < k → S (h m)) (f : Nat) : S (f ^^^ bb_rd h k f) := by
  induction k generalizing f with
  | zero => rw [show bb_rd h 0 f = f from rfl, Nat.xor_self]; exact hS.1
  | succ k ih =>
    by_cases e : f.testBit k = true
    · rw [bb_rd_t e]
      have h1 := ih (fun m hm => hh m (by omega)) (f ^^^ h k)
      have h2 := hS.2 _ _ (hh k (by omega)) h1
      rw [← Nat.xor_assoc, ← Nat.xor_assoc, Nat.xor_comm (h k) f, bb_xx] at h2
      exact h2
    · rw [bb_rd_f (Bool.eq_false_iff.mpr e)]
      exact ih (fun m hm => hh m (by omega)) f
theorem bb_red_S {S : Nat → Prop} (hS : bb_cl S) {h : Nat → Nat} (hh : ∀ m, m < 16 → S (h m)) (f : Nat) : S (f ^^^ bb_red h f) := bb_rd_S hS hh f
def bb_Ech (h : Nat → Nat) : Prop := ∀ m, m < 16 → h m = 0 ∨ bb_Hd (h m) m
theorem bb_Ech_hi {h : Nat → Nat} (E : bb_Ech h) {m i : Nat} (hm : m < 16) (hi : m < i) : (h m).testBit i = false := by
  rcases E m hm with e | e
  · rw [e]; exact Nat.zero_testBit i
  · exact bb_tb_lt e.1 hi
theorem bb_rd_hi {h : Nat → Nat} (E : bb_Ech h) {k : Nat} (hk : k ≤ 16) (f : Nat) {i : Nat} (hi : k ≤ i) : (bb_rd h k f).testBit i = f.testBit i := by
  induction k generalizing f with
  | zero => rfl
  | succ k ih =>
    by_cases e : f.testBit k = true
    · rw [bb_rd_t e, ih (by omega) _ (by omega), Nat.testBit_xor, bb_Ech_hi E (by omega) (by omega), Bool.xor_false]
    · rw [bb_rd_f (Bool.eq_false_iff.mpr e), ih (by omega) _ (by omega)]
theorem bb_rd_lo {h : Nat → Nat} (E : bb_Ech h) {k : Nat} (hk : k ≤ 16) (f : Nat) {i : Nat} (hi : i < k) (hb : (bb_rd h k f).testBit i = true) : h i = 0 := by
  induction k generalizing f with
  | zero => omega
  | succ k ih =>
    rw [bb_rd_succ] at hb
    by_cases hik : i = k
    · subst hik
      rw [bb_rd_hi E (by omega) _ (Nat.le_refl _)] at hb
      by_cases e : f.testBit i = true
      · rw [if_pos e, Nat.testBit_xor, e] at hb
        rcases E i (by omega) with h0 | h0
        · exact h0
        · rw [h0.2] at hb; cases hb
      · rw [if_neg e] at hb; exact absurd hb e
    · exact ih (by omega) _ (by omega) hb
theorem bb_red_lo {h : Nat → Nat} (E : bb_Ech h) (f : Nat) {i : Nat} (hi : i < 16) (hb : (bb_red h f).testBit i = true) : h i = 0 := bb_rd_lo E (Nat.le_refl 16) f hi hb
theorem bb_red_lt {h : Nat → Nat} (E : bb_Ech h) {f : Nat} (hf : f < 65536) : bb_red h f < 65536 :=
  bb_lt_of (n := 16) (fun i hi => by
    unfold bb_red
    rw [bb_rd_hi E (Nat.le_refl 16) f hi]
    exact bb_tb_lt (n := 16) hf hi)
/-- bounds that the family keeps -/
theorem bb_rd_lt {h : Nat → Nat} (hh : ∀ m, m < 16 → h m < 65536) {k : Nat} (hk : k ≤ 16) {f : Nat} (hf : f < 65536) : bb_rd h k f < 65536 := by
  induction k generalizing f with
  | zero => exact hf
  | succ k ih =>
    rw [bb_rd_succ]
    refine ih (by omega) ?_
    split
    · exact Nat.xor_lt_two_pow (n := 16) hf (hh k (by omega))
    · exact hf
theorem bb_rd_own {h : Nat → Nat} (E : bb_Ech h) {k : Nat} (hk : k ≤ 16) {j : Nat} (hj : j < k) : bb_rd h k (h j) = 0 := by
  induction k with
  | zero => omega
  | succ k ih =>
    by_cases e : j = k
    · subst e
      rcases E j (by omega) with h0 | h0
      · rw [h0]; exact (bb_rd_L h _).1
      · rw [bb_rd_t h0.2, Nat.xor_self]; exact (bb_rd_L h _).1
    · rw [bb_rd_f (bb_Ech_hi E (by omega) (by omega))]
      exact ih (by omega) (by omega)
theorem bb_red_own {h : Nat → Nat} (E : bb_Ech h) {j : Nat} (hj : j < 16) : bb_red h (h j) = 0 := bb_rd_own E (Nat.le_refl 16) hj
/-- a head that the family has not stays -/
theorem bb_rd_stay {h : Nat → Nat} (E : bb_Ech h) {k : Nat} (hk : k ≤ 16) {f m : Nat} (hm : m < k) (H : bb_Hd f m) (h0 : h m = 0) : (bb_rd h k f).testBit m = true := by
  induction k with
  | zero => omega
  | succ k ih =>
    by_cases e : m = k
    · subst e
      rw [bb_rd_t H.2, h0, Nat.xor_zero, bb_rd_hi E (by omega) _ (Nat.le_refl _)]
      exact H.2
    · rw [bb_rd_f (bb_tb_lt H.1 (by omega))]
      exact ih (by omega) (by omega)
theorem bb_rd_fix {h : Nat → Nat} {k : Nat} {r : Nat} (hr : ∀ m, m < k → r.testBit m = true → h m = 0) : bb_rd h k r = r := by
  induction k with
  | zero => rfl
  | succ k ih =>
    by_cases e : r.testBit k = true
    · rw [bb_rd_t e, hr k (by omega) e, Nat.xor_zero]; exact ih (fun m hm => hr m (by omega))
    · rw [bb_rd_f (Bool.eq_false_iff.mpr e)]; exact ih (fun m hm => hr m (by omega))
theorem bb_xor_0 {a b : Nat} (h : a ^^^ b = 0) : a = b := by
  have := congrArg (fun z => z ^^^ b) h
  simpa [bb_xx] using this
/-- U: families with the same span reduce alike and have the same heads -/
theorem bb_U1 {h h' : Nat → Nat} (E : bb_Ech h) (E' : bb_Ech h') (hs : ∀ f, f < 65536 → bb_red h f = 0 → bb_red h' f = 0) {m : Nat} (hm : m < 16) (h0 : h' m = 0) : h m = 0 := by
  rcases E m hm with e | e
  · exact e
  · have h1 := hs (h m) (Nat.lt_of_lt_of_le e.1 (Nat.pow_le_pow_right (by decide) (show m + 1 ≤ 16 by omega))) (bb_red_own E hm)
    have h2 := bb_rd_stay E' (Nat.le_refl 16) hm e h0
    rw [show bb_rd h' 16 (h m) = 0 from h1, Nat.zero_testBit] at h2
    cases h2
theorem bb_U2 {h h' : Nat → Nat} (E : bb_Ech h) (E' : bb_Ech h') (hs : ∀ f, f < 65536 → (bb_red h f = 0 ↔ bb_red h' f = 0)) {f : Nat} (hf : f < 65536) : bb_red h f = bb_red h' f := by
  have hz : ∀ m, m < 16 → (h m = 0 ↔ h' m = 0) := fun m hm => ⟨bb_U1 E' E (fun f hf => (hs f hf).mpr) hm, bb_U1 E E' (fun f hf => (hs f hf).mp) hm⟩
  have r1 : bb_red h (bb_red h f) = bb_red h f := bb_rd_fix (fun m hm hb => bb_red_lo E f hm hb)
  have r2 : bb_red h' (bb_red h' f) = bb_red h' f := bb_rd_fix (fun m hm hb => bb_red_lo E' f hm hb)
  have r3 : bb_red h (bb_red h' f) = bb_red h' f := bb_rd_fix (fun m hm hb => (hz m hm).mpr (bb_red_lo E' f hm hb))
  have l2 := bb_red_lt E' hf
  have k2 : bb_red h' (f ^^^ bb_red h' f) = 0 := by rw [bb_red_xor, r2, Nat.xor_self]
  have k3 : bb_red h (f ^^^ bb_red h' f) = 0 := (hs _ (Nat.xor_lt_two_pow (n := 16) hf l2)).mpr k2
  rw [bb_red_xor, r3] at k3
  exact bb_xor_0 k3
-- the reference: keep
theorem bb_up_s {f : Nat → Nat} {k v : Nat} : va_up f k v k = v := by simp [va_up]
theorem bb_up_n {f : Nat → Nat} {k v j : Nat} (h : j ≠ k) : va_up f k v j = f j := by simp [va_up, h]
theorem bb_kp_Ech {h : Nat → Nat} (E : bb_Ech h) {f : Nat} (hf : f < 65536) : bb_Ech (bb_kp h f) := by
  unfold bb_kp
  by_cases e : bb_red h f = 0
  · rw [if_pos e]; exact E
  · rw [if_neg e]
    intro m hm
    by_cases e2 : m = bb_hd (bb_red h f) 16
    · rw [e2, bb_up_s]; exact Or.inr (bb_hd_spec (n := 16) (bb_red_lt E hf) e).1
    · rw [bb_up_n e2]; exact E m hm
/-- an old member is 0 or a member still -/
theorem bb_kp_old {h : Nat → Nat} (E : bb_Ech h) {f : Nat} (hf : f < 65536) {m : Nat} (hm : m < 16) : h m = 0 ∨ bb_kp h f m = h m := by
  unfold bb_kp
  by_cases e : bb_red h f = 0
  · rw [if_pos e]; exact Or.inr rfl
  · rw [if_neg e]
    by_cases e2 : m = bb_hd (bb_red h f) 16
    · left
      have := bb_hd_spec (n := 16) (bb_red_lt E hf) e
      rw [e2]
      exact bb_red_lo E f this.2 this.1.2
    · right; exact bb_up_n e2
theorem bb_kp_S {h : Nat → Nat} (E : bb_Ech h) {f : Nat} (hf : f < 65536) : ∀ m, m < 16 → bb_red (bb_kp h f) (h m) = 0 := by
  intro m hm
  rcases bb_kp_old E hf hm with e | e
  · rw [e]; exact (bb_red_L _).1
  · rw [← e]; exact bb_red_own (bb_kp_Ech E hf) hm
theorem bb_kp_mono {h : Nat → Nat} (E : bb_Ech h) {f : Nat} (hf : f < 65536) {g : Nat} (hg : bb_red h g = 0) : bb_red (bb_kp h f) g = 0 := by
  have := bb_red_S (bb_L_cl (bb_red_L (bb_kp h f))) (bb_kp_S E hf) g
  rw [hg, Nat.xor_zero] at this
  exact this
theorem bb_kp_new {h : Nat → Nat} (E : bb_Ech h) {f : Nat} (hf : f < 65536) : bb_red (bb_kp h f) f = 0 := by
  have h1 := bb_red_S (bb_L_cl (bb_red_L (bb_kp h f))) (bb_kp_S E hf) f
  have h2 : bb_red (bb_kp h f) (bb_red h f) = 0 := by
    by_cases e : bb_red h f = 0
    · rw [e]; exact (bb_red_L _).1
    · have hs := bb_hd_spec (n := 16) (bb_red_lt E hf) e
      have : bb_kp h f (bb_hd (bb_red h f) 16) = bb_red h f := by
        unfold bb_kp
        rw [if_neg e, bb_up_s]
      rw [← this]
      rw [this]
      have h3 := bb_red_own (bb_kp_Ech E hf) hs.2
      rw [this] at h3
      exact h3
  have h3 := (bb_L_cl (bb_red_L (bb_kp h f))).2 _ _ h1 h2
  rw [bb_xx] at h3
  exact h3
theorem bb_kp_P {S : Nat → Prop} (hS : bb_cl S) {h : Nat → Nat} (hh : ∀ m, m < 16 → S (h m)) {f : Nat} (hf : S f) : ∀ m, m < 16 → S (bb_kp h f m) := by
  intro m hm
  unfold bb_kp
  by_cases e : bb_red h f = 0
  · rw [if_pos e]; exact hh m hm
  · rw [if_neg e]
    by_cases e2 : m = bb_hd (bb_red h f) 16
    · rw [e2, bb_up_s]
      have := hS.2 _ _ hf (bb_red_S hS hh f)
      rw [bb_xx'] at this
      exact this
    · rw [bb_up_n e2]; exact hh m hm
theorem bb_clr_0 (h : Nat → Nat) (n : Nat) : ∀ m, m < n → bb_clr h n m = 0 := by
  induction n with
  | zero => intro m hm; omega
  | succ n ih =>
    intro m hm
    unfold bb_clr
    by_cases e : m = n
    · rw [e]; exact bb_up_s
    · rw [bb_up_n e]; exact ih m (by omega)
/-- what vanishes where the chosen generators do -/
def bb_V (sel : Nat → Bool) (gv : Nat → Nat) (f : Nat) : Prop := ∀ p, p < 16 → (∀ i, i < 6 → sel i = true → bb_val (gv i) p = 0) → bb_val f p = 0
theorem bb_V_cl (sel : Nat → Bool) (gv : Nat → Nat) : bb_cl (bb_V sel gv) :=
  ⟨fun p _ _ => (bb_val_L p).1, fun a b ha hb p hp h => by rw [bb_val_xor, ha p hp h, hb p hp h]; rfl⟩
theorem bb_V_tms {sel : Nat → Bool} {gv : Nat → Nat} {f t : Nat} (ht : t < 16) (h : bb_V sel gv f) : bb_V sel gv (bb_tms f t) := by
  intro p hp hz
  rw [bb_val_tms f ht hp, h p hp hz]
  split <;> rfl
theorem bb_V_gen {sel : Nat → Bool} {gv : Nat → Nat} {i : Nat} (hi : i < 6) (hs : sel i = true) : bb_V sel gv (gv i) := fun _ _ hz => hz i hi hs
theorem bb_wkm_ok {S : Nat → Prop} (hS : bb_cl S) {sl : Bool} {g : Nat} {h : Nat → Nat} (E : bb_Ech h) (hh : ∀ m, m < 16 → S (h m)) (hg : sl = true → ∀ t, t < 16 → S (bb_tms g t)) :
    ∀ n, n ≤ 16 → bb_Ech (bb_wkm sl g h n) ∧ (∀ m, m < 16 → S (bb_wkm sl g h n m)) ∧ (∀ f, bb_red h f = 0 → bb_red (bb_wkm sl g h n) f = 0) ∧ (sl = true → ∀ t, t < n → bb_red (bb_wkm sl g h n) (bb_tms g t) = 0) := by
  intro n
  induction n with
  | zero => intro _; exact ⟨E, hh, fun _ q => q, fun _ t ht => by omega⟩
  | succ n ih =>
    intro hn
    obtain ⟨e1, e2, e3, e4⟩ := ih (by omega)
    unfold bb_wkm
    by_cases hs : sl = true
    · have hl : bb_tms g n < 65536 := bb_tms_lt g (by omega)
      rw [if_pos hs]
      refine ⟨bb_kp_Ech e1 hl, bb_kp_P hS e2 (hg hs n (by omega)), fun f hf => bb_kp_mono e1 hl (e3 f hf), fun _ t ht => ?_⟩
      by_cases e : t = n
      · rw [e]; exact bb_kp_new e1 hl
      · exact bb_kp_mono e1 hl (e4 hs t (by omega))
    · rw [if_neg hs]
      exact ⟨e1, e2, e3, fun q => absurd q hs⟩
theorem bb_wki_ok {sel : Nat → Bool} {gv h : Nat → Nat} (h0 : ∀ m, m < 16 → h m = 0) :
    ∀ n, n ≤ 6 → bb_Ech (bb_wki sel gv h n) ∧ (∀ m, m < 16 → bb_V sel gv (bb_wki sel gv h n m)) ∧ (∀ i, i < n → sel i = true → ∀ t, t < 16 → bb_red (bb_wki sel gv h n) (bb_tms (gv i) t) = 0) := by
  intro n
  induction n with
  | zero => intro _; exact ⟨fun m hm => Or.inl (h0 m hm), fun m hm => by rw [show bb_wki sel gv h 0 m = 0 from h0 m hm]; exact (bb_V_cl sel gv).1, fun i hi => by omega⟩
  | succ n ih =>
    intro hn
    obtain ⟨e1, e2, e3⟩ := ih (by omega)
    obtain ⟨k1, k2, k3, k4⟩ := bb_wkm_ok (bb_V_cl sel gv) e1 e2 (sl := sel n) (g := gv n) (fun hs t ht => bb_V_tms ht (bb_V_gen (by omega) hs)) 16 (Nat.le_refl 16)
    refine ⟨k1, k2, fun i hi hs t ht => ?_⟩
    by_cases e : i = n
    · subst e; exact k4 hs t ht
    · exact k3 _ (e3 i (by omega) hs t ht)
/-- the reference's heads: an echelon family of the vanishing ideal -/
theorem bb_wk_Ech (sel : Nat → Bool) (gv h : Nat → Nat) : bb_Ech (bb_wk sel gv h) := (bb_wki_ok (bb_clr_0 h 16) 6 (Nat.le_refl 6)).1
/-- a family whose members vanish and that has all multiples -/
theorem bb_span {sel : Nat → Bool} {gv h : Nat → Nat} (hgv : ∀ i, i < 6 → sel i = true → gv i < 65536) (hh : ∀ m, m < 16 → bb_V sel gv (h m)) (ht : ∀ i, i < 6 → sel i = true → ∀ t, t < 16 → bb_red h (bb_tms (gv i) t) = 0) {f : Nat} (hf : f < 65536) : bb_red h f = 0 ↔ bb_V sel gv f := by
  constructor
  · intro h0
    have := bb_red_S (bb_V_cl sel gv) hh f
    rw [h0, Nat.xor_zero] at this
    exact this
  · intro hv
    refine bb_A (S := fun x => bb_red h x = 0) (bb_L_cl (bb_red_L h)) (G := fun g => ∃ i, i < 6 ∧ sel i = true ∧ g = gv i) ?_ ?_ hf ?_
    · rintro g ⟨i, hi, hs, rfl⟩; exact hgv i hi hs
    · rintro g ⟨i, hi, hs, rfl⟩ t htt; exact ht i hi hs t htt
    · intro p hp hz
      exact hv p hp (fun i hi hs => hz (gv i) ⟨i, hi, hs, rfl⟩)
theorem bb_wk_span {sel : Nat → Bool} {gv : Nat → Nat} (hgv : ∀ i, i < 6 → sel i = true → gv i < 65536) (h : Nat → Nat) {f : Nat} (hf : f < 65536) : bb_red (bb_wk sel gv h) f = 0 ↔ bb_V sel gv f := by
  obtain ⟨-, e2, e3⟩ := bb_wki_ok (sel := sel) (gv := gv) (bb_clr_0 h 16) 6 (Nat.le_refl 6)
  exact bb_span hgv e2 e3 hf
end
section
/-! PURE C: completing (Buchberger): the class's family spans the vanishing ideal too -/
/-- a monomial's exponents, apart: the order of the polynomial ring, in which squares are greater -/
def bb_en (m : Nat) : Nat := m % 2 + m / 2 % 2 * 4 + m / 4 % 2 * 16 + m / 8 % 2 * 64
theorem bb_en_or : ∀ a, a < 16 → ∀ b, b < 16 → bb_en (a ||| b) ≤ bb_en a + bb_en b := by decide +kernel
theorem bb_en_lt : ∀ a, a < 16 → ∀ b, b < 16 → a < b → bb_en a < bb_en b := by decide +kernel
theorem bb_en_df : ∀ m, m < 16 → ∀ h, h < 16 → h &&& m = h → bb_en (bb_df m h) + bb_en h = bb_en m := by decide +kernel
theorem bb_en_dj : ∀ t, t < 16 → ∀ h, h < 16 → t &&& h = 0 → bb_en t + bb_en h = bb_en (h ||| t) := by decide +kernel
theorem bb_en_hi : ∀ m, m < 16 → bb_en m < 1000 := by decide +kernel
theorem bb_df_or : ∀ m, m < 16 → ∀ h, h < 16 → h &&& m = h → h ||| bb_df m h = m := by decide +kernel
theorem bb_df_and : ∀ m, m < 16 → ∀ h, h < 16 → bb_df m h &&& h = 0 := by decide +kernel
theorem bb_df_lt : ∀ m, m < 16 → ∀ h, h < 16 → bb_df m h < 16 := by decide +kernel
theorem bb_or_lt : ∀ t, t < 16 → ∀ h, h < 16 → t &&& h = 0 → ∀ m, m < 16 → m < h → m ||| t < h ||| t := by decide +kernel
theorem bb_sb_or : ∀ h, h < 16 → ∀ t, t < 16 → h &&& (h ||| t) = h := by decide +kernel
theorem bb_sb_orr : ∀ h, h < 16 → ∀ t, t < 16 → t &&& (h ||| t) = t := by decide +kernel
theorem bb_df_own : ∀ h, h < 16 → ∀ t, t < 16 → t &&& h = 0 → bb_df (h ||| t) h = t := by decide +kernel
theorem bb_bit_or : ∀ h, h < 16 → ∀ v, v < 4 → h.testBit v = true → h ||| 2 ^ v = h := by decide +kernel
theorem bb_pw16 : ∀ v, v < 4 → 2 ^ v < 16 := by decide +kernel
theorem bb_meet : ∀ t, t < 16 → ∀ h, h < 16 → ¬ t &&& h = 0 → ∃ v, v < 4 ∧ t.testBit v = true ∧ h.testBit v = true := by decide +kernel
theorem bb_cut_or : ∀ t, t < 16 → ∀ v, v < 4 → t.testBit v = true → 2 ^ v ||| bb_df t (2 ^ v) = t ∧ bb_en (bb_df t (2 ^ v)) + bb_en (2 ^ v) = bb_en t ∧ 0 < bb_en (2 ^ v) := by decide +kernel
/-- the pair's multiples: u = m without both heads -/
theorem bb_pair4a : ∀ m, m < 16 → ∀ h, h < 16 → ∀ k, k < 16 → h &&& m = h → k &&& m = k → bb_df (h ||| k) h ||| bb_df m (h ||| k) = bb_df m h := by decide +kernel
theorem bb_pair4c : ∀ m, m < 16 → ∀ h, h < 16 → ∀ k, k < 16 → h &&& m = h → k &&& m = k → bb_en (h ||| k) + bb_en (bb_df m (h ||| k)) = bb_en m := by decide +kernel
theorem bb_pair4 (m : Nat) (hm : m < 16) (h : Nat) (hh : h < 16) (h1 : h &&& m = h) (k : Nat) (hk : k < 16) (h2 : k &&& m = k) : bb_df (h ||| k) h ||| bb_df m (h ||| k) = bb_df m h ∧ bb_df (h ||| k) k ||| bb_df m (h ||| k) = bb_df m k ∧ bb_en (h ||| k) + bb_en (bb_df m (h ||| k)) = bb_en m := by
  refine ⟨bb_pair4a m hm h hh k hk h1 h2, ?_, bb_pair4c m hm h hh k hk h1 h2⟩
  have := bb_pair4a m hm k hk h hh h2 h1
  rw [Nat.or_comm k h] at this
  exact this
theorem bb_dv_some {hd : Nat → Nat} {m k i j : Nat} (h : bb_dv hd m k i = some j) : i ≤ j ∧ j < i + k ∧ hd j &&& m = hd j := by
  induction k generalizing i with
  | zero => cases h
  | succ k ih =>
    unfold bb_dv at h
    by_cases e : hd i &&& m = hd i
    · rw [if_pos e] at h
      cases h
      exact ⟨Nat.le_refl _, by omega, e⟩
    · rw [if_neg e] at h
      obtain ⟨a, b, c⟩ := ih h
      exact ⟨by omega, by omega, c⟩
theorem bb_dv_none {hd : Nat → Nat} {m k i : Nat} (h : bb_dv hd m k i = none) : ∀ j, i ≤ j → j < i + k → ¬ hd j &&& m = hd j := by
  induction k generalizing i with
  | zero => intro j h1 h2; omega
  | succ k ih =>
    unfold bb_dv at h
    by_cases e : hd i &&& m = hd i
    · rw [if_pos e] at h; cases h
    · rw [if_neg e] at h
      intro j h1 h2
      by_cases e2 : j = i
      · rw [e2]; exact e
      · exact ih h j (by omega) (by omega)
theorem bb_lin_bit {φ : Nat → Nat} {f n i : Nat} (h : (bb_lin φ f n).testBit i = true) : ∃ m, m < n ∧ f.testBit m = true ∧ (φ m).testBit i = true := by
  induction n with
  | zero => rw [show bb_lin φ f 0 = 0 from rfl, Nat.zero_testBit] at h; cases h
  | succ n ih =>
    by_cases e : (bb_lin φ f n).testBit i = true
    · obtain ⟨m, a, b⟩ := ih e
      exact ⟨m, by omega, b⟩
    · rw [bb_lin_succ, Nat.testBit_xor, Bool.eq_false_iff.mpr e] at h
      by_cases e2 : f.testBit n = true
      · rw [if_pos e2] at h
        exact ⟨n, by omega, e2, by simpa using h⟩
      · rw [if_neg e2, Nat.zero_testBit] at h; cases h
theorem bb_bit_lt {f n i : Nat} (hf : f < 2 ^ n) (h : f.testBit i = true) : i < n := by
  rcases Nat.lt_or_ge i n with q | q
  · exact q
  · rw [bb_tb_lt hf q] at h; cases h
theorem bb_tms_Hd {f h t : Nat} (hh : h < 16) (ht : t < 16) (hd : t &&& h = 0) (H : bb_Hd f h) : bb_Hd (bb_tms f t) (h ||| t) := by
  have e : bb_tms f t = bb_tms (f ^^^ 2 ^ h) t ^^^ 2 ^ (h ||| t) := by
    rw [bb_tms_xor, bb_tms_pow hh, bb_xx]
  rw [e]
  refine bb_Hd_mk (bb_lin_lt (fun m hm hb => ?_))
  exact Nat.pow_lt_pow_right (by decide) (bb_or_lt t ht h hh hd m hm (bb_bit_lt (bb_Hd_un H) hb))
-- the state: heads are heads
def bb_GI (st : bb_St) : Prop := ∀ i, i < st.1 → st.2.2 i < 16 ∧ bb_Hd (st.2.1 i) (st.2.2 i)
theorem bb_Hd_16 {f h : Nat} (hh : h < 16) (H : bb_Hd f h) : f < 65536 := Nat.lt_of_lt_of_le H.1 (Nat.pow_le_pow_right (by decide) (show h + 1 ≤ 16 by omega))
theorem bb_bq_case {st : bb_St} (g : bb_GI st) {m : Nat} (hm : m < 16) : (bb_bq st m = 0 ∧ bb_dv st.2.2 m st.1 0 = none) ∨ (bb_Hd (bb_bq st m) m ∧ ∃ i, bb_dv st.2.2 m st.1 0 = some i ∧ i < st.1 ∧ st.2.2 i &&& m = st.2.2 i ∧ bb_bq st m = bb_tms (st.2.1 i) (bb_df m (st.2.2 i))) := by
  cases e : bb_dv st.2.2 m st.1 0 with
  | none => left; exact ⟨by unfold bb_bq; rw [e], rfl⟩
  | some i =>
    right
    obtain ⟨-, h1, h2⟩ := bb_dv_some e
    have hi : i < st.1 := by omega
    obtain ⟨g1, g2⟩ := g i hi
    have hq : bb_bq st m = bb_tms (st.2.1 i) (bb_df m (st.2.2 i)) := by unfold bb_bq; rw [e]
    refine ⟨?_, i, rfl, hi, h2, hq⟩
    rw [hq]
    have := bb_tms_Hd g1 (bb_df_lt m hm _ g1) (bb_df_and m hm _ g1) g2
    rw [bb_df_or m hm _ g1 h2] at this
    exact this
theorem bb_bq_Ech {st : bb_St} (g : bb_GI st) : bb_Ech (bb_bq st) := fun m hm => by
  rcases bb_bq_case g hm with h | h
  · exact Or.inl h.1
  · exact Or.inr h.1
theorem bb_bd_bq {st : bb_St} (g : bb_GI st) {m : Nat} (hm : m < 16) : bb_bd st m = true ↔ bb_bq st m ≠ 0 := by
  unfold bb_bd
  rcases bb_bq_case g hm with ⟨h1, h2⟩ | ⟨h1, i, h2, -⟩
  · rw [h2, h1]; simp
  · rw [h2]; simp [bb_Hd_ne h1]
/-- sums of multiples below e -/
def bb_Sd (st : bb_St) (e f : Nat) : Prop := ∀ S : Nat → Prop, bb_cl S → (∀ i t, i < st.1 → t < 16 → bb_en t + bb_en (st.2.2 i) < e → S (bb_tms (st.2.1 i) t)) → S f
theorem bb_Sd_cl (st : bb_St) (e : Nat) : bb_cl (bb_Sd st e) := ⟨fun _ hS _ => hS.1, fun _ _ ha hb S hS h => hS.2 _ _ (ha S hS h) (hb S hS h)⟩
theorem bb_Sd_in {st : bb_St} {e i t : Nat} (hi : i < st.1) (ht : t < 16) (he : bb_en t + bb_en (st.2.2 i) < e) : bb_Sd st e (bb_tms (st.2.1 i) t) := fun _ _ h => h i t hi ht he
theorem bb_Sd_mul {st : bb_St} {e f u : Nat} (hu : u < 16) (h : bb_Sd st e f) : bb_Sd st (e + bb_en u) (bb_tms f u) := by
  intro S hS hg
  refine h (fun x => S (bb_tms x u)) ⟨by show S (bb_tms 0 u); rw [bb_tms_zero]; exact hS.1, fun a b ha hb => by show S (bb_tms (a ^^^ b) u); rw [bb_tms_xor]; exact hS.2 _ _ ha hb⟩ (fun i t hi ht he => ?_)
  rw [bb_tms_tms _ ht]
  refine hg i (t ||| u) hi (bb_or16 t ht u hu) ?_
  have := bb_en_or t ht u hu
  omega
def bb_Ex (st st' : bb_St) : Prop := st.1 ≤ st'.1 ∧ ∀ i, i < st.1 → st'.2.1 i = st.2.1 i ∧ st'.2.2 i = st.2.2 i
theorem bb_Ex_rf (st : bb_St) : bb_Ex st st := ⟨Nat.le_refl _, fun _ _ => ⟨rfl, rfl⟩⟩
theorem bb_Ex_tr {a b c : bb_St} (h1 : bb_Ex a b) (h2 : bb_Ex b c) : bb_Ex a c := ⟨Nat.le_trans h1.1 h2.1, fun i hi => by
  obtain ⟨p, q⟩ := h1.2 i hi
  obtain ⟨p2, q2⟩ := h2.2 i (Nat.lt_of_lt_of_le hi h1.1)
  exact ⟨p2.trans p, q2.trans q⟩⟩
theorem bb_Sd_ex {st st' : bb_St} (x : bb_Ex st st') {e f : Nat} (h : bb_Sd st e f) : bb_Sd st' e f := by
  intro S hS hg
  refine h S hS (fun i t hi ht he => ?_)
  obtain ⟨p, q⟩ := x.2 i hi
  have := hg i t (Nat.lt_of_lt_of_le hi x.1) ht (by rw [q]; exact he)
  rw [p] at this
  exact this
theorem bb_rd_Sd {st : bb_St} (g : bb_GI st) {e : Nat} : ∀ k, k ≤ 16 → ∀ f, (∀ m, m < 16 → f.testBit m = true → bb_en m < e) → bb_Sd st e (f ^^^ bb_rd (bb_bq st) k f) ∧ ∀ m, m < 16 → (bb_rd (bb_bq st) k f).testBit m = true → bb_en m < e := by
  intro k
  induction k with
  | zero => intro _ f hf; exact ⟨by rw [show bb_rd (bb_bq st) 0 f = f from rfl, Nat.xor_self]; exact (bb_Sd_cl st e).1, hf⟩
  | succ k ih =>
    intro hk f hf
    by_cases hb : f.testBit k = true
    · have hek := hf k (by omega) hb
      have hq : bb_Sd st e (bb_bq st k) ∧ ∀ m, m < 16 → (bb_bq st k).testBit m = true → bb_en m < e := by
        rcases bb_bq_case g (show k < 16 by omega) with ⟨h1, -⟩ | ⟨h1, i, -, hi, h2, h3⟩
        · rw [h1]; exact ⟨(bb_Sd_cl st e).1, fun m _ q => by rw [Nat.zero_testBit] at q; cases q⟩
        · refine ⟨?_, fun m hm q => ?_⟩
          · rw [h3]
            refine bb_Sd_in hi (bb_df_lt k (by omega) _ (g i hi).1) ?_
            rw [bb_en_df k (by omega) _ (g i hi).1 h2]
            exact hek
          · have hl := bb_bit_lt h1.1 q
            rcases Nat.lt_or_eq_of_le (Nat.le_of_lt_succ hl) with z | z
            · exact Nat.lt_trans (bb_en_lt m hm k (by omega) z) hek
            · rw [z]; exact hek
      rw [bb_rd_t hb]
      obtain ⟨a, b⟩ := ih (by omega) (f ^^^ bb_bq st k) (fun m hm q => by
        rw [Nat.testBit_xor] at q
        by_cases q1 : f.testBit m = true
        · exact hf m hm q1
        · rw [Bool.eq_false_iff.mpr q1, Bool.false_xor] at q
          exact hq.2 m hm q)
      refine ⟨?_, b⟩
      have h2 := (bb_Sd_cl st e).2 _ _ hq.1 a
      rw [← Nat.xor_assoc, ← Nat.xor_assoc, Nat.xor_comm (bb_bq st k) f, bb_xx] at h2
      exact h2
    · rw [bb_rd_f (Bool.eq_false_iff.mpr hb)]
      exact ih (by omega) f hf
-- how many are bound
theorem bb_lc_le (L : Nat → Bool) (n : Nat) : bb_lc L n ≤ n := by
  induction n with
  | zero => exact Nat.le_refl 0
  | succ n ih => unfold bb_lc; split <;> omega
theorem bb_lc_mono {L M : Nat → Bool} {n : Nat} (h : ∀ m, m < n → L m = true → M m = true) : bb_lc L n ≤ bb_lc M n := by
  induction n with
  | zero => exact Nat.le_refl 0
  | succ n ih =>
    have := ih (fun m hm => h m (by omega))
    unfold bb_lc
    by_cases e : L n = true
    · rw [if_pos e, if_pos (h n (by omega) e)]; omega
    · rw [if_neg e]; split <;> omega
theorem bb_lc_more {L M : Nat → Bool} {n k : Nat} (h : ∀ m, m < n → L m = true → M m = true) (hk : k < n) (h1 : L k = false) (h2 : M k = true) : bb_lc L n + 1 ≤ bb_lc M n := by
  induction n with
  | zero => omega
  | succ n ih =>
    unfold bb_lc
    by_cases e : k = n
    · subst e
      have := bb_lc_mono (L := L) (M := M) (n := k) (fun m hm => h m (by omega))
      rw [if_neg (by rw [h1]; decide), if_pos h2]; omega
    · have := ih (fun m hm => h m (by omega)) (by omega)
      by_cases e2 : L n = true
      · rw [if_pos e2, if_pos (h n (by omega) e2)]; omega
      · rw [if_neg e2]; split <;> omega
theorem bb_lc_congr {L M : Nat → Bool} {n : Nat} (h : ∀ m, m < n → L m = M m) : bb_lc L n = bb_lc M n := by
  induction n with
  | zero => rfl
  | succ n ih =>
    unfold bb_lc
    rw [ih (fun m hm => h m (by omega)), h n (by omega)]
/-- a good state: its polynomials vanish, there are no more of them than bound monomials -/
def bb_G (sel : Nat → Bool) (gv : Nat → Nat) (st : bb_St) : Prop := bb_GI st ∧ (∀ i, i < st.1 → bb_V sel gv (st.2.1 i)) ∧ st.1 ≤ bb_lc (bb_bd st) 16
theorem bb_bd_iff (st : bb_St) (m : Nat) : bb_bd st m = true ↔ ∃ i, i < st.1 ∧ st.2.2 i &&& m = st.2.2 i := by
  unfold bb_bd
  cases e : bb_dv st.2.2 m st.1 0 with
  | none =>
    have := bb_dv_none e
    simp only [Option.isSome_none, Bool.false_eq_true, false_iff]
    rintro ⟨i, h1, h2⟩
    exact this i (Nat.zero_le _) (by omega) h2
  | some i =>
    obtain ⟨-, h1, h2⟩ := bb_dv_some e
    simp only [Option.isSome_some, true_iff]
    exact ⟨i, by omega, h2⟩
theorem bb_bq_V {sel : Nat → Bool} {gv : Nat → Nat} {st : bb_St} (g : bb_G sel gv st) : ∀ m, m < 16 → bb_V sel gv (bb_bq st m) := by
  intro m hm
  rcases bb_bq_case g.1 hm with ⟨h1, -⟩ | ⟨-, i, -, hi, -, h3⟩
  · rw [h1]; exact (bb_V_cl sel gv).1
  · rw [h3]; exact bb_V_tms (bb_df_lt m hm _ (g.1 i hi).1) (g.2.1 i hi)
theorem bb_tk_ok {sel : Nat → Bool} {gv : Nat → Nat} {st : bb_St} (g : bb_G sel gv st) {f : Nat} (hf : f < 65536) (hv : bb_V sel gv f) :
    bb_G sel gv (bb_tk st f) ∧ bb_Ex st (bb_tk st f) ∧ ∀ e, (∀ m, m < 16 → f.testBit m = true → bb_en m < e) → bb_Sd (bb_tk st f) e f := by
  have E := bb_bq_Ech g.1
  have h16 : st.1 ≤ 16 := Nat.le_trans g.2.2 (bb_lc_le _ 16)
  by_cases hr : bb_red (bb_bq st) f = 0
  · have e : bb_tk st f = st := by unfold bb_tk; rw [if_pos (Or.inl hr)]
    rw [e]
    refine ⟨g, bb_Ex_rf st, fun e he => ?_⟩
    have := (bb_rd_Sd g.1 16 (Nat.le_refl 16) f he).1
    rw [show bb_rd (bb_bq st) 16 f = 0 from hr, Nat.xor_zero] at this
    exact this
  · have e : bb_tk st f = (st.1 + 1, va_up st.2.1 st.1 (bb_red (bb_bq st) f), va_up st.2.2 st.1 (bb_hd (bb_red (bb_bq st) f) 16)) := by
      unfold bb_tk; rw [if_neg (fun q => q.elim hr (fun z => by omega))]
    have hs := bb_hd_spec (n := 16) (bb_red_lt E hf) hr
    generalize hR : bb_red (bb_bq st) f = r at *
    generalize hH : bb_hd r 16 = h at *
    have x : bb_Ex st (bb_tk st f) := by
      rw [e]
      exact ⟨Nat.le_succ _, fun i hi => ⟨bb_up_n (by omega), bb_up_n (by omega)⟩⟩
    have hGI : bb_GI (bb_tk st f) := by
      intro i hi
      rw [e] at hi ⊢
      by_cases q : i = st.1
      · subst q
        show va_up st.2.2 st.1 h st.1 < 16 ∧ bb_Hd (va_up st.2.1 st.1 r st.1) (va_up st.2.2 st.1 h st.1)
        rw [bb_up_s, bb_up_s]; exact ⟨hs.2, hs.1⟩
      · have hi' : i < st.1 := by have : i < st.1 + 1 := hi; omega
        show va_up st.2.2 st.1 h i < 16 ∧ bb_Hd (va_up st.2.1 st.1 r i) (va_up st.2.2 st.1 h i)
        rw [bb_up_n q, bb_up_n q]; exact g.1 i hi'
    refine ⟨⟨hGI, fun i hi => ?_, ?_⟩, x, fun e' he => ?_⟩
    · rw [e] at hi ⊢
      by_cases q : i = st.1
      · subst q
        show bb_V sel gv (va_up st.2.1 st.1 r st.1)
        rw [bb_up_s]
        have := (bb_V_cl sel gv).2 _ _ hv (bb_red_S (bb_V_cl sel gv) (bb_bq_V g) f)
        rw [hR, bb_xx'] at this
        exact this
      · have hi' : i < st.1 := by have : i < st.1 + 1 := hi; omega
        show bb_V sel gv (va_up st.2.1 st.1 r i)
        rw [bb_up_n q]; exact g.2.1 i hi'
    · have hsz : (bb_tk st f).1 = st.1 + 1 := by rw [e]
      rw [hsz]
      refine Nat.le_trans (Nat.succ_le_succ g.2.2) (bb_lc_more (k := h) (fun m hm q => ?_) hs.2 ?_ ?_)
      · obtain ⟨i, h1, h2⟩ := (bb_bd_iff st m).mp q
        refine (bb_bd_iff _ m).mpr ⟨i, Nat.lt_of_lt_of_le h1 x.1, ?_⟩
        rw [(x.2 i h1).2]; exact h2
      · refine Bool.eq_false_iff.mpr (fun q => ?_)
        refine (bb_bd_bq g.1 hs.2).mp q (bb_red_lo E f hs.2 ?_)
        rw [hR]; exact hs.1.2
      · refine (bb_bd_iff _ h).mpr ⟨st.1, by omega, ?_⟩
        rw [e]
        show va_up st.2.2 st.1 h st.1 &&& h = va_up st.2.2 st.1 h st.1
        rw [bb_up_s, Nat.and_self]
    · obtain ⟨a, b⟩ := bb_rd_Sd g.1 16 (Nat.le_refl 16) f he
      rw [show bb_rd (bb_bq st) 16 f = r from hR] at a b
      have h1 := bb_Sd_ex x a
      have h2 : bb_Sd (bb_tk st f) e' r := by
        have hi : st.1 < (bb_tk st f).1 := by rw [e]; exact Nat.lt_succ_self _
        have h3 := bb_Sd_in (st := bb_tk st f) (e := e') (i := st.1) (t := 0) hi (by decide) (by
          rw [e]
          show bb_en 0 + bb_en (va_up st.2.2 st.1 h st.1) < e'
          rw [bb_up_s, show bb_en 0 = 0 from rfl, Nat.zero_add]
          exact b h hs.2 hs.1.2)
        have h4 : (bb_tk st f).2.1 st.1 = r := by rw [e]; exact bb_up_s
        rw [h4, bb_tms_0 (bb_Hd_16 hs.2 hs.1)] at h3
        exact h3
      have h3 := (bb_Sd_cl _ _).2 _ _ h1 h2
      rw [bb_xx] at h3
      exact h3
-- what is owed for squares and pairs
def bb_SQ (st : bb_St) (i v : Nat) : Prop := (st.2.2 i).testBit v = true → bb_Sd st (bb_en (st.2.2 i) + bb_en (2 ^ v)) (bb_tms (st.2.1 i) (2 ^ v) ^^^ st.2.1 i)
def bb_PR (st : bb_St) (i j : Nat) : Prop := bb_Sd st (bb_en (st.2.2 i ||| st.2.2 j)) (bb_tms (st.2.1 i) (bb_df (st.2.2 i ||| st.2.2 j) (st.2.2 i)) ^^^ bb_tms (st.2.1 j) (bb_df (st.2.2 i ||| st.2.2 j) (st.2.2 j)))
theorem bb_SQ_ex {st st' : bb_St} (x : bb_Ex st st') {i v : Nat} (hi : i < st.1) (h : bb_SQ st i v) : bb_SQ st' i v := by
  unfold bb_SQ
  rw [(x.2 i hi).1, (x.2 i hi).2]
  exact fun q => bb_Sd_ex x (h q)
theorem bb_PR_ex {st st' : bb_St} (x : bb_Ex st st') {i j : Nat} (hi : i < st.1) (hj : j < st.1) (h : bb_PR st i j) : bb_PR st' i j := by
  unfold bb_PR
  rw [(x.2 i hi).1, (x.2 i hi).2, (x.2 j hj).1, (x.2 j hj).2]
  exact bb_Sd_ex x h
theorem bb_sq_bits {P h v : Nat} (hh : h < 16) (hv : v < 4) (hb : h.testBit v = true) (H : bb_Hd P h) : ∀ m, m < 16 → (bb_tms P (2 ^ v) ^^^ P).testBit m = true → bb_en m < bb_en h + bb_en (2 ^ v) := by
  have e : bb_tms P (2 ^ v) ^^^ P = bb_tms (P ^^^ 2 ^ h) (2 ^ v) ^^^ (P ^^^ 2 ^ h) := by
    rw [bb_tms_xor, bb_tms_pow hh, bb_bit_or h hh v hv hb, bb_x4, Nat.xor_self, Nat.xor_zero]
  rw [e]
  intro m hm q
  have hT := bb_Hd_un H
  rw [Nat.testBit_xor] at q
  by_cases q1 : (P ^^^ 2 ^ h).testBit m = true
  · have := bb_en_lt m hm h hh (bb_bit_lt hT q1)
    omega
  · rw [Bool.eq_false_iff.mpr q1, Bool.xor_false] at q
    obtain ⟨k, hk, k1, k2⟩ := bb_lin_bit q
    rw [Nat.testBit_two_pow] at k2
    have k3 : k ||| 2 ^ v = m := by simpa using k2
    have h1 := bb_en_lt k hk h hh (bb_bit_lt hT k1)
    have h2 := bb_en_or k hk (2 ^ v) (bb_pw16 v hv)
    rw [k3] at h2
    omega
theorem bb_pr_bits {P Q h k : Nat} (hh : h < 16) (hk : k < 16) (H : bb_Hd P h) (K : bb_Hd Q k) : ∀ m, m < 16 → (bb_tms P (bb_df (h ||| k) h) ^^^ bb_tms Q (bb_df (h ||| k) k)).testBit m = true → bb_en m < bb_en (h ||| k) := by
  intro m hm q
  have h16 := bb_or16 h hh k hk
  have a := bb_tms_Hd hh (bb_df_lt _ h16 h hh) (bb_df_and _ h16 h hh) H
  have b := bb_tms_Hd hk (bb_df_lt _ h16 k hk) (bb_df_and _ h16 k hk) K
  rw [bb_df_or _ h16 h hh (bb_sb_or h hh k hk)] at a
  rw [bb_df_or _ h16 k hk (bb_sb_orr h hh k hk)] at b
  refine bb_en_lt m hm _ h16 ?_
  refine bb_bit_lt (n := h ||| k) ?_ q
  have := Nat.xor_lt_two_pow (bb_Hd_un a) (bb_Hd_un b)
  rw [bb_x4, Nat.xor_self, Nat.xor_zero] at this
  exact this
theorem bb_gn_ok {sel : Nat → Bool} {gv : Nat → Nat} {set : Nat} (hset : ∀ i, i < 6 → set.testBit i = sel i) (hgv : ∀ i, i < 6 → sel i = true → gv i < 65536) (po hd : Nat → Nat) :
    ∀ n, n ≤ 6 → bb_G sel gv (bb_gn set gv (0, po, hd) n) ∧ ∀ i, i < n → sel i = true → bb_Sd (bb_gn set gv (0, po, hd) n) 1000 (gv i) := by
  intro n
  induction n with
  | zero => intro _; exact ⟨⟨fun i hi => absurd hi (Nat.not_lt_zero i), fun i hi => absurd hi (Nat.not_lt_zero i), Nat.zero_le _⟩, fun i hi => by omega⟩
  | succ n ih =>
    intro hn
    obtain ⟨a, b⟩ := ih (by omega)
    unfold bb_gn
    by_cases e : set.testBit n = true
    · rw [if_pos e]
      have hs : sel n = true := by rw [← hset n (by omega)]; exact e
      obtain ⟨k1, k2, k3⟩ := bb_tk_ok a (hgv n (by omega) hs) (bb_V_gen (by omega) hs)
      refine ⟨k1, fun i hi hi2 => ?_⟩
      by_cases q : i = n
      · rw [q]; exact k3 1000 (fun m hm _ => bb_en_hi m hm)
      · exact bb_Sd_ex k2 (b i (by omega) hi2)
    · rw [if_neg e]
      refine ⟨a, fun i hi hi2 => ?_⟩
      by_cases q : i = n
      · subst q; rw [hset i (by omega)] at e; exact absurd hi2 e
      · exact b i (by omega) hi2
theorem bb_sq_ok {sel : Nat → Bool} {gv : Nat → Nat} {st : bb_St} (g : bb_G sel gv st) {i : Nat} (hi : i < st.1) :
    ∀ n, n ≤ 4 → bb_G sel gv (bb_sq st i n) ∧ bb_Ex st (bb_sq st i n) ∧ ∀ v, v < n → bb_SQ (bb_sq st i n) i v := by
  intro n
  induction n with
  | zero => intro _; exact ⟨g, bb_Ex_rf st, fun v hv => by omega⟩
  | succ n ih =>
    intro hn
    obtain ⟨a, x, b⟩ := ih (by omega)
    have hi2 : i < (bb_sq st i n).1 := Nat.lt_of_lt_of_le hi x.1
    show bb_G sel gv (bb_sq1 (bb_sq st i n) i n) ∧ bb_Ex st (bb_sq1 (bb_sq st i n) i n) ∧ ∀ v, v < n + 1 → bb_SQ (bb_sq1 (bb_sq st i n) i n) i v
    generalize bb_sq st i n = s2 at *
    unfold bb_sq1
    obtain ⟨g1, g2⟩ := a.1 i hi2
    by_cases e : (s2.2.2 i).testBit n = true
    · rw [if_pos e]
      have hl : bb_tms (s2.2.1 i) (2 ^ n) ^^^ s2.2.1 i < 65536 := Nat.xor_lt_two_pow (n := 16) (bb_tms_lt _ (bb_pw16 n (by omega))) (bb_Hd_16 g1 g2)
      obtain ⟨k1, k2, k3⟩ := bb_tk_ok a hl ((bb_V_cl sel gv).2 _ _ (bb_V_tms (bb_pw16 n (by omega)) (a.2.1 i hi2)) (a.2.1 i hi2))
      refine ⟨k1, bb_Ex_tr x k2, fun v hv => ?_⟩
      by_cases q : v = n
      · subst q
        unfold bb_SQ
        rw [(k2.2 i hi2).1, (k2.2 i hi2).2]
        exact fun _ => k3 _ (bb_sq_bits g1 (by omega) e g2)
      · exact bb_SQ_ex k2 hi2 (b v (by omega))
    · rw [if_neg e]
      refine ⟨a, x, fun v hv => ?_⟩
      by_cases q : v = n
      · subst q; exact fun q => absurd q e
      · exact b v (by omega)
theorem bb_tds_ok {sel : Nat → Bool} {gv : Nat → Nat} {st : bb_St} (g : bb_G sel gv st) {i : Nat} (hi : i < st.1) :
    ∀ n, n ≤ i → bb_G sel gv (bb_tds st i n) ∧ bb_Ex st (bb_tds st i n) ∧ ∀ j, j < n → bb_PR (bb_tds st i n) i j := by
  intro n
  induction n with
  | zero => intro _; exact ⟨g, bb_Ex_rf st, fun v hv => by omega⟩
  | succ n ih =>
    intro hn
    obtain ⟨a, x, b⟩ := ih (by omega)
    have hi2 : i < (bb_tds st i n).1 := Nat.lt_of_lt_of_le hi x.1
    show bb_G sel gv (bb_td (bb_tds st i n) i n) ∧ bb_Ex st (bb_td (bb_tds st i n) i n) ∧ ∀ j, j < n + 1 → bb_PR (bb_td (bb_tds st i n) i n) i j
    generalize bb_tds st i n = s2 at *
    have hn2 : n < s2.1 := by omega
    unfold bb_td
    obtain ⟨g1, g2⟩ := a.1 i hi2
    obtain ⟨g3, g4⟩ := a.1 n hn2
    have h16 := bb_or16 _ g1 _ g3
    obtain ⟨k1, k2, k3⟩ := bb_tk_ok a (f := bb_tms (s2.2.1 i) (bb_df (s2.2.2 i ||| s2.2.2 n) (s2.2.2 i)) ^^^ bb_tms (s2.2.1 n) (bb_df (s2.2.2 i ||| s2.2.2 n) (s2.2.2 n)))
      (Nat.xor_lt_two_pow (n := 16) (bb_tms_lt _ (bb_df_lt _ h16 _ g1)) (bb_tms_lt _ (bb_df_lt _ h16 _ g3)))
      ((bb_V_cl sel gv).2 _ _ (bb_V_tms (bb_df_lt _ h16 _ g1) (a.2.1 i hi2)) (bb_V_tms (bb_df_lt _ h16 _ g3) (a.2.1 n hn2)))
    refine ⟨k1, bb_Ex_tr x k2, fun j hj => ?_⟩
    by_cases q : j = n
    · subst q
      unfold bb_PR
      rw [(k2.2 i hi2).1, (k2.2 i hi2).2, (k2.2 j hn2).1, (k2.2 j hn2).2]
      exact k3 _ (bb_pr_bits g1 g3 g2 g4)
    · exact bb_PR_ex k2 hi2 (by omega) (b j (by omega))
/-- everything below i is done -/
def bb_Dn (st : bb_St) (i : Nat) : Prop := ∀ a, a < i → (∀ v, v < 4 → bb_SQ st a v) ∧ ∀ j, j < a → bb_PR st a j
theorem bb_Dn_ex {st st' : bb_St} (x : bb_Ex st st') {i : Nat} (hi : i ≤ st.1) (h : bb_Dn st i) : bb_Dn st' i := fun a ha =>
  ⟨fun v hv => bb_SQ_ex x (by omega) ((h a ha).1 v hv), fun j hj => bb_PR_ex x (by omega) (by omega) ((h a ha).2 j hj)⟩
theorem bb_row_ok {sel : Nat → Bool} {gv : Nat → Nat} {st : bb_St} (g : bb_G sel gv st) {i : Nat} (hi : i < st.1) (d : bb_Dn st i) : bb_G sel gv (bb_row st i) ∧ bb_Ex st (bb_row st i) ∧ bb_Dn (bb_row st i) (i + 1) := by
  obtain ⟨a1, a2, a3⟩ := bb_sq_ok g hi 4 (Nat.le_refl 4)
  have hi2 : i < (bb_sq st i 4).1 := Nat.lt_of_lt_of_le hi a2.1
  obtain ⟨b1, b2, b3⟩ := bb_tds_ok a1 hi2 i (Nat.le_refl i)
  have x := bb_Ex_tr a2 b2
  refine ⟨b1, x, fun a ha => ?_⟩
  by_cases q : a = i
  · subst q
    exact ⟨fun v hv => bb_SQ_ex b2 hi2 (a3 v hv), b3⟩
  · exact bb_Dn_ex x (by omega) d a (by omega)
theorem bb_lp_ok {sel : Nat → Bool} {gv : Nat → Nat} : ∀ (k i : Nat) (st : bb_St), bb_G sel gv st → i ≤ st.1 → 17 ≤ k + i → bb_Dn st i → bb_G sel gv (bb_lp k i st) ∧ bb_Ex st (bb_lp k i st) ∧ bb_Dn (bb_lp k i st) (bb_lp k i st).1 := by
  intro k
  induction k with
  | zero =>
    intro i st g hi hk d
    have := Nat.le_trans g.2.2 (bb_lc_le _ 16)
    omega
  | succ k ih =>
    intro i st g hi hk d
    unfold bb_lp
    by_cases e : i < st.1
    · rw [if_pos e]
      obtain ⟨a1, a2, a3⟩ := bb_row_ok g e d
      obtain ⟨b1, b2, b3⟩ := ih (i + 1) _ a1 (Nat.le_trans e a2.1) (by omega) a3
      exact ⟨b1, bb_Ex_tr a2 b2, b3⟩
    · rw [if_neg e]
      have : i = st.1 := by omega
      subst this
      exact ⟨g, bb_Ex_rf st, d⟩
/-- Buchberger: all multiples reduce to 0 -/
theorem bb_Buch {st : bb_St} (g : bb_GI st) (d : bb_Dn st st.1) : ∀ (e i t : Nat), i < st.1 → t < 16 → bb_en t + bb_en (st.2.2 i) < e → bb_red (bb_bq st) (bb_tms (st.2.1 i) t) = 0 := by
  have E := bb_bq_Ech g
  have C := bb_L_cl (bb_red_L (bb_bq st))
  intro e
  induction e with
  | zero => intro i t _ _ h; omega
  | succ e ih =>
    intro i t hi ht he
    have use : ∀ f, bb_Sd st (bb_en t + bb_en (st.2.2 i)) f → bb_red (bb_bq st) f = 0 := fun f hf => hf (fun x => bb_red (bb_bq st) x = 0) C (fun i' t' hi' ht' he' => ih i' t' hi' ht' (by omega))
    obtain ⟨g1, g2⟩ := g i hi
    by_cases hd : t &&& st.2.2 i = 0
    · have h16 : st.2.2 i ||| t < 16 := bb_or16 _ g1 t ht
      have hen := bb_en_dj t ht _ g1 hd
      have hsub := bb_sb_or _ g1 t ht
      have hown := bb_df_own _ g1 t ht hd
      generalize hm : st.2.2 i ||| t = m at *
      rcases bb_bq_case g h16 with ⟨-, h2⟩ | ⟨-, j, h2, hj, h3, h4⟩
      · exact absurd hsub (bb_dv_none h2 i (Nat.zero_le _) (by omega))
      · have hq := bb_red_own E h16
        by_cases q : j = i
        · subst q
          rw [h4, hown] at hq
          exact hq
        · obtain ⟨g3, g4⟩ := g j hj
          obtain ⟨p1, p2, p3⟩ := bb_pair4 m h16 _ g1 hsub _ g3 h3
          have hor := bb_or16 _ g1 _ g3
          have hu : bb_df m (st.2.2 i ||| st.2.2 j) < 16 := bb_df_lt m h16 _ hor
          have key : bb_Sd st (bb_en (st.2.2 i ||| st.2.2 j)) (bb_tms (st.2.1 i) (bb_df (st.2.2 i ||| st.2.2 j) (st.2.2 i)) ^^^ bb_tms (st.2.1 j) (bb_df (st.2.2 i ||| st.2.2 j) (st.2.2 j))) := by
            rcases Nat.lt_or_ge j i with hji | hji
            · exact (d i hi).2 j hji
            · have := (d j hj).2 i (by omega)
              unfold bb_PR at this
              rw [Nat.or_comm (st.2.2 j), Nat.xor_comm] at this
              exact this
          have h5 := bb_Sd_mul hu key
          rw [p3, bb_tms_xor, bb_tms_tms _ (bb_df_lt _ hor _ g1), bb_tms_tms _ (bb_df_lt _ hor _ g3), p1, p2, hown, ← h4] at h5
          have h6 := use _ (by rw [hen]; exact h5)
          have h7 := C.2 _ _ h6 hq
          rw [bb_xx] at h7
          exact h7
    · obtain ⟨v, hv, v1, v2⟩ := bb_meet t ht _ g1 hd
      obtain ⟨c1, c2, c3⟩ := bb_cut_or t ht v hv v1
      have hp := bb_pw16 v hv
      have ht' : bb_df t (2 ^ v) < 16 := bb_df_lt t ht _ hp
      have s1 := bb_Sd_mul ht' ((d i hi).1 v hv v2)
      rw [bb_tms_xor, bb_tms_tms _ hp, c1] at s1
      have s2 := use _ (by
        have : bb_en t + bb_en (st.2.2 i) = bb_en (st.2.2 i) + bb_en (2 ^ v) + bb_en (bb_df t (2 ^ v)) := by omega
        rw [this]; exact s1)
      have s3 := ih i (bb_df t (2 ^ v)) hi ht' (by omega)
      have h7 := C.2 _ _ s2 s3
      rw [bb_xx] at h7
      exact h7
/-- the completed state -/
theorem bb_cmp_ok {sel : Nat → Bool} {gv : Nat → Nat} {set : Nat} (hset : ∀ i, i < 6 → set.testBit i = sel i) (hgv : ∀ i, i < 6 → sel i = true → gv i < 65536) (po hd : Nat → Nat) :
    bb_G sel gv (bb_cmp set gv po hd) ∧ ∀ f, f < 65536 → (bb_red (bb_bq (bb_cmp set gv po hd)) f = 0 ↔ bb_V sel gv f) := by
  obtain ⟨a, b⟩ := bb_gn_ok hset hgv po hd 6 (Nat.le_refl 6)
  obtain ⟨g, x, d⟩ := bb_lp_ok 33 0 _ a (Nat.zero_le _) (by omega) (fun _ h => absurd h (Nat.not_lt_zero _))
  refine ⟨g, fun f hf => ?_⟩
  refine bb_span hgv (bb_bq_V g) (fun i hi hs t ht => ?_) hf
  have h1 := bb_Sd_mul ht (bb_Sd_ex x (b i hi hs))
  exact h1 (fun y => bb_red (bb_bq (bb_cmp set gv po hd)) y = 0) (bb_L_cl (bb_red_L _)) (fun i' t' hi' ht' he' => bb_Buch g.1 d _ i' t' hi' ht' he')
theorem bb_T1 {sel : Nat → Bool} {gv : Nat → Nat} {set : Nat} (hset : ∀ i, i < 6 → set.testBit i = sel i) (hgv : ∀ i, i < 6 → sel i = true → gv i < 65536) (po hd h : Nat → Nat) {f : Nat} (hf : f < 65536) :
    bb_red (bb_bq (bb_cmp set gv po hd)) f = bb_red (bb_wk sel gv h) f := by
  obtain ⟨g, s⟩ := bb_cmp_ok hset hgv po hd
  exact bb_U2 (bb_bq_Ech g.1) (bb_wk_Ech sel gv h) (fun f hf => (s f hf).trans (bb_wk_span hgv h hf).symm) hf
theorem bb_T2 {sel : Nat → Bool} {gv : Nat → Nat} {set : Nat} (hset : ∀ i, i < 6 → set.testBit i = sel i) (hgv : ∀ i, i < 6 → sel i = true → gv i < 65536) (po hd h : Nat → Nat) {m : Nat} (hm : m < 16) :
    bb_bd (bb_cmp set gv po hd) m = true ↔ bb_wk sel gv h m ≠ 0 := by
  obtain ⟨g, s⟩ := bb_cmp_ok hset hgv po hd
  have hs : ∀ f, f < 65536 → (bb_red (bb_bq (bb_cmp set gv po hd)) f = 0 ↔ bb_red (bb_wk sel gv h) f = 0) := fun f hf => (s f hf).trans (bb_wk_span hgv h hf).symm
  rw [bb_bd_bq g.1 hm]
  have a := bb_U1 (bb_bq_Ech g.1) (bb_wk_Ech sel gv h) (fun f hf => (hs f hf).mp) hm
  have b := bb_U1 (bb_wk_Ech sel gv h) (bb_bq_Ech g.1) (fun f hf => (hs f hf).mpr) hm
  exact ⟨fun q e => q (a e), fun q e => q (b e)⟩
end
section
/-! ROWS over numbers: ints are nI n, arrays bw_nF f, a world with its frame is one word (bw_H) -/
def bw_nF (f : Nat → Nat) : Nat → Int32 := fun j => nI (f j)
theorem bw_upd (f : Nat → Nat) (k v : Nat) : upd (bw_nF f) k (nI v) = bw_nF (va_up f k v) := by
  funext j
  unfold upd bw_nF va_up
  by_cases h : j = k
  · simp [h]
  · simp [h]
theorem bw_nF0 : (fun _ => (0 : Int32)) = bw_nF (fun _ => 0) := rfl
def bw_H (D : va_G) (cl : List vw_C) (A : Nat → Prop) (H0 : Heap) (ws : va_W) (H : Heap) (locs : List Loc) : Prop := va_P D cl ws H ∧ va_D A ws ∧ va_S A H0 H locs
theorem bw_and (a b : Nat) : nI a &&& nI b = nI (a &&& b) := by
  apply Int32.toBitVec_inj.1
  show BitVec.ofNat 32 a &&& BitVec.ofNat 32 b = BitVec.ofNat 32 (a &&& b)
  apply BitVec.eq_of_getLsbD_eq
  intro i hi
  simp [hi]
theorem bw_or (a b : Nat) : nI a ||| nI b = nI (a ||| b) := by
  apply Int32.toBitVec_inj.1
  show BitVec.ofNat 32 a ||| BitVec.ofNat 32 b = BitVec.ofNat 32 (a ||| b)
  apply BitVec.eq_of_getLsbD_eq
  intro i hi
  simp [hi]
theorem bw_xor (a b : Nat) : nI a ^^^ nI b = nI (a ^^^ b) := by
  apply Int32.toBitVec_inj.1
  show BitVec.ofNat 32 a ^^^ BitVec.ofNat 32 b = BitVec.ofNat 32 (a ^^^ b)
  apply BitVec.eq_of_getLsbD_eq
  intro i hi
  simp [hi]
theorem bw_sl : ∀ n, n < 32 → ((nI n &&& 31).toBitVec.smod 32).toNat = n := by decide +kernel
theorem bw_shr {x y : Nat} (h1 : x < 2 ^ 31) (h2 : y < 32) : nI x >>> (nI y &&& 31) = nI (x >>> y) := by
  rw [pk_shrN h1 _ y (bw_sl y h2), Nat.shiftRight_eq_div_pow]
theorem bw_shl1 : ∀ y, y < 32 → nI 1 <<< (nI y &&& 31) = nI (2 ^ y) := by decide +kernel
theorem bw_b1 (x i : Nat) : x >>> i &&& 1 = if x.testBit i = true then 1 else 0 := by
  rw [Nat.and_one_is_mod, Nat.testBit_eq_decide_div_mod_eq, Nat.shiftRight_eq_div_pow]
  have := Nat.mod_two_eq_zero_or_one (x / 2 ^ i)
  rcases this with h | h <;> simp [h]
theorem bw_nsub : ∀ m, m < 16 → ∀ h, h < 16 → m &&& (h ^^^ 4294967295) = bb_df m h := by decide +kernel
theorem bw_df0 : ∀ m, m < 16 → ∀ h, h < 16 → (bb_df m h = 0 ↔ m &&& h = m) := by decide +kernel
/-- a counter that falls: k - 1, -1 at the end -/
def bw_dn (k : Nat) : Int32 := nI k + (-1)
theorem bw_dn_s (k : Nat) : bw_dn (k + 1) = nI k := pk_m1 k
theorem bw_dn_0 : bw_dn 0 < 0 := by decide +kernel
section BWR
variable {p : Program} {l : Launch} {e : Env} {R : Room} {s : State} {m : MethodId} {args : Array Value} {below : List Frame} {meth : Method} {c : Code} {H : Heap} {locs : List Loc} {cells slots : Nat} {Q : State → Prop}
variable {cc : ByteArray} {pc : Nat} {ls : Array Slot} {rest : List Value} {D : va_G} {cl : List vw_C} {A : Nat → Prop} {a : Nat} {tys : List (ClassId × FieldType)} {ws : va_W} {H0 : Heap}
theorem bw_iand (hx : p.tables.exec = Jvm.exec) (hb : c.code = cc) {x y : Nat} (hdg : decode cc pc = .ok (.iand, 1)) (k : W p l e R s m args below meth c H locs cells slots Q (F0 m (pc + 1) ls (.int (nI (x &&& y)) :: rest))) : W p l e R s m args below meth c H locs cells slots Q (F0 m (pc) ls (.int (nI y) :: .int (nI x) :: rest)) := by
  refine lv_iand hx hb hdg ?_
  rw [bw_and]; exact k
theorem bw_ior (hx : p.tables.exec = Jvm.exec) (hb : c.code = cc) {x y : Nat} (hdg : decode cc pc = .ok (.ior, 1)) (k : W p l e R s m args below meth c H locs cells slots Q (F0 m (pc + 1) ls (.int (nI (x ||| y)) :: rest))) : W p l e R s m args below meth c H locs cells slots Q (F0 m (pc) ls (.int (nI y) :: .int (nI x) :: rest)) := by
  refine lv_ior hx hb hdg ?_
  rw [bw_or]; exact k
theorem bw_ixor (hx : p.tables.exec = Jvm.exec) (hb : c.code = cc) {x y : Nat} (hdg : decode cc pc = .ok (.ixor, 1)) (k : W p l e R s m args below meth c H locs cells slots Q (F0 m (pc + 1) ls (.int (nI (x ^^^ y)) :: rest))) : W p l e R s m args below meth c H locs cells slots Q (F0 m (pc) ls (.int (nI y) :: .int (nI x) :: rest)) := by
  refine lv_ixor hx hb hdg ?_
  rw [bw_xor]; exact k
theorem bw_iadd (hx : p.tables.exec = Jvm.exec) (hb : c.code = cc) {x y : Nat} (hdg : decode cc pc = .ok (.iadd, 1)) (k : W p l e R s m args below meth c H locs cells slots Q (F0 m (pc + 1) ls (.int (nI (x + y)) :: rest))) : W p l e R s m args below meth c H locs cells slots Q (F0 m (pc) ls (.int (nI y) :: .int (nI x) :: rest)) := by
  refine lv_iadd hx hb hdg ?_
  rw [nI_add]; exact k
theorem bw_ishr (hx : p.tables.exec = Jvm.exec) (hb : c.code = cc) {x y : Nat} (hdg : decode cc pc = .ok (.ishr, 1)) (h1 : x < 2 ^ 31) (h2 : y < 32) (k : W p l e R s m args below meth c H locs cells slots Q (F0 m (pc + 1) ls (.int (nI (x >>> y)) :: rest))) : W p l e R s m args below meth c H locs cells slots Q (F0 m (pc) ls (.int (nI y) :: .int (nI x) :: rest)) := by
  refine lv_ishr hx hb hdg ?_
  rw [bw_shr h1 h2]; exact k
theorem bw_ishl (hx : p.tables.exec = Jvm.exec) (hb : c.code = cc) {y : Nat} (hdg : decode cc pc = .ok (.ishl, 1)) (h2 : y < 32) (k : W p l e R s m args below meth c H locs cells slots Q (F0 m (pc + 1) ls (.int (nI (2 ^ y)) :: rest))) : W p l e R s m args below meth c H locs cells slots Q (F0 m (pc) ls (.int (nI y) :: .int (nI 1) :: rest)) := by
  refine lv_ishl hx hb hdg ?_
  rw [bw_shl1 y h2]; exact k
theorem bw_top {x y : Int32} (h : x = y) (k : W p l e R s m args below meth c H locs cells slots Q (F0 m (pc) ls (.int y :: rest))) : W p l e R s m args below meth c H locs cells slots Q (F0 m (pc) ls (.int x :: rest)) := h ▸ k
theorem bw_topn {x y : Nat} (h : x = y) (k : W p l e R s m args below meth c H locs cells slots Q (F0 m (pc) ls (.int (nI y) :: rest))) : W p l e R s m args below meth c H locs cells slots Q (F0 m (pc) ls (.int (nI x) :: rest)) := h ▸ k
theorem bw_cge (hx : p.tables.exec = Jvm.exec) (hb : c.code = cc) {a b : Nat} {off : Int} {tgt : Nat} (hdg : decode cc pc = .ok (.if_icmp .ge off, 3)) (ht : (pc : Int) + off = (tgt : Int)) (h1 : a < 2 ^ 31) (h2 : b < 2 ^ 31) (kt : b ≤ a → W p l e R s m args below meth c H locs cells slots Q (F0 m (tgt) ls (rest))) (kf : a < b → W p l e R s m args below meth c H locs cells slots Q (F0 m (pc + 3) ls (rest))) : W p l e R s m args below meth c H locs cells slots Q (F0 m (pc) ls (.int (nI b) :: .int (nI a) :: rest)) :=
  lv_icmp_ge hx hb hdg ht (fun q => kt ((nI_leI h2 h1).mp q)) (fun q => kf (Nat.not_le.mp (fun z => q ((nI_leI h2 h1).mpr z))))
theorem bw_clt (hx : p.tables.exec = Jvm.exec) (hb : c.code = cc) {a b : Nat} {off : Int} {tgt : Nat} (hdg : decode cc pc = .ok (.if_icmp .lt off, 3)) (ht : (pc : Int) + off = (tgt : Int)) (h1 : a < 2 ^ 31) (h2 : b < 2 ^ 31) (kt : a < b → W p l e R s m args below meth c H locs cells slots Q (F0 m (tgt) ls (rest))) (kf : b ≤ a → W p l e R s m args below meth c H locs cells slots Q (F0 m (pc + 3) ls (rest))) : W p l e R s m args below meth c H locs cells slots Q (F0 m (pc) ls (.int (nI b) :: .int (nI a) :: rest)) :=
  lv_icmp_lt hx hb hdg ht (fun q => kt ((nI_ltI h1 h2).mp q)) (fun q => kf (Nat.not_lt.mp (fun z => q ((nI_ltI h1 h2).mpr z))))
theorem bw_cgt (hx : p.tables.exec = Jvm.exec) (hb : c.code = cc) {a b : Nat} {off : Int} {tgt : Nat} (hdg : decode cc pc = .ok (.if_icmp .gt off, 3)) (ht : (pc : Int) + off = (tgt : Int)) (h1 : a < 2 ^ 31) (h2 : b < 2 ^ 31) (kt : b < a → W p l e R s m args below meth c H locs cells slots Q (F0 m (tgt) ls (rest))) (kf : a ≤ b → W p l e R s m args below meth c H locs cells slots Q (F0 m (pc + 3) ls (rest))) : W p l e R s m args below meth c H locs cells slots Q (F0 m (pc) ls (.int (nI b) :: .int (nI a) :: rest)) :=
  lv_icmp_gt hx hb hdg ht (fun q => kt ((nI_ltI h2 h1).mp q)) (fun q => kf (Nat.not_lt.mp (fun z => q ((nI_ltI h2 h1).mpr z))))
theorem bw_cle (hx : p.tables.exec = Jvm.exec) (hb : c.code = cc) {a b : Nat} {off : Int} {tgt : Nat} (hdg : decode cc pc = .ok (.if_icmp .le off, 3)) (ht : (pc : Int) + off = (tgt : Int)) (h1 : a < 2 ^ 31) (h2 : b < 2 ^ 31) (kt : a ≤ b → W p l e R s m args below meth c H locs cells slots Q (F0 m (tgt) ls (rest))) (kf : b < a → W p l e R s m args below meth c H locs cells slots Q (F0 m (pc + 3) ls (rest))) : W p l e R s m args below meth c H locs cells slots Q (F0 m (pc) ls (.int (nI b) :: .int (nI a) :: rest)) :=
  lv_icmp_le hx hb hdg ht (fun q => kt ((nI_leI h1 h2).mp q)) (fun q => kf (Nat.not_le.mp (fun z => q ((nI_leI h1 h2).mpr z))))
theorem bw_ceq (hx : p.tables.exec = Jvm.exec) (hb : c.code = cc) {a b : Nat} {off : Int} {tgt : Nat} (hdg : decode cc pc = .ok (.if_icmp .eq off, 3)) (ht : (pc : Int) + off = (tgt : Int)) (h1 : a < 2 ^ 31) (h2 : b < 2 ^ 31) (kt : a = b → W p l e R s m args below meth c H locs cells slots Q (F0 m (tgt) ls (rest))) (kf : a ≠ b → W p l e R s m args below meth c H locs cells slots Q (F0 m (pc + 3) ls (rest))) : W p l e R s m args below meth c H locs cells slots Q (F0 m (pc) ls (.int (nI b) :: .int (nI a) :: rest)) :=
  lv_icmp_eq hx hb hdg ht (fun q => kt ((nI_eq h1 h2).mp q)) (fun q => kf (fun z => q ((nI_eq h1 h2).mpr z)))
theorem bw_cne (hx : p.tables.exec = Jvm.exec) (hb : c.code = cc) {a b : Nat} {off : Int} {tgt : Nat} (hdg : decode cc pc = .ok (.if_icmp .ne off, 3)) (ht : (pc : Int) + off = (tgt : Int)) (h1 : a < 2 ^ 31) (h2 : b < 2 ^ 31) (kt : a ≠ b → W p l e R s m args below meth c H locs cells slots Q (F0 m (tgt) ls (rest))) (kf : a = b → W p l e R s m args below meth c H locs cells slots Q (F0 m (pc + 3) ls (rest))) : W p l e R s m args below meth c H locs cells slots Q (F0 m (pc) ls (.int (nI b) :: .int (nI a) :: rest)) :=
  lv_icmp_ne hx hb hdg ht (fun q => kt (fun z => q ((nI_eq h1 h2).mpr z))) (fun q => kf ((nI_eq h1 h2).mp q))
theorem bw_z0 {a : Nat} (h : a < 2 ^ 31) : nI a = 0 ↔ a = 0 := by
  rw [← nI_0, nI_eq h (by decide)]
theorem bw_eq0 (hx : p.tables.exec = Jvm.exec) (hb : c.code = cc) {a : Nat} {off : Int} {tgt : Nat} (hdg : decode cc pc = .ok (.ifCond .eq off, 3)) (ht : (pc : Int) + off = (tgt : Int)) (h1 : a < 2 ^ 31) (kt : a = 0 → W p l e R s m args below meth c H locs cells slots Q (F0 m (tgt) ls (rest))) (kf : a ≠ 0 → W p l e R s m args below meth c H locs cells slots Q (F0 m (pc + 3) ls (rest))) : W p l e R s m args below meth c H locs cells slots Q (F0 m (pc) ls (.int (nI a) :: rest)) :=
  lv_if_eq hx hb hdg ht (fun q => kt ((bw_z0 h1).mp q)) (fun q => kf (fun z => q ((bw_z0 h1).mpr z)))
theorem bw_ne0 (hx : p.tables.exec = Jvm.exec) (hb : c.code = cc) {a : Nat} {off : Int} {tgt : Nat} (hdg : decode cc pc = .ok (.ifCond .ne off, 3)) (ht : (pc : Int) + off = (tgt : Int)) (h1 : a < 2 ^ 31) (kt : a ≠ 0 → W p l e R s m args below meth c H locs cells slots Q (F0 m (tgt) ls (rest))) (kf : a = 0 → W p l e R s m args below meth c H locs cells slots Q (F0 m (pc + 3) ls (rest))) : W p l e R s m args below meth c H locs cells slots Q (F0 m (pc) ls (.int (nI a) :: rest)) :=
  lv_if_ne hx hb hdg ht (fun q => kt (fun z => q ((bw_z0 h1).mpr z))) (fun q => kf ((bw_z0 h1).mp q))
theorem bw_eq0y (hx : p.tables.exec = Jvm.exec) (hb : c.code = cc) {x : Int32} {off : Int} {tgt : Nat} (hdg : decode cc pc = .ok (.ifCond .eq off, 3)) (ht : (pc : Int) + off = (tgt : Int)) (h1 : x = 0) (kt : W p l e R s m args below meth c H locs cells slots Q (F0 m (tgt) ls (rest))) : W p l e R s m args below meth c H locs cells slots Q (F0 m (pc) ls (.int x :: rest)) :=
  lv_if_eq hx hb hdg ht (fun _ => kt) (fun q => absurd h1 q)
theorem bw_eq0n (hx : p.tables.exec = Jvm.exec) (hb : c.code = cc) {x : Int32} {off : Int} {tgt : Nat} (hdg : decode cc pc = .ok (.ifCond .eq off, 3)) (ht : (pc : Int) + off = (tgt : Int)) (h1 : ¬ x = 0) (kf : W p l e R s m args below meth c H locs cells slots Q (F0 m (pc + 3) ls (rest))) : W p l e R s m args below meth c H locs cells slots Q (F0 m (pc) ls (.int x :: rest)) :=
  lv_if_eq hx hb hdg ht (fun q => absurd q h1) (fun _ => kf)
theorem bw_ne0y (hx : p.tables.exec = Jvm.exec) (hb : c.code = cc) {x : Int32} {off : Int} {tgt : Nat} (hdg : decode cc pc = .ok (.ifCond .ne off, 3)) (ht : (pc : Int) + off = (tgt : Int)) (h1 : ¬ x = 0) (kt : W p l e R s m args below meth c H locs cells slots Q (F0 m (tgt) ls (rest))) : W p l e R s m args below meth c H locs cells slots Q (F0 m (pc) ls (.int x :: rest)) :=
  lv_if_ne hx hb hdg ht (fun _ => kt) (fun q => absurd q h1)
theorem bw_ne0n (hx : p.tables.exec = Jvm.exec) (hb : c.code = cc) {x : Int32} {off : Int} {tgt : Nat} (hdg : decode cc pc = .ok (.ifCond .ne off, 3)) (ht : (pc : Int) + off = (tgt : Int)) (h1 : x = 0) (kf : W p l e R s m args below meth c H locs cells slots Q (F0 m (pc + 3) ls (rest))) : W p l e R s m args below meth c H locs cells slots Q (F0 m (pc) ls (.int x :: rest)) :=
  lv_if_ne hx hb hdg ht (fun q => absurd h1 q) (fun _ => kf)
theorem bw_lt0y (hx : p.tables.exec = Jvm.exec) (hb : c.code = cc) {x : Int32} {off : Int} {tgt : Nat} (hdg : decode cc pc = .ok (.ifCond .lt off, 3)) (ht : (pc : Int) + off = (tgt : Int)) (h1 : x < 0) (kt : W p l e R s m args below meth c H locs cells slots Q (F0 m (tgt) ls (rest))) : W p l e R s m args below meth c H locs cells slots Q (F0 m (pc) ls (.int x :: rest)) :=
  lv_if_lt hx hb hdg ht (fun _ => kt) (fun q => absurd h1 q)
theorem bw_lt0n (hx : p.tables.exec = Jvm.exec) (hb : c.code = cc) {a : Nat} {off : Int} {tgt : Nat} (hdg : decode cc pc = .ok (.ifCond .lt off, 3)) (ht : (pc : Int) + off = (tgt : Int)) (h1 : a < 2 ^ 31) (kf : W p l e R s m args below meth c H locs cells slots Q (F0 m (pc + 3) ls (rest))) : W p l e R s m args below meth c H locs cells slots Q (F0 m (pc) ls (.int (nI a) :: rest)) :=
  lv_if_lt hx hb hdg ht (fun q => absurd q (nI_pos h1)) (fun _ => kf)
theorem bw_ge0y (hx : p.tables.exec = Jvm.exec) (hb : c.code = cc) {a : Nat} {off : Int} {tgt : Nat} (hdg : decode cc pc = .ok (.ifCond .ge off, 3)) (ht : (pc : Int) + off = (tgt : Int)) (h1 : a < 2 ^ 31) (kt : W p l e R s m args below meth c H locs cells slots Q (F0 m (tgt) ls (rest))) : W p l e R s m args below meth c H locs cells slots Q (F0 m (pc) ls (.int (nI a) :: rest)) :=
  lv_if_ge hx hb hdg ht (fun _ => kt) (fun q => absurd (nI_pos' h1) q)
theorem bw_ge0n (hx : p.tables.exec = Jvm.exec) (hb : c.code = cc) {x : Int32} {off : Int} {tgt : Nat} (hdg : decode cc pc = .ok (.ifCond .ge off, 3)) (ht : (pc : Int) + off = (tgt : Int)) (h1 : ¬ 0 ≤ x) (kf : W p l e R s m args below meth c H locs cells slots Q (F0 m (pc + 3) ls (rest))) : W p l e R s m args below meth c H locs cells slots Q (F0 m (pc) ls (.int x :: rest)) :=
  lv_if_ge hx hb hdg ht (fun q => absurd q h1) (fun _ => kf)
theorem bw_bt {x i : Nat} : (x >>> i &&& 1 = 0 ↔ x.testBit i = false) := by
  rw [bw_b1]
  cases h : x.testBit i <;> simp
theorem bw_blt (x i : Nat) : x >>> i &&& 1 < 2 ^ 31 := by
  rw [bw_b1]; split <;> decide
theorem bw_bt1 {x i : Nat} : (x >>> i &&& 1 = 1 ↔ x.testBit i = true) := by
  rw [bw_b1]
  cases h : x.testBit i <;> simp
theorem bw_bz (hx : p.tables.exec = Jvm.exec) (hb : c.code = cc) {x i : Nat} {off : Int} {tgt : Nat} (hdg : decode cc pc = .ok (.ifCond .eq off, 3)) (ht : (pc : Int) + off = (tgt : Int)) (kt : x.testBit i = false → W p l e R s m args below meth c H locs cells slots Q (F0 m (tgt) ls (rest))) (kf : x.testBit i = true → W p l e R s m args below meth c H locs cells slots Q (F0 m (pc + 3) ls (rest))) : W p l e R s m args below meth c H locs cells slots Q (F0 m (pc) ls (.int (nI (x >>> i &&& 1)) :: rest)) :=
  bw_eq0 hx hb hdg ht (bw_blt x i) (fun q => kt (bw_bt.mp q)) (fun q => kf (by
    cases h : x.testBit i
    · exact absurd (bw_bt.mpr h) q
    · rfl))
theorem bw_bnz (hx : p.tables.exec = Jvm.exec) (hb : c.code = cc) {x i : Nat} {off : Int} {tgt : Nat} (hdg : decode cc pc = .ok (.ifCond .ne off, 3)) (ht : (pc : Int) + off = (tgt : Int)) (kt : x.testBit i = true → W p l e R s m args below meth c H locs cells slots Q (F0 m (tgt) ls (rest))) (kf : x.testBit i = false → W p l e R s m args below meth c H locs cells slots Q (F0 m (pc + 3) ls (rest))) : W p l e R s m args below meth c H locs cells slots Q (F0 m (pc) ls (.int (nI (x >>> i &&& 1)) :: rest)) :=
  bw_ne0 hx hb hdg ht (bw_blt x i) (fun q => kt (by
    cases h : x.testBit i
    · exact absurd (bw_bt.mpr h) q
    · rfl)) (fun q => kf (bw_bt.mp q))
theorem bw_b1ne (hx : p.tables.exec = Jvm.exec) (hb : c.code = cc) {x i : Nat} {off : Int} {tgt : Nat} (hdg : decode cc pc = .ok (.if_icmp .ne off, 3)) (ht : (pc : Int) + off = (tgt : Int)) (kt : x.testBit i = false → W p l e R s m args below meth c H locs cells slots Q (F0 m (tgt) ls (rest))) (kf : x.testBit i = true → W p l e R s m args below meth c H locs cells slots Q (F0 m (pc + 3) ls (rest))) : W p l e R s m args below meth c H locs cells slots Q (F0 m (pc) ls (.int (nI 1) :: .int (nI (x >>> i &&& 1)) :: rest)) :=
  bw_cne hx hb hdg ht (bw_blt x i) (by decide) (fun q => kt (by
    cases h : x.testBit i
    · rfl
    · exact absurd (bw_bt1.mpr h) q)) (fun q => kf (bw_bt1.mp q))
theorem bw_sne (hx : p.tables.exec = Jvm.exec) (hb : c.code = cc) {a b : Nat} {off : Int} {tgt : Nat} (hdg : decode cc pc = .ok (.ifCond .ne off, 3)) (ht : (pc : Int) + off = (tgt : Int)) (h1 : a < 16) (h2 : b < 16) (kt : ¬ a &&& b = a → W p l e R s m args below meth c H locs cells slots Q (F0 m (tgt) ls (rest))) (kf : a &&& b = a → W p l e R s m args below meth c H locs cells slots Q (F0 m (pc + 3) ls (rest))) : W p l e R s m args below meth c H locs cells slots Q (F0 m (pc) ls (.int (nI (a &&& (b ^^^ 4294967295))) :: rest)) := by
  rw [bw_nsub a h1 b h2]
  have hl : bb_df a b < 2 ^ 31 := Nat.lt_of_le_of_lt Nat.and_le_left (by omega)
  exact bw_ne0 hx hb hdg ht hl (fun q => kt (fun z => q ((bw_df0 a h1 b h2).mpr z))) (fun q => kf ((bw_df0 a h1 b h2).mp q))
theorem bw_iald (hx : p.tables.exec = Jvm.exec) (hb : c.code = cc) (hK : va_K D cl tys s) (hw : bw_H D cl A H0 ws H locs) (q0 t0 : Nat) {cA : ClassId} {n : Nat} {f : Nat → Nat} (ha : ws[q0]? = some (a, .inl (cA, n, .inl (bw_nF f)))) (ht : tys[t0]? = some (cA, .int)) {k : Nat} (hk : k < n) (hn : n < 2 ^ 31) (hdg : decode cc pc = .ok (.iaload, 1)) (kk : W p l e R s m args below meth c H locs cells slots Q (F0 m (pc + 1) ls (.int (nI (f k)) :: rest))) : W p l e R s m args below meth c H locs cells slots Q (F0 m (pc) ls (.int (nI k) :: .ref a :: rest)) := by
  refine va_iald hx hb hK hw.1 q0 t0 ha ht (vp_in_nI hk hn) hdg ?_
  rw [nI_clamp (Nat.lt_trans hk hn)]
  exact kk
theorem bw_bald (hx : p.tables.exec = Jvm.exec) (hb : c.code = cc) (hK : va_K D cl tys s) (hw : bw_H D cl A H0 ws H locs) (q0 t0 : Nat) {cA : ClassId} {n : Nat} {f : Nat → Nat} (ha : ws[q0]? = some (a, .inl (cA, n, .inl (bw_nF f)))) (ht : tys[t0]? = some (cA, .byte)) {k : Nat} (hk : k < n) (hn : n < 2 ^ 31) (hdg : decode cc pc = .ok (.baload, 1)) (kk : W p l e R s m args below meth c H locs cells slots Q (F0 m (pc + 1) ls (.int (nI (f k)) :: rest))) : W p l e R s m args below meth c H locs cells slots Q (F0 m (pc) ls (.int (nI k) :: .ref a :: rest)) := by
  refine va_bald hx hb hK hw.1 q0 t0 ha ht (vp_in_nI hk hn) hdg ?_
  rw [nI_clamp (Nat.lt_trans hk hn)]
  exact kk
theorem bw_zald (hx : p.tables.exec = Jvm.exec) (hb : c.code = cc) (hK : va_K D cl tys s) (hw : bw_H D cl A H0 ws H locs) (q0 t0 : Nat) {cA : ClassId} {n : Nat} {f : Nat → Nat} (ha : ws[q0]? = some (a, .inl (cA, n, .inl (bw_nF f)))) (ht : tys[t0]? = some (cA, .boolean)) {k : Nat} (hk : k < n) (hn : n < 2 ^ 31) (hdg : decode cc pc = .ok (.baload, 1)) (kk : W p l e R s m args below meth c H locs cells slots Q (F0 m (pc + 1) ls (.int (nI (f k)) :: rest))) : W p l e R s m args below meth c H locs cells slots Q (F0 m (pc) ls (.int (nI k) :: .ref a :: rest)) := by
  refine va_zald hx hb hK hw.1 q0 t0 ha ht (vp_in_nI hk hn) hdg ?_
  rw [nI_clamp (Nat.lt_trans hk hn)]
  exact kk
theorem bw_nb : ∀ v, v < 128 → vp_nar .byte (nI v) = nI v := by decide +kernel
theorem bw_nz : ∀ v, v < 2 → vp_nar .boolean (nI v) = nI v := by decide +kernel
theorem bw_i8 : ∀ v, v < 128 → (nI v).toInt8.toInt32 = nI v := by decide +kernel
theorem bw_iast (hx : p.tables.exec = Jvm.exec) (hb : c.code = cc) (hK : va_K D cl tys s) (hw : bw_H D cl A H0 ws H locs) (q0 t0 : Nat) {cA : ClassId} {n : Nat} {f : Nat → Nat} (ha : ws[q0]? = some (a, .inl (cA, n, .inl (bw_nF f)))) (ht : tys[t0]? = some (cA, .int)) {k v : Nat} (hk : k < n) (hn : n < 2 ^ 31) (hdg : decode cc pc = .ok (.iastore, 1)) (kk : ∀ (H1 : Heap) (locs1 : List Loc), bw_H D cl A H0 (ws.set q0 (a, .inl (cA, n, .inl (bw_nF (va_up f k v))))) H1 locs1 → W p l e R s m args below meth c H1 locs1 cells slots Q (F0 m (pc + 1) ls (rest))) : W p l e R s m args below meth c H locs cells slots Q (F0 m (pc) ls (.int (nI v) :: .int (nI k) :: .ref a :: rest)) := by
  refine va_iast hx hb hK hw.1 hw.2.1 hw.2.2 q0 t0 ha ht (vp_in_nI hk hn) hdg (fun H1 locs1 hP hD hS => ?_)
  rw [nI_clamp (Nat.lt_trans hk hn), bw_upd] at hP hD
  exact kk H1 locs1 ⟨hP, hD, hS⟩
theorem bw_bast (hx : p.tables.exec = Jvm.exec) (hb : c.code = cc) (hK : va_K D cl tys s) (hw : bw_H D cl A H0 ws H locs) (q0 t0 : Nat) {cA : ClassId} {n : Nat} {f : Nat → Nat} (ha : ws[q0]? = some (a, .inl (cA, n, .inl (bw_nF f)))) (ht : tys[t0]? = some (cA, .byte)) {k v : Nat} (hk : k < n) (hn : n < 2 ^ 31) (hv : v < 128) (hdg : decode cc pc = .ok (.bastore, 1)) (kk : ∀ (H1 : Heap) (locs1 : List Loc), bw_H D cl A H0 (ws.set q0 (a, .inl (cA, n, .inl (bw_nF (va_up f k v))))) H1 locs1 → W p l e R s m args below meth c H1 locs1 cells slots Q (F0 m (pc + 1) ls (rest))) : W p l e R s m args below meth c H locs cells slots Q (F0 m (pc) ls (.int (nI v) :: .int (nI k) :: .ref a :: rest)) := by
  refine va_bast hx hb hK hw.1 hw.2.1 hw.2.2 q0 t0 ha ht (vp_in_nI hk hn) hdg (fun H1 locs1 hP hD hS => ?_)
  rw [nI_clamp (Nat.lt_trans hk hn), bw_nb v hv, bw_upd] at hP hD
  exact kk H1 locs1 ⟨hP, hD, hS⟩
theorem bw_zast (hx : p.tables.exec = Jvm.exec) (hb : c.code = cc) (hK : va_K D cl tys s) (hw : bw_H D cl A H0 ws H locs) (q0 t0 : Nat) {cA : ClassId} {n : Nat} {f : Nat → Nat} (ha : ws[q0]? = some (a, .inl (cA, n, .inl (bw_nF f)))) (ht : tys[t0]? = some (cA, .boolean)) {k v : Nat} (hk : k < n) (hn : n < 2 ^ 31) (hv : v < 2) (hdg : decode cc pc = .ok (.bastore, 1)) (kk : ∀ (H1 : Heap) (locs1 : List Loc), bw_H D cl A H0 (ws.set q0 (a, .inl (cA, n, .inl (bw_nF (va_up f k v))))) H1 locs1 → W p l e R s m args below meth c H1 locs1 cells slots Q (F0 m (pc + 1) ls (rest))) : W p l e R s m args below meth c H locs cells slots Q (F0 m (pc) ls (.int (nI v) :: .int (nI k) :: .ref a :: rest)) := by
  refine va_zast hx hb hK hw.1 hw.2.1 hw.2.2 q0 t0 ha ht (vp_in_nI hk hn) hdg (fun H1 locs1 hP hD hS => ?_)
  rw [nI_clamp (Nat.lt_trans hk hn), bw_nz v hv, bw_upd] at hP hD
  exact kk H1 locs1 ⟨hP, hD, hS⟩
end BWR
/-- a loop whose state is σ, with a measure that falls -/
theorem bw_loop {p : Program} {l : Launch} {e : Env} {R : Room} {s : State} {m : MethodId} {args : Array Value} {below : List Frame} {meth : Method} {c : Code} {cells slots : Nat} {Q : State → Prop} {σ : Type} {pc : Nat} (I : σ → Array Slot → Heap → List Loc → Prop) (μ : σ → Nat)
    (hs : ∀ (a : σ) (ls : Array Slot) (H : Heap) (locs : List Loc), I a ls H locs → (∀ (b : σ) (ls' : Array Slot) (H' : Heap) (locs' : List Loc), μ b < μ a → I b ls' H' locs' → W p l e R s m args below meth c H' locs' cells slots Q (F0 m pc ls' [])) → W p l e R s m args below meth c H locs cells slots Q (F0 m pc ls []))
    (a : σ) {ls : Array Slot} {H : Heap} {locs : List Loc} (h : I a ls H locs) : W p l e R s m args below meth c H locs cells slots Q (F0 m pc ls []) := by
  have key : ∀ (n : Nat) (a : σ) (ls : Array Slot) (H : Heap) (locs : List Loc), μ a < n → I a ls H locs → W p l e R s m args below meth c H locs cells slots Q (F0 m pc ls []) := by
    intro n
    induction n with
    | zero => intro a ls H locs h; exact absurd h (Nat.not_lt_zero _)
    | succ n ih => intro a ls H locs hn hI; exact hs a ls H locs hI (fun b ls' H' locs' hb hI' => ih b ls' H' locs' (by omega) hI')
  exact key (μ a + 1) a ls H locs (Nat.lt_succ_self _) h
/-- functional contracts: from the cells w0 the method answers G (or nothing), and leaves the cells w1 -/
def bw_MI (l : Launch) (y : MethodName) (ws : List Cond) (rm : Room) (D : va_G) (cl : List vw_C) (tys : List (ClassId × FieldType)) (av : List Value) (w0 w1 : va_W) (G : Int32) : Prop :=
  ∀ sz : Nat, Met l y ws rm (va_Pc av (fun U => U.heap.size = sz ∧ va_P D cl w0 U.heap ∧ va_K D cl tys U ∧ va_D (fun _ => True) w0)) (va_Qi (fun (r : Int32) (_ : Unit) => r = G) (fun (_ : Unit) t => va_P D cl w1 t.heap ∧ va_K D cl tys t ∧ va_D (va_A w0 sz) w1) (va_A w0 sz)) 0 0 (va_A w0 sz)
def bw_MV (l : Launch) (y : MethodName) (ws : List Cond) (rm : Room) (D : va_G) (cl : List vw_C) (tys : List (ClassId × FieldType)) (av : List Value) (w0 w1 : va_W) : Prop :=
  ∀ sz : Nat, Met l y ws rm (va_Pc av (fun U => U.heap.size = sz ∧ va_P D cl w0 U.heap ∧ va_K D cl tys U ∧ va_D (fun _ => True) w0)) (va_Qv (fun (_ : Unit) => True) (fun (_ : Unit) t => va_P D cl w1 t.heap ∧ va_K D cl tys t ∧ va_D (va_A w0 sz) w1) (va_A w0 sz)) 0 0 (va_A w0 sz)
theorem bw_startI {l : Launch} {y : MethodName} {cc : ByteArray} {maxL : Nat} {rt : FieldType} {rm : Room} {D : va_G} {cl : List vw_C} {tys : List (ClassId × FieldType)} {av : List Value} {w0 w1 : va_W} {G : Int32} (hy : plainName y.cls = true) (hlen : (lg_sl av).length ≤ maxL) (hrt : narrow rt (.int G) = .int G)
    (body : ∀ (p : Program) (e : Env) (s : State) (m : MethodId) (below : List Frame) (meth : Method) (c : Code) (A : Nat → Prop) (Q : State → Prop) (ls : Array Slot), p.tables.exec = Jvm.exec → c.code = cc → c.maxLocals = maxL → s.vm.findClass y.cls = some m.cls → (∀ w ∈ lw_all, w.before av.toArray s = true) → (∀ q : Nat, s.heap.size ≤ q → A q) → va_K D cl tys s → bw_H D cl A s.heap w0 s.heap [] → lv_has ls maxL (lv_args 0 av) → (∀ (H : Heap) (locs : List Loc) (pc : Nat) (ls : Array Slot), bw_H D cl A s.heap w1 H locs → decode cc pc = .ok (.ireturn, 1) → W p l e rm s m av.toArray below meth c H locs 0 0 Q (F0 m pc ls [.int G])) → W p l e rm s m av.toArray below meth c s.heap [] 0 0 Q (F0 m 0 ls [])) : bw_MI l y (ws_ y cc maxL (some rt)) rm D cl tys av w0 w1 G := by
  intro sz
  refine Met.ofW (cc := cc) (maxL := maxL) (ret := some rt) hy rfl ?_
  intro p e s m args below meth c s₁ B hml hv
  obtain ⟨rfl, hsz, hP, hK, hD0⟩ := hv
  have hts := atoms_spec (ws := ws_ y cc maxL (some rt)) B.pre
  have hts : ∀ w ∈ lw_all, w.before _ s = true := fun w h => hts w (List.mem_cons_of_mem _ h)
  have hown : s.vm.findClass y.cls = some m.cls := findClass_of_methodNamed B.named
  subst hsz
  have hl := lv_entry av (n := maxL) hlen
  rw [lg_entry_eq]
  refine body p e s m below meth c (va_A w0 s.heap.size) _ _ B.exec B.bytes hml hown hts (fun q h => Or.inr h) hK ⟨hP, hD0.self, va_S.rf⟩ hl (fun H locs pc ls hw hdg => ?_)
  exact W.zret (v := G) B.exec B.bytes B.returns hrt (fun t ht hW => ⟨⟨G, (), rfl, rfl, by rw [ht]; exact hw.1, va_K.moved hW.alike hK, hw.2.1⟩, hw.2.2.F ht⟩) hw.2.2.2.2 hdg (hlocks := B.notSynchronized)
theorem bw_startV {l : Launch} {y : MethodName} {cc : ByteArray} {maxL : Nat} {rm : Room} {D : va_G} {cl : List vw_C} {tys : List (ClassId × FieldType)} {av : List Value} {w0 w1 : va_W} (hy : plainName y.cls = true) (hlen : (lg_sl av).length ≤ maxL)
    (body : ∀ (p : Program) (e : Env) (s : State) (m : MethodId) (below : List Frame) (meth : Method) (c : Code) (A : Nat → Prop) (Q : State → Prop) (ls : Array Slot), p.tables.exec = Jvm.exec → c.code = cc → c.maxLocals = maxL → s.vm.findClass y.cls = some m.cls → (∀ w ∈ lw_all, w.before av.toArray s = true) → (∀ q : Nat, s.heap.size ≤ q → A q) → va_K D cl tys s → bw_H D cl A s.heap w0 s.heap [] → lv_has ls maxL (lv_args 0 av) → (∀ (H : Heap) (locs : List Loc) (pc : Nat) (ls : Array Slot), bw_H D cl A s.heap w1 H locs → decode cc pc = .ok (.return_, 1) → W p l e rm s m av.toArray below meth c H locs 0 0 Q (F0 m pc ls [])) → W p l e rm s m av.toArray below meth c s.heap [] 0 0 Q (F0 m 0 ls [])) : bw_MV l y (ws_ y cc maxL (none)) rm D cl tys av w0 w1 := by
  intro sz
  refine Met.ofW (cc := cc) (maxL := maxL) (ret := none) hy rfl ?_
  intro p e s m args below meth c s₁ B hml hv
  obtain ⟨rfl, hsz, hP, hK, hD0⟩ := hv
  have hts := atoms_spec (ws := ws_ y cc maxL (none)) B.pre
  have hts : ∀ w ∈ lw_all, w.before _ s = true := fun w h => hts w (List.mem_cons_of_mem _ h)
  have hown : s.vm.findClass y.cls = some m.cls := findClass_of_methodNamed B.named
  subst hsz
  have hl := lv_entry av (n := maxL) hlen
  rw [lg_entry_eq]
  refine body p e s m below meth c (va_A w0 s.heap.size) _ _ B.exec B.bytes hml hown hts (fun q h => Or.inr h) hK ⟨hP, hD0.self, va_S.rf⟩ hl (fun H locs pc ls hw hdg => ?_)
  exact W.vret B.exec B.bytes B.returns (fun t ht hW => ⟨⟨(), rfl, trivial, by rw [ht]; exact hw.1, va_K.moved hW.alike hK, hw.2.1⟩, hw.2.2.F ht⟩) hw.2.2.2.2 hdg (hlocks := B.notSynchronized)
theorem bw_callVI {p : Program} {l : Launch} {e : Env} {R : Room} {s : State} {m : MethodId} {args : Array Value} {below : List Frame} {meth : Method} {c : Code} {H : Heap} {locs : List Loc} {cells slots : Nat} {Q : State → Prop} {pc : Nat} {ls : Array Slot} {D : va_G} {cl : List vw_C} {A : Nat → Prop} {tys tysC : List (ClassId × FieldType)} {wa wc wr w1 : va_W} {y : MethodName} {bytes cc : ByteArray} {maxL nL n index : Nat} {ret : Option FieldType} {ws : List Cond} {rm : Room} {Ts : List Cond} {own : String} {st0 : List Value} {C : String} {b : Nat} {T : u_T} {N : Nat} {fs : List Value} {G : Int32} (S : CallFix p m c cc nL s args Ts own) (As rest : List Value) (hM : bw_MI l y ws rm D cl tysC (.ref b :: As) wc w1 G) (cw : CallW R s args own C index y bytes maxL ret ws rm 0 0 n) (ci q0 : Nat) (hc : cl[ci]? = some (C, T, N)) (he : wc[q0]? = some (b, .inr (ci, fs))) (hKc : va_K D cl tysC s) (hA : ∀ q : Nat, s.heap.size ≤ q → A q) (hw : bw_H D cl A s.heap wa H locs) (isC isR : List Nat) (hP0 : isC.filterMap (fun i => wa[i]?) = wc) (hC : isC.map (fun i => wa[i]?) = wc.map some) (hR : isR.map (fun i => wa[i]?) = wr.map some) (hnC : va_nd isC = true) (hn : va_nd isR = true) (hdis : ∀ i ∈ isR, i ∉ isC)
    (hnA : As.length = n) (hsize : ls.size = nL) (hst : st0 = As.reverse ++ .ref b :: rest) (hrest : (rest.map fun v => v.category).sum ≤ 8) (hdg : decode cc pc = .ok (.invokevirtual index, 3)) (hf : cells ≤ R.cells ∧ slots ≤ R.slots)
    (kk : ∀ (H1 : Heap) (locs1 : List Loc), bw_H D cl A s.heap (wr ++ w1) H1 locs1 → W p l e R s m args below meth c H1 locs1 cells slots Q (F0 m (pc + 3) ls (.int G :: rest))) : W p l e R s m args below meth c H locs cells slots Q (F0 m pc ls st0) := by
  obtain ⟨hP, hD, hS⟩ := hw
  have hPc := hP.sub (ws' := wc) isC hP0
  have hDc := hD.sub (ws' := wc) isC hnC hC
  have hFc := va_free (wc := wc) hD hS hA isC hC
  subst hst
  refine va_calli (va_runV (As := As) (rest := rest) S (hM H.size) cw ⟨fun a U g mk q => by obtain ⟨q0, q1, qP, qK, qD⟩ := q; exact ⟨q0, q1, qP, va_K.moved (u := U) (U := U.calling g mk a) (Vm.Alike.refl U.vm) qK, qD⟩, va_recv hKc hPc (ci := ci) (q0 := q0) hc he, fun U hU hW => ⟨rfl, by rw [hU], by rw [hU]; exact hPc, va_K.moved hW.alike hKc, hDc.weaken (fun _ _ _ _ => trivial)⟩⟩ rfl hnA hsize rfl (lv_room hrest) hdg hf) hS (fun q _ h => hFc q h) hFc (fun r u t H1 locs1 ht hvm hw1 hB hz1 hk1 hS1 => ?_)
  have hw1 : r = G := hw1
  subst hw1
  obtain ⟨hP1, hK1, hD1⟩ := hB
  rw [ht] at hP1
  obtain ⟨hP2, hD2⟩ := va_join (wr := wr) (w1 := w1) hP hD isC isR hC hR hn hdis hk1 hFc hP1 hD1
  exact kk H1 locs1 ⟨hP2, hD2, hS1⟩
theorem bw_callSI {p : Program} {l : Launch} {e : Env} {R : Room} {s : State} {m : MethodId} {args : Array Value} {below : List Frame} {meth : Method} {c : Code} {H : Heap} {locs : List Loc} {cells slots : Nat} {Q : State → Prop} {pc : Nat} {ls : Array Slot} {D : va_G} {cl : List vw_C} {A : Nat → Prop} {tys tysC : List (ClassId × FieldType)} {wa wc wr w1 : va_W} {y : MethodName} {bytes cc : ByteArray} {maxL nL n index : Nat} {ret : Option FieldType} {ws : List Cond} {rm : Room} {Ts : List Cond} {own : String} {st0 : List Value} {G : Int32} (S : CallFix p m c cc nL s args Ts own) (As rest : List Value) (hM : bw_MI l y ws rm D cl tysC As wc w1 G) (cw : CallB R s args own index y bytes maxL ret ws rm 0 0 n ∧ (Cond.static y).before args s = true) (hKc : va_K D cl tysC s) (hA : ∀ q : Nat, s.heap.size ≤ q → A q) (hw : bw_H D cl A s.heap wa H locs) (isC isR : List Nat) (hP0 : isC.filterMap (fun i => wa[i]?) = wc) (hC : isC.map (fun i => wa[i]?) = wc.map some) (hR : isR.map (fun i => wa[i]?) = wr.map some) (hnC : va_nd isC = true) (hn : va_nd isR = true) (hdis : ∀ i ∈ isR, i ∉ isC)
    (hnA : As.length = n) (hsize : ls.size = nL) (hst : st0 = As.reverse ++ rest) (hrest : (rest.map fun v => v.category).sum ≤ 8) (hdg : decode cc pc = .ok (.invokestatic index, 3)) (hf : cells ≤ R.cells ∧ slots ≤ R.slots)
    (kk : ∀ (H1 : Heap) (locs1 : List Loc), bw_H D cl A s.heap (wr ++ w1) H1 locs1 → W p l e R s m args below meth c H1 locs1 cells slots Q (F0 m (pc + 3) ls (.int G :: rest))) : W p l e R s m args below meth c H locs cells slots Q (F0 m pc ls st0) := by
  obtain ⟨hP, hD, hS⟩ := hw
  have hPc := hP.sub (ws' := wc) isC hP0
  have hDc := hD.sub (ws' := wc) isC hnC hC
  have hFc := va_free (wc := wc) hD hS hA isC hC
  subst hst
  refine va_calli (va_runS (As := As) (rest := rest) S (hM H.size) cw ⟨fun a U g mk q => by obtain ⟨q0, q1, qP, qK, qD⟩ := q; exact ⟨q0, q1, qP, va_K.moved (u := U) (U := U.calling g mk a) (Vm.Alike.refl U.vm) qK, qD⟩, fun U hU hW => ⟨rfl, by rw [hU], by rw [hU]; exact hPc, va_K.moved hW.alike hKc, hDc.weaken (fun _ _ _ _ => trivial)⟩⟩ rfl hnA hsize rfl (lv_room hrest) hdg hf) hS (fun q _ h => hFc q h) hFc (fun r u t H1 locs1 ht hvm hw1 hB hz1 hk1 hS1 => ?_)
  have hw1 : r = G := hw1
  subst hw1
  obtain ⟨hP1, hK1, hD1⟩ := hB
  rw [ht] at hP1
  obtain ⟨hP2, hD2⟩ := va_join (wr := wr) (w1 := w1) hP hD isC isR hC hR hn hdis hk1 hFc hP1 hD1
  exact kk H1 locs1 ⟨hP2, hD2, hS1⟩
theorem bw_callVV {p : Program} {l : Launch} {e : Env} {R : Room} {s : State} {m : MethodId} {args : Array Value} {below : List Frame} {meth : Method} {c : Code} {H : Heap} {locs : List Loc} {cells slots : Nat} {Q : State → Prop} {pc : Nat} {ls : Array Slot} {D : va_G} {cl : List vw_C} {A : Nat → Prop} {tys tysC : List (ClassId × FieldType)} {wa wc wr w1 : va_W} {y : MethodName} {bytes cc : ByteArray} {maxL nL n index : Nat} {ret : Option FieldType} {ws : List Cond} {rm : Room} {Ts : List Cond} {own : String} {st0 : List Value} {C : String} {b : Nat} {T : u_T} {N : Nat} {fs : List Value} (S : CallFix p m c cc nL s args Ts own) (As rest : List Value) (hM : bw_MV l y ws rm D cl tysC (.ref b :: As) wc w1) (cw : CallW R s args own C index y bytes maxL ret ws rm 0 0 n) (ci q0 : Nat) (hc : cl[ci]? = some (C, T, N)) (he : wc[q0]? = some (b, .inr (ci, fs))) (hKc : va_K D cl tysC s) (hA : ∀ q : Nat, s.heap.size ≤ q → A q) (hw : bw_H D cl A s.heap wa H locs) (isC isR : List Nat) (hP0 : isC.filterMap (fun i => wa[i]?) = wc) (hC : isC.map (fun i => wa[i]?) = wc.map some) (hR : isR.map (fun i => wa[i]?) = wr.map some) (hnC : va_nd isC = true) (hn : va_nd isR = true) (hdis : ∀ i ∈ isR, i ∉ isC)
    (hnA : As.length = n) (hsize : ls.size = nL) (hst : st0 = As.reverse ++ .ref b :: rest) (hrest : (rest.map fun v => v.category).sum ≤ 8) (hdg : decode cc pc = .ok (.invokevirtual index, 3)) (hf : cells ≤ R.cells ∧ slots ≤ R.slots)
    (kk : ∀ (H1 : Heap) (locs1 : List Loc), bw_H D cl A s.heap (wr ++ w1) H1 locs1 → W p l e R s m args below meth c H1 locs1 cells slots Q (F0 m (pc + 3) ls (rest))) : W p l e R s m args below meth c H locs cells slots Q (F0 m pc ls st0) := by
  obtain ⟨hP, hD, hS⟩ := hw
  have hPc := hP.sub (ws' := wc) isC hP0
  have hDc := hD.sub (ws' := wc) isC hnC hC
  have hFc := va_free (wc := wc) hD hS hA isC hC
  subst hst
  refine va_callv (va_runV (As := As) (rest := rest) S (hM H.size) cw ⟨fun a U g mk q => by obtain ⟨q0, q1, qP, qK, qD⟩ := q; exact ⟨q0, q1, qP, va_K.moved (u := U) (U := U.calling g mk a) (Vm.Alike.refl U.vm) qK, qD⟩, va_recv hKc hPc (ci := ci) (q0 := q0) hc he, fun U hU hW => ⟨rfl, by rw [hU], by rw [hU]; exact hPc, va_K.moved hW.alike hKc, hDc.weaken (fun _ _ _ _ => trivial)⟩⟩ rfl hnA hsize rfl (lv_room hrest) hdg hf) hS (fun q _ h => hFc q h) hFc (fun u t H1 locs1 ht hvm hw1 hB hz1 hk1 hS1 => ?_)
  obtain ⟨hP1, hK1, hD1⟩ := hB
  rw [ht] at hP1
  obtain ⟨hP2, hD2⟩ := va_join (wr := wr) (w1 := w1) hP hD isC isR hC hR hn hdis hk1 hFc hP1 hD1
  exact kk H1 locs1 ⟨hP2, hD2, hS1⟩
theorem bw_callSV {p : Program} {l : Launch} {e : Env} {R : Room} {s : State} {m : MethodId} {args : Array Value} {below : List Frame} {meth : Method} {c : Code} {H : Heap} {locs : List Loc} {cells slots : Nat} {Q : State → Prop} {pc : Nat} {ls : Array Slot} {D : va_G} {cl : List vw_C} {A : Nat → Prop} {tys tysC : List (ClassId × FieldType)} {wa wc wr w1 : va_W} {y : MethodName} {bytes cc : ByteArray} {maxL nL n index : Nat} {ret : Option FieldType} {ws : List Cond} {rm : Room} {Ts : List Cond} {own : String} {st0 : List Value} (S : CallFix p m c cc nL s args Ts own) (As rest : List Value) (hM : bw_MV l y ws rm D cl tysC As wc w1) (cw : CallB R s args own index y bytes maxL ret ws rm 0 0 n ∧ (Cond.static y).before args s = true) (hKc : va_K D cl tysC s) (hA : ∀ q : Nat, s.heap.size ≤ q → A q) (hw : bw_H D cl A s.heap wa H locs) (isC isR : List Nat) (hP0 : isC.filterMap (fun i => wa[i]?) = wc) (hC : isC.map (fun i => wa[i]?) = wc.map some) (hR : isR.map (fun i => wa[i]?) = wr.map some) (hnC : va_nd isC = true) (hn : va_nd isR = true) (hdis : ∀ i ∈ isR, i ∉ isC)
    (hnA : As.length = n) (hsize : ls.size = nL) (hst : st0 = As.reverse ++ rest) (hrest : (rest.map fun v => v.category).sum ≤ 8) (hdg : decode cc pc = .ok (.invokestatic index, 3)) (hf : cells ≤ R.cells ∧ slots ≤ R.slots)
    (kk : ∀ (H1 : Heap) (locs1 : List Loc), bw_H D cl A s.heap (wr ++ w1) H1 locs1 → W p l e R s m args below meth c H1 locs1 cells slots Q (F0 m (pc + 3) ls (rest))) : W p l e R s m args below meth c H locs cells slots Q (F0 m pc ls st0) := by
  obtain ⟨hP, hD, hS⟩ := hw
  have hPc := hP.sub (ws' := wc) isC hP0
  have hDc := hD.sub (ws' := wc) isC hnC hC
  have hFc := va_free (wc := wc) hD hS hA isC hC
  subst hst
  refine va_callv (va_runS (As := As) (rest := rest) S (hM H.size) cw ⟨fun a U g mk q => by obtain ⟨q0, q1, qP, qK, qD⟩ := q; exact ⟨q0, q1, qP, va_K.moved (u := U) (U := U.calling g mk a) (Vm.Alike.refl U.vm) qK, qD⟩, fun U hU hW => ⟨rfl, by rw [hU], by rw [hU]; exact hPc, va_K.moved hW.alike hKc, hDc.weaken (fun _ _ _ _ => trivial)⟩⟩ rfl hnA hsize rfl (lv_room hrest) hdg hf) hS (fun q _ h => hFc q h) hFc (fun u t H1 locs1 ht hvm hw1 hB hz1 hk1 hS1 => ?_)
  obtain ⟨hP1, hK1, hD1⟩ := hB
  rw [ht] at hP1
  obtain ⟨hP2, hD2⟩ := va_join (wr := wr) (w1 := w1) hP hD isC isR hC hR hn hdis hk1 hFc hP1 hD1
  exact kk H1 locs1 ⟨hP2, hD2, hS1⟩
end
section
/-! java/lang/Object -/
set_option maxRecDepth 100000
def RJ0 : String := "java/lang/Object"
abbrev cJ0_init : ByteArray := object_method_1_code
def yJ0_init : MethodName := ⟨RJ0, "<init>", "()V"⟩
theorem dJ0_init_0 : decode cJ0_init 0 = .ok (.return_, 1) := by decide +kernel
theorem q25 : (Jvm.Cond.instanceMethod ({ cls := "java/lang/Object", name := "<init>", desc := "()V" } : Jvm.MethodName)) ∈ lw_all := lw_g (lw_at lw_m1 9 rfl) rfl
theorem q26 : (Jvm.Cond.code ({ cls := "java/lang/Object", name := "<init>", desc := "()V" } : Jvm.MethodName) object_method_1_code (1 : Nat) (Option.none : Option Jvm.ClassFile.FieldType)) ∈ lw_all := lw_g (lw_at lw_m1 10 rfl) rfl
theorem q58 : (Jvm.Cond.arrayClass Jvm.ClassFile.FieldType.int) ∈ lw_all := lw_g (lw_at lw_m1 42 rfl) rfl
set_option maxRecDepth 100000
theorem q59 : (Jvm.Cond.arrayClass Jvm.ClassFile.FieldType.byte) ∈ lw_all := lw_g (lw_at lw_m1 43 rfl) rfl
theorem q192 : (Jvm.Cond.arrayClass Jvm.ClassFile.FieldType.boolean) ∈ lw_all := lw_g (lw_at lw_m1 176 rfl) rfl
/-! BooleanBasis -/
set_option maxRecDepth 100000
def RX0 : String := "BooleanBasis"
def TX0 : u_T := fun k => match k with
  | 0 => ("BooleanBasis", "present", "I", false)
  | 1 => ("BooleanBasis", "given", "[I", true)
  | 2 => ("BooleanBasis", "known", "Z", false)
  | 3 => ("BooleanBasis", "size", "I", false)
  | 4 => ("BooleanBasis", "polys", "[I", true)
  | 5 => ("BooleanBasis", "heads", "[B", true)
  | 6 => ("BooleanBasis", "basisCount", "I", false)
  | 7 => ("BooleanBasis", "basis", "[I", true)
  | 8 => ("BooleanBasis", "boundSet", "I", false)
  | _ => ("BooleanBasis", "zeroSet", "I", false)
def tyX0 : Nat → FieldType := fun k => match k with
  | 0 => .int
  | 1 => .array .int
  | 2 => .boolean
  | 3 => .int
  | 4 => .array .int
  | 5 => .array .byte
  | 6 => .int
  | 7 => .array .int
  | 8 => .int
  | _ => .int
abbrev wsX00 : List Cond := u_ws RX0 TX0 10
theorem nmX0 : ∀ a, a < 10 → ∀ b, b < 10 → a ≠ b → (TX0 a).2.1 ≠ (TX0 b).2.1 := by decide +kernel
theorem tyX0_ok : ∀ k, k < 10 → parseFieldDescriptor (TX0 k).2.2.1 = some (tyX0 k) := by decide +kernel
abbrev cX0_init : ByteArray := prog_1_method_1_code
def yX0_init : MethodName := ⟨RX0, "<init>", "()V"⟩
theorem dX0_init_0 : decode cX0_init 0 = .ok (.aload_n 0, 1) := by decide +kernel
theorem dX0_init_1 : decode cX0_init 1 = .ok (.invokespecial 1, 3) := by decide +kernel
theorem dX0_init_4 : decode cX0_init 4 = .ok (.aload_n 0, 1) := by decide +kernel
theorem dX0_init_5 : decode cX0_init 5 = .ok (.bipush 6, 2) := by decide +kernel
theorem dX0_init_7 : decode cX0_init 7 = .ok (.newarray .int, 2) := by decide +kernel
theorem dX0_init_9 : decode cX0_init 9 = .ok (.putfield 7, 3) := by decide +kernel
theorem dX0_init_12 : decode cX0_init 12 = .ok (.aload_n 0, 1) := by decide +kernel
theorem dX0_init_13 : decode cX0_init 13 = .ok (.bipush 32, 2) := by decide +kernel
theorem dX0_init_15 : decode cX0_init 15 = .ok (.newarray .int, 2) := by decide +kernel
theorem dX0_init_17 : decode cX0_init 17 = .ok (.putfield 13, 3) := by decide +kernel
theorem dX0_init_20 : decode cX0_init 20 = .ok (.aload_n 0, 1) := by decide +kernel
theorem dX0_init_21 : decode cX0_init 21 = .ok (.bipush 32, 2) := by decide +kernel
theorem dX0_init_23 : decode cX0_init 23 = .ok (.newarray .byte, 2) := by decide +kernel
theorem dX0_init_25 : decode cX0_init 25 = .ok (.putfield 16, 3) := by decide +kernel
theorem dX0_init_28 : decode cX0_init 28 = .ok (.aload_n 0, 1) := by decide +kernel
theorem dX0_init_29 : decode cX0_init 29 = .ok (.bipush 16, 2) := by decide +kernel
theorem dX0_init_31 : decode cX0_init 31 = .ok (.newarray .int, 2) := by decide +kernel
theorem dX0_init_33 : decode cX0_init 33 = .ok (.putfield 20, 3) := by decide +kernel
theorem dX0_init_36 : decode cX0_init 36 = .ok (.return_, 1) := by decide +kernel
abbrev cX0_add : ByteArray := prog_1_method_4_code
def yX0_add : MethodName := ⟨RX0, "add", "(I)I"⟩
theorem dX0_add_0 : decode cX0_add 0 = .ok (.iload_n 1, 1) := by decide +kernel
theorem dX0_add_1 : decode cX0_add 1 = .ok (.invokestatic 28, 3) := by decide +kernel
theorem dX0_add_4 : decode cX0_add 4 = .ok (.ifCond .ne 5, 3) := by decide +kernel
theorem dX0_add_7 : decode cX0_add 7 = .ok (.iconst (-1), 1) := by decide +kernel
theorem dX0_add_8 : decode cX0_add 8 = .ok (.ireturn, 1) := by decide +kernel
theorem dX0_add_9 : decode cX0_add 9 = .ok (.iconst 0, 1) := by decide +kernel
theorem dX0_add_10 : decode cX0_add 10 = .ok (.istore_n 2, 1) := by decide +kernel
theorem dX0_add_11 : decode cX0_add 11 = .ok (.iload_n 2, 1) := by decide +kernel
theorem dX0_add_12 : decode cX0_add 12 = .ok (.bipush 6, 2) := by decide +kernel
theorem dX0_add_14 : decode cX0_add 14 = .ok (.if_icmp .ge 43, 3) := by decide +kernel
theorem dX0_add_17 : decode cX0_add 17 = .ok (.aload_n 0, 1) := by decide +kernel
theorem dX0_add_18 : decode cX0_add 18 = .ok (.iload_n 2, 1) := by decide +kernel
theorem dX0_add_19 : decode cX0_add 19 = .ok (.invokevirtual 32, 3) := by decide +kernel
theorem dX0_add_22 : decode cX0_add 22 = .ok (.ifCond .ne 29, 3) := by decide +kernel
theorem dX0_add_25 : decode cX0_add 25 = .ok (.aload_n 0, 1) := by decide +kernel
theorem dX0_add_26 : decode cX0_add 26 = .ok (.dup, 1) := by decide +kernel
theorem dX0_add_27 : decode cX0_add 27 = .ok (.getfield 24, 3) := by decide +kernel
theorem dX0_add_30 : decode cX0_add 30 = .ok (.iconst 1, 1) := by decide +kernel
theorem dX0_add_31 : decode cX0_add 31 = .ok (.iload_n 2, 1) := by decide +kernel
theorem dX0_add_32 : decode cX0_add 32 = .ok (.ishl, 1) := by decide +kernel
theorem dX0_add_33 : decode cX0_add 33 = .ok (.ior, 1) := by decide +kernel
theorem dX0_add_34 : decode cX0_add 34 = .ok (.putfield 24, 3) := by decide +kernel
theorem dX0_add_37 : decode cX0_add 37 = .ok (.aload_n 0, 1) := by decide +kernel
theorem dX0_add_38 : decode cX0_add 38 = .ok (.getfield 7, 3) := by decide +kernel
theorem dX0_add_41 : decode cX0_add 41 = .ok (.iload_n 2, 1) := by decide +kernel
theorem dX0_add_42 : decode cX0_add 42 = .ok (.iload_n 1, 1) := by decide +kernel
theorem dX0_add_43 : decode cX0_add 43 = .ok (.iastore, 1) := by decide +kernel
theorem dX0_add_44 : decode cX0_add 44 = .ok (.aload_n 0, 1) := by decide +kernel
theorem dX0_add_45 : decode cX0_add 45 = .ok (.iconst 0, 1) := by decide +kernel
theorem dX0_add_46 : decode cX0_add 46 = .ok (.putfield 35, 3) := by decide +kernel
theorem dX0_add_49 : decode cX0_add 49 = .ok (.iload_n 2, 1) := by decide +kernel
theorem dX0_add_50 : decode cX0_add 50 = .ok (.ireturn, 1) := by decide +kernel
theorem dX0_add_51 : decode cX0_add 51 = .ok (.iinc 2 1, 3) := by decide +kernel
theorem dX0_add_54 : decode cX0_add 54 = .ok (.goto (-43), 3) := by decide +kernel
theorem dX0_add_57 : decode cX0_add 57 = .ok (.bipush (-2), 2) := by decide +kernel
theorem dX0_add_59 : decode cX0_add 59 = .ok (.ireturn, 1) := by decide +kernel
abbrev cX0_isPolynomial : ByteArray := prog_1_method_2_code
def yX0_isPolynomial : MethodName := ⟨RX0, "isPolynomial", "(I)Z"⟩
theorem dX0_isPolynomial_0 : decode cX0_isPolynomial 0 = .ok (.iload_n 0, 1) := by decide +kernel
theorem dX0_isPolynomial_1 : decode cX0_isPolynomial 1 = .ok (.ifCond .lt 13, 3) := by decide +kernel
theorem dX0_isPolynomial_4 : decode cX0_isPolynomial 4 = .ok (.iload_n 0, 1) := by decide +kernel
theorem dX0_isPolynomial_5 : decode cX0_isPolynomial 5 = .ok (.ldc 23, 2) := by decide +kernel
theorem dX0_isPolynomial_7 : decode cX0_isPolynomial 7 = .ok (.if_icmp .gt 7, 3) := by decide +kernel
theorem dX0_isPolynomial_10 : decode cX0_isPolynomial 10 = .ok (.iconst 1, 1) := by decide +kernel
theorem dX0_isPolynomial_11 : decode cX0_isPolynomial 11 = .ok (.goto 4, 3) := by decide +kernel
theorem dX0_isPolynomial_14 : decode cX0_isPolynomial 14 = .ok (.iconst 0, 1) := by decide +kernel
theorem dX0_isPolynomial_15 : decode cX0_isPolynomial 15 = .ok (.ireturn, 1) := by decide +kernel
abbrev cX0_has : ByteArray := prog_1_method_3_code
def yX0_has : MethodName := ⟨RX0, "has", "(I)Z"⟩
theorem dX0_has_0 : decode cX0_has 0 = .ok (.iload_n 1, 1) := by decide +kernel
theorem dX0_has_1 : decode cX0_has 1 = .ok (.ifCond .lt 24, 3) := by decide +kernel
theorem dX0_has_4 : decode cX0_has 4 = .ok (.iload_n 1, 1) := by decide +kernel
theorem dX0_has_5 : decode cX0_has 5 = .ok (.bipush 6, 2) := by decide +kernel
theorem dX0_has_7 : decode cX0_has 7 = .ok (.if_icmp .ge 18, 3) := by decide +kernel
theorem dX0_has_10 : decode cX0_has 10 = .ok (.aload_n 0, 1) := by decide +kernel
theorem dX0_has_11 : decode cX0_has 11 = .ok (.getfield 24, 3) := by decide +kernel
theorem dX0_has_14 : decode cX0_has 14 = .ok (.iload_n 1, 1) := by decide +kernel
theorem dX0_has_15 : decode cX0_has 15 = .ok (.ishr, 1) := by decide +kernel
theorem dX0_has_16 : decode cX0_has 16 = .ok (.iconst 1, 1) := by decide +kernel
theorem dX0_has_17 : decode cX0_has 17 = .ok (.iand, 1) := by decide +kernel
theorem dX0_has_18 : decode cX0_has 18 = .ok (.ifCond .eq 7, 3) := by decide +kernel
theorem dX0_has_21 : decode cX0_has 21 = .ok (.iconst 1, 1) := by decide +kernel
theorem dX0_has_22 : decode cX0_has 22 = .ok (.goto 4, 3) := by decide +kernel
theorem dX0_has_25 : decode cX0_has 25 = .ok (.iconst 0, 1) := by decide +kernel
theorem dX0_has_26 : decode cX0_has 26 = .ok (.ireturn, 1) := by decide +kernel
abbrev cX0_remove : ByteArray := prog_1_method_5_code
def yX0_remove : MethodName := ⟨RX0, "remove", "(I)Z"⟩
theorem dX0_remove_0 : decode cX0_remove 0 = .ok (.aload_n 0, 1) := by decide +kernel
theorem dX0_remove_1 : decode cX0_remove 1 = .ok (.iload_n 1, 1) := by decide +kernel
theorem dX0_remove_2 : decode cX0_remove 2 = .ok (.invokevirtual 32, 3) := by decide +kernel
theorem dX0_remove_5 : decode cX0_remove 5 = .ok (.ifCond .ne 5, 3) := by decide +kernel
theorem dX0_remove_8 : decode cX0_remove 8 = .ok (.iconst 0, 1) := by decide +kernel
theorem dX0_remove_9 : decode cX0_remove 9 = .ok (.ireturn, 1) := by decide +kernel
theorem dX0_remove_10 : decode cX0_remove 10 = .ok (.aload_n 0, 1) := by decide +kernel
theorem dX0_remove_11 : decode cX0_remove 11 = .ok (.dup, 1) := by decide +kernel
theorem dX0_remove_12 : decode cX0_remove 12 = .ok (.getfield 24, 3) := by decide +kernel
theorem dX0_remove_15 : decode cX0_remove 15 = .ok (.iconst 1, 1) := by decide +kernel
theorem dX0_remove_16 : decode cX0_remove 16 = .ok (.iload_n 1, 1) := by decide +kernel
theorem dX0_remove_17 : decode cX0_remove 17 = .ok (.ishl, 1) := by decide +kernel
theorem dX0_remove_18 : decode cX0_remove 18 = .ok (.iconst (-1), 1) := by decide +kernel
theorem dX0_remove_19 : decode cX0_remove 19 = .ok (.ixor, 1) := by decide +kernel
theorem dX0_remove_20 : decode cX0_remove 20 = .ok (.iand, 1) := by decide +kernel
theorem dX0_remove_21 : decode cX0_remove 21 = .ok (.putfield 24, 3) := by decide +kernel
theorem dX0_remove_24 : decode cX0_remove 24 = .ok (.aload_n 0, 1) := by decide +kernel
theorem dX0_remove_25 : decode cX0_remove 25 = .ok (.iconst 0, 1) := by decide +kernel
theorem dX0_remove_26 : decode cX0_remove 26 = .ok (.putfield 35, 3) := by decide +kernel
theorem dX0_remove_29 : decode cX0_remove 29 = .ok (.iconst 1, 1) := by decide +kernel
theorem dX0_remove_30 : decode cX0_remove 30 = .ok (.ireturn, 1) := by decide +kernel
abbrev cX0_generators : ByteArray := prog_1_method_6_code
def yX0_generators : MethodName := ⟨RX0, "generators", "()I"⟩
theorem dX0_generators_0 : decode cX0_generators 0 = .ok (.aload_n 0, 1) := by decide +kernel
theorem dX0_generators_1 : decode cX0_generators 1 = .ok (.getfield 24, 3) := by decide +kernel
theorem dX0_generators_4 : decode cX0_generators 4 = .ok (.ireturn, 1) := by decide +kernel
abbrev cX0_product : ByteArray := prog_1_method_8_code
def yX0_product : MethodName := ⟨RX0, "product", "(II)I"⟩
theorem dX0_product_0 : decode cX0_product 0 = .ok (.iload_n 1, 1) := by decide +kernel
theorem dX0_product_1 : decode cX0_product 1 = .ok (.invokestatic 28, 3) := by decide +kernel
theorem dX0_product_4 : decode cX0_product 4 = .ok (.ifCond .eq 10, 3) := by decide +kernel
theorem dX0_product_7 : decode cX0_product 7 = .ok (.iload_n 2, 1) := by decide +kernel
theorem dX0_product_8 : decode cX0_product 8 = .ok (.invokestatic 28, 3) := by decide +kernel
theorem dX0_product_11 : decode cX0_product 11 = .ok (.ifCond .ne 5, 3) := by decide +kernel
theorem dX0_product_14 : decode cX0_product 14 = .ok (.iconst (-1), 1) := by decide +kernel
theorem dX0_product_15 : decode cX0_product 15 = .ok (.ireturn, 1) := by decide +kernel
theorem dX0_product_16 : decode cX0_product 16 = .ok (.iconst 0, 1) := by decide +kernel
theorem dX0_product_17 : decode cX0_product 17 = .ok (.istore_n 3, 1) := by decide +kernel
theorem dX0_product_18 : decode cX0_product 18 = .ok (.iconst 0, 1) := by decide +kernel
theorem dX0_product_19 : decode cX0_product 19 = .ok (.istore 4, 2) := by decide +kernel
theorem dX0_product_21 : decode cX0_product 21 = .ok (.iload 4, 2) := by decide +kernel
theorem dX0_product_23 : decode cX0_product 23 = .ok (.bipush 16, 2) := by decide +kernel
theorem dX0_product_25 : decode cX0_product 25 = .ok (.if_icmp .ge 27, 3) := by decide +kernel
theorem dX0_product_28 : decode cX0_product 28 = .ok (.iload_n 2, 1) := by decide +kernel
theorem dX0_product_29 : decode cX0_product 29 = .ok (.iload 4, 2) := by decide +kernel
theorem dX0_product_31 : decode cX0_product 31 = .ok (.ishr, 1) := by decide +kernel
theorem dX0_product_32 : decode cX0_product 32 = .ok (.iconst 1, 1) := by decide +kernel
theorem dX0_product_33 : decode cX0_product 33 = .ok (.iand, 1) := by decide +kernel
theorem dX0_product_34 : decode cX0_product 34 = .ok (.ifCond .eq 12, 3) := by decide +kernel
theorem dX0_product_37 : decode cX0_product 37 = .ok (.iload_n 3, 1) := by decide +kernel
theorem dX0_product_38 : decode cX0_product 38 = .ok (.iload_n 1, 1) := by decide +kernel
theorem dX0_product_39 : decode cX0_product 39 = .ok (.iload 4, 2) := by decide +kernel
theorem dX0_product_41 : decode cX0_product 41 = .ok (.invokestatic 39, 3) := by decide +kernel
theorem dX0_product_44 : decode cX0_product 44 = .ok (.ixor, 1) := by decide +kernel
theorem dX0_product_45 : decode cX0_product 45 = .ok (.istore_n 3, 1) := by decide +kernel
theorem dX0_product_46 : decode cX0_product 46 = .ok (.iinc 4 1, 3) := by decide +kernel
theorem dX0_product_49 : decode cX0_product 49 = .ok (.goto (-28), 3) := by decide +kernel
theorem dX0_product_52 : decode cX0_product 52 = .ok (.iload_n 3, 1) := by decide +kernel
theorem dX0_product_53 : decode cX0_product 53 = .ok (.ireturn, 1) := by decide +kernel
abbrev cX0_times : ByteArray := prog_1_method_7_code
def yX0_times : MethodName := ⟨RX0, "times", "(II)I"⟩
theorem dX0_times_0 : decode cX0_times 0 = .ok (.iconst 0, 1) := by decide +kernel
theorem dX0_times_1 : decode cX0_times 1 = .ok (.istore_n 2, 1) := by decide +kernel
theorem dX0_times_2 : decode cX0_times 2 = .ok (.iconst 0, 1) := by decide +kernel
theorem dX0_times_3 : decode cX0_times 3 = .ok (.istore_n 3, 1) := by decide +kernel
theorem dX0_times_4 : decode cX0_times 4 = .ok (.iload_n 3, 1) := by decide +kernel
theorem dX0_times_5 : decode cX0_times 5 = .ok (.bipush 16, 2) := by decide +kernel
theorem dX0_times_7 : decode cX0_times 7 = .ok (.if_icmp .ge 25, 3) := by decide +kernel
theorem dX0_times_10 : decode cX0_times 10 = .ok (.iload_n 0, 1) := by decide +kernel
theorem dX0_times_11 : decode cX0_times 11 = .ok (.iload_n 3, 1) := by decide +kernel
theorem dX0_times_12 : decode cX0_times 12 = .ok (.ishr, 1) := by decide +kernel
theorem dX0_times_13 : decode cX0_times 13 = .ok (.iconst 1, 1) := by decide +kernel
theorem dX0_times_14 : decode cX0_times 14 = .ok (.iand, 1) := by decide +kernel
theorem dX0_times_15 : decode cX0_times 15 = .ok (.ifCond .eq 11, 3) := by decide +kernel
theorem dX0_times_18 : decode cX0_times 18 = .ok (.iload_n 2, 1) := by decide +kernel
theorem dX0_times_19 : decode cX0_times 19 = .ok (.iconst 1, 1) := by decide +kernel
theorem dX0_times_20 : decode cX0_times 20 = .ok (.iload_n 3, 1) := by decide +kernel
theorem dX0_times_21 : decode cX0_times 21 = .ok (.iload_n 1, 1) := by decide +kernel
theorem dX0_times_22 : decode cX0_times 22 = .ok (.ior, 1) := by decide +kernel
theorem dX0_times_23 : decode cX0_times 23 = .ok (.ishl, 1) := by decide +kernel
theorem dX0_times_24 : decode cX0_times 24 = .ok (.ixor, 1) := by decide +kernel
theorem dX0_times_25 : decode cX0_times 25 = .ok (.istore_n 2, 1) := by decide +kernel
theorem dX0_times_26 : decode cX0_times 26 = .ok (.iinc 3 1, 3) := by decide +kernel
theorem dX0_times_29 : decode cX0_times 29 = .ok (.goto (-25), 3) := by decide +kernel
theorem dX0_times_32 : decode cX0_times 32 = .ok (.iload_n 2, 1) := by decide +kernel
theorem dX0_times_33 : decode cX0_times 33 = .ok (.ireturn, 1) := by decide +kernel
abbrev cX0_value : ByteArray := prog_1_method_10_code
def yX0_value : MethodName := ⟨RX0, "value", "(II)I"⟩
theorem dX0_value_0 : decode cX0_value 0 = .ok (.iload_n 1, 1) := by decide +kernel
theorem dX0_value_1 : decode cX0_value 1 = .ok (.invokestatic 28, 3) := by decide +kernel
theorem dX0_value_4 : decode cX0_value 4 = .ok (.ifCond .eq 21, 3) := by decide +kernel
theorem dX0_value_7 : decode cX0_value 7 = .ok (.iload_n 2, 1) := by decide +kernel
theorem dX0_value_8 : decode cX0_value 8 = .ok (.ifCond .lt 17, 3) := by decide +kernel
theorem dX0_value_11 : decode cX0_value 11 = .ok (.iload_n 2, 1) := by decide +kernel
theorem dX0_value_12 : decode cX0_value 12 = .ok (.bipush 16, 2) := by decide +kernel
theorem dX0_value_14 : decode cX0_value 14 = .ok (.if_icmp .ge 11, 3) := by decide +kernel
theorem dX0_value_17 : decode cX0_value 17 = .ok (.iload_n 1, 1) := by decide +kernel
theorem dX0_value_18 : decode cX0_value 18 = .ok (.iload_n 2, 1) := by decide +kernel
theorem dX0_value_19 : decode cX0_value 19 = .ok (.invokestatic 43, 3) := by decide +kernel
theorem dX0_value_22 : decode cX0_value 22 = .ok (.goto 4, 3) := by decide +kernel
theorem dX0_value_25 : decode cX0_value 25 = .ok (.iconst (-1), 1) := by decide +kernel
theorem dX0_value_26 : decode cX0_value 26 = .ok (.ireturn, 1) := by decide +kernel
abbrev cX0_valueAt : ByteArray := prog_1_method_9_code
def yX0_valueAt : MethodName := ⟨RX0, "valueAt", "(II)I"⟩
theorem dX0_valueAt_0 : decode cX0_valueAt 0 = .ok (.iconst 0, 1) := by decide +kernel
theorem dX0_valueAt_1 : decode cX0_valueAt 1 = .ok (.istore_n 2, 1) := by decide +kernel
theorem dX0_valueAt_2 : decode cX0_valueAt 2 = .ok (.iconst 0, 1) := by decide +kernel
theorem dX0_valueAt_3 : decode cX0_valueAt 3 = .ok (.istore_n 3, 1) := by decide +kernel
theorem dX0_valueAt_4 : decode cX0_valueAt 4 = .ok (.iload_n 3, 1) := by decide +kernel
theorem dX0_valueAt_5 : decode cX0_valueAt 5 = .ok (.bipush 16, 2) := by decide +kernel
theorem dX0_valueAt_7 : decode cX0_valueAt 7 = .ok (.if_icmp .ge 25, 3) := by decide +kernel
theorem dX0_valueAt_10 : decode cX0_valueAt 10 = .ok (.iload_n 3, 1) := by decide +kernel
theorem dX0_valueAt_11 : decode cX0_valueAt 11 = .ok (.iload_n 1, 1) := by decide +kernel
theorem dX0_valueAt_12 : decode cX0_valueAt 12 = .ok (.iconst (-1), 1) := by decide +kernel
theorem dX0_valueAt_13 : decode cX0_valueAt 13 = .ok (.ixor, 1) := by decide +kernel
theorem dX0_valueAt_14 : decode cX0_valueAt 14 = .ok (.iand, 1) := by decide +kernel
theorem dX0_valueAt_15 : decode cX0_valueAt 15 = .ok (.ifCond .ne 11, 3) := by decide +kernel
theorem dX0_valueAt_18 : decode cX0_valueAt 18 = .ok (.iload_n 2, 1) := by decide +kernel
theorem dX0_valueAt_19 : decode cX0_valueAt 19 = .ok (.iload_n 0, 1) := by decide +kernel
theorem dX0_valueAt_20 : decode cX0_valueAt 20 = .ok (.iload_n 3, 1) := by decide +kernel
theorem dX0_valueAt_21 : decode cX0_valueAt 21 = .ok (.ishr, 1) := by decide +kernel
theorem dX0_valueAt_22 : decode cX0_valueAt 22 = .ok (.iconst 1, 1) := by decide +kernel
theorem dX0_valueAt_23 : decode cX0_valueAt 23 = .ok (.iand, 1) := by decide +kernel
theorem dX0_valueAt_24 : decode cX0_valueAt 24 = .ok (.ixor, 1) := by decide +kernel
theorem dX0_valueAt_25 : decode cX0_valueAt 25 = .ok (.istore_n 2, 1) := by decide +kernel
theorem dX0_valueAt_26 : decode cX0_valueAt 26 = .ok (.iinc 3 1, 3) := by decide +kernel
theorem dX0_valueAt_29 : decode cX0_valueAt 29 = .ok (.goto (-25), 3) := by decide +kernel
theorem dX0_valueAt_32 : decode cX0_valueAt 32 = .ok (.iload_n 2, 1) := by decide +kernel
theorem dX0_valueAt_33 : decode cX0_valueAt 33 = .ok (.ireturn, 1) := by decide +kernel
abbrev cX0_contains : ByteArray := prog_1_method_21_code
def yX0_contains : MethodName := ⟨RX0, "contains", "(I)Z"⟩
theorem dX0_contains_0 : decode cX0_contains 0 = .ok (.iload_n 1, 1) := by decide +kernel
theorem dX0_contains_1 : decode cX0_contains 1 = .ok (.invokestatic 28, 3) := by decide +kernel
theorem dX0_contains_4 : decode cX0_contains 4 = .ok (.ifCond .ne 5, 3) := by decide +kernel
theorem dX0_contains_7 : decode cX0_contains 7 = .ok (.iconst 0, 1) := by decide +kernel
theorem dX0_contains_8 : decode cX0_contains 8 = .ok (.ireturn, 1) := by decide +kernel
theorem dX0_contains_9 : decode cX0_contains 9 = .ok (.aload_n 0, 1) := by decide +kernel
theorem dX0_contains_10 : decode cX0_contains 10 = .ok (.invokevirtual 88, 3) := by decide +kernel
theorem dX0_contains_13 : decode cX0_contains 13 = .ok (.aload_n 0, 1) := by decide +kernel
theorem dX0_contains_14 : decode cX0_contains 14 = .ok (.iload_n 1, 1) := by decide +kernel
theorem dX0_contains_15 : decode cX0_contains 15 = .ok (.invokevirtual 53, 3) := by decide +kernel
theorem dX0_contains_18 : decode cX0_contains 18 = .ok (.ifCond .ne 7, 3) := by decide +kernel
theorem dX0_contains_21 : decode cX0_contains 21 = .ok (.iconst 1, 1) := by decide +kernel
theorem dX0_contains_22 : decode cX0_contains 22 = .ok (.goto 4, 3) := by decide +kernel
theorem dX0_contains_25 : decode cX0_contains 25 = .ok (.iconst 0, 1) := by decide +kernel
theorem dX0_contains_26 : decode cX0_contains 26 = .ok (.ireturn, 1) := by decide +kernel
abbrev cX0_learn : ByteArray := prog_1_method_18_code
def yX0_learn : MethodName := ⟨RX0, "learn", "()V"⟩
theorem dX0_learn_0 : decode cX0_learn 0 = .ok (.aload_n 0, 1) := by decide +kernel
theorem dX0_learn_1 : decode cX0_learn 1 = .ok (.getfield 35, 3) := by decide +kernel
theorem dX0_learn_4 : decode cX0_learn 4 = .ok (.ifCond .eq 4, 3) := by decide +kernel
theorem dX0_learn_7 : decode cX0_learn 7 = .ok (.return_, 1) := by decide +kernel
theorem dX0_learn_8 : decode cX0_learn 8 = .ok (.aload_n 0, 1) := by decide +kernel
theorem dX0_learn_9 : decode cX0_learn 9 = .ok (.iconst 1, 1) := by decide +kernel
theorem dX0_learn_10 : decode cX0_learn 10 = .ok (.putfield 35, 3) := by decide +kernel
theorem dX0_learn_13 : decode cX0_learn 13 = .ok (.aload_n 0, 1) := by decide +kernel
theorem dX0_learn_14 : decode cX0_learn 14 = .ok (.aload_n 0, 1) := by decide +kernel
theorem dX0_learn_15 : decode cX0_learn 15 = .ok (.getfield 24, 3) := by decide +kernel
theorem dX0_learn_18 : decode cX0_learn 18 = .ok (.invokevirtual 70, 3) := by decide +kernel
theorem dX0_learn_21 : decode cX0_learn 21 = .ok (.aload_n 0, 1) := by decide +kernel
theorem dX0_learn_22 : decode cX0_learn 22 = .ok (.iconst 0, 1) := by decide +kernel
theorem dX0_learn_23 : decode cX0_learn 23 = .ok (.putfield 73, 3) := by decide +kernel
theorem dX0_learn_26 : decode cX0_learn 26 = .ok (.aload_n 0, 1) := by decide +kernel
theorem dX0_learn_27 : decode cX0_learn 27 = .ok (.iconst 0, 1) := by decide +kernel
theorem dX0_learn_28 : decode cX0_learn 28 = .ok (.putfield 76, 3) := by decide +kernel
theorem dX0_learn_31 : decode cX0_learn 31 = .ok (.iconst 0, 1) := by decide +kernel
theorem dX0_learn_32 : decode cX0_learn 32 = .ok (.istore_n 1, 1) := by decide +kernel
theorem dX0_learn_33 : decode cX0_learn 33 = .ok (.iload_n 1, 1) := by decide +kernel
theorem dX0_learn_34 : decode cX0_learn 34 = .ok (.bipush 16, 2) := by decide +kernel
theorem dX0_learn_36 : decode cX0_learn 36 = .ok (.if_icmp .ge 71, 3) := by decide +kernel
theorem dX0_learn_39 : decode cX0_learn 39 = .ok (.aload_n 0, 1) := by decide +kernel
theorem dX0_learn_40 : decode cX0_learn 40 = .ok (.dup, 1) := by decide +kernel
theorem dX0_learn_41 : decode cX0_learn 41 = .ok (.getfield 73, 3) := by decide +kernel
theorem dX0_learn_44 : decode cX0_learn 44 = .ok (.aload_n 0, 1) := by decide +kernel
theorem dX0_learn_45 : decode cX0_learn 45 = .ok (.iload_n 1, 1) := by decide +kernel
theorem dX0_learn_46 : decode cX0_learn 46 = .ok (.invokevirtual 46, 3) := by decide +kernel
theorem dX0_learn_49 : decode cX0_learn 49 = .ok (.ifCond .lt 9, 3) := by decide +kernel
theorem dX0_learn_52 : decode cX0_learn 52 = .ok (.iconst 1, 1) := by decide +kernel
theorem dX0_learn_53 : decode cX0_learn 53 = .ok (.iload_n 1, 1) := by decide +kernel
theorem dX0_learn_54 : decode cX0_learn 54 = .ok (.ishl, 1) := by decide +kernel
theorem dX0_learn_55 : decode cX0_learn 55 = .ok (.goto 4, 3) := by decide +kernel
theorem dX0_learn_58 : decode cX0_learn 58 = .ok (.iconst 0, 1) := by decide +kernel
theorem dX0_learn_59 : decode cX0_learn 59 = .ok (.ior, 1) := by decide +kernel
theorem dX0_learn_60 : decode cX0_learn 60 = .ok (.putfield 73, 3) := by decide +kernel
theorem dX0_learn_63 : decode cX0_learn 63 = .ok (.aload_n 0, 1) := by decide +kernel
theorem dX0_learn_64 : decode cX0_learn 64 = .ok (.iload_n 1, 1) := by decide +kernel
theorem dX0_learn_65 : decode cX0_learn 65 = .ok (.invokevirtual 79, 3) := by decide +kernel
theorem dX0_learn_68 : decode cX0_learn 68 = .ok (.ifCond .eq 33, 3) := by decide +kernel
theorem dX0_learn_71 : decode cX0_learn 71 = .ok (.aload_n 0, 1) := by decide +kernel
theorem dX0_learn_72 : decode cX0_learn 72 = .ok (.getfield 20, 3) := by decide +kernel
theorem dX0_learn_75 : decode cX0_learn 75 = .ok (.aload_n 0, 1) := by decide +kernel
theorem dX0_learn_76 : decode cX0_learn 76 = .ok (.getfield 76, 3) := by decide +kernel
theorem dX0_learn_79 : decode cX0_learn 79 = .ok (.iconst 1, 1) := by decide +kernel
theorem dX0_learn_80 : decode cX0_learn 80 = .ok (.iload_n 1, 1) := by decide +kernel
theorem dX0_learn_81 : decode cX0_learn 81 = .ok (.ishl, 1) := by decide +kernel
theorem dX0_learn_82 : decode cX0_learn 82 = .ok (.aload_n 0, 1) := by decide +kernel
theorem dX0_learn_83 : decode cX0_learn 83 = .ok (.iconst 1, 1) := by decide +kernel
theorem dX0_learn_84 : decode cX0_learn 84 = .ok (.iload_n 1, 1) := by decide +kernel
theorem dX0_learn_85 : decode cX0_learn 85 = .ok (.ishl, 1) := by decide +kernel
theorem dX0_learn_86 : decode cX0_learn 86 = .ok (.invokevirtual 53, 3) := by decide +kernel
theorem dX0_learn_89 : decode cX0_learn 89 = .ok (.ixor, 1) := by decide +kernel
theorem dX0_learn_90 : decode cX0_learn 90 = .ok (.iastore, 1) := by decide +kernel
theorem dX0_learn_91 : decode cX0_learn 91 = .ok (.aload_n 0, 1) := by decide +kernel
theorem dX0_learn_92 : decode cX0_learn 92 = .ok (.dup, 1) := by decide +kernel
theorem dX0_learn_93 : decode cX0_learn 93 = .ok (.getfield 76, 3) := by decide +kernel
theorem dX0_learn_96 : decode cX0_learn 96 = .ok (.iconst 1, 1) := by decide +kernel
theorem dX0_learn_97 : decode cX0_learn 97 = .ok (.iadd, 1) := by decide +kernel
theorem dX0_learn_98 : decode cX0_learn 98 = .ok (.putfield 76, 3) := by decide +kernel
theorem dX0_learn_101 : decode cX0_learn 101 = .ok (.iinc 1 1, 3) := by decide +kernel
theorem dX0_learn_104 : decode cX0_learn 104 = .ok (.goto (-71), 3) := by decide +kernel
theorem dX0_learn_107 : decode cX0_learn 107 = .ok (.aload_n 0, 1) := by decide +kernel
theorem dX0_learn_108 : decode cX0_learn 108 = .ok (.iconst 0, 1) := by decide +kernel
theorem dX0_learn_109 : decode cX0_learn 109 = .ok (.putfield 82, 3) := by decide +kernel
theorem dX0_learn_112 : decode cX0_learn 112 = .ok (.iconst 0, 1) := by decide +kernel
theorem dX0_learn_113 : decode cX0_learn 113 = .ok (.istore_n 1, 1) := by decide +kernel
theorem dX0_learn_114 : decode cX0_learn 114 = .ok (.iload_n 1, 1) := by decide +kernel
theorem dX0_learn_115 : decode cX0_learn 115 = .ok (.bipush 16, 2) := by decide +kernel
theorem dX0_learn_117 : decode cX0_learn 117 = .ok (.if_icmp .ge 33, 3) := by decide +kernel
theorem dX0_learn_120 : decode cX0_learn 120 = .ok (.aload_n 0, 1) := by decide +kernel
theorem dX0_learn_121 : decode cX0_learn 121 = .ok (.dup, 1) := by decide +kernel
theorem dX0_learn_122 : decode cX0_learn 122 = .ok (.getfield 82, 3) := by decide +kernel
theorem dX0_learn_125 : decode cX0_learn 125 = .ok (.aload_n 0, 1) := by decide +kernel
theorem dX0_learn_126 : decode cX0_learn 126 = .ok (.iload_n 1, 1) := by decide +kernel
theorem dX0_learn_127 : decode cX0_learn 127 = .ok (.invokevirtual 85, 3) := by decide +kernel
theorem dX0_learn_130 : decode cX0_learn 130 = .ok (.ifCond .eq 9, 3) := by decide +kernel
theorem dX0_learn_133 : decode cX0_learn 133 = .ok (.iconst 1, 1) := by decide +kernel
theorem dX0_learn_134 : decode cX0_learn 134 = .ok (.iload_n 1, 1) := by decide +kernel
theorem dX0_learn_135 : decode cX0_learn 135 = .ok (.ishl, 1) := by decide +kernel
theorem dX0_learn_136 : decode cX0_learn 136 = .ok (.goto 4, 3) := by decide +kernel
theorem dX0_learn_139 : decode cX0_learn 139 = .ok (.iconst 0, 1) := by decide +kernel
theorem dX0_learn_140 : decode cX0_learn 140 = .ok (.ior, 1) := by decide +kernel
theorem dX0_learn_141 : decode cX0_learn 141 = .ok (.putfield 82, 3) := by decide +kernel
theorem dX0_learn_144 : decode cX0_learn 144 = .ok (.iinc 1 1, 3) := by decide +kernel
theorem dX0_learn_147 : decode cX0_learn 147 = .ok (.goto (-33), 3) := by decide +kernel
theorem dX0_learn_150 : decode cX0_learn 150 = .ok (.return_, 1) := by decide +kernel
abbrev cX0_complete : ByteArray := prog_1_method_15_code
def yX0_complete : MethodName := ⟨RX0, "complete", "(I)V"⟩
theorem dX0_complete_0 : decode cX0_complete 0 = .ok (.aload_n 0, 1) := by decide +kernel
theorem dX0_complete_1 : decode cX0_complete 1 = .ok (.iconst 0, 1) := by decide +kernel
theorem dX0_complete_2 : decode cX0_complete 2 = .ok (.putfield 50, 3) := by decide +kernel
theorem dX0_complete_5 : decode cX0_complete 5 = .ok (.iconst 0, 1) := by decide +kernel
theorem dX0_complete_6 : decode cX0_complete 6 = .ok (.istore_n 2, 1) := by decide +kernel
theorem dX0_complete_7 : decode cX0_complete 7 = .ok (.iload_n 2, 1) := by decide +kernel
theorem dX0_complete_8 : decode cX0_complete 8 = .ok (.bipush 6, 2) := by decide +kernel
theorem dX0_complete_10 : decode cX0_complete 10 = .ok (.if_icmp .ge 28, 3) := by decide +kernel
theorem dX0_complete_13 : decode cX0_complete 13 = .ok (.iload_n 1, 1) := by decide +kernel
theorem dX0_complete_14 : decode cX0_complete 14 = .ok (.iload_n 2, 1) := by decide +kernel
theorem dX0_complete_15 : decode cX0_complete 15 = .ok (.ishr, 1) := by decide +kernel
theorem dX0_complete_16 : decode cX0_complete 16 = .ok (.iconst 1, 1) := by decide +kernel
theorem dX0_complete_17 : decode cX0_complete 17 = .ok (.iand, 1) := by decide +kernel
theorem dX0_complete_18 : decode cX0_complete 18 = .ok (.ifCond .eq 14, 3) := by decide +kernel
theorem dX0_complete_21 : decode cX0_complete 21 = .ok (.aload_n 0, 1) := by decide +kernel
theorem dX0_complete_22 : decode cX0_complete 22 = .ok (.aload_n 0, 1) := by decide +kernel
theorem dX0_complete_23 : decode cX0_complete 23 = .ok (.getfield 7, 3) := by decide +kernel
theorem dX0_complete_26 : decode cX0_complete 26 = .ok (.iload_n 2, 1) := by decide +kernel
theorem dX0_complete_27 : decode cX0_complete 27 = .ok (.iaload, 1) := by decide +kernel
theorem dX0_complete_28 : decode cX0_complete 28 = .ok (.invokevirtual 59, 3) := by decide +kernel
theorem dX0_complete_31 : decode cX0_complete 31 = .ok (.pop, 1) := by decide +kernel
theorem dX0_complete_32 : decode cX0_complete 32 = .ok (.iinc 2 1, 3) := by decide +kernel
theorem dX0_complete_35 : decode cX0_complete 35 = .ok (.goto (-28), 3) := by decide +kernel
theorem dX0_complete_38 : decode cX0_complete 38 = .ok (.iconst 0, 1) := by decide +kernel
theorem dX0_complete_39 : decode cX0_complete 39 = .ok (.istore_n 2, 1) := by decide +kernel
theorem dX0_complete_40 : decode cX0_complete 40 = .ok (.iload_n 2, 1) := by decide +kernel
theorem dX0_complete_41 : decode cX0_complete 41 = .ok (.aload_n 0, 1) := by decide +kernel
theorem dX0_complete_42 : decode cX0_complete 42 = .ok (.getfield 50, 3) := by decide +kernel
theorem dX0_complete_45 : decode cX0_complete 45 = .ok (.if_icmp .ge 33, 3) := by decide +kernel
theorem dX0_complete_48 : decode cX0_complete 48 = .ok (.aload_n 0, 1) := by decide +kernel
theorem dX0_complete_49 : decode cX0_complete 49 = .ok (.iload_n 2, 1) := by decide +kernel
theorem dX0_complete_50 : decode cX0_complete 50 = .ok (.invokevirtual 62, 3) := by decide +kernel
theorem dX0_complete_53 : decode cX0_complete 53 = .ok (.iconst 0, 1) := by decide +kernel
theorem dX0_complete_54 : decode cX0_complete 54 = .ok (.istore_n 3, 1) := by decide +kernel
theorem dX0_complete_55 : decode cX0_complete 55 = .ok (.iload_n 3, 1) := by decide +kernel
theorem dX0_complete_56 : decode cX0_complete 56 = .ok (.iload_n 2, 1) := by decide +kernel
theorem dX0_complete_57 : decode cX0_complete 57 = .ok (.if_icmp .ge 15, 3) := by decide +kernel
theorem dX0_complete_60 : decode cX0_complete 60 = .ok (.aload_n 0, 1) := by decide +kernel
theorem dX0_complete_61 : decode cX0_complete 61 = .ok (.iload_n 2, 1) := by decide +kernel
theorem dX0_complete_62 : decode cX0_complete 62 = .ok (.iload_n 3, 1) := by decide +kernel
theorem dX0_complete_63 : decode cX0_complete 63 = .ok (.invokevirtual 66, 3) := by decide +kernel
theorem dX0_complete_66 : decode cX0_complete 66 = .ok (.iinc 3 1, 3) := by decide +kernel
theorem dX0_complete_69 : decode cX0_complete 69 = .ok (.goto (-14), 3) := by decide +kernel
theorem dX0_complete_72 : decode cX0_complete 72 = .ok (.iinc 2 1, 3) := by decide +kernel
theorem dX0_complete_75 : decode cX0_complete 75 = .ok (.goto (-35), 3) := by decide +kernel
theorem dX0_complete_78 : decode cX0_complete 78 = .ok (.return_, 1) := by decide +kernel
abbrev cX0_takeIn : ByteArray := prog_1_method_14_code
def yX0_takeIn : MethodName := ⟨RX0, "takeIn", "(I)Z"⟩
theorem dX0_takeIn_0 : decode cX0_takeIn 0 = .ok (.aload_n 0, 1) := by decide +kernel
theorem dX0_takeIn_1 : decode cX0_takeIn 1 = .ok (.iload_n 1, 1) := by decide +kernel
theorem dX0_takeIn_2 : decode cX0_takeIn 2 = .ok (.invokevirtual 53, 3) := by decide +kernel
theorem dX0_takeIn_5 : decode cX0_takeIn 5 = .ok (.istore_n 2, 1) := by decide +kernel
theorem dX0_takeIn_6 : decode cX0_takeIn 6 = .ok (.iload_n 2, 1) := by decide +kernel
theorem dX0_takeIn_7 : decode cX0_takeIn 7 = .ok (.ifCond .eq 12, 3) := by decide +kernel
theorem dX0_takeIn_10 : decode cX0_takeIn 10 = .ok (.aload_n 0, 1) := by decide +kernel
theorem dX0_takeIn_11 : decode cX0_takeIn 11 = .ok (.getfield 50, 3) := by decide +kernel
theorem dX0_takeIn_14 : decode cX0_takeIn 14 = .ok (.bipush 32, 2) := by decide +kernel
theorem dX0_takeIn_16 : decode cX0_takeIn 16 = .ok (.if_icmp .lt 5, 3) := by decide +kernel
theorem dX0_takeIn_19 : decode cX0_takeIn 19 = .ok (.iconst 0, 1) := by decide +kernel
theorem dX0_takeIn_20 : decode cX0_takeIn 20 = .ok (.ireturn, 1) := by decide +kernel
theorem dX0_takeIn_21 : decode cX0_takeIn 21 = .ok (.aload_n 0, 1) := by decide +kernel
theorem dX0_takeIn_22 : decode cX0_takeIn 22 = .ok (.getfield 13, 3) := by decide +kernel
theorem dX0_takeIn_25 : decode cX0_takeIn 25 = .ok (.aload_n 0, 1) := by decide +kernel
theorem dX0_takeIn_26 : decode cX0_takeIn 26 = .ok (.getfield 50, 3) := by decide +kernel
theorem dX0_takeIn_29 : decode cX0_takeIn 29 = .ok (.iload_n 2, 1) := by decide +kernel
theorem dX0_takeIn_30 : decode cX0_takeIn 30 = .ok (.iastore, 1) := by decide +kernel
theorem dX0_takeIn_31 : decode cX0_takeIn 31 = .ok (.aload_n 0, 1) := by decide +kernel
theorem dX0_takeIn_32 : decode cX0_takeIn 32 = .ok (.getfield 16, 3) := by decide +kernel
theorem dX0_takeIn_35 : decode cX0_takeIn 35 = .ok (.aload_n 0, 1) := by decide +kernel
theorem dX0_takeIn_36 : decode cX0_takeIn 36 = .ok (.getfield 50, 3) := by decide +kernel
theorem dX0_takeIn_39 : decode cX0_takeIn 39 = .ok (.iload_n 2, 1) := by decide +kernel
theorem dX0_takeIn_40 : decode cX0_takeIn 40 = .ok (.invokestatic 56, 3) := by decide +kernel
theorem dX0_takeIn_43 : decode cX0_takeIn 43 = .ok (.i2b, 1) := by decide +kernel
theorem dX0_takeIn_44 : decode cX0_takeIn 44 = .ok (.bastore, 1) := by decide +kernel
theorem dX0_takeIn_45 : decode cX0_takeIn 45 = .ok (.aload_n 0, 1) := by decide +kernel
theorem dX0_takeIn_46 : decode cX0_takeIn 46 = .ok (.dup, 1) := by decide +kernel
theorem dX0_takeIn_47 : decode cX0_takeIn 47 = .ok (.getfield 50, 3) := by decide +kernel
theorem dX0_takeIn_50 : decode cX0_takeIn 50 = .ok (.iconst 1, 1) := by decide +kernel
theorem dX0_takeIn_51 : decode cX0_takeIn 51 = .ok (.iadd, 1) := by decide +kernel
theorem dX0_takeIn_52 : decode cX0_takeIn 52 = .ok (.putfield 50, 3) := by decide +kernel
theorem dX0_takeIn_55 : decode cX0_takeIn 55 = .ok (.iconst 1, 1) := by decide +kernel
theorem dX0_takeIn_56 : decode cX0_takeIn 56 = .ok (.ireturn, 1) := by decide +kernel
abbrev cX0_reduce : ByteArray := prog_1_method_12_code
def yX0_reduce : MethodName := ⟨RX0, "reduce", "(I)I"⟩
theorem dX0_reduce_0 : decode cX0_reduce 0 = .ok (.iload_n 1, 1) := by decide +kernel
theorem dX0_reduce_1 : decode cX0_reduce 1 = .ok (.istore_n 2, 1) := by decide +kernel
theorem dX0_reduce_2 : decode cX0_reduce 2 = .ok (.bipush 15, 2) := by decide +kernel
theorem dX0_reduce_4 : decode cX0_reduce 4 = .ok (.istore_n 3, 1) := by decide +kernel
theorem dX0_reduce_5 : decode cX0_reduce 5 = .ok (.iload_n 3, 1) := by decide +kernel
theorem dX0_reduce_6 : decode cX0_reduce 6 = .ok (.ifCond .lt 57, 3) := by decide +kernel
theorem dX0_reduce_9 : decode cX0_reduce 9 = .ok (.iload_n 2, 1) := by decide +kernel
theorem dX0_reduce_10 : decode cX0_reduce 10 = .ok (.iload_n 3, 1) := by decide +kernel
theorem dX0_reduce_11 : decode cX0_reduce 11 = .ok (.ishr, 1) := by decide +kernel
theorem dX0_reduce_12 : decode cX0_reduce 12 = .ok (.iconst 1, 1) := by decide +kernel
theorem dX0_reduce_13 : decode cX0_reduce 13 = .ok (.iand, 1) := by decide +kernel
theorem dX0_reduce_14 : decode cX0_reduce 14 = .ok (.ifCond .eq 11, 3) := by decide +kernel
theorem dX0_reduce_17 : decode cX0_reduce 17 = .ok (.aload_n 0, 1) := by decide +kernel
theorem dX0_reduce_18 : decode cX0_reduce 18 = .ok (.iload_n 3, 1) := by decide +kernel
theorem dX0_reduce_19 : decode cX0_reduce 19 = .ok (.invokevirtual 46, 3) := by decide +kernel
theorem dX0_reduce_22 : decode cX0_reduce 22 = .ok (.goto 4, 3) := by decide +kernel
theorem dX0_reduce_25 : decode cX0_reduce 25 = .ok (.iconst (-1), 1) := by decide +kernel
theorem dX0_reduce_26 : decode cX0_reduce 26 = .ok (.istore 4, 2) := by decide +kernel
theorem dX0_reduce_28 : decode cX0_reduce 28 = .ok (.iload 4, 2) := by decide +kernel
theorem dX0_reduce_30 : decode cX0_reduce 30 = .ok (.ifCond .lt 27, 3) := by decide +kernel
theorem dX0_reduce_33 : decode cX0_reduce 33 = .ok (.iload_n 2, 1) := by decide +kernel
theorem dX0_reduce_34 : decode cX0_reduce 34 = .ok (.aload_n 0, 1) := by decide +kernel
theorem dX0_reduce_35 : decode cX0_reduce 35 = .ok (.getfield 13, 3) := by decide +kernel
theorem dX0_reduce_38 : decode cX0_reduce 38 = .ok (.iload 4, 2) := by decide +kernel
theorem dX0_reduce_40 : decode cX0_reduce 40 = .ok (.iaload, 1) := by decide +kernel
theorem dX0_reduce_41 : decode cX0_reduce 41 = .ok (.iload_n 3, 1) := by decide +kernel
theorem dX0_reduce_42 : decode cX0_reduce 42 = .ok (.aload_n 0, 1) := by decide +kernel
theorem dX0_reduce_43 : decode cX0_reduce 43 = .ok (.getfield 16, 3) := by decide +kernel
theorem dX0_reduce_46 : decode cX0_reduce 46 = .ok (.iload 4, 2) := by decide +kernel
theorem dX0_reduce_48 : decode cX0_reduce 48 = .ok (.baload, 1) := by decide +kernel
theorem dX0_reduce_49 : decode cX0_reduce 49 = .ok (.iconst (-1), 1) := by decide +kernel
theorem dX0_reduce_50 : decode cX0_reduce 50 = .ok (.ixor, 1) := by decide +kernel
theorem dX0_reduce_51 : decode cX0_reduce 51 = .ok (.iand, 1) := by decide +kernel
theorem dX0_reduce_52 : decode cX0_reduce 52 = .ok (.invokestatic 39, 3) := by decide +kernel
theorem dX0_reduce_55 : decode cX0_reduce 55 = .ok (.ixor, 1) := by decide +kernel
theorem dX0_reduce_56 : decode cX0_reduce 56 = .ok (.istore_n 2, 1) := by decide +kernel
theorem dX0_reduce_57 : decode cX0_reduce 57 = .ok (.iinc 3 (-1), 3) := by decide +kernel
theorem dX0_reduce_60 : decode cX0_reduce 60 = .ok (.goto (-55), 3) := by decide +kernel
theorem dX0_reduce_63 : decode cX0_reduce 63 = .ok (.iload_n 2, 1) := by decide +kernel
theorem dX0_reduce_64 : decode cX0_reduce 64 = .ok (.ireturn, 1) := by decide +kernel
abbrev cX0_divisor : ByteArray := prog_1_method_13_code
def yX0_divisor : MethodName := ⟨RX0, "divisor", "(I)I"⟩
theorem dX0_divisor_0 : decode cX0_divisor 0 = .ok (.iconst 0, 1) := by decide +kernel
theorem dX0_divisor_1 : decode cX0_divisor 1 = .ok (.istore_n 2, 1) := by decide +kernel
theorem dX0_divisor_2 : decode cX0_divisor 2 = .ok (.iload_n 2, 1) := by decide +kernel
theorem dX0_divisor_3 : decode cX0_divisor 3 = .ok (.aload_n 0, 1) := by decide +kernel
theorem dX0_divisor_4 : decode cX0_divisor 4 = .ok (.getfield 50, 3) := by decide +kernel
theorem dX0_divisor_7 : decode cX0_divisor 7 = .ok (.if_icmp .ge 24, 3) := by decide +kernel
theorem dX0_divisor_10 : decode cX0_divisor 10 = .ok (.aload_n 0, 1) := by decide +kernel
theorem dX0_divisor_11 : decode cX0_divisor 11 = .ok (.getfield 16, 3) := by decide +kernel
theorem dX0_divisor_14 : decode cX0_divisor 14 = .ok (.iload_n 2, 1) := by decide +kernel
theorem dX0_divisor_15 : decode cX0_divisor 15 = .ok (.baload, 1) := by decide +kernel
theorem dX0_divisor_16 : decode cX0_divisor 16 = .ok (.iload_n 1, 1) := by decide +kernel
theorem dX0_divisor_17 : decode cX0_divisor 17 = .ok (.iconst (-1), 1) := by decide +kernel
theorem dX0_divisor_18 : decode cX0_divisor 18 = .ok (.ixor, 1) := by decide +kernel
theorem dX0_divisor_19 : decode cX0_divisor 19 = .ok (.iand, 1) := by decide +kernel
theorem dX0_divisor_20 : decode cX0_divisor 20 = .ok (.ifCond .ne 5, 3) := by decide +kernel
theorem dX0_divisor_23 : decode cX0_divisor 23 = .ok (.iload_n 2, 1) := by decide +kernel
theorem dX0_divisor_24 : decode cX0_divisor 24 = .ok (.ireturn, 1) := by decide +kernel
theorem dX0_divisor_25 : decode cX0_divisor 25 = .ok (.iinc 2 1, 3) := by decide +kernel
theorem dX0_divisor_28 : decode cX0_divisor 28 = .ok (.goto (-26), 3) := by decide +kernel
theorem dX0_divisor_31 : decode cX0_divisor 31 = .ok (.iconst (-1), 1) := by decide +kernel
theorem dX0_divisor_32 : decode cX0_divisor 32 = .ok (.ireturn, 1) := by decide +kernel
abbrev cX0_headOf : ByteArray := prog_1_method_11_code
def yX0_headOf : MethodName := ⟨RX0, "headOf", "(I)I"⟩
theorem dX0_headOf_0 : decode cX0_headOf 0 = .ok (.iconst (-1), 1) := by decide +kernel
theorem dX0_headOf_1 : decode cX0_headOf 1 = .ok (.istore_n 1, 1) := by decide +kernel
theorem dX0_headOf_2 : decode cX0_headOf 2 = .ok (.iconst 0, 1) := by decide +kernel
theorem dX0_headOf_3 : decode cX0_headOf 3 = .ok (.istore_n 2, 1) := by decide +kernel
theorem dX0_headOf_4 : decode cX0_headOf 4 = .ok (.iload_n 2, 1) := by decide +kernel
theorem dX0_headOf_5 : decode cX0_headOf 5 = .ok (.bipush 16, 2) := by decide +kernel
theorem dX0_headOf_7 : decode cX0_headOf 7 = .ok (.if_icmp .ge 19, 3) := by decide +kernel
theorem dX0_headOf_10 : decode cX0_headOf 10 = .ok (.iload_n 0, 1) := by decide +kernel
theorem dX0_headOf_11 : decode cX0_headOf 11 = .ok (.iload_n 2, 1) := by decide +kernel
theorem dX0_headOf_12 : decode cX0_headOf 12 = .ok (.ishr, 1) := by decide +kernel
theorem dX0_headOf_13 : decode cX0_headOf 13 = .ok (.iconst 1, 1) := by decide +kernel
theorem dX0_headOf_14 : decode cX0_headOf 14 = .ok (.iand, 1) := by decide +kernel
theorem dX0_headOf_15 : decode cX0_headOf 15 = .ok (.ifCond .eq 5, 3) := by decide +kernel
theorem dX0_headOf_18 : decode cX0_headOf 18 = .ok (.iload_n 2, 1) := by decide +kernel
theorem dX0_headOf_19 : decode cX0_headOf 19 = .ok (.istore_n 1, 1) := by decide +kernel
theorem dX0_headOf_20 : decode cX0_headOf 20 = .ok (.iinc 2 1, 3) := by decide +kernel
theorem dX0_headOf_23 : decode cX0_headOf 23 = .ok (.goto (-19), 3) := by decide +kernel
theorem dX0_headOf_26 : decode cX0_headOf 26 = .ok (.iload_n 1, 1) := by decide +kernel
theorem dX0_headOf_27 : decode cX0_headOf 27 = .ok (.ireturn, 1) := by decide +kernel
abbrev cX0_takeSquares : ByteArray := prog_1_method_16_code
def yX0_takeSquares : MethodName := ⟨RX0, "takeSquares", "(I)V"⟩
theorem dX0_takeSquares_0 : decode cX0_takeSquares 0 = .ok (.iconst 0, 1) := by decide +kernel
theorem dX0_takeSquares_1 : decode cX0_takeSquares 1 = .ok (.istore_n 2, 1) := by decide +kernel
theorem dX0_takeSquares_2 : decode cX0_takeSquares 2 = .ok (.iload_n 2, 1) := by decide +kernel
theorem dX0_takeSquares_3 : decode cX0_takeSquares 3 = .ok (.iconst 4, 1) := by decide +kernel
theorem dX0_takeSquares_4 : decode cX0_takeSquares 4 = .ok (.if_icmp .ge 48, 3) := by decide +kernel
theorem dX0_takeSquares_7 : decode cX0_takeSquares 7 = .ok (.aload_n 0, 1) := by decide +kernel
theorem dX0_takeSquares_8 : decode cX0_takeSquares 8 = .ok (.getfield 16, 3) := by decide +kernel
theorem dX0_takeSquares_11 : decode cX0_takeSquares 11 = .ok (.iload_n 1, 1) := by decide +kernel
theorem dX0_takeSquares_12 : decode cX0_takeSquares 12 = .ok (.baload, 1) := by decide +kernel
theorem dX0_takeSquares_13 : decode cX0_takeSquares 13 = .ok (.iload_n 2, 1) := by decide +kernel
theorem dX0_takeSquares_14 : decode cX0_takeSquares 14 = .ok (.ishr, 1) := by decide +kernel
theorem dX0_takeSquares_15 : decode cX0_takeSquares 15 = .ok (.iconst 1, 1) := by decide +kernel
theorem dX0_takeSquares_16 : decode cX0_takeSquares 16 = .ok (.iand, 1) := by decide +kernel
theorem dX0_takeSquares_17 : decode cX0_takeSquares 17 = .ok (.ifCond .eq 29, 3) := by decide +kernel
theorem dX0_takeSquares_20 : decode cX0_takeSquares 20 = .ok (.aload_n 0, 1) := by decide +kernel
theorem dX0_takeSquares_21 : decode cX0_takeSquares 21 = .ok (.getfield 13, 3) := by decide +kernel
theorem dX0_takeSquares_24 : decode cX0_takeSquares 24 = .ok (.iload_n 1, 1) := by decide +kernel
theorem dX0_takeSquares_25 : decode cX0_takeSquares 25 = .ok (.iaload, 1) := by decide +kernel
theorem dX0_takeSquares_26 : decode cX0_takeSquares 26 = .ok (.iconst 1, 1) := by decide +kernel
theorem dX0_takeSquares_27 : decode cX0_takeSquares 27 = .ok (.iload_n 2, 1) := by decide +kernel
theorem dX0_takeSquares_28 : decode cX0_takeSquares 28 = .ok (.ishl, 1) := by decide +kernel
theorem dX0_takeSquares_29 : decode cX0_takeSquares 29 = .ok (.invokestatic 39, 3) := by decide +kernel
theorem dX0_takeSquares_32 : decode cX0_takeSquares 32 = .ok (.istore_n 3, 1) := by decide +kernel
theorem dX0_takeSquares_33 : decode cX0_takeSquares 33 = .ok (.aload_n 0, 1) := by decide +kernel
theorem dX0_takeSquares_34 : decode cX0_takeSquares 34 = .ok (.iload_n 3, 1) := by decide +kernel
theorem dX0_takeSquares_35 : decode cX0_takeSquares 35 = .ok (.aload_n 0, 1) := by decide +kernel
theorem dX0_takeSquares_36 : decode cX0_takeSquares 36 = .ok (.getfield 13, 3) := by decide +kernel
theorem dX0_takeSquares_39 : decode cX0_takeSquares 39 = .ok (.iload_n 1, 1) := by decide +kernel
theorem dX0_takeSquares_40 : decode cX0_takeSquares 40 = .ok (.iaload, 1) := by decide +kernel
theorem dX0_takeSquares_41 : decode cX0_takeSquares 41 = .ok (.ixor, 1) := by decide +kernel
theorem dX0_takeSquares_42 : decode cX0_takeSquares 42 = .ok (.invokevirtual 59, 3) := by decide +kernel
theorem dX0_takeSquares_45 : decode cX0_takeSquares 45 = .ok (.pop, 1) := by decide +kernel
theorem dX0_takeSquares_46 : decode cX0_takeSquares 46 = .ok (.iinc 2 1, 3) := by decide +kernel
theorem dX0_takeSquares_49 : decode cX0_takeSquares 49 = .ok (.goto (-47), 3) := by decide +kernel
theorem dX0_takeSquares_52 : decode cX0_takeSquares 52 = .ok (.return_, 1) := by decide +kernel
abbrev cX0_takeDifference : ByteArray := prog_1_method_17_code
def yX0_takeDifference : MethodName := ⟨RX0, "takeDifference", "(II)V"⟩
theorem dX0_takeDifference_0 : decode cX0_takeDifference 0 = .ok (.aload_n 0, 1) := by decide +kernel
theorem dX0_takeDifference_1 : decode cX0_takeDifference 1 = .ok (.getfield 16, 3) := by decide +kernel
theorem dX0_takeDifference_4 : decode cX0_takeDifference 4 = .ok (.iload_n 1, 1) := by decide +kernel
theorem dX0_takeDifference_5 : decode cX0_takeDifference 5 = .ok (.baload, 1) := by decide +kernel
theorem dX0_takeDifference_6 : decode cX0_takeDifference 6 = .ok (.aload_n 0, 1) := by decide +kernel
theorem dX0_takeDifference_7 : decode cX0_takeDifference 7 = .ok (.getfield 16, 3) := by decide +kernel
theorem dX0_takeDifference_10 : decode cX0_takeDifference 10 = .ok (.iload_n 2, 1) := by decide +kernel
theorem dX0_takeDifference_11 : decode cX0_takeDifference 11 = .ok (.baload, 1) := by decide +kernel
theorem dX0_takeDifference_12 : decode cX0_takeDifference 12 = .ok (.ior, 1) := by decide +kernel
theorem dX0_takeDifference_13 : decode cX0_takeDifference 13 = .ok (.istore_n 3, 1) := by decide +kernel
theorem dX0_takeDifference_14 : decode cX0_takeDifference 14 = .ok (.aload_n 0, 1) := by decide +kernel
theorem dX0_takeDifference_15 : decode cX0_takeDifference 15 = .ok (.getfield 13, 3) := by decide +kernel
theorem dX0_takeDifference_18 : decode cX0_takeDifference 18 = .ok (.iload_n 1, 1) := by decide +kernel
theorem dX0_takeDifference_19 : decode cX0_takeDifference 19 = .ok (.iaload, 1) := by decide +kernel
theorem dX0_takeDifference_20 : decode cX0_takeDifference 20 = .ok (.iload_n 3, 1) := by decide +kernel
theorem dX0_takeDifference_21 : decode cX0_takeDifference 21 = .ok (.aload_n 0, 1) := by decide +kernel
theorem dX0_takeDifference_22 : decode cX0_takeDifference 22 = .ok (.getfield 16, 3) := by decide +kernel
theorem dX0_takeDifference_25 : decode cX0_takeDifference 25 = .ok (.iload_n 1, 1) := by decide +kernel
theorem dX0_takeDifference_26 : decode cX0_takeDifference 26 = .ok (.baload, 1) := by decide +kernel
theorem dX0_takeDifference_27 : decode cX0_takeDifference 27 = .ok (.iconst (-1), 1) := by decide +kernel
theorem dX0_takeDifference_28 : decode cX0_takeDifference 28 = .ok (.ixor, 1) := by decide +kernel
theorem dX0_takeDifference_29 : decode cX0_takeDifference 29 = .ok (.iand, 1) := by decide +kernel
theorem dX0_takeDifference_30 : decode cX0_takeDifference 30 = .ok (.invokestatic 39, 3) := by decide +kernel
theorem dX0_takeDifference_33 : decode cX0_takeDifference 33 = .ok (.istore 4, 2) := by decide +kernel
theorem dX0_takeDifference_35 : decode cX0_takeDifference 35 = .ok (.aload_n 0, 1) := by decide +kernel
theorem dX0_takeDifference_36 : decode cX0_takeDifference 36 = .ok (.getfield 13, 3) := by decide +kernel
theorem dX0_takeDifference_39 : decode cX0_takeDifference 39 = .ok (.iload_n 2, 1) := by decide +kernel
theorem dX0_takeDifference_40 : decode cX0_takeDifference 40 = .ok (.iaload, 1) := by decide +kernel
theorem dX0_takeDifference_41 : decode cX0_takeDifference 41 = .ok (.iload_n 3, 1) := by decide +kernel
theorem dX0_takeDifference_42 : decode cX0_takeDifference 42 = .ok (.aload_n 0, 1) := by decide +kernel
theorem dX0_takeDifference_43 : decode cX0_takeDifference 43 = .ok (.getfield 16, 3) := by decide +kernel
theorem dX0_takeDifference_46 : decode cX0_takeDifference 46 = .ok (.iload_n 2, 1) := by decide +kernel
theorem dX0_takeDifference_47 : decode cX0_takeDifference 47 = .ok (.baload, 1) := by decide +kernel
theorem dX0_takeDifference_48 : decode cX0_takeDifference 48 = .ok (.iconst (-1), 1) := by decide +kernel
theorem dX0_takeDifference_49 : decode cX0_takeDifference 49 = .ok (.ixor, 1) := by decide +kernel
theorem dX0_takeDifference_50 : decode cX0_takeDifference 50 = .ok (.iand, 1) := by decide +kernel
theorem dX0_takeDifference_51 : decode cX0_takeDifference 51 = .ok (.invokestatic 39, 3) := by decide +kernel
theorem dX0_takeDifference_54 : decode cX0_takeDifference 54 = .ok (.istore 5, 2) := by decide +kernel
theorem dX0_takeDifference_56 : decode cX0_takeDifference 56 = .ok (.aload_n 0, 1) := by decide +kernel
theorem dX0_takeDifference_57 : decode cX0_takeDifference 57 = .ok (.iload 4, 2) := by decide +kernel
theorem dX0_takeDifference_59 : decode cX0_takeDifference 59 = .ok (.iload 5, 2) := by decide +kernel
theorem dX0_takeDifference_61 : decode cX0_takeDifference 61 = .ok (.ixor, 1) := by decide +kernel
theorem dX0_takeDifference_62 : decode cX0_takeDifference 62 = .ok (.invokevirtual 59, 3) := by decide +kernel
theorem dX0_takeDifference_65 : decode cX0_takeDifference 65 = .ok (.pop, 1) := by decide +kernel
theorem dX0_takeDifference_66 : decode cX0_takeDifference 66 = .ok (.return_, 1) := by decide +kernel
abbrev cX0_leastBound : ByteArray := prog_1_method_19_code
def yX0_leastBound : MethodName := ⟨RX0, "leastBound", "(I)Z"⟩
theorem dX0_leastBound_0 : decode cX0_leastBound 0 = .ok (.aload_n 0, 1) := by decide +kernel
theorem dX0_leastBound_1 : decode cX0_leastBound 1 = .ok (.iload_n 1, 1) := by decide +kernel
theorem dX0_leastBound_2 : decode cX0_leastBound 2 = .ok (.invokevirtual 46, 3) := by decide +kernel
theorem dX0_leastBound_5 : decode cX0_leastBound 5 = .ok (.ifCond .ge 5, 3) := by decide +kernel
theorem dX0_leastBound_8 : decode cX0_leastBound 8 = .ok (.iconst 0, 1) := by decide +kernel
theorem dX0_leastBound_9 : decode cX0_leastBound 9 = .ok (.ireturn, 1) := by decide +kernel
theorem dX0_leastBound_10 : decode cX0_leastBound 10 = .ok (.iconst 0, 1) := by decide +kernel
theorem dX0_leastBound_11 : decode cX0_leastBound 11 = .ok (.istore_n 2, 1) := by decide +kernel
theorem dX0_leastBound_12 : decode cX0_leastBound 12 = .ok (.iload_n 2, 1) := by decide +kernel
theorem dX0_leastBound_13 : decode cX0_leastBound 13 = .ok (.iconst 4, 1) := by decide +kernel
theorem dX0_leastBound_14 : decode cX0_leastBound 14 = .ok (.if_icmp .ge 32, 3) := by decide +kernel
theorem dX0_leastBound_17 : decode cX0_leastBound 17 = .ok (.iload_n 1, 1) := by decide +kernel
theorem dX0_leastBound_18 : decode cX0_leastBound 18 = .ok (.iconst 1, 1) := by decide +kernel
theorem dX0_leastBound_19 : decode cX0_leastBound 19 = .ok (.iload_n 2, 1) := by decide +kernel
theorem dX0_leastBound_20 : decode cX0_leastBound 20 = .ok (.ishl, 1) := by decide +kernel
theorem dX0_leastBound_21 : decode cX0_leastBound 21 = .ok (.iconst (-1), 1) := by decide +kernel
theorem dX0_leastBound_22 : decode cX0_leastBound 22 = .ok (.ixor, 1) := by decide +kernel
theorem dX0_leastBound_23 : decode cX0_leastBound 23 = .ok (.iand, 1) := by decide +kernel
theorem dX0_leastBound_24 : decode cX0_leastBound 24 = .ok (.istore_n 3, 1) := by decide +kernel
theorem dX0_leastBound_25 : decode cX0_leastBound 25 = .ok (.iload_n 3, 1) := by decide +kernel
theorem dX0_leastBound_26 : decode cX0_leastBound 26 = .ok (.iload_n 1, 1) := by decide +kernel
theorem dX0_leastBound_27 : decode cX0_leastBound 27 = .ok (.if_icmp .eq 13, 3) := by decide +kernel
theorem dX0_leastBound_30 : decode cX0_leastBound 30 = .ok (.aload_n 0, 1) := by decide +kernel
theorem dX0_leastBound_31 : decode cX0_leastBound 31 = .ok (.iload_n 3, 1) := by decide +kernel
theorem dX0_leastBound_32 : decode cX0_leastBound 32 = .ok (.invokevirtual 46, 3) := by decide +kernel
theorem dX0_leastBound_35 : decode cX0_leastBound 35 = .ok (.ifCond .lt 5, 3) := by decide +kernel
theorem dX0_leastBound_38 : decode cX0_leastBound 38 = .ok (.iconst 0, 1) := by decide +kernel
theorem dX0_leastBound_39 : decode cX0_leastBound 39 = .ok (.ireturn, 1) := by decide +kernel
theorem dX0_leastBound_40 : decode cX0_leastBound 40 = .ok (.iinc 2 1, 3) := by decide +kernel
theorem dX0_leastBound_43 : decode cX0_leastBound 43 = .ok (.goto (-31), 3) := by decide +kernel
theorem dX0_leastBound_46 : decode cX0_leastBound 46 = .ok (.iconst 1, 1) := by decide +kernel
theorem dX0_leastBound_47 : decode cX0_leastBound 47 = .ok (.ireturn, 1) := by decide +kernel
abbrev cX0_vanishes : ByteArray := prog_1_method_20_code
def yX0_vanishes : MethodName := ⟨RX0, "vanishes", "(I)Z"⟩
theorem dX0_vanishes_0 : decode cX0_vanishes 0 = .ok (.iconst 0, 1) := by decide +kernel
theorem dX0_vanishes_1 : decode cX0_vanishes 1 = .ok (.istore_n 2, 1) := by decide +kernel
theorem dX0_vanishes_2 : decode cX0_vanishes 2 = .ok (.iload_n 2, 1) := by decide +kernel
theorem dX0_vanishes_3 : decode cX0_vanishes 3 = .ok (.aload_n 0, 1) := by decide +kernel
theorem dX0_vanishes_4 : decode cX0_vanishes 4 = .ok (.getfield 76, 3) := by decide +kernel
theorem dX0_vanishes_7 : decode cX0_vanishes 7 = .ok (.if_icmp .ge 24, 3) := by decide +kernel
theorem dX0_vanishes_10 : decode cX0_vanishes 10 = .ok (.aload_n 0, 1) := by decide +kernel
theorem dX0_vanishes_11 : decode cX0_vanishes 11 = .ok (.getfield 20, 3) := by decide +kernel
theorem dX0_vanishes_14 : decode cX0_vanishes 14 = .ok (.iload_n 2, 1) := by decide +kernel
theorem dX0_vanishes_15 : decode cX0_vanishes 15 = .ok (.iaload, 1) := by decide +kernel
theorem dX0_vanishes_16 : decode cX0_vanishes 16 = .ok (.iload_n 1, 1) := by decide +kernel
theorem dX0_vanishes_17 : decode cX0_vanishes 17 = .ok (.invokestatic 43, 3) := by decide +kernel
theorem dX0_vanishes_20 : decode cX0_vanishes 20 = .ok (.ifCond .eq 5, 3) := by decide +kernel
theorem dX0_vanishes_23 : decode cX0_vanishes 23 = .ok (.iconst 0, 1) := by decide +kernel
theorem dX0_vanishes_24 : decode cX0_vanishes 24 = .ok (.ireturn, 1) := by decide +kernel
theorem dX0_vanishes_25 : decode cX0_vanishes 25 = .ok (.iinc 2 1, 3) := by decide +kernel
theorem dX0_vanishes_28 : decode cX0_vanishes 28 = .ok (.goto (-26), 3) := by decide +kernel
theorem dX0_vanishes_31 : decode cX0_vanishes 31 = .ok (.iconst 1, 1) := by decide +kernel
theorem dX0_vanishes_32 : decode cX0_vanishes 32 = .ok (.ireturn, 1) := by decide +kernel
abbrev cX0_rest : ByteArray := prog_1_method_22_code
def yX0_rest : MethodName := ⟨RX0, "rest", "(I)I"⟩
theorem dX0_rest_0 : decode cX0_rest 0 = .ok (.iload_n 1, 1) := by decide +kernel
theorem dX0_rest_1 : decode cX0_rest 1 = .ok (.invokestatic 28, 3) := by decide +kernel
theorem dX0_rest_4 : decode cX0_rest 4 = .ok (.ifCond .ne 5, 3) := by decide +kernel
theorem dX0_rest_7 : decode cX0_rest 7 = .ok (.iconst (-1), 1) := by decide +kernel
theorem dX0_rest_8 : decode cX0_rest 8 = .ok (.ireturn, 1) := by decide +kernel
theorem dX0_rest_9 : decode cX0_rest 9 = .ok (.aload_n 0, 1) := by decide +kernel
theorem dX0_rest_10 : decode cX0_rest 10 = .ok (.invokevirtual 88, 3) := by decide +kernel
theorem dX0_rest_13 : decode cX0_rest 13 = .ok (.aload_n 0, 1) := by decide +kernel
theorem dX0_rest_14 : decode cX0_rest 14 = .ok (.iload_n 1, 1) := by decide +kernel
theorem dX0_rest_15 : decode cX0_rest 15 = .ok (.invokevirtual 53, 3) := by decide +kernel
theorem dX0_rest_18 : decode cX0_rest 18 = .ok (.ireturn, 1) := by decide +kernel
abbrev cX0_basisSize : ByteArray := prog_1_method_23_code
def yX0_basisSize : MethodName := ⟨RX0, "basisSize", "()I"⟩
theorem dX0_basisSize_0 : decode cX0_basisSize 0 = .ok (.aload_n 0, 1) := by decide +kernel
theorem dX0_basisSize_1 : decode cX0_basisSize 1 = .ok (.invokevirtual 88, 3) := by decide +kernel
theorem dX0_basisSize_4 : decode cX0_basisSize 4 = .ok (.aload_n 0, 1) := by decide +kernel
theorem dX0_basisSize_5 : decode cX0_basisSize 5 = .ok (.getfield 76, 3) := by decide +kernel
theorem dX0_basisSize_8 : decode cX0_basisSize 8 = .ok (.ireturn, 1) := by decide +kernel
abbrev cX0_basisAt : ByteArray := prog_1_method_24_code
def yX0_basisAt : MethodName := ⟨RX0, "basisAt", "(I)I"⟩
theorem dX0_basisAt_0 : decode cX0_basisAt 0 = .ok (.aload_n 0, 1) := by decide +kernel
theorem dX0_basisAt_1 : decode cX0_basisAt 1 = .ok (.invokevirtual 88, 3) := by decide +kernel
theorem dX0_basisAt_4 : decode cX0_basisAt 4 = .ok (.iload_n 1, 1) := by decide +kernel
theorem dX0_basisAt_5 : decode cX0_basisAt 5 = .ok (.ifCond .lt 11, 3) := by decide +kernel
theorem dX0_basisAt_8 : decode cX0_basisAt 8 = .ok (.iload_n 1, 1) := by decide +kernel
theorem dX0_basisAt_9 : decode cX0_basisAt 9 = .ok (.aload_n 0, 1) := by decide +kernel
theorem dX0_basisAt_10 : decode cX0_basisAt 10 = .ok (.getfield 76, 3) := by decide +kernel
theorem dX0_basisAt_13 : decode cX0_basisAt 13 = .ok (.if_icmp .lt 7, 3) := by decide +kernel
theorem dX0_basisAt_16 : decode cX0_basisAt 16 = .ok (.iconst (-1), 1) := by decide +kernel
theorem dX0_basisAt_17 : decode cX0_basisAt 17 = .ok (.goto 9, 3) := by decide +kernel
theorem dX0_basisAt_20 : decode cX0_basisAt 20 = .ok (.aload_n 0, 1) := by decide +kernel
theorem dX0_basisAt_21 : decode cX0_basisAt 21 = .ok (.getfield 20, 3) := by decide +kernel
theorem dX0_basisAt_24 : decode cX0_basisAt 24 = .ok (.iload_n 1, 1) := by decide +kernel
theorem dX0_basisAt_25 : decode cX0_basisAt 25 = .ok (.iaload, 1) := by decide +kernel
theorem dX0_basisAt_26 : decode cX0_basisAt 26 = .ok (.ireturn, 1) := by decide +kernel
abbrev cX0_bound : ByteArray := prog_1_method_25_code
def yX0_bound : MethodName := ⟨RX0, "bound", "()I"⟩
theorem dX0_bound_0 : decode cX0_bound 0 = .ok (.aload_n 0, 1) := by decide +kernel
theorem dX0_bound_1 : decode cX0_bound 1 = .ok (.invokevirtual 88, 3) := by decide +kernel
theorem dX0_bound_4 : decode cX0_bound 4 = .ok (.aload_n 0, 1) := by decide +kernel
theorem dX0_bound_5 : decode cX0_bound 5 = .ok (.getfield 73, 3) := by decide +kernel
theorem dX0_bound_8 : decode cX0_bound 8 = .ok (.ireturn, 1) := by decide +kernel
abbrev cX0_zeros : ByteArray := prog_1_method_26_code
def yX0_zeros : MethodName := ⟨RX0, "zeros", "()I"⟩
theorem dX0_zeros_0 : decode cX0_zeros 0 = .ok (.aload_n 0, 1) := by decide +kernel
theorem dX0_zeros_1 : decode cX0_zeros 1 = .ok (.invokevirtual 88, 3) := by decide +kernel
theorem dX0_zeros_4 : decode cX0_zeros 4 = .ok (.aload_n 0, 1) := by decide +kernel
theorem dX0_zeros_5 : decode cX0_zeros 5 = .ok (.getfield 82, 3) := by decide +kernel
theorem dX0_zeros_8 : decode cX0_zeros 8 = .ok (.ireturn, 1) := by decide +kernel
abbrev cX0_zeroCount : ByteArray := prog_1_method_27_code
def yX0_zeroCount : MethodName := ⟨RX0, "zeroCount", "()I"⟩
theorem dX0_zeroCount_0 : decode cX0_zeroCount 0 = .ok (.aload_n 0, 1) := by decide +kernel
theorem dX0_zeroCount_1 : decode cX0_zeroCount 1 = .ok (.invokevirtual 88, 3) := by decide +kernel
theorem dX0_zeroCount_4 : decode cX0_zeroCount 4 = .ok (.iconst 0, 1) := by decide +kernel
theorem dX0_zeroCount_5 : decode cX0_zeroCount 5 = .ok (.istore_n 1, 1) := by decide +kernel
theorem dX0_zeroCount_6 : decode cX0_zeroCount 6 = .ok (.iconst 0, 1) := by decide +kernel
theorem dX0_zeroCount_7 : decode cX0_zeroCount 7 = .ok (.istore_n 2, 1) := by decide +kernel
theorem dX0_zeroCount_8 : decode cX0_zeroCount 8 = .ok (.iload_n 2, 1) := by decide +kernel
theorem dX0_zeroCount_9 : decode cX0_zeroCount 9 = .ok (.bipush 16, 2) := by decide +kernel
theorem dX0_zeroCount_11 : decode cX0_zeroCount 11 = .ok (.if_icmp .ge 20, 3) := by decide +kernel
theorem dX0_zeroCount_14 : decode cX0_zeroCount 14 = .ok (.iload_n 1, 1) := by decide +kernel
theorem dX0_zeroCount_15 : decode cX0_zeroCount 15 = .ok (.aload_n 0, 1) := by decide +kernel
theorem dX0_zeroCount_16 : decode cX0_zeroCount 16 = .ok (.getfield 82, 3) := by decide +kernel
theorem dX0_zeroCount_19 : decode cX0_zeroCount 19 = .ok (.iload_n 2, 1) := by decide +kernel
theorem dX0_zeroCount_20 : decode cX0_zeroCount 20 = .ok (.ishr, 1) := by decide +kernel
theorem dX0_zeroCount_21 : decode cX0_zeroCount 21 = .ok (.iconst 1, 1) := by decide +kernel
theorem dX0_zeroCount_22 : decode cX0_zeroCount 22 = .ok (.iand, 1) := by decide +kernel
theorem dX0_zeroCount_23 : decode cX0_zeroCount 23 = .ok (.iadd, 1) := by decide +kernel
theorem dX0_zeroCount_24 : decode cX0_zeroCount 24 = .ok (.istore_n 1, 1) := by decide +kernel
theorem dX0_zeroCount_25 : decode cX0_zeroCount 25 = .ok (.iinc 2 1, 3) := by decide +kernel
theorem dX0_zeroCount_28 : decode cX0_zeroCount 28 = .ok (.goto (-20), 3) := by decide +kernel
theorem dX0_zeroCount_31 : decode cX0_zeroCount 31 = .ok (.iload_n 1, 1) := by decide +kernel
theorem dX0_zeroCount_32 : decode cX0_zeroCount 32 = .ok (.ireturn, 1) := by decide +kernel
abbrev cX0_values : ByteArray := prog_1_method_28_code
def yX0_values : MethodName := ⟨RX0, "values", "(I)I"⟩
theorem dX0_values_0 : decode cX0_values 0 = .ok (.iload_n 1, 1) := by decide +kernel
theorem dX0_values_1 : decode cX0_values 1 = .ok (.ifCond .lt 8, 3) := by decide +kernel
theorem dX0_values_4 : decode cX0_values 4 = .ok (.iload_n 1, 1) := by decide +kernel
theorem dX0_values_5 : decode cX0_values 5 = .ok (.iconst 3, 1) := by decide +kernel
theorem dX0_values_6 : decode cX0_values 6 = .ok (.if_icmp .le 5, 3) := by decide +kernel
theorem dX0_values_9 : decode cX0_values 9 = .ok (.iconst 0, 1) := by decide +kernel
theorem dX0_values_10 : decode cX0_values 10 = .ok (.ireturn, 1) := by decide +kernel
theorem dX0_values_11 : decode cX0_values 11 = .ok (.aload_n 0, 1) := by decide +kernel
theorem dX0_values_12 : decode cX0_values 12 = .ok (.invokevirtual 88, 3) := by decide +kernel
theorem dX0_values_15 : decode cX0_values 15 = .ok (.iconst 0, 1) := by decide +kernel
theorem dX0_values_16 : decode cX0_values 16 = .ok (.istore_n 2, 1) := by decide +kernel
theorem dX0_values_17 : decode cX0_values 17 = .ok (.iconst 0, 1) := by decide +kernel
theorem dX0_values_18 : decode cX0_values 18 = .ok (.istore_n 3, 1) := by decide +kernel
theorem dX0_values_19 : decode cX0_values 19 = .ok (.iload_n 3, 1) := by decide +kernel
theorem dX0_values_20 : decode cX0_values 20 = .ok (.bipush 16, 2) := by decide +kernel
theorem dX0_values_22 : decode cX0_values 22 = .ok (.if_icmp .ge 30, 3) := by decide +kernel
theorem dX0_values_25 : decode cX0_values 25 = .ok (.aload_n 0, 1) := by decide +kernel
theorem dX0_values_26 : decode cX0_values 26 = .ok (.getfield 82, 3) := by decide +kernel
theorem dX0_values_29 : decode cX0_values 29 = .ok (.iload_n 3, 1) := by decide +kernel
theorem dX0_values_30 : decode cX0_values 30 = .ok (.ishr, 1) := by decide +kernel
theorem dX0_values_31 : decode cX0_values 31 = .ok (.iconst 1, 1) := by decide +kernel
theorem dX0_values_32 : decode cX0_values 32 = .ok (.iand, 1) := by decide +kernel
theorem dX0_values_33 : decode cX0_values 33 = .ok (.ifCond .eq 13, 3) := by decide +kernel
theorem dX0_values_36 : decode cX0_values 36 = .ok (.iload_n 2, 1) := by decide +kernel
theorem dX0_values_37 : decode cX0_values 37 = .ok (.iconst 1, 1) := by decide +kernel
theorem dX0_values_38 : decode cX0_values 38 = .ok (.iload_n 3, 1) := by decide +kernel
theorem dX0_values_39 : decode cX0_values 39 = .ok (.iload_n 1, 1) := by decide +kernel
theorem dX0_values_40 : decode cX0_values 40 = .ok (.ishr, 1) := by decide +kernel
theorem dX0_values_41 : decode cX0_values 41 = .ok (.iconst 1, 1) := by decide +kernel
theorem dX0_values_42 : decode cX0_values 42 = .ok (.iand, 1) := by decide +kernel
theorem dX0_values_43 : decode cX0_values 43 = .ok (.ishl, 1) := by decide +kernel
theorem dX0_values_44 : decode cX0_values 44 = .ok (.ior, 1) := by decide +kernel
theorem dX0_values_45 : decode cX0_values 45 = .ok (.istore_n 2, 1) := by decide +kernel
theorem dX0_values_46 : decode cX0_values 46 = .ok (.iinc 3 1, 3) := by decide +kernel
theorem dX0_values_49 : decode cX0_values 49 = .ok (.goto (-30), 3) := by decide +kernel
theorem dX0_values_52 : decode cX0_values 52 = .ok (.iload_n 2, 1) := by decide +kernel
theorem dX0_values_53 : decode cX0_values 53 = .ok (.ireturn, 1) := by decide +kernel
abbrev cX0_redundant : ByteArray := prog_1_method_29_code
def yX0_redundant : MethodName := ⟨RX0, "redundant", "(I)Z"⟩
theorem dX0_redundant_0 : decode cX0_redundant 0 = .ok (.aload_n 0, 1) := by decide +kernel
theorem dX0_redundant_1 : decode cX0_redundant 1 = .ok (.iload_n 1, 1) := by decide +kernel
theorem dX0_redundant_2 : decode cX0_redundant 2 = .ok (.invokevirtual 32, 3) := by decide +kernel
theorem dX0_redundant_5 : decode cX0_redundant 5 = .ok (.ifCond .ne 5, 3) := by decide +kernel
theorem dX0_redundant_8 : decode cX0_redundant 8 = .ok (.iconst 0, 1) := by decide +kernel
theorem dX0_redundant_9 : decode cX0_redundant 9 = .ok (.ireturn, 1) := by decide +kernel
theorem dX0_redundant_10 : decode cX0_redundant 10 = .ok (.aload_n 0, 1) := by decide +kernel
theorem dX0_redundant_11 : decode cX0_redundant 11 = .ok (.iconst 0, 1) := by decide +kernel
theorem dX0_redundant_12 : decode cX0_redundant 12 = .ok (.putfield 35, 3) := by decide +kernel
theorem dX0_redundant_15 : decode cX0_redundant 15 = .ok (.aload_n 0, 1) := by decide +kernel
theorem dX0_redundant_16 : decode cX0_redundant 16 = .ok (.aload_n 0, 1) := by decide +kernel
theorem dX0_redundant_17 : decode cX0_redundant 17 = .ok (.getfield 24, 3) := by decide +kernel
theorem dX0_redundant_20 : decode cX0_redundant 20 = .ok (.iconst 1, 1) := by decide +kernel
theorem dX0_redundant_21 : decode cX0_redundant 21 = .ok (.iload_n 1, 1) := by decide +kernel
theorem dX0_redundant_22 : decode cX0_redundant 22 = .ok (.ishl, 1) := by decide +kernel
theorem dX0_redundant_23 : decode cX0_redundant 23 = .ok (.iconst (-1), 1) := by decide +kernel
theorem dX0_redundant_24 : decode cX0_redundant 24 = .ok (.ixor, 1) := by decide +kernel
theorem dX0_redundant_25 : decode cX0_redundant 25 = .ok (.iand, 1) := by decide +kernel
theorem dX0_redundant_26 : decode cX0_redundant 26 = .ok (.invokevirtual 70, 3) := by decide +kernel
theorem dX0_redundant_29 : decode cX0_redundant 29 = .ok (.aload_n 0, 1) := by decide +kernel
theorem dX0_redundant_30 : decode cX0_redundant 30 = .ok (.aload_n 0, 1) := by decide +kernel
theorem dX0_redundant_31 : decode cX0_redundant 31 = .ok (.getfield 7, 3) := by decide +kernel
theorem dX0_redundant_34 : decode cX0_redundant 34 = .ok (.iload_n 1, 1) := by decide +kernel
theorem dX0_redundant_35 : decode cX0_redundant 35 = .ok (.iaload, 1) := by decide +kernel
theorem dX0_redundant_36 : decode cX0_redundant 36 = .ok (.invokevirtual 53, 3) := by decide +kernel
theorem dX0_redundant_39 : decode cX0_redundant 39 = .ok (.ifCond .ne 7, 3) := by decide +kernel
theorem dX0_redundant_42 : decode cX0_redundant 42 = .ok (.iconst 1, 1) := by decide +kernel
theorem dX0_redundant_43 : decode cX0_redundant 43 = .ok (.goto 4, 3) := by decide +kernel
theorem dX0_redundant_46 : decode cX0_redundant 46 = .ok (.iconst 0, 1) := by decide +kernel
theorem dX0_redundant_47 : decode cX0_redundant 47 = .ok (.ireturn, 1) := by decide +kernel
abbrev cX0_relates : ByteArray := prog_1_method_30_code
def yX0_relates : MethodName := ⟨RX0, "relates", "(I)Z"⟩
theorem dX0_relates_0 : decode cX0_relates 0 = .ok (.iload_n 1, 1) := by decide +kernel
theorem dX0_relates_1 : decode cX0_relates 1 = .ok (.ifCond .lt 9, 3) := by decide +kernel
theorem dX0_relates_4 : decode cX0_relates 4 = .ok (.iload_n 1, 1) := by decide +kernel
theorem dX0_relates_5 : decode cX0_relates 5 = .ok (.bipush 16, 2) := by decide +kernel
theorem dX0_relates_7 : decode cX0_relates 7 = .ok (.if_icmp .lt 5, 3) := by decide +kernel
theorem dX0_relates_10 : decode cX0_relates 10 = .ok (.iconst 0, 1) := by decide +kernel
theorem dX0_relates_11 : decode cX0_relates 11 = .ok (.ireturn, 1) := by decide +kernel
theorem dX0_relates_12 : decode cX0_relates 12 = .ok (.aload_n 0, 1) := by decide +kernel
theorem dX0_relates_13 : decode cX0_relates 13 = .ok (.invokevirtual 88, 3) := by decide +kernel
theorem dX0_relates_16 : decode cX0_relates 16 = .ok (.iconst 0, 1) := by decide +kernel
theorem dX0_relates_17 : decode cX0_relates 17 = .ok (.istore_n 2, 1) := by decide +kernel
theorem dX0_relates_18 : decode cX0_relates 18 = .ok (.iconst 0, 1) := by decide +kernel
theorem dX0_relates_19 : decode cX0_relates 19 = .ok (.istore_n 3, 1) := by decide +kernel
theorem dX0_relates_20 : decode cX0_relates 20 = .ok (.iload_n 3, 1) := by decide +kernel
theorem dX0_relates_21 : decode cX0_relates 21 = .ok (.bipush 16, 2) := by decide +kernel
theorem dX0_relates_23 : decode cX0_relates 23 = .ok (.if_icmp .ge 28, 3) := by decide +kernel
theorem dX0_relates_26 : decode cX0_relates 26 = .ok (.aload_n 0, 1) := by decide +kernel
theorem dX0_relates_27 : decode cX0_relates 27 = .ok (.getfield 82, 3) := by decide +kernel
theorem dX0_relates_30 : decode cX0_relates 30 = .ok (.iload_n 3, 1) := by decide +kernel
theorem dX0_relates_31 : decode cX0_relates 31 = .ok (.ishr, 1) := by decide +kernel
theorem dX0_relates_32 : decode cX0_relates 32 = .ok (.iconst 1, 1) := by decide +kernel
theorem dX0_relates_33 : decode cX0_relates 33 = .ok (.iand, 1) := by decide +kernel
theorem dX0_relates_34 : decode cX0_relates 34 = .ok (.ifCond .eq 11, 3) := by decide +kernel
theorem dX0_relates_37 : decode cX0_relates 37 = .ok (.iload_n 2, 1) := by decide +kernel
theorem dX0_relates_38 : decode cX0_relates 38 = .ok (.iconst 1, 1) := by decide +kernel
theorem dX0_relates_39 : decode cX0_relates 39 = .ok (.iload_n 3, 1) := by decide +kernel
theorem dX0_relates_40 : decode cX0_relates 40 = .ok (.iload_n 1, 1) := by decide +kernel
theorem dX0_relates_41 : decode cX0_relates 41 = .ok (.iand, 1) := by decide +kernel
theorem dX0_relates_42 : decode cX0_relates 42 = .ok (.ishl, 1) := by decide +kernel
theorem dX0_relates_43 : decode cX0_relates 43 = .ok (.ior, 1) := by decide +kernel
theorem dX0_relates_44 : decode cX0_relates 44 = .ok (.istore_n 2, 1) := by decide +kernel
theorem dX0_relates_45 : decode cX0_relates 45 = .ok (.iinc 3 1, 3) := by decide +kernel
theorem dX0_relates_48 : decode cX0_relates 48 = .ok (.goto (-28), 3) := by decide +kernel
theorem dX0_relates_51 : decode cX0_relates 51 = .ok (.iconst 0, 1) := by decide +kernel
theorem dX0_relates_52 : decode cX0_relates 52 = .ok (.istore_n 3, 1) := by decide +kernel
theorem dX0_relates_53 : decode cX0_relates 53 = .ok (.iload_n 3, 1) := by decide +kernel
theorem dX0_relates_54 : decode cX0_relates 54 = .ok (.bipush 16, 2) := by decide +kernel
theorem dX0_relates_56 : decode cX0_relates 56 = .ok (.if_icmp .ge 27, 3) := by decide +kernel
theorem dX0_relates_59 : decode cX0_relates 59 = .ok (.iload_n 3, 1) := by decide +kernel
theorem dX0_relates_60 : decode cX0_relates 60 = .ok (.iload_n 1, 1) := by decide +kernel
theorem dX0_relates_61 : decode cX0_relates 61 = .ok (.iconst (-1), 1) := by decide +kernel
theorem dX0_relates_62 : decode cX0_relates 62 = .ok (.ixor, 1) := by decide +kernel
theorem dX0_relates_63 : decode cX0_relates 63 = .ok (.iand, 1) := by decide +kernel
theorem dX0_relates_64 : decode cX0_relates 64 = .ok (.ifCond .ne 13, 3) := by decide +kernel
theorem dX0_relates_67 : decode cX0_relates 67 = .ok (.iload_n 2, 1) := by decide +kernel
theorem dX0_relates_68 : decode cX0_relates 68 = .ok (.iload_n 3, 1) := by decide +kernel
theorem dX0_relates_69 : decode cX0_relates 69 = .ok (.ishr, 1) := by decide +kernel
theorem dX0_relates_70 : decode cX0_relates 70 = .ok (.iconst 1, 1) := by decide +kernel
theorem dX0_relates_71 : decode cX0_relates 71 = .ok (.iand, 1) := by decide +kernel
theorem dX0_relates_72 : decode cX0_relates 72 = .ok (.ifCond .ne 5, 3) := by decide +kernel
theorem dX0_relates_75 : decode cX0_relates 75 = .ok (.iconst 1, 1) := by decide +kernel
theorem dX0_relates_76 : decode cX0_relates 76 = .ok (.ireturn, 1) := by decide +kernel
theorem dX0_relates_77 : decode cX0_relates 77 = .ok (.iinc 3 1, 3) := by decide +kernel
theorem dX0_relates_80 : decode cX0_relates 80 = .ok (.goto (-27), 3) := by decide +kernel
theorem dX0_relates_83 : decode cX0_relates 83 = .ok (.iconst 0, 1) := by decide +kernel
theorem dX0_relates_84 : decode cX0_relates 84 = .ok (.ireturn, 1) := by decide +kernel
theorem q17 : (Jvm.Cond.initialized "BooleanBasis") ∈ lw_all := lw_g (lw_at lw_m1 1 rfl) rfl
theorem q20 : (Jvm.Cond.instantiable "BooleanBasis" (10 : Nat)) ∈ lw_all := lw_g (lw_at lw_m1 4 rfl) rfl
theorem q22 : (Jvm.Cond.instanceMethod ({ cls := "BooleanBasis", name := "<init>", desc := "()V" } : Jvm.MethodName)) ∈ lw_all := lw_g (lw_at lw_m1 6 rfl) rfl
theorem q23 : (Jvm.Cond.code ({ cls := "BooleanBasis", name := "<init>", desc := "()V" } : Jvm.MethodName) prog_1_method_1_code (1 : Nat) (Option.none : Option Jvm.ClassFile.FieldType)) ∈ lw_all := lw_g (lw_at lw_m1 7 rfl) rfl
theorem q24 : (Jvm.Cond.methodLink "BooleanBasis" (1 : Nat) ({ cls := "java/lang/Object", name := "<init>", desc := "()V" } : Jvm.MethodName)) ∈ lw_all := lw_g (lw_at lw_m1 8 rfl) rfl
theorem q27 : (Jvm.Cond.fieldLink "BooleanBasis" (24 : Nat) "BooleanBasis" "present" "I") ∈ lw_all := lw_g (lw_at lw_m1 11 rfl) rfl
theorem q28 : (Jvm.Cond.fieldLink "BooleanBasis" (7 : Nat) "BooleanBasis" "given" "[I") ∈ lw_all := lw_g (lw_at lw_m1 12 rfl) rfl
theorem q29 : (Jvm.Cond.fieldLink "BooleanBasis" (35 : Nat) "BooleanBasis" "known" "Z") ∈ lw_all := lw_g (lw_at lw_m1 13 rfl) rfl
theorem q30 : (Jvm.Cond.fieldLink "BooleanBasis" (50 : Nat) "BooleanBasis" "size" "I") ∈ lw_all := lw_g (lw_at lw_m1 14 rfl) rfl
theorem q31 : (Jvm.Cond.fieldLink "BooleanBasis" (13 : Nat) "BooleanBasis" "polys" "[I") ∈ lw_all := lw_g (lw_at lw_m1 15 rfl) rfl
theorem q32 : (Jvm.Cond.fieldLink "BooleanBasis" (16 : Nat) "BooleanBasis" "heads" "[B") ∈ lw_all := lw_g (lw_at lw_m1 16 rfl) rfl
theorem q33 : (Jvm.Cond.fieldLink "BooleanBasis" (76 : Nat) "BooleanBasis" "basisCount" "I") ∈ lw_all := lw_g (lw_at lw_m1 17 rfl) rfl
theorem q34 : (Jvm.Cond.fieldLink "BooleanBasis" (20 : Nat) "BooleanBasis" "basis" "[I") ∈ lw_all := lw_g (lw_at lw_m1 18 rfl) rfl
theorem q35 : (Jvm.Cond.fieldLink "BooleanBasis" (73 : Nat) "BooleanBasis" "boundSet" "I") ∈ lw_all := lw_g (lw_at lw_m1 19 rfl) rfl
theorem q36 : (Jvm.Cond.fieldLink "BooleanBasis" (82 : Nat) "BooleanBasis" "zeroSet" "I") ∈ lw_all := lw_g (lw_at lw_m1 20 rfl) rfl
theorem q37 : (Jvm.Cond.lays "BooleanBasis" "BooleanBasis" "present" "I") ∈ lw_all := lw_g (lw_at lw_m1 21 rfl) rfl
theorem q38 : (Jvm.Cond.soleField "BooleanBasis" "present") ∈ lw_all := lw_g (lw_at lw_m1 22 rfl) rfl
theorem q39 : (Jvm.Cond.laysFinal "BooleanBasis" "BooleanBasis" "given" "[I") ∈ lw_all := lw_g (lw_at lw_m1 23 rfl) rfl
theorem q40 : (Jvm.Cond.soleField "BooleanBasis" "given") ∈ lw_all := lw_g (lw_at lw_m1 24 rfl) rfl
theorem q41 : (Jvm.Cond.lays "BooleanBasis" "BooleanBasis" "known" "Z") ∈ lw_all := lw_g (lw_at lw_m1 25 rfl) rfl
theorem q42 : (Jvm.Cond.soleField "BooleanBasis" "known") ∈ lw_all := lw_g (lw_at lw_m1 26 rfl) rfl
theorem q43 : (Jvm.Cond.lays "BooleanBasis" "BooleanBasis" "size" "I") ∈ lw_all := lw_g (lw_at lw_m1 27 rfl) rfl
theorem q44 : (Jvm.Cond.soleField "BooleanBasis" "size") ∈ lw_all := lw_g (lw_at lw_m1 28 rfl) rfl
theorem q45 : (Jvm.Cond.laysFinal "BooleanBasis" "BooleanBasis" "polys" "[I") ∈ lw_all := lw_g (lw_at lw_m1 29 rfl) rfl
theorem q46 : (Jvm.Cond.soleField "BooleanBasis" "polys") ∈ lw_all := lw_g (lw_at lw_m1 30 rfl) rfl
theorem q47 : (Jvm.Cond.laysFinal "BooleanBasis" "BooleanBasis" "heads" "[B") ∈ lw_all := lw_g (lw_at lw_m1 31 rfl) rfl
theorem q48 : (Jvm.Cond.soleField "BooleanBasis" "heads") ∈ lw_all := lw_g (lw_at lw_m1 32 rfl) rfl
theorem q49 : (Jvm.Cond.lays "BooleanBasis" "BooleanBasis" "basisCount" "I") ∈ lw_all := lw_g (lw_at lw_m1 33 rfl) rfl
theorem q50 : (Jvm.Cond.soleField "BooleanBasis" "basisCount") ∈ lw_all := lw_g (lw_at lw_m1 34 rfl) rfl
theorem q51 : (Jvm.Cond.laysFinal "BooleanBasis" "BooleanBasis" "basis" "[I") ∈ lw_all := lw_g (lw_at lw_m1 35 rfl) rfl
theorem q52 : (Jvm.Cond.soleField "BooleanBasis" "basis") ∈ lw_all := lw_g (lw_at lw_m1 36 rfl) rfl
theorem q53 : (Jvm.Cond.lays "BooleanBasis" "BooleanBasis" "boundSet" "I") ∈ lw_all := lw_g (lw_at lw_m1 37 rfl) rfl
theorem q54 : (Jvm.Cond.soleField "BooleanBasis" "boundSet") ∈ lw_all := lw_g (lw_at lw_m1 38 rfl) rfl
theorem q55 : (Jvm.Cond.lays "BooleanBasis" "BooleanBasis" "zeroSet" "I") ∈ lw_all := lw_g (lw_at lw_m1 39 rfl) rfl
theorem q56 : (Jvm.Cond.soleField "BooleanBasis" "zeroSet") ∈ lw_all := lw_g (lw_at lw_m1 40 rfl) rfl
theorem q57 : (Jvm.Cond.superclass "BooleanBasis" "java/lang/Object") ∈ lw_all := lw_g (lw_at lw_m1 41 rfl) rfl
theorem q61 : (Jvm.Cond.instanceMethod ({ cls := "BooleanBasis", name := "add", desc := "(I)I" } : Jvm.MethodName)) ∈ lw_all := lw_g (lw_at lw_m1 45 rfl) rfl
theorem q62 : (Jvm.Cond.selects "BooleanBasis" ({ cls := "BooleanBasis", name := "add", desc := "(I)I" } : Jvm.MethodName) ({ cls := "BooleanBasis", name := "add", desc := "(I)I" } : Jvm.MethodName)) ∈ lw_all := lw_g (lw_at lw_m1 46 rfl) rfl
theorem q63 : (Jvm.Cond.code ({ cls := "BooleanBasis", name := "add", desc := "(I)I" } : Jvm.MethodName) prog_1_method_4_code (3 : Nat) (Option.some Jvm.ClassFile.FieldType.int)) ∈ lw_all := lw_g (lw_at lw_m1 47 rfl) rfl
theorem q64 : (Jvm.Cond.methodLink "BooleanBasis" (28 : Nat) ({ cls := "BooleanBasis", name := "isPolynomial", desc := "(I)Z" } : Jvm.MethodName)) ∈ lw_all := lw_g (lw_at lw_m1 48 rfl) rfl
theorem q65 : (Jvm.Cond.static ({ cls := "BooleanBasis", name := "isPolynomial", desc := "(I)Z" } : Jvm.MethodName)) ∈ lw_all := lw_g (lw_at lw_m1 49 rfl) rfl
theorem q66 : (Jvm.Cond.code ({ cls := "BooleanBasis", name := "isPolynomial", desc := "(I)Z" } : Jvm.MethodName) prog_1_method_2_code (1 : Nat) (Option.some Jvm.ClassFile.FieldType.boolean)) ∈ lw_all := lw_g (lw_at lw_m1 50 rfl) rfl
theorem q67 : (Jvm.Cond.constant "BooleanBasis" (23 : Nat) (65535 : Int32)) ∈ lw_all := lw_g (lw_at lw_m1 51 rfl) rfl
theorem q68 : (Jvm.Cond.methodLink "BooleanBasis" (32 : Nat) ({ cls := "BooleanBasis", name := "has", desc := "(I)Z" } : Jvm.MethodName)) ∈ lw_all := lw_g (lw_at lw_m1 52 rfl) rfl
theorem q69 : (Jvm.Cond.privateMethod ({ cls := "BooleanBasis", name := "has", desc := "(I)Z" } : Jvm.MethodName)) ∈ lw_tbl := lw_at lw_m1 53 rfl
theorem q70 : (Jvm.Cond.instanceMethod ({ cls := "BooleanBasis", name := "has", desc := "(I)Z" } : Jvm.MethodName)) ∈ lw_all := lw_g (lw_at lw_m1 54 rfl) rfl
theorem q71 : (Jvm.Cond.code ({ cls := "BooleanBasis", name := "has", desc := "(I)Z" } : Jvm.MethodName) prog_1_method_3_code (2 : Nat) (Option.some Jvm.ClassFile.FieldType.boolean)) ∈ lw_all := lw_g (lw_at lw_m1 55 rfl) rfl
theorem q73 : (Jvm.Cond.instanceMethod ({ cls := "BooleanBasis", name := "remove", desc := "(I)Z" } : Jvm.MethodName)) ∈ lw_all := lw_g (lw_at lw_m1 57 rfl) rfl
theorem q74 : (Jvm.Cond.selects "BooleanBasis" ({ cls := "BooleanBasis", name := "remove", desc := "(I)Z" } : Jvm.MethodName) ({ cls := "BooleanBasis", name := "remove", desc := "(I)Z" } : Jvm.MethodName)) ∈ lw_all := lw_g (lw_at lw_m1 58 rfl) rfl
theorem q75 : (Jvm.Cond.code ({ cls := "BooleanBasis", name := "remove", desc := "(I)Z" } : Jvm.MethodName) prog_1_method_5_code (2 : Nat) (Option.some Jvm.ClassFile.FieldType.boolean)) ∈ lw_all := lw_g (lw_at lw_m1 59 rfl) rfl
theorem q77 : (Jvm.Cond.instanceMethod ({ cls := "BooleanBasis", name := "generators", desc := "()I" } : Jvm.MethodName)) ∈ lw_all := lw_g (lw_at lw_m1 61 rfl) rfl
theorem q78 : (Jvm.Cond.selects "BooleanBasis" ({ cls := "BooleanBasis", name := "generators", desc := "()I" } : Jvm.MethodName) ({ cls := "BooleanBasis", name := "generators", desc := "()I" } : Jvm.MethodName)) ∈ lw_all := lw_g (lw_at lw_m1 62 rfl) rfl
theorem q79 : (Jvm.Cond.code ({ cls := "BooleanBasis", name := "generators", desc := "()I" } : Jvm.MethodName) prog_1_method_6_code (1 : Nat) (Option.some Jvm.ClassFile.FieldType.int)) ∈ lw_all := lw_g (lw_at lw_m1 63 rfl) rfl
theorem q81 : (Jvm.Cond.instanceMethod ({ cls := "BooleanBasis", name := "product", desc := "(II)I" } : Jvm.MethodName)) ∈ lw_all := lw_g (lw_at lw_m1 65 rfl) rfl
theorem q82 : (Jvm.Cond.selects "BooleanBasis" ({ cls := "BooleanBasis", name := "product", desc := "(II)I" } : Jvm.MethodName) ({ cls := "BooleanBasis", name := "product", desc := "(II)I" } : Jvm.MethodName)) ∈ lw_all := lw_g (lw_at lw_m1 66 rfl) rfl
theorem q83 : (Jvm.Cond.code ({ cls := "BooleanBasis", name := "product", desc := "(II)I" } : Jvm.MethodName) prog_1_method_8_code (5 : Nat) (Option.some Jvm.ClassFile.FieldType.int)) ∈ lw_all := lw_g (lw_at lw_m1 67 rfl) rfl
theorem q84 : (Jvm.Cond.methodLink "BooleanBasis" (39 : Nat) ({ cls := "BooleanBasis", name := "times", desc := "(II)I" } : Jvm.MethodName)) ∈ lw_all := lw_g (lw_at lw_m1 68 rfl) rfl
theorem q85 : (Jvm.Cond.static ({ cls := "BooleanBasis", name := "times", desc := "(II)I" } : Jvm.MethodName)) ∈ lw_all := lw_g (lw_at lw_m1 69 rfl) rfl
theorem q86 : (Jvm.Cond.code ({ cls := "BooleanBasis", name := "times", desc := "(II)I" } : Jvm.MethodName) prog_1_method_7_code (4 : Nat) (Option.some Jvm.ClassFile.FieldType.int)) ∈ lw_all := lw_g (lw_at lw_m1 70 rfl) rfl
theorem q88 : (Jvm.Cond.instanceMethod ({ cls := "BooleanBasis", name := "value", desc := "(II)I" } : Jvm.MethodName)) ∈ lw_all := lw_g (lw_at lw_m1 72 rfl) rfl
theorem q89 : (Jvm.Cond.selects "BooleanBasis" ({ cls := "BooleanBasis", name := "value", desc := "(II)I" } : Jvm.MethodName) ({ cls := "BooleanBasis", name := "value", desc := "(II)I" } : Jvm.MethodName)) ∈ lw_all := lw_g (lw_at lw_m1 73 rfl) rfl
theorem q90 : (Jvm.Cond.code ({ cls := "BooleanBasis", name := "value", desc := "(II)I" } : Jvm.MethodName) prog_1_method_10_code (3 : Nat) (Option.some Jvm.ClassFile.FieldType.int)) ∈ lw_all := lw_g (lw_at lw_m1 74 rfl) rfl
theorem q91 : (Jvm.Cond.methodLink "BooleanBasis" (43 : Nat) ({ cls := "BooleanBasis", name := "valueAt", desc := "(II)I" } : Jvm.MethodName)) ∈ lw_all := lw_g (lw_at lw_m1 75 rfl) rfl
theorem q92 : (Jvm.Cond.static ({ cls := "BooleanBasis", name := "valueAt", desc := "(II)I" } : Jvm.MethodName)) ∈ lw_all := lw_g (lw_at lw_m1 76 rfl) rfl
theorem q93 : (Jvm.Cond.code ({ cls := "BooleanBasis", name := "valueAt", desc := "(II)I" } : Jvm.MethodName) prog_1_method_9_code (4 : Nat) (Option.some Jvm.ClassFile.FieldType.int)) ∈ lw_all := lw_g (lw_at lw_m1 77 rfl) rfl
theorem q95 : (Jvm.Cond.instanceMethod ({ cls := "BooleanBasis", name := "contains", desc := "(I)Z" } : Jvm.MethodName)) ∈ lw_all := lw_g (lw_at lw_m1 79 rfl) rfl
theorem q96 : (Jvm.Cond.selects "BooleanBasis" ({ cls := "BooleanBasis", name := "contains", desc := "(I)Z" } : Jvm.MethodName) ({ cls := "BooleanBasis", name := "contains", desc := "(I)Z" } : Jvm.MethodName)) ∈ lw_all := lw_g (lw_at lw_m1 80 rfl) rfl
theorem q97 : (Jvm.Cond.code ({ cls := "BooleanBasis", name := "contains", desc := "(I)Z" } : Jvm.MethodName) prog_1_method_21_code (2 : Nat) (Option.some Jvm.ClassFile.FieldType.boolean)) ∈ lw_all := lw_g (lw_at lw_m1 81 rfl) rfl
theorem q98 : (Jvm.Cond.methodLink "BooleanBasis" (88 : Nat) ({ cls := "BooleanBasis", name := "learn", desc := "()V" } : Jvm.MethodName)) ∈ lw_all := lw_g (lw_at lw_m1 82 rfl) rfl
theorem q99 : (Jvm.Cond.privateMethod ({ cls := "BooleanBasis", name := "learn", desc := "()V" } : Jvm.MethodName)) ∈ lw_tbl := lw_at lw_m1 83 rfl
theorem q100 : (Jvm.Cond.instanceMethod ({ cls := "BooleanBasis", name := "learn", desc := "()V" } : Jvm.MethodName)) ∈ lw_all := lw_g (lw_at lw_m1 84 rfl) rfl
theorem q101 : (Jvm.Cond.code ({ cls := "BooleanBasis", name := "learn", desc := "()V" } : Jvm.MethodName) prog_1_method_18_code (2 : Nat) (Option.none : Option Jvm.ClassFile.FieldType)) ∈ lw_all := lw_g (lw_at lw_m1 85 rfl) rfl
theorem q102 : (Jvm.Cond.methodLink "BooleanBasis" (70 : Nat) ({ cls := "BooleanBasis", name := "complete", desc := "(I)V" } : Jvm.MethodName)) ∈ lw_all := lw_g (lw_at lw_m1 86 rfl) rfl
theorem q103 : (Jvm.Cond.privateMethod ({ cls := "BooleanBasis", name := "complete", desc := "(I)V" } : Jvm.MethodName)) ∈ lw_tbl := lw_at lw_m1 87 rfl
theorem q104 : (Jvm.Cond.instanceMethod ({ cls := "BooleanBasis", name := "complete", desc := "(I)V" } : Jvm.MethodName)) ∈ lw_all := lw_g (lw_at lw_m1 88 rfl) rfl
theorem q105 : (Jvm.Cond.code ({ cls := "BooleanBasis", name := "complete", desc := "(I)V" } : Jvm.MethodName) prog_1_method_15_code (4 : Nat) (Option.none : Option Jvm.ClassFile.FieldType)) ∈ lw_all := lw_g (lw_at lw_m1 89 rfl) rfl
theorem q106 : (Jvm.Cond.methodLink "BooleanBasis" (59 : Nat) ({ cls := "BooleanBasis", name := "takeIn", desc := "(I)Z" } : Jvm.MethodName)) ∈ lw_all := lw_g (lw_at lw_m1 90 rfl) rfl
theorem q107 : (Jvm.Cond.privateMethod ({ cls := "BooleanBasis", name := "takeIn", desc := "(I)Z" } : Jvm.MethodName)) ∈ lw_tbl := lw_at lw_m1 91 rfl
theorem q108 : (Jvm.Cond.instanceMethod ({ cls := "BooleanBasis", name := "takeIn", desc := "(I)Z" } : Jvm.MethodName)) ∈ lw_all := lw_g (lw_at lw_m1 92 rfl) rfl
theorem q109 : (Jvm.Cond.code ({ cls := "BooleanBasis", name := "takeIn", desc := "(I)Z" } : Jvm.MethodName) prog_1_method_14_code (3 : Nat) (Option.some Jvm.ClassFile.FieldType.boolean)) ∈ lw_all := lw_g (lw_at lw_m1 93 rfl) rfl
theorem q110 : (Jvm.Cond.methodLink "BooleanBasis" (53 : Nat) ({ cls := "BooleanBasis", name := "reduce", desc := "(I)I" } : Jvm.MethodName)) ∈ lw_all := lw_g (lw_at lw_m1 94 rfl) rfl
theorem q111 : (Jvm.Cond.privateMethod ({ cls := "BooleanBasis", name := "reduce", desc := "(I)I" } : Jvm.MethodName)) ∈ lw_tbl := lw_at lw_m1 95 rfl
theorem q112 : (Jvm.Cond.instanceMethod ({ cls := "BooleanBasis", name := "reduce", desc := "(I)I" } : Jvm.MethodName)) ∈ lw_all := lw_g (lw_at lw_m1 96 rfl) rfl
theorem q113 : (Jvm.Cond.code ({ cls := "BooleanBasis", name := "reduce", desc := "(I)I" } : Jvm.MethodName) prog_1_method_12_code (5 : Nat) (Option.some Jvm.ClassFile.FieldType.int)) ∈ lw_all := lw_g (lw_at lw_m1 97 rfl) rfl
theorem q114 : (Jvm.Cond.methodLink "BooleanBasis" (46 : Nat) ({ cls := "BooleanBasis", name := "divisor", desc := "(I)I" } : Jvm.MethodName)) ∈ lw_all := lw_g (lw_at lw_m1 98 rfl) rfl
theorem q115 : (Jvm.Cond.privateMethod ({ cls := "BooleanBasis", name := "divisor", desc := "(I)I" } : Jvm.MethodName)) ∈ lw_tbl := lw_at lw_m1 99 rfl
theorem q116 : (Jvm.Cond.instanceMethod ({ cls := "BooleanBasis", name := "divisor", desc := "(I)I" } : Jvm.MethodName)) ∈ lw_all := lw_g (lw_at lw_m1 100 rfl) rfl
theorem q117 : (Jvm.Cond.code ({ cls := "BooleanBasis", name := "divisor", desc := "(I)I" } : Jvm.MethodName) prog_1_method_13_code (3 : Nat) (Option.some Jvm.ClassFile.FieldType.int)) ∈ lw_all := lw_g (lw_at lw_m1 101 rfl) rfl
theorem q118 : (Jvm.Cond.methodLink "BooleanBasis" (56 : Nat) ({ cls := "BooleanBasis", name := "headOf", desc := "(I)I" } : Jvm.MethodName)) ∈ lw_all := lw_g (lw_at lw_m1 102 rfl) rfl
theorem q119 : (Jvm.Cond.static ({ cls := "BooleanBasis", name := "headOf", desc := "(I)I" } : Jvm.MethodName)) ∈ lw_all := lw_g (lw_at lw_m1 103 rfl) rfl
theorem q120 : (Jvm.Cond.code ({ cls := "BooleanBasis", name := "headOf", desc := "(I)I" } : Jvm.MethodName) prog_1_method_11_code (3 : Nat) (Option.some Jvm.ClassFile.FieldType.int)) ∈ lw_all := lw_g (lw_at lw_m1 104 rfl) rfl
theorem q121 : (Jvm.Cond.methodLink "BooleanBasis" (62 : Nat) ({ cls := "BooleanBasis", name := "takeSquares", desc := "(I)V" } : Jvm.MethodName)) ∈ lw_all := lw_g (lw_at lw_m1 105 rfl) rfl
theorem q122 : (Jvm.Cond.privateMethod ({ cls := "BooleanBasis", name := "takeSquares", desc := "(I)V" } : Jvm.MethodName)) ∈ lw_tbl := lw_at lw_m1 106 rfl
theorem q123 : (Jvm.Cond.instanceMethod ({ cls := "BooleanBasis", name := "takeSquares", desc := "(I)V" } : Jvm.MethodName)) ∈ lw_all := lw_g (lw_at lw_m1 107 rfl) rfl
theorem q124 : (Jvm.Cond.code ({ cls := "BooleanBasis", name := "takeSquares", desc := "(I)V" } : Jvm.MethodName) prog_1_method_16_code (4 : Nat) (Option.none : Option Jvm.ClassFile.FieldType)) ∈ lw_all := lw_g (lw_at lw_m1 108 rfl) rfl
theorem q125 : (Jvm.Cond.methodLink "BooleanBasis" (66 : Nat) ({ cls := "BooleanBasis", name := "takeDifference", desc := "(II)V" } : Jvm.MethodName)) ∈ lw_all := lw_g (lw_at lw_m1 109 rfl) rfl
theorem q126 : (Jvm.Cond.privateMethod ({ cls := "BooleanBasis", name := "takeDifference", desc := "(II)V" } : Jvm.MethodName)) ∈ lw_tbl := lw_at lw_m1 110 rfl
theorem q127 : (Jvm.Cond.instanceMethod ({ cls := "BooleanBasis", name := "takeDifference", desc := "(II)V" } : Jvm.MethodName)) ∈ lw_all := lw_g (lw_at lw_m1 111 rfl) rfl
theorem q128 : (Jvm.Cond.code ({ cls := "BooleanBasis", name := "takeDifference", desc := "(II)V" } : Jvm.MethodName) prog_1_method_17_code (6 : Nat) (Option.none : Option Jvm.ClassFile.FieldType)) ∈ lw_all := lw_g (lw_at lw_m1 112 rfl) rfl
theorem q129 : (Jvm.Cond.methodLink "BooleanBasis" (79 : Nat) ({ cls := "BooleanBasis", name := "leastBound", desc := "(I)Z" } : Jvm.MethodName)) ∈ lw_all := lw_g (lw_at lw_m1 113 rfl) rfl
theorem q130 : (Jvm.Cond.privateMethod ({ cls := "BooleanBasis", name := "leastBound", desc := "(I)Z" } : Jvm.MethodName)) ∈ lw_tbl := lw_at lw_m1 114 rfl
theorem q131 : (Jvm.Cond.instanceMethod ({ cls := "BooleanBasis", name := "leastBound", desc := "(I)Z" } : Jvm.MethodName)) ∈ lw_all := lw_g (lw_at lw_m1 115 rfl) rfl
theorem q132 : (Jvm.Cond.code ({ cls := "BooleanBasis", name := "leastBound", desc := "(I)Z" } : Jvm.MethodName) prog_1_method_19_code (4 : Nat) (Option.some Jvm.ClassFile.FieldType.boolean)) ∈ lw_all := lw_g (lw_at lw_m1 116 rfl) rfl
theorem q133 : (Jvm.Cond.methodLink "BooleanBasis" (85 : Nat) ({ cls := "BooleanBasis", name := "vanishes", desc := "(I)Z" } : Jvm.MethodName)) ∈ lw_all := lw_g (lw_at lw_m1 117 rfl) rfl
theorem q134 : (Jvm.Cond.privateMethod ({ cls := "BooleanBasis", name := "vanishes", desc := "(I)Z" } : Jvm.MethodName)) ∈ lw_tbl := lw_at lw_m1 118 rfl
theorem q135 : (Jvm.Cond.instanceMethod ({ cls := "BooleanBasis", name := "vanishes", desc := "(I)Z" } : Jvm.MethodName)) ∈ lw_all := lw_g (lw_at lw_m1 119 rfl) rfl
theorem q136 : (Jvm.Cond.code ({ cls := "BooleanBasis", name := "vanishes", desc := "(I)Z" } : Jvm.MethodName) prog_1_method_20_code (3 : Nat) (Option.some Jvm.ClassFile.FieldType.boolean)) ∈ lw_all := lw_g (lw_at lw_m1 120 rfl) rfl
theorem q138 : (Jvm.Cond.instanceMethod ({ cls := "BooleanBasis", name := "rest", desc := "(I)I" } : Jvm.MethodName)) ∈ lw_all := lw_g (lw_at lw_m1 122 rfl) rfl
theorem q139 : (Jvm.Cond.selects "BooleanBasis" ({ cls := "BooleanBasis", name := "rest", desc := "(I)I" } : Jvm.MethodName) ({ cls := "BooleanBasis", name := "rest", desc := "(I)I" } : Jvm.MethodName)) ∈ lw_all := lw_g (lw_at lw_m1 123 rfl) rfl
theorem q140 : (Jvm.Cond.code ({ cls := "BooleanBasis", name := "rest", desc := "(I)I" } : Jvm.MethodName) prog_1_method_22_code (2 : Nat) (Option.some Jvm.ClassFile.FieldType.int)) ∈ lw_all := lw_g (lw_at lw_m1 124 rfl) rfl
theorem q142 : (Jvm.Cond.instanceMethod ({ cls := "BooleanBasis", name := "basisSize", desc := "()I" } : Jvm.MethodName)) ∈ lw_all := lw_g (lw_at lw_m1 126 rfl) rfl
theorem q143 : (Jvm.Cond.selects "BooleanBasis" ({ cls := "BooleanBasis", name := "basisSize", desc := "()I" } : Jvm.MethodName) ({ cls := "BooleanBasis", name := "basisSize", desc := "()I" } : Jvm.MethodName)) ∈ lw_all := lw_g (lw_at lw_m1 127 rfl) rfl
theorem q144 : (Jvm.Cond.code ({ cls := "BooleanBasis", name := "basisSize", desc := "()I" } : Jvm.MethodName) prog_1_method_23_code (1 : Nat) (Option.some Jvm.ClassFile.FieldType.int)) ∈ lw_all := lw_g (lw_at lw_m1 128 rfl) rfl
theorem q146 : (Jvm.Cond.instanceMethod ({ cls := "BooleanBasis", name := "basisAt", desc := "(I)I" } : Jvm.MethodName)) ∈ lw_all := lw_g (lw_at lw_m1 130 rfl) rfl
theorem q147 : (Jvm.Cond.selects "BooleanBasis" ({ cls := "BooleanBasis", name := "basisAt", desc := "(I)I" } : Jvm.MethodName) ({ cls := "BooleanBasis", name := "basisAt", desc := "(I)I" } : Jvm.MethodName)) ∈ lw_all := lw_g (lw_at lw_m1 131 rfl) rfl
theorem q148 : (Jvm.Cond.code ({ cls := "BooleanBasis", name := "basisAt", desc := "(I)I" } : Jvm.MethodName) prog_1_method_24_code (2 : Nat) (Option.some Jvm.ClassFile.FieldType.int)) ∈ lw_all := lw_g (lw_at lw_m1 132 rfl) rfl
theorem q150 : (Jvm.Cond.instanceMethod ({ cls := "BooleanBasis", name := "bound", desc := "()I" } : Jvm.MethodName)) ∈ lw_all := lw_g (lw_at lw_m1 134 rfl) rfl
theorem q151 : (Jvm.Cond.selects "BooleanBasis" ({ cls := "BooleanBasis", name := "bound", desc := "()I" } : Jvm.MethodName) ({ cls := "BooleanBasis", name := "bound", desc := "()I" } : Jvm.MethodName)) ∈ lw_all := lw_g (lw_at lw_m1 135 rfl) rfl
theorem q152 : (Jvm.Cond.code ({ cls := "BooleanBasis", name := "bound", desc := "()I" } : Jvm.MethodName) prog_1_method_25_code (1 : Nat) (Option.some Jvm.ClassFile.FieldType.int)) ∈ lw_all := lw_g (lw_at lw_m1 136 rfl) rfl
theorem q154 : (Jvm.Cond.instanceMethod ({ cls := "BooleanBasis", name := "zeros", desc := "()I" } : Jvm.MethodName)) ∈ lw_all := lw_g (lw_at lw_m1 138 rfl) rfl
theorem q155 : (Jvm.Cond.selects "BooleanBasis" ({ cls := "BooleanBasis", name := "zeros", desc := "()I" } : Jvm.MethodName) ({ cls := "BooleanBasis", name := "zeros", desc := "()I" } : Jvm.MethodName)) ∈ lw_all := lw_g (lw_at lw_m1 139 rfl) rfl
theorem q156 : (Jvm.Cond.code ({ cls := "BooleanBasis", name := "zeros", desc := "()I" } : Jvm.MethodName) prog_1_method_26_code (1 : Nat) (Option.some Jvm.ClassFile.FieldType.int)) ∈ lw_all := lw_g (lw_at lw_m1 140 rfl) rfl
theorem q158 : (Jvm.Cond.instanceMethod ({ cls := "BooleanBasis", name := "zeroCount", desc := "()I" } : Jvm.MethodName)) ∈ lw_all := lw_g (lw_at lw_m1 142 rfl) rfl
theorem q159 : (Jvm.Cond.selects "BooleanBasis" ({ cls := "BooleanBasis", name := "zeroCount", desc := "()I" } : Jvm.MethodName) ({ cls := "BooleanBasis", name := "zeroCount", desc := "()I" } : Jvm.MethodName)) ∈ lw_all := lw_g (lw_at lw_m1 143 rfl) rfl
theorem q160 : (Jvm.Cond.code ({ cls := "BooleanBasis", name := "zeroCount", desc := "()I" } : Jvm.MethodName) prog_1_method_27_code (3 : Nat) (Option.some Jvm.ClassFile.FieldType.int)) ∈ lw_all := lw_g (lw_at lw_m1 144 rfl) rfl
theorem q162 : (Jvm.Cond.instanceMethod ({ cls := "BooleanBasis", name := "values", desc := "(I)I" } : Jvm.MethodName)) ∈ lw_all := lw_g (lw_at lw_m1 146 rfl) rfl
theorem q163 : (Jvm.Cond.selects "BooleanBasis" ({ cls := "BooleanBasis", name := "values", desc := "(I)I" } : Jvm.MethodName) ({ cls := "BooleanBasis", name := "values", desc := "(I)I" } : Jvm.MethodName)) ∈ lw_all := lw_g (lw_at lw_m1 147 rfl) rfl
theorem q164 : (Jvm.Cond.code ({ cls := "BooleanBasis", name := "values", desc := "(I)I" } : Jvm.MethodName) prog_1_method_28_code (4 : Nat) (Option.some Jvm.ClassFile.FieldType.int)) ∈ lw_all := lw_g (lw_at lw_m1 148 rfl) rfl
theorem q166 : (Jvm.Cond.instanceMethod ({ cls := "BooleanBasis", name := "redundant", desc := "(I)Z" } : Jvm.MethodName)) ∈ lw_all := lw_g (lw_at lw_m1 150 rfl) rfl
theorem q167 : (Jvm.Cond.selects "BooleanBasis" ({ cls := "BooleanBasis", name := "redundant", desc := "(I)Z" } : Jvm.MethodName) ({ cls := "BooleanBasis", name := "redundant", desc := "(I)Z" } : Jvm.MethodName)) ∈ lw_all := lw_g (lw_at lw_m1 151 rfl) rfl
theorem q168 : (Jvm.Cond.code ({ cls := "BooleanBasis", name := "redundant", desc := "(I)Z" } : Jvm.MethodName) prog_1_method_29_code (2 : Nat) (Option.some Jvm.ClassFile.FieldType.boolean)) ∈ lw_all := lw_g (lw_at lw_m1 152 rfl) rfl
theorem q170 : (Jvm.Cond.instanceMethod ({ cls := "BooleanBasis", name := "relates", desc := "(I)Z" } : Jvm.MethodName)) ∈ lw_all := lw_g (lw_at lw_m1 154 rfl) rfl
theorem q171 : (Jvm.Cond.selects "BooleanBasis" ({ cls := "BooleanBasis", name := "relates", desc := "(I)Z" } : Jvm.MethodName) ({ cls := "BooleanBasis", name := "relates", desc := "(I)Z" } : Jvm.MethodName)) ∈ lw_all := lw_g (lw_at lw_m1 155 rfl) rfl
theorem q172 : (Jvm.Cond.code ({ cls := "BooleanBasis", name := "relates", desc := "(I)Z" } : Jvm.MethodName) prog_1_method_30_code (4 : Nat) (Option.some Jvm.ClassFile.FieldType.boolean)) ∈ lw_all := lw_g (lw_at lw_m1 156 rfl) rfl
theorem in_X0 : ∀ w ∈ wsX00, w ∈ lw_all := lw_in wsX00 [37, 39, 41, 43, 45, 47, 49, 51, 53, 55] (by decide +kernel) (by decide +kernel)
end
section
/-! BooleanBasisModel -/
set_option maxRecDepth 100000
def RX1 : String := "BooleanBasisModel"
def TX1 : u_T := fun k => match k with
  | 0 => ("BooleanBasisModel", "there", "[Z", false)
  | 1 => ("BooleanBasisModel", "gens", "[I", false)
  | 2 => ("BooleanBasisModel", "heads", "[I", false)
  | _ => ("BooleanBasisModel", "others", "[I", false)
def tyX1 : Nat → FieldType := fun k => match k with
  | 0 => .array .boolean
  | 1 => .array .int
  | 2 => .array .int
  | _ => .array .int
abbrev wsX10 : List Cond := u_ws RX1 TX1 4
theorem nmX1 : ∀ a, a < 4 → ∀ b, b < 4 → a ≠ b → (TX1 a).2.1 ≠ (TX1 b).2.1 := by decide +kernel
theorem tyX1_ok : ∀ k, k < 4 → parseFieldDescriptor (TX1 k).2.2.1 = some (tyX1 k) := by decide +kernel
abbrev cX1_init : ByteArray := prog_3_method_1_code
def yX1_init : MethodName := ⟨RX1, "<init>", "()V"⟩
theorem dX1_init_0 : decode cX1_init 0 = .ok (.aload_n 0, 1) := by decide +kernel
theorem dX1_init_1 : decode cX1_init 1 = .ok (.invokespecial 1, 3) := by decide +kernel
theorem dX1_init_4 : decode cX1_init 4 = .ok (.aload_n 0, 1) := by decide +kernel
theorem dX1_init_5 : decode cX1_init 5 = .ok (.bipush 6, 2) := by decide +kernel
theorem dX1_init_7 : decode cX1_init 7 = .ok (.newarray .boolean, 2) := by decide +kernel
theorem dX1_init_9 : decode cX1_init 9 = .ok (.putfield 7, 3) := by decide +kernel
theorem dX1_init_12 : decode cX1_init 12 = .ok (.aload_n 0, 1) := by decide +kernel
theorem dX1_init_13 : decode cX1_init 13 = .ok (.bipush 6, 2) := by decide +kernel
theorem dX1_init_15 : decode cX1_init 15 = .ok (.newarray .int, 2) := by decide +kernel
theorem dX1_init_17 : decode cX1_init 17 = .ok (.putfield 13, 3) := by decide +kernel
theorem dX1_init_20 : decode cX1_init 20 = .ok (.aload_n 0, 1) := by decide +kernel
theorem dX1_init_21 : decode cX1_init 21 = .ok (.bipush 16, 2) := by decide +kernel
theorem dX1_init_23 : decode cX1_init 23 = .ok (.newarray .int, 2) := by decide +kernel
theorem dX1_init_25 : decode cX1_init 25 = .ok (.putfield 17, 3) := by decide +kernel
theorem dX1_init_28 : decode cX1_init 28 = .ok (.aload_n 0, 1) := by decide +kernel
theorem dX1_init_29 : decode cX1_init 29 = .ok (.bipush 16, 2) := by decide +kernel
theorem dX1_init_31 : decode cX1_init 31 = .ok (.newarray .int, 2) := by decide +kernel
theorem dX1_init_33 : decode cX1_init 33 = .ok (.putfield 20, 3) := by decide +kernel
theorem dX1_init_36 : decode cX1_init 36 = .ok (.return_, 1) := by decide +kernel
abbrev cX1_add : ByteArray := prog_3_method_3_code
def yX1_add : MethodName := ⟨RX1, "add", "(I)I"⟩
theorem dX1_add_0 : decode cX1_add 0 = .ok (.aload_n 0, 1) := by decide +kernel
theorem dX1_add_1 : decode cX1_add 1 = .ok (.iload_n 1, 1) := by decide +kernel
theorem dX1_add_2 : decode cX1_add 2 = .ok (.invokevirtual 24, 3) := by decide +kernel
theorem dX1_add_5 : decode cX1_add 5 = .ok (.ifCond .ne 5, 3) := by decide +kernel
theorem dX1_add_8 : decode cX1_add 8 = .ok (.iconst (-1), 1) := by decide +kernel
theorem dX1_add_9 : decode cX1_add 9 = .ok (.ireturn, 1) := by decide +kernel
theorem dX1_add_10 : decode cX1_add 10 = .ok (.iconst 0, 1) := by decide +kernel
theorem dX1_add_11 : decode cX1_add 11 = .ok (.istore_n 2, 1) := by decide +kernel
theorem dX1_add_12 : decode cX1_add 12 = .ok (.iload_n 2, 1) := by decide +kernel
theorem dX1_add_13 : decode cX1_add 13 = .ok (.bipush 6, 2) := by decide +kernel
theorem dX1_add_15 : decode cX1_add 15 = .ok (.if_icmp .ge 34, 3) := by decide +kernel
theorem dX1_add_18 : decode cX1_add 18 = .ok (.aload_n 0, 1) := by decide +kernel
theorem dX1_add_19 : decode cX1_add 19 = .ok (.getfield 7, 3) := by decide +kernel
theorem dX1_add_22 : decode cX1_add 22 = .ok (.iload_n 2, 1) := by decide +kernel
theorem dX1_add_23 : decode cX1_add 23 = .ok (.baload, 1) := by decide +kernel
theorem dX1_add_24 : decode cX1_add 24 = .ok (.ifCond .ne 19, 3) := by decide +kernel
theorem dX1_add_27 : decode cX1_add 27 = .ok (.aload_n 0, 1) := by decide +kernel
theorem dX1_add_28 : decode cX1_add 28 = .ok (.getfield 7, 3) := by decide +kernel
theorem dX1_add_31 : decode cX1_add 31 = .ok (.iload_n 2, 1) := by decide +kernel
theorem dX1_add_32 : decode cX1_add 32 = .ok (.iconst 1, 1) := by decide +kernel
theorem dX1_add_33 : decode cX1_add 33 = .ok (.bastore, 1) := by decide +kernel
theorem dX1_add_34 : decode cX1_add 34 = .ok (.aload_n 0, 1) := by decide +kernel
theorem dX1_add_35 : decode cX1_add 35 = .ok (.getfield 13, 3) := by decide +kernel
theorem dX1_add_38 : decode cX1_add 38 = .ok (.iload_n 2, 1) := by decide +kernel
theorem dX1_add_39 : decode cX1_add 39 = .ok (.iload_n 1, 1) := by decide +kernel
theorem dX1_add_40 : decode cX1_add 40 = .ok (.iastore, 1) := by decide +kernel
theorem dX1_add_41 : decode cX1_add 41 = .ok (.iload_n 2, 1) := by decide +kernel
theorem dX1_add_42 : decode cX1_add 42 = .ok (.ireturn, 1) := by decide +kernel
theorem dX1_add_43 : decode cX1_add 43 = .ok (.iinc 2 1, 3) := by decide +kernel
theorem dX1_add_46 : decode cX1_add 46 = .ok (.goto (-34), 3) := by decide +kernel
theorem dX1_add_49 : decode cX1_add 49 = .ok (.bipush (-2), 2) := by decide +kernel
theorem dX1_add_51 : decode cX1_add 51 = .ok (.ireturn, 1) := by decide +kernel
abbrev cX1_polynomial : ByteArray := prog_3_method_2_code
def yX1_polynomial : MethodName := ⟨RX1, "polynomial", "(I)Z"⟩
theorem dX1_polynomial_0 : decode cX1_polynomial 0 = .ok (.iload_n 1, 1) := by decide +kernel
theorem dX1_polynomial_1 : decode cX1_polynomial 1 = .ok (.ifCond .lt 13, 3) := by decide +kernel
theorem dX1_polynomial_4 : decode cX1_polynomial 4 = .ok (.iload_n 1, 1) := by decide +kernel
theorem dX1_polynomial_5 : decode cX1_polynomial 5 = .ok (.ldc 23, 2) := by decide +kernel
theorem dX1_polynomial_7 : decode cX1_polynomial 7 = .ok (.if_icmp .gt 7, 3) := by decide +kernel
theorem dX1_polynomial_10 : decode cX1_polynomial 10 = .ok (.iconst 1, 1) := by decide +kernel
theorem dX1_polynomial_11 : decode cX1_polynomial 11 = .ok (.goto 4, 3) := by decide +kernel
theorem dX1_polynomial_14 : decode cX1_polynomial 14 = .ok (.iconst 0, 1) := by decide +kernel
theorem dX1_polynomial_15 : decode cX1_polynomial 15 = .ok (.ireturn, 1) := by decide +kernel
abbrev cX1_remove : ByteArray := prog_3_method_4_code
def yX1_remove : MethodName := ⟨RX1, "remove", "(I)Z"⟩
theorem dX1_remove_0 : decode cX1_remove 0 = .ok (.iload_n 1, 1) := by decide +kernel
theorem dX1_remove_1 : decode cX1_remove 1 = .ok (.ifCond .lt 17, 3) := by decide +kernel
theorem dX1_remove_4 : decode cX1_remove 4 = .ok (.iload_n 1, 1) := by decide +kernel
theorem dX1_remove_5 : decode cX1_remove 5 = .ok (.iconst 5, 1) := by decide +kernel
theorem dX1_remove_6 : decode cX1_remove 6 = .ok (.if_icmp .gt 12, 3) := by decide +kernel
theorem dX1_remove_9 : decode cX1_remove 9 = .ok (.aload_n 0, 1) := by decide +kernel
theorem dX1_remove_10 : decode cX1_remove 10 = .ok (.getfield 7, 3) := by decide +kernel
theorem dX1_remove_13 : decode cX1_remove 13 = .ok (.iload_n 1, 1) := by decide +kernel
theorem dX1_remove_14 : decode cX1_remove 14 = .ok (.baload, 1) := by decide +kernel
theorem dX1_remove_15 : decode cX1_remove 15 = .ok (.ifCond .ne 5, 3) := by decide +kernel
theorem dX1_remove_18 : decode cX1_remove 18 = .ok (.iconst 0, 1) := by decide +kernel
theorem dX1_remove_19 : decode cX1_remove 19 = .ok (.ireturn, 1) := by decide +kernel
theorem dX1_remove_20 : decode cX1_remove 20 = .ok (.aload_n 0, 1) := by decide +kernel
theorem dX1_remove_21 : decode cX1_remove 21 = .ok (.getfield 7, 3) := by decide +kernel
theorem dX1_remove_24 : decode cX1_remove 24 = .ok (.iload_n 1, 1) := by decide +kernel
theorem dX1_remove_25 : decode cX1_remove 25 = .ok (.iconst 0, 1) := by decide +kernel
theorem dX1_remove_26 : decode cX1_remove 26 = .ok (.bastore, 1) := by decide +kernel
theorem dX1_remove_27 : decode cX1_remove 27 = .ok (.iconst 1, 1) := by decide +kernel
theorem dX1_remove_28 : decode cX1_remove 28 = .ok (.ireturn, 1) := by decide +kernel
abbrev cX1_generators : ByteArray := prog_3_method_5_code
def yX1_generators : MethodName := ⟨RX1, "generators", "()I"⟩
theorem dX1_generators_0 : decode cX1_generators 0 = .ok (.iconst 0, 1) := by decide +kernel
theorem dX1_generators_1 : decode cX1_generators 1 = .ok (.istore_n 1, 1) := by decide +kernel
theorem dX1_generators_2 : decode cX1_generators 2 = .ok (.iconst 0, 1) := by decide +kernel
theorem dX1_generators_3 : decode cX1_generators 3 = .ok (.istore_n 2, 1) := by decide +kernel
theorem dX1_generators_4 : decode cX1_generators 4 = .ok (.iload_n 2, 1) := by decide +kernel
theorem dX1_generators_5 : decode cX1_generators 5 = .ok (.bipush 6, 2) := by decide +kernel
theorem dX1_generators_7 : decode cX1_generators 7 = .ok (.if_icmp .ge 28, 3) := by decide +kernel
theorem dX1_generators_10 : decode cX1_generators 10 = .ok (.aload_n 0, 1) := by decide +kernel
theorem dX1_generators_11 : decode cX1_generators 11 = .ok (.getfield 7, 3) := by decide +kernel
theorem dX1_generators_14 : decode cX1_generators 14 = .ok (.iload_n 2, 1) := by decide +kernel
theorem dX1_generators_15 : decode cX1_generators 15 = .ok (.baload, 1) := by decide +kernel
theorem dX1_generators_16 : decode cX1_generators 16 = .ok (.ifCond .eq 11, 3) := by decide +kernel
theorem dX1_generators_19 : decode cX1_generators 19 = .ok (.iload_n 1, 1) := by decide +kernel
theorem dX1_generators_20 : decode cX1_generators 20 = .ok (.iconst 1, 1) := by decide +kernel
theorem dX1_generators_21 : decode cX1_generators 21 = .ok (.iload_n 2, 1) := by decide +kernel
theorem dX1_generators_22 : decode cX1_generators 22 = .ok (.ishl, 1) := by decide +kernel
theorem dX1_generators_23 : decode cX1_generators 23 = .ok (.ior, 1) := by decide +kernel
theorem dX1_generators_24 : decode cX1_generators 24 = .ok (.goto 4, 3) := by decide +kernel
theorem dX1_generators_27 : decode cX1_generators 27 = .ok (.iload_n 1, 1) := by decide +kernel
theorem dX1_generators_28 : decode cX1_generators 28 = .ok (.istore_n 1, 1) := by decide +kernel
theorem dX1_generators_29 : decode cX1_generators 29 = .ok (.iinc 2 1, 3) := by decide +kernel
theorem dX1_generators_32 : decode cX1_generators 32 = .ok (.goto (-28), 3) := by decide +kernel
theorem dX1_generators_35 : decode cX1_generators 35 = .ok (.iload_n 1, 1) := by decide +kernel
theorem dX1_generators_36 : decode cX1_generators 36 = .ok (.ireturn, 1) := by decide +kernel
abbrev cX1_product : ByteArray := prog_3_method_6_code
def yX1_product : MethodName := ⟨RX1, "product", "(II)I"⟩
theorem dX1_product_0 : decode cX1_product 0 = .ok (.aload_n 0, 1) := by decide +kernel
theorem dX1_product_1 : decode cX1_product 1 = .ok (.iload_n 1, 1) := by decide +kernel
theorem dX1_product_2 : decode cX1_product 2 = .ok (.invokevirtual 24, 3) := by decide +kernel
theorem dX1_product_5 : decode cX1_product 5 = .ok (.ifCond .eq 11, 3) := by decide +kernel
theorem dX1_product_8 : decode cX1_product 8 = .ok (.aload_n 0, 1) := by decide +kernel
theorem dX1_product_9 : decode cX1_product 9 = .ok (.iload_n 2, 1) := by decide +kernel
theorem dX1_product_10 : decode cX1_product 10 = .ok (.invokevirtual 24, 3) := by decide +kernel
theorem dX1_product_13 : decode cX1_product 13 = .ok (.ifCond .ne 5, 3) := by decide +kernel
theorem dX1_product_16 : decode cX1_product 16 = .ok (.iconst (-1), 1) := by decide +kernel
theorem dX1_product_17 : decode cX1_product 17 = .ok (.ireturn, 1) := by decide +kernel
theorem dX1_product_18 : decode cX1_product 18 = .ok (.iconst 0, 1) := by decide +kernel
theorem dX1_product_19 : decode cX1_product 19 = .ok (.istore_n 3, 1) := by decide +kernel
theorem dX1_product_20 : decode cX1_product 20 = .ok (.iconst 0, 1) := by decide +kernel
theorem dX1_product_21 : decode cX1_product 21 = .ok (.istore 4, 2) := by decide +kernel
theorem dX1_product_23 : decode cX1_product 23 = .ok (.iload 4, 2) := by decide +kernel
theorem dX1_product_25 : decode cX1_product 25 = .ok (.bipush 16, 2) := by decide +kernel
theorem dX1_product_27 : decode cX1_product 27 = .ok (.if_icmp .ge 71, 3) := by decide +kernel
theorem dX1_product_30 : decode cX1_product 30 = .ok (.iconst 0, 1) := by decide +kernel
theorem dX1_product_31 : decode cX1_product 31 = .ok (.istore 5, 2) := by decide +kernel
theorem dX1_product_33 : decode cX1_product 33 = .ok (.iload 5, 2) := by decide +kernel
theorem dX1_product_35 : decode cX1_product 35 = .ok (.bipush 16, 2) := by decide +kernel
theorem dX1_product_37 : decode cX1_product 37 = .ok (.if_icmp .ge 55, 3) := by decide +kernel
theorem dX1_product_40 : decode cX1_product 40 = .ok (.iload_n 1, 1) := by decide +kernel
theorem dX1_product_41 : decode cX1_product 41 = .ok (.iload 4, 2) := by decide +kernel
theorem dX1_product_43 : decode cX1_product 43 = .ok (.ishr, 1) := by decide +kernel
theorem dX1_product_44 : decode cX1_product 44 = .ok (.iconst 1, 1) := by decide +kernel
theorem dX1_product_45 : decode cX1_product 45 = .ok (.iand, 1) := by decide +kernel
theorem dX1_product_46 : decode cX1_product 46 = .ok (.iconst 1, 1) := by decide +kernel
theorem dX1_product_47 : decode cX1_product 47 = .ok (.if_icmp .ne 17, 3) := by decide +kernel
theorem dX1_product_50 : decode cX1_product 50 = .ok (.iload_n 2, 1) := by decide +kernel
theorem dX1_product_51 : decode cX1_product 51 = .ok (.iload 5, 2) := by decide +kernel
theorem dX1_product_53 : decode cX1_product 53 = .ok (.ishr, 1) := by decide +kernel
theorem dX1_product_54 : decode cX1_product 54 = .ok (.iconst 1, 1) := by decide +kernel
theorem dX1_product_55 : decode cX1_product 55 = .ok (.iand, 1) := by decide +kernel
theorem dX1_product_56 : decode cX1_product 56 = .ok (.iconst 1, 1) := by decide +kernel
theorem dX1_product_57 : decode cX1_product 57 = .ok (.if_icmp .ne 7, 3) := by decide +kernel
theorem dX1_product_60 : decode cX1_product 60 = .ok (.iconst 1, 1) := by decide +kernel
theorem dX1_product_61 : decode cX1_product 61 = .ok (.goto 4, 3) := by decide +kernel
theorem dX1_product_64 : decode cX1_product 64 = .ok (.iconst 0, 1) := by decide +kernel
theorem dX1_product_65 : decode cX1_product 65 = .ok (.istore 6, 2) := by decide +kernel
theorem dX1_product_67 : decode cX1_product 67 = .ok (.iload 6, 2) := by decide +kernel
theorem dX1_product_69 : decode cX1_product 69 = .ok (.ifCond .eq 15, 3) := by decide +kernel
theorem dX1_product_72 : decode cX1_product 72 = .ok (.iload_n 3, 1) := by decide +kernel
theorem dX1_product_73 : decode cX1_product 73 = .ok (.iconst 1, 1) := by decide +kernel
theorem dX1_product_74 : decode cX1_product 74 = .ok (.iload 4, 2) := by decide +kernel
theorem dX1_product_76 : decode cX1_product 76 = .ok (.iload 5, 2) := by decide +kernel
theorem dX1_product_78 : decode cX1_product 78 = .ok (.ior, 1) := by decide +kernel
theorem dX1_product_79 : decode cX1_product 79 = .ok (.ishl, 1) := by decide +kernel
theorem dX1_product_80 : decode cX1_product 80 = .ok (.ixor, 1) := by decide +kernel
theorem dX1_product_81 : decode cX1_product 81 = .ok (.goto 4, 3) := by decide +kernel
theorem dX1_product_84 : decode cX1_product 84 = .ok (.iload_n 3, 1) := by decide +kernel
theorem dX1_product_85 : decode cX1_product 85 = .ok (.istore_n 3, 1) := by decide +kernel
theorem dX1_product_86 : decode cX1_product 86 = .ok (.iinc 5 1, 3) := by decide +kernel
theorem dX1_product_89 : decode cX1_product 89 = .ok (.goto (-56), 3) := by decide +kernel
theorem dX1_product_92 : decode cX1_product 92 = .ok (.iinc 4 1, 3) := by decide +kernel
theorem dX1_product_95 : decode cX1_product 95 = .ok (.goto (-72), 3) := by decide +kernel
theorem dX1_product_98 : decode cX1_product 98 = .ok (.iload_n 3, 1) := by decide +kernel
theorem dX1_product_99 : decode cX1_product 99 = .ok (.ireturn, 1) := by decide +kernel
abbrev cX1_value : ByteArray := prog_3_method_7_code
def yX1_value : MethodName := ⟨RX1, "value", "(II)I"⟩
theorem dX1_value_0 : decode cX1_value 0 = .ok (.aload_n 0, 1) := by decide +kernel
theorem dX1_value_1 : decode cX1_value 1 = .ok (.iload_n 1, 1) := by decide +kernel
theorem dX1_value_2 : decode cX1_value 2 = .ok (.invokevirtual 24, 3) := by decide +kernel
theorem dX1_value_5 : decode cX1_value 5 = .ok (.ifCond .eq 13, 3) := by decide +kernel
theorem dX1_value_8 : decode cX1_value 8 = .ok (.iload_n 2, 1) := by decide +kernel
theorem dX1_value_9 : decode cX1_value 9 = .ok (.ifCond .lt 9, 3) := by decide +kernel
theorem dX1_value_12 : decode cX1_value 12 = .ok (.iload_n 2, 1) := by decide +kernel
theorem dX1_value_13 : decode cX1_value 13 = .ok (.bipush 15, 2) := by decide +kernel
theorem dX1_value_15 : decode cX1_value 15 = .ok (.if_icmp .le 5, 3) := by decide +kernel
theorem dX1_value_18 : decode cX1_value 18 = .ok (.iconst (-1), 1) := by decide +kernel
theorem dX1_value_19 : decode cX1_value 19 = .ok (.ireturn, 1) := by decide +kernel
theorem dX1_value_20 : decode cX1_value 20 = .ok (.iconst 0, 1) := by decide +kernel
theorem dX1_value_21 : decode cX1_value 21 = .ok (.istore_n 3, 1) := by decide +kernel
theorem dX1_value_22 : decode cX1_value 22 = .ok (.iconst 0, 1) := by decide +kernel
theorem dX1_value_23 : decode cX1_value 23 = .ok (.istore 4, 2) := by decide +kernel
theorem dX1_value_25 : decode cX1_value 25 = .ok (.iload 4, 2) := by decide +kernel
theorem dX1_value_27 : decode cX1_value 27 = .ok (.bipush 16, 2) := by decide +kernel
theorem dX1_value_29 : decode cX1_value 29 = .ok (.if_icmp .ge 31, 3) := by decide +kernel
theorem dX1_value_32 : decode cX1_value 32 = .ok (.iload 4, 2) := by decide +kernel
theorem dX1_value_34 : decode cX1_value 34 = .ok (.iload_n 2, 1) := by decide +kernel
theorem dX1_value_35 : decode cX1_value 35 = .ok (.iconst (-1), 1) := by decide +kernel
theorem dX1_value_36 : decode cX1_value 36 = .ok (.ixor, 1) := by decide +kernel
theorem dX1_value_37 : decode cX1_value 37 = .ok (.iand, 1) := by decide +kernel
theorem dX1_value_38 : decode cX1_value 38 = .ok (.ifCond .ne 14, 3) := by decide +kernel
theorem dX1_value_41 : decode cX1_value 41 = .ok (.iload_n 3, 1) := by decide +kernel
theorem dX1_value_42 : decode cX1_value 42 = .ok (.iload_n 1, 1) := by decide +kernel
theorem dX1_value_43 : decode cX1_value 43 = .ok (.iload 4, 2) := by decide +kernel
theorem dX1_value_45 : decode cX1_value 45 = .ok (.ishr, 1) := by decide +kernel
theorem dX1_value_46 : decode cX1_value 46 = .ok (.iconst 1, 1) := by decide +kernel
theorem dX1_value_47 : decode cX1_value 47 = .ok (.iand, 1) := by decide +kernel
theorem dX1_value_48 : decode cX1_value 48 = .ok (.ixor, 1) := by decide +kernel
theorem dX1_value_49 : decode cX1_value 49 = .ok (.goto 4, 3) := by decide +kernel
theorem dX1_value_52 : decode cX1_value 52 = .ok (.iload_n 3, 1) := by decide +kernel
theorem dX1_value_53 : decode cX1_value 53 = .ok (.istore_n 3, 1) := by decide +kernel
theorem dX1_value_54 : decode cX1_value 54 = .ok (.iinc 4 1, 3) := by decide +kernel
theorem dX1_value_57 : decode cX1_value 57 = .ok (.goto (-32), 3) := by decide +kernel
theorem dX1_value_60 : decode cX1_value 60 = .ok (.iload_n 3, 1) := by decide +kernel
theorem dX1_value_61 : decode cX1_value 61 = .ok (.ireturn, 1) := by decide +kernel
abbrev cX1_contains : ByteArray := prog_3_method_11_code
def yX1_contains : MethodName := ⟨RX1, "contains", "(I)Z"⟩
theorem dX1_contains_0 : decode cX1_contains 0 = .ok (.aload_n 0, 1) := by decide +kernel
theorem dX1_contains_1 : decode cX1_contains 1 = .ok (.iload_n 1, 1) := by decide +kernel
theorem dX1_contains_2 : decode cX1_contains 2 = .ok (.invokevirtual 40, 3) := by decide +kernel
theorem dX1_contains_5 : decode cX1_contains 5 = .ok (.ifCond .ne 7, 3) := by decide +kernel
theorem dX1_contains_8 : decode cX1_contains 8 = .ok (.iconst 1, 1) := by decide +kernel
theorem dX1_contains_9 : decode cX1_contains 9 = .ok (.goto 4, 3) := by decide +kernel
theorem dX1_contains_12 : decode cX1_contains 12 = .ok (.iconst 0, 1) := by decide +kernel
theorem dX1_contains_13 : decode cX1_contains 13 = .ok (.ireturn, 1) := by decide +kernel
abbrev cX1_rest : ByteArray := prog_3_method_12_code
def yX1_rest : MethodName := ⟨RX1, "rest", "(I)I"⟩
theorem dX1_rest_0 : decode cX1_rest 0 = .ok (.aload_n 0, 1) := by decide +kernel
theorem dX1_rest_1 : decode cX1_rest 1 = .ok (.iload_n 1, 1) := by decide +kernel
theorem dX1_rest_2 : decode cX1_rest 2 = .ok (.invokevirtual 24, 3) := by decide +kernel
theorem dX1_rest_5 : decode cX1_rest 5 = .ok (.ifCond .ne 5, 3) := by decide +kernel
theorem dX1_rest_8 : decode cX1_rest 8 = .ok (.iconst (-1), 1) := by decide +kernel
theorem dX1_rest_9 : decode cX1_rest 9 = .ok (.ireturn, 1) := by decide +kernel
theorem dX1_rest_10 : decode cX1_rest 10 = .ok (.aload_n 0, 1) := by decide +kernel
theorem dX1_rest_11 : decode cX1_rest 11 = .ok (.iconst (-1), 1) := by decide +kernel
theorem dX1_rest_12 : decode cX1_rest 12 = .ok (.invokevirtual 43, 3) := by decide +kernel
theorem dX1_rest_15 : decode cX1_rest 15 = .ok (.aload_n 0, 1) := by decide +kernel
theorem dX1_rest_16 : decode cX1_rest 16 = .ok (.iload_n 1, 1) := by decide +kernel
theorem dX1_rest_17 : decode cX1_rest 17 = .ok (.invokevirtual 28, 3) := by decide +kernel
theorem dX1_rest_20 : decode cX1_rest 20 = .ok (.ireturn, 1) := by decide +kernel
abbrev cX1_work : ByteArray := prog_3_method_10_code
def yX1_work : MethodName := ⟨RX1, "work", "(I)V"⟩
theorem dX1_work_0 : decode cX1_work 0 = .ok (.iconst 0, 1) := by decide +kernel
theorem dX1_work_1 : decode cX1_work 1 = .ok (.istore_n 2, 1) := by decide +kernel
theorem dX1_work_2 : decode cX1_work 2 = .ok (.iload_n 2, 1) := by decide +kernel
theorem dX1_work_3 : decode cX1_work 3 = .ok (.bipush 16, 2) := by decide +kernel
theorem dX1_work_5 : decode cX1_work 5 = .ok (.if_icmp .ge 16, 3) := by decide +kernel
theorem dX1_work_8 : decode cX1_work 8 = .ok (.aload_n 0, 1) := by decide +kernel
theorem dX1_work_9 : decode cX1_work 9 = .ok (.getfield 17, 3) := by decide +kernel
theorem dX1_work_12 : decode cX1_work 12 = .ok (.iload_n 2, 1) := by decide +kernel
theorem dX1_work_13 : decode cX1_work 13 = .ok (.iconst 0, 1) := by decide +kernel
theorem dX1_work_14 : decode cX1_work 14 = .ok (.iastore, 1) := by decide +kernel
theorem dX1_work_15 : decode cX1_work 15 = .ok (.iinc 2 1, 3) := by decide +kernel
theorem dX1_work_18 : decode cX1_work 18 = .ok (.goto (-16), 3) := by decide +kernel
theorem dX1_work_21 : decode cX1_work 21 = .ok (.iconst 0, 1) := by decide +kernel
theorem dX1_work_22 : decode cX1_work 22 = .ok (.istore_n 2, 1) := by decide +kernel
theorem dX1_work_23 : decode cX1_work 23 = .ok (.iload_n 2, 1) := by decide +kernel
theorem dX1_work_24 : decode cX1_work 24 = .ok (.bipush 6, 2) := by decide +kernel
theorem dX1_work_26 : decode cX1_work 26 = .ok (.if_icmp .ge 54, 3) := by decide +kernel
theorem dX1_work_29 : decode cX1_work 29 = .ok (.iconst 0, 1) := by decide +kernel
theorem dX1_work_30 : decode cX1_work 30 = .ok (.istore_n 3, 1) := by decide +kernel
theorem dX1_work_31 : decode cX1_work 31 = .ok (.iload_n 3, 1) := by decide +kernel
theorem dX1_work_32 : decode cX1_work 32 = .ok (.bipush 16, 2) := by decide +kernel
theorem dX1_work_34 : decode cX1_work 34 = .ok (.if_icmp .ge 40, 3) := by decide +kernel
theorem dX1_work_37 : decode cX1_work 37 = .ok (.aload_n 0, 1) := by decide +kernel
theorem dX1_work_38 : decode cX1_work 38 = .ok (.getfield 7, 3) := by decide +kernel
theorem dX1_work_41 : decode cX1_work 41 = .ok (.iload_n 2, 1) := by decide +kernel
theorem dX1_work_42 : decode cX1_work 42 = .ok (.baload, 1) := by decide +kernel
theorem dX1_work_43 : decode cX1_work 43 = .ok (.ifCond .eq 25, 3) := by decide +kernel
theorem dX1_work_46 : decode cX1_work 46 = .ok (.iload_n 2, 1) := by decide +kernel
theorem dX1_work_47 : decode cX1_work 47 = .ok (.iload_n 1, 1) := by decide +kernel
theorem dX1_work_48 : decode cX1_work 48 = .ok (.if_icmp .eq 20, 3) := by decide +kernel
theorem dX1_work_51 : decode cX1_work 51 = .ok (.aload_n 0, 1) := by decide +kernel
theorem dX1_work_52 : decode cX1_work 52 = .ok (.aload_n 0, 1) := by decide +kernel
theorem dX1_work_53 : decode cX1_work 53 = .ok (.aload_n 0, 1) := by decide +kernel
theorem dX1_work_54 : decode cX1_work 54 = .ok (.getfield 13, 3) := by decide +kernel
theorem dX1_work_57 : decode cX1_work 57 = .ok (.iload_n 2, 1) := by decide +kernel
theorem dX1_work_58 : decode cX1_work 58 = .ok (.iaload, 1) := by decide +kernel
theorem dX1_work_59 : decode cX1_work 59 = .ok (.iconst 1, 1) := by decide +kernel
theorem dX1_work_60 : decode cX1_work 60 = .ok (.iload_n 3, 1) := by decide +kernel
theorem dX1_work_61 : decode cX1_work 61 = .ok (.ishl, 1) := by decide +kernel
theorem dX1_work_62 : decode cX1_work 62 = .ok (.invokevirtual 32, 3) := by decide +kernel
theorem dX1_work_65 : decode cX1_work 65 = .ok (.invokevirtual 36, 3) := by decide +kernel
theorem dX1_work_68 : decode cX1_work 68 = .ok (.iinc 3 1, 3) := by decide +kernel
theorem dX1_work_71 : decode cX1_work 71 = .ok (.goto (-40), 3) := by decide +kernel
theorem dX1_work_74 : decode cX1_work 74 = .ok (.iinc 2 1, 3) := by decide +kernel
theorem dX1_work_77 : decode cX1_work 77 = .ok (.goto (-54), 3) := by decide +kernel
theorem dX1_work_80 : decode cX1_work 80 = .ok (.return_, 1) := by decide +kernel
abbrev cX1_keep : ByteArray := prog_3_method_8_code
def yX1_keep : MethodName := ⟨RX1, "keep", "(I)V"⟩
theorem dX1_keep_0 : decode cX1_keep 0 = .ok (.aload_n 0, 1) := by decide +kernel
theorem dX1_keep_1 : decode cX1_keep 1 = .ok (.iload_n 1, 1) := by decide +kernel
theorem dX1_keep_2 : decode cX1_keep 2 = .ok (.invokevirtual 28, 3) := by decide +kernel
theorem dX1_keep_5 : decode cX1_keep 5 = .ok (.istore_n 2, 1) := by decide +kernel
theorem dX1_keep_6 : decode cX1_keep 6 = .ok (.bipush 15, 2) := by decide +kernel
theorem dX1_keep_8 : decode cX1_keep 8 = .ok (.istore_n 3, 1) := by decide +kernel
theorem dX1_keep_9 : decode cX1_keep 9 = .ok (.iload_n 3, 1) := by decide +kernel
theorem dX1_keep_10 : decode cX1_keep 10 = .ok (.ifCond .lt 26, 3) := by decide +kernel
theorem dX1_keep_13 : decode cX1_keep 13 = .ok (.iload_n 2, 1) := by decide +kernel
theorem dX1_keep_14 : decode cX1_keep 14 = .ok (.iload_n 3, 1) := by decide +kernel
theorem dX1_keep_15 : decode cX1_keep 15 = .ok (.ishr, 1) := by decide +kernel
theorem dX1_keep_16 : decode cX1_keep 16 = .ok (.iconst 1, 1) := by decide +kernel
theorem dX1_keep_17 : decode cX1_keep 17 = .ok (.iand, 1) := by decide +kernel
theorem dX1_keep_18 : decode cX1_keep 18 = .ok (.iconst 1, 1) := by decide +kernel
theorem dX1_keep_19 : decode cX1_keep 19 = .ok (.if_icmp .ne 11, 3) := by decide +kernel
theorem dX1_keep_22 : decode cX1_keep 22 = .ok (.aload_n 0, 1) := by decide +kernel
theorem dX1_keep_23 : decode cX1_keep 23 = .ok (.getfield 17, 3) := by decide +kernel
theorem dX1_keep_26 : decode cX1_keep 26 = .ok (.iload_n 3, 1) := by decide +kernel
theorem dX1_keep_27 : decode cX1_keep 27 = .ok (.iload_n 2, 1) := by decide +kernel
theorem dX1_keep_28 : decode cX1_keep 28 = .ok (.iastore, 1) := by decide +kernel
theorem dX1_keep_29 : decode cX1_keep 29 = .ok (.return_, 1) := by decide +kernel
theorem dX1_keep_30 : decode cX1_keep 30 = .ok (.iinc 3 (-1), 3) := by decide +kernel
theorem dX1_keep_33 : decode cX1_keep 33 = .ok (.goto (-24), 3) := by decide +kernel
theorem dX1_keep_36 : decode cX1_keep 36 = .ok (.return_, 1) := by decide +kernel
abbrev cX1_reduce : ByteArray := prog_3_method_9_code
def yX1_reduce : MethodName := ⟨RX1, "reduce", "(I)I"⟩
theorem dX1_reduce_0 : decode cX1_reduce 0 = .ok (.iload_n 1, 1) := by decide +kernel
theorem dX1_reduce_1 : decode cX1_reduce 1 = .ok (.istore_n 2, 1) := by decide +kernel
theorem dX1_reduce_2 : decode cX1_reduce 2 = .ok (.bipush 15, 2) := by decide +kernel
theorem dX1_reduce_4 : decode cX1_reduce 4 = .ok (.istore_n 3, 1) := by decide +kernel
theorem dX1_reduce_5 : decode cX1_reduce 5 = .ok (.iload_n 3, 1) := by decide +kernel
theorem dX1_reduce_6 : decode cX1_reduce 6 = .ok (.ifCond .lt 40, 3) := by decide +kernel
theorem dX1_reduce_9 : decode cX1_reduce 9 = .ok (.iload_n 2, 1) := by decide +kernel
theorem dX1_reduce_10 : decode cX1_reduce 10 = .ok (.iload_n 3, 1) := by decide +kernel
theorem dX1_reduce_11 : decode cX1_reduce 11 = .ok (.ishr, 1) := by decide +kernel
theorem dX1_reduce_12 : decode cX1_reduce 12 = .ok (.iconst 1, 1) := by decide +kernel
theorem dX1_reduce_13 : decode cX1_reduce 13 = .ok (.iand, 1) := by decide +kernel
theorem dX1_reduce_14 : decode cX1_reduce 14 = .ok (.iconst 1, 1) := by decide +kernel
theorem dX1_reduce_15 : decode cX1_reduce 15 = .ok (.if_icmp .ne 23, 3) := by decide +kernel
theorem dX1_reduce_18 : decode cX1_reduce 18 = .ok (.aload_n 0, 1) := by decide +kernel
theorem dX1_reduce_19 : decode cX1_reduce 19 = .ok (.getfield 17, 3) := by decide +kernel
theorem dX1_reduce_22 : decode cX1_reduce 22 = .ok (.iload_n 3, 1) := by decide +kernel
theorem dX1_reduce_23 : decode cX1_reduce 23 = .ok (.iaload, 1) := by decide +kernel
theorem dX1_reduce_24 : decode cX1_reduce 24 = .ok (.ifCond .eq 14, 3) := by decide +kernel
theorem dX1_reduce_27 : decode cX1_reduce 27 = .ok (.iload_n 2, 1) := by decide +kernel
theorem dX1_reduce_28 : decode cX1_reduce 28 = .ok (.aload_n 0, 1) := by decide +kernel
theorem dX1_reduce_29 : decode cX1_reduce 29 = .ok (.getfield 17, 3) := by decide +kernel
theorem dX1_reduce_32 : decode cX1_reduce 32 = .ok (.iload_n 3, 1) := by decide +kernel
theorem dX1_reduce_33 : decode cX1_reduce 33 = .ok (.iaload, 1) := by decide +kernel
theorem dX1_reduce_34 : decode cX1_reduce 34 = .ok (.ixor, 1) := by decide +kernel
theorem dX1_reduce_35 : decode cX1_reduce 35 = .ok (.goto 4, 3) := by decide +kernel
theorem dX1_reduce_38 : decode cX1_reduce 38 = .ok (.iload_n 2, 1) := by decide +kernel
theorem dX1_reduce_39 : decode cX1_reduce 39 = .ok (.istore_n 2, 1) := by decide +kernel
theorem dX1_reduce_40 : decode cX1_reduce 40 = .ok (.iinc 3 (-1), 3) := by decide +kernel
theorem dX1_reduce_43 : decode cX1_reduce 43 = .ok (.goto (-38), 3) := by decide +kernel
theorem dX1_reduce_46 : decode cX1_reduce 46 = .ok (.iload_n 2, 1) := by decide +kernel
theorem dX1_reduce_47 : decode cX1_reduce 47 = .ok (.ireturn, 1) := by decide +kernel
abbrev cX1_basisSize : ByteArray := prog_3_method_14_code
def yX1_basisSize : MethodName := ⟨RX1, "basisSize", "()I"⟩
theorem dX1_basisSize_0 : decode cX1_basisSize 0 = .ok (.aload_n 0, 1) := by decide +kernel
theorem dX1_basisSize_1 : decode cX1_basisSize 1 = .ok (.iconst (-1), 1) := by decide +kernel
theorem dX1_basisSize_2 : decode cX1_basisSize 2 = .ok (.invokevirtual 43, 3) := by decide +kernel
theorem dX1_basisSize_5 : decode cX1_basisSize 5 = .ok (.iconst 0, 1) := by decide +kernel
theorem dX1_basisSize_6 : decode cX1_basisSize 6 = .ok (.istore_n 1, 1) := by decide +kernel
theorem dX1_basisSize_7 : decode cX1_basisSize 7 = .ok (.iconst 0, 1) := by decide +kernel
theorem dX1_basisSize_8 : decode cX1_basisSize 8 = .ok (.istore_n 2, 1) := by decide +kernel
theorem dX1_basisSize_9 : decode cX1_basisSize 9 = .ok (.iload_n 2, 1) := by decide +kernel
theorem dX1_basisSize_10 : decode cX1_basisSize 10 = .ok (.bipush 16, 2) := by decide +kernel
theorem dX1_basisSize_12 : decode cX1_basisSize 12 = .ok (.if_icmp .ge 25, 3) := by decide +kernel
theorem dX1_basisSize_15 : decode cX1_basisSize 15 = .ok (.aload_n 0, 1) := by decide +kernel
theorem dX1_basisSize_16 : decode cX1_basisSize 16 = .ok (.iload_n 2, 1) := by decide +kernel
theorem dX1_basisSize_17 : decode cX1_basisSize 17 = .ok (.invokevirtual 46, 3) := by decide +kernel
theorem dX1_basisSize_20 : decode cX1_basisSize 20 = .ok (.ifCond .eq 9, 3) := by decide +kernel
theorem dX1_basisSize_23 : decode cX1_basisSize 23 = .ok (.iload_n 1, 1) := by decide +kernel
theorem dX1_basisSize_24 : decode cX1_basisSize 24 = .ok (.iconst 1, 1) := by decide +kernel
theorem dX1_basisSize_25 : decode cX1_basisSize 25 = .ok (.iadd, 1) := by decide +kernel
theorem dX1_basisSize_26 : decode cX1_basisSize 26 = .ok (.goto 4, 3) := by decide +kernel
theorem dX1_basisSize_29 : decode cX1_basisSize 29 = .ok (.iload_n 1, 1) := by decide +kernel
theorem dX1_basisSize_30 : decode cX1_basisSize 30 = .ok (.istore_n 1, 1) := by decide +kernel
theorem dX1_basisSize_31 : decode cX1_basisSize 31 = .ok (.iinc 2 1, 3) := by decide +kernel
theorem dX1_basisSize_34 : decode cX1_basisSize 34 = .ok (.goto (-25), 3) := by decide +kernel
theorem dX1_basisSize_37 : decode cX1_basisSize 37 = .ok (.iload_n 1, 1) := by decide +kernel
theorem dX1_basisSize_38 : decode cX1_basisSize 38 = .ok (.ireturn, 1) := by decide +kernel
abbrev cX1_least : ByteArray := prog_3_method_13_code
def yX1_least : MethodName := ⟨RX1, "least", "(I)Z"⟩
theorem dX1_least_0 : decode cX1_least 0 = .ok (.aload_n 0, 1) := by decide +kernel
theorem dX1_least_1 : decode cX1_least 1 = .ok (.getfield 17, 3) := by decide +kernel
theorem dX1_least_4 : decode cX1_least 4 = .ok (.iload_n 1, 1) := by decide +kernel
theorem dX1_least_5 : decode cX1_least 5 = .ok (.iaload, 1) := by decide +kernel
theorem dX1_least_6 : decode cX1_least 6 = .ok (.ifCond .eq 7, 3) := by decide +kernel
theorem dX1_least_9 : decode cX1_least 9 = .ok (.iconst 1, 1) := by decide +kernel
theorem dX1_least_10 : decode cX1_least 10 = .ok (.goto 4, 3) := by decide +kernel
theorem dX1_least_13 : decode cX1_least 13 = .ok (.iconst 0, 1) := by decide +kernel
theorem dX1_least_14 : decode cX1_least 14 = .ok (.istore_n 2, 1) := by decide +kernel
theorem dX1_least_15 : decode cX1_least 15 = .ok (.iconst 0, 1) := by decide +kernel
theorem dX1_least_16 : decode cX1_least 16 = .ok (.istore_n 3, 1) := by decide +kernel
theorem dX1_least_17 : decode cX1_least 17 = .ok (.iload_n 3, 1) := by decide +kernel
theorem dX1_least_18 : decode cX1_least 18 = .ok (.bipush 16, 2) := by decide +kernel
theorem dX1_least_20 : decode cX1_least 20 = .ok (.if_icmp .ge 41, 3) := by decide +kernel
theorem dX1_least_23 : decode cX1_least 23 = .ok (.iload_n 2, 1) := by decide +kernel
theorem dX1_least_24 : decode cX1_least 24 = .ok (.ifCond .eq 29, 3) := by decide +kernel
theorem dX1_least_27 : decode cX1_least 27 = .ok (.iload_n 3, 1) := by decide +kernel
theorem dX1_least_28 : decode cX1_least 28 = .ok (.iload_n 1, 1) := by decide +kernel
theorem dX1_least_29 : decode cX1_least 29 = .ok (.if_icmp .eq 20, 3) := by decide +kernel
theorem dX1_least_32 : decode cX1_least 32 = .ok (.iload_n 3, 1) := by decide +kernel
theorem dX1_least_33 : decode cX1_least 33 = .ok (.iload_n 1, 1) := by decide +kernel
theorem dX1_least_34 : decode cX1_least 34 = .ok (.iconst (-1), 1) := by decide +kernel
theorem dX1_least_35 : decode cX1_least 35 = .ok (.ixor, 1) := by decide +kernel
theorem dX1_least_36 : decode cX1_least 36 = .ok (.iand, 1) := by decide +kernel
theorem dX1_least_37 : decode cX1_least 37 = .ok (.ifCond .ne 12, 3) := by decide +kernel
theorem dX1_least_40 : decode cX1_least 40 = .ok (.aload_n 0, 1) := by decide +kernel
theorem dX1_least_41 : decode cX1_least 41 = .ok (.getfield 17, 3) := by decide +kernel
theorem dX1_least_44 : decode cX1_least 44 = .ok (.iload_n 3, 1) := by decide +kernel
theorem dX1_least_45 : decode cX1_least 45 = .ok (.iaload, 1) := by decide +kernel
theorem dX1_least_46 : decode cX1_least 46 = .ok (.ifCond .ne 7, 3) := by decide +kernel
theorem dX1_least_49 : decode cX1_least 49 = .ok (.iconst 1, 1) := by decide +kernel
theorem dX1_least_50 : decode cX1_least 50 = .ok (.goto 4, 3) := by decide +kernel
theorem dX1_least_53 : decode cX1_least 53 = .ok (.iconst 0, 1) := by decide +kernel
theorem dX1_least_54 : decode cX1_least 54 = .ok (.istore_n 2, 1) := by decide +kernel
theorem dX1_least_55 : decode cX1_least 55 = .ok (.iinc 3 1, 3) := by decide +kernel
theorem dX1_least_58 : decode cX1_least 58 = .ok (.goto (-41), 3) := by decide +kernel
theorem dX1_least_61 : decode cX1_least 61 = .ok (.iload_n 2, 1) := by decide +kernel
theorem dX1_least_62 : decode cX1_least 62 = .ok (.ireturn, 1) := by decide +kernel
abbrev cX1_basisAt : ByteArray := prog_3_method_15_code
def yX1_basisAt : MethodName := ⟨RX1, "basisAt", "(I)I"⟩
theorem dX1_basisAt_0 : decode cX1_basisAt 0 = .ok (.aload_n 0, 1) := by decide +kernel
theorem dX1_basisAt_1 : decode cX1_basisAt 1 = .ok (.iconst (-1), 1) := by decide +kernel
theorem dX1_basisAt_2 : decode cX1_basisAt 2 = .ok (.invokevirtual 43, 3) := by decide +kernel
theorem dX1_basisAt_5 : decode cX1_basisAt 5 = .ok (.iconst 0, 1) := by decide +kernel
theorem dX1_basisAt_6 : decode cX1_basisAt 6 = .ok (.istore_n 2, 1) := by decide +kernel
theorem dX1_basisAt_7 : decode cX1_basisAt 7 = .ok (.iconst 0, 1) := by decide +kernel
theorem dX1_basisAt_8 : decode cX1_basisAt 8 = .ok (.istore_n 3, 1) := by decide +kernel
theorem dX1_basisAt_9 : decode cX1_basisAt 9 = .ok (.iload_n 3, 1) := by decide +kernel
theorem dX1_basisAt_10 : decode cX1_basisAt 10 = .ok (.bipush 16, 2) := by decide +kernel
theorem dX1_basisAt_12 : decode cX1_basisAt 12 = .ok (.if_icmp .ge 37, 3) := by decide +kernel
theorem dX1_basisAt_15 : decode cX1_basisAt 15 = .ok (.aload_n 0, 1) := by decide +kernel
theorem dX1_basisAt_16 : decode cX1_basisAt 16 = .ok (.iload_n 3, 1) := by decide +kernel
theorem dX1_basisAt_17 : decode cX1_basisAt 17 = .ok (.invokevirtual 46, 3) := by decide +kernel
theorem dX1_basisAt_20 : decode cX1_basisAt 20 = .ok (.ifCond .eq 23, 3) := by decide +kernel
theorem dX1_basisAt_23 : decode cX1_basisAt 23 = .ok (.iload_n 2, 1) := by decide +kernel
theorem dX1_basisAt_24 : decode cX1_basisAt 24 = .ok (.iload_n 1, 1) := by decide +kernel
theorem dX1_basisAt_25 : decode cX1_basisAt 25 = .ok (.if_icmp .ne 15, 3) := by decide +kernel
theorem dX1_basisAt_28 : decode cX1_basisAt 28 = .ok (.iconst 1, 1) := by decide +kernel
theorem dX1_basisAt_29 : decode cX1_basisAt 29 = .ok (.iload_n 3, 1) := by decide +kernel
theorem dX1_basisAt_30 : decode cX1_basisAt 30 = .ok (.ishl, 1) := by decide +kernel
theorem dX1_basisAt_31 : decode cX1_basisAt 31 = .ok (.aload_n 0, 1) := by decide +kernel
theorem dX1_basisAt_32 : decode cX1_basisAt 32 = .ok (.iconst 1, 1) := by decide +kernel
theorem dX1_basisAt_33 : decode cX1_basisAt 33 = .ok (.iload_n 3, 1) := by decide +kernel
theorem dX1_basisAt_34 : decode cX1_basisAt 34 = .ok (.ishl, 1) := by decide +kernel
theorem dX1_basisAt_35 : decode cX1_basisAt 35 = .ok (.invokevirtual 28, 3) := by decide +kernel
theorem dX1_basisAt_38 : decode cX1_basisAt 38 = .ok (.ixor, 1) := by decide +kernel
theorem dX1_basisAt_39 : decode cX1_basisAt 39 = .ok (.ireturn, 1) := by decide +kernel
theorem dX1_basisAt_40 : decode cX1_basisAt 40 = .ok (.iinc 2 1, 3) := by decide +kernel
theorem dX1_basisAt_43 : decode cX1_basisAt 43 = .ok (.iinc 3 1, 3) := by decide +kernel
theorem dX1_basisAt_46 : decode cX1_basisAt 46 = .ok (.goto (-37), 3) := by decide +kernel
theorem dX1_basisAt_49 : decode cX1_basisAt 49 = .ok (.iconst (-1), 1) := by decide +kernel
theorem dX1_basisAt_50 : decode cX1_basisAt 50 = .ok (.ireturn, 1) := by decide +kernel
abbrev cX1_bound : ByteArray := prog_3_method_16_code
def yX1_bound : MethodName := ⟨RX1, "bound", "()I"⟩
theorem dX1_bound_0 : decode cX1_bound 0 = .ok (.aload_n 0, 1) := by decide +kernel
theorem dX1_bound_1 : decode cX1_bound 1 = .ok (.iconst (-1), 1) := by decide +kernel
theorem dX1_bound_2 : decode cX1_bound 2 = .ok (.invokevirtual 43, 3) := by decide +kernel
theorem dX1_bound_5 : decode cX1_bound 5 = .ok (.iconst 0, 1) := by decide +kernel
theorem dX1_bound_6 : decode cX1_bound 6 = .ok (.istore_n 1, 1) := by decide +kernel
theorem dX1_bound_7 : decode cX1_bound 7 = .ok (.iconst 0, 1) := by decide +kernel
theorem dX1_bound_8 : decode cX1_bound 8 = .ok (.istore_n 2, 1) := by decide +kernel
theorem dX1_bound_9 : decode cX1_bound 9 = .ok (.iload_n 2, 1) := by decide +kernel
theorem dX1_bound_10 : decode cX1_bound 10 = .ok (.bipush 16, 2) := by decide +kernel
theorem dX1_bound_12 : decode cX1_bound 12 = .ok (.if_icmp .ge 28, 3) := by decide +kernel
theorem dX1_bound_15 : decode cX1_bound 15 = .ok (.aload_n 0, 1) := by decide +kernel
theorem dX1_bound_16 : decode cX1_bound 16 = .ok (.getfield 17, 3) := by decide +kernel
theorem dX1_bound_19 : decode cX1_bound 19 = .ok (.iload_n 2, 1) := by decide +kernel
theorem dX1_bound_20 : decode cX1_bound 20 = .ok (.iaload, 1) := by decide +kernel
theorem dX1_bound_21 : decode cX1_bound 21 = .ok (.ifCond .eq 11, 3) := by decide +kernel
theorem dX1_bound_24 : decode cX1_bound 24 = .ok (.iload_n 1, 1) := by decide +kernel
theorem dX1_bound_25 : decode cX1_bound 25 = .ok (.iconst 1, 1) := by decide +kernel
theorem dX1_bound_26 : decode cX1_bound 26 = .ok (.iload_n 2, 1) := by decide +kernel
theorem dX1_bound_27 : decode cX1_bound 27 = .ok (.ishl, 1) := by decide +kernel
theorem dX1_bound_28 : decode cX1_bound 28 = .ok (.ior, 1) := by decide +kernel
theorem dX1_bound_29 : decode cX1_bound 29 = .ok (.goto 4, 3) := by decide +kernel
theorem dX1_bound_32 : decode cX1_bound 32 = .ok (.iload_n 1, 1) := by decide +kernel
theorem dX1_bound_33 : decode cX1_bound 33 = .ok (.istore_n 1, 1) := by decide +kernel
theorem dX1_bound_34 : decode cX1_bound 34 = .ok (.iinc 2 1, 3) := by decide +kernel
theorem dX1_bound_37 : decode cX1_bound 37 = .ok (.goto (-28), 3) := by decide +kernel
theorem dX1_bound_40 : decode cX1_bound 40 = .ok (.iload_n 1, 1) := by decide +kernel
theorem dX1_bound_41 : decode cX1_bound 41 = .ok (.ireturn, 1) := by decide +kernel
abbrev cX1_zeros : ByteArray := prog_3_method_17_code
def yX1_zeros : MethodName := ⟨RX1, "zeros", "()I"⟩
theorem dX1_zeros_0 : decode cX1_zeros 0 = .ok (.iconst 0, 1) := by decide +kernel
theorem dX1_zeros_1 : decode cX1_zeros 1 = .ok (.istore_n 1, 1) := by decide +kernel
theorem dX1_zeros_2 : decode cX1_zeros 2 = .ok (.iconst 0, 1) := by decide +kernel
theorem dX1_zeros_3 : decode cX1_zeros 3 = .ok (.istore_n 2, 1) := by decide +kernel
theorem dX1_zeros_4 : decode cX1_zeros 4 = .ok (.iload_n 2, 1) := by decide +kernel
theorem dX1_zeros_5 : decode cX1_zeros 5 = .ok (.bipush 16, 2) := by decide +kernel
theorem dX1_zeros_7 : decode cX1_zeros 7 = .ok (.if_icmp .ge 76, 3) := by decide +kernel
theorem dX1_zeros_10 : decode cX1_zeros 10 = .ok (.iconst 1, 1) := by decide +kernel
theorem dX1_zeros_11 : decode cX1_zeros 11 = .ok (.istore_n 3, 1) := by decide +kernel
theorem dX1_zeros_12 : decode cX1_zeros 12 = .ok (.iconst 0, 1) := by decide +kernel
theorem dX1_zeros_13 : decode cX1_zeros 13 = .ok (.istore 4, 2) := by decide +kernel
theorem dX1_zeros_15 : decode cX1_zeros 15 = .ok (.iload 4, 2) := by decide +kernel
theorem dX1_zeros_17 : decode cX1_zeros 17 = .ok (.bipush 6, 2) := by decide +kernel
theorem dX1_zeros_19 : decode cX1_zeros 19 = .ok (.if_icmp .ge 44, 3) := by decide +kernel
theorem dX1_zeros_22 : decode cX1_zeros 22 = .ok (.iload_n 3, 1) := by decide +kernel
theorem dX1_zeros_23 : decode cX1_zeros 23 = .ok (.ifCond .eq 32, 3) := by decide +kernel
theorem dX1_zeros_26 : decode cX1_zeros 26 = .ok (.aload_n 0, 1) := by decide +kernel
theorem dX1_zeros_27 : decode cX1_zeros 27 = .ok (.getfield 7, 3) := by decide +kernel
theorem dX1_zeros_30 : decode cX1_zeros 30 = .ok (.iload 4, 2) := by decide +kernel
theorem dX1_zeros_32 : decode cX1_zeros 32 = .ok (.baload, 1) := by decide +kernel
theorem dX1_zeros_33 : decode cX1_zeros 33 = .ok (.ifCond .eq 18, 3) := by decide +kernel
theorem dX1_zeros_36 : decode cX1_zeros 36 = .ok (.aload_n 0, 1) := by decide +kernel
theorem dX1_zeros_37 : decode cX1_zeros 37 = .ok (.aload_n 0, 1) := by decide +kernel
theorem dX1_zeros_38 : decode cX1_zeros 38 = .ok (.getfield 13, 3) := by decide +kernel
theorem dX1_zeros_41 : decode cX1_zeros 41 = .ok (.iload 4, 2) := by decide +kernel
theorem dX1_zeros_43 : decode cX1_zeros 43 = .ok (.iaload, 1) := by decide +kernel
theorem dX1_zeros_44 : decode cX1_zeros 44 = .ok (.iload_n 2, 1) := by decide +kernel
theorem dX1_zeros_45 : decode cX1_zeros 45 = .ok (.invokevirtual 49, 3) := by decide +kernel
theorem dX1_zeros_48 : decode cX1_zeros 48 = .ok (.ifCond .ne 7, 3) := by decide +kernel
theorem dX1_zeros_51 : decode cX1_zeros 51 = .ok (.iconst 1, 1) := by decide +kernel
theorem dX1_zeros_52 : decode cX1_zeros 52 = .ok (.goto 4, 3) := by decide +kernel
theorem dX1_zeros_55 : decode cX1_zeros 55 = .ok (.iconst 0, 1) := by decide +kernel
theorem dX1_zeros_56 : decode cX1_zeros 56 = .ok (.istore_n 3, 1) := by decide +kernel
theorem dX1_zeros_57 : decode cX1_zeros 57 = .ok (.iinc 4 1, 3) := by decide +kernel
theorem dX1_zeros_60 : decode cX1_zeros 60 = .ok (.goto (-45), 3) := by decide +kernel
theorem dX1_zeros_63 : decode cX1_zeros 63 = .ok (.iload_n 3, 1) := by decide +kernel
theorem dX1_zeros_64 : decode cX1_zeros 64 = .ok (.ifCond .eq 11, 3) := by decide +kernel
theorem dX1_zeros_67 : decode cX1_zeros 67 = .ok (.iload_n 1, 1) := by decide +kernel
theorem dX1_zeros_68 : decode cX1_zeros 68 = .ok (.iconst 1, 1) := by decide +kernel
theorem dX1_zeros_69 : decode cX1_zeros 69 = .ok (.iload_n 2, 1) := by decide +kernel
theorem dX1_zeros_70 : decode cX1_zeros 70 = .ok (.ishl, 1) := by decide +kernel
theorem dX1_zeros_71 : decode cX1_zeros 71 = .ok (.ior, 1) := by decide +kernel
theorem dX1_zeros_72 : decode cX1_zeros 72 = .ok (.goto 4, 3) := by decide +kernel
theorem dX1_zeros_75 : decode cX1_zeros 75 = .ok (.iload_n 1, 1) := by decide +kernel
theorem dX1_zeros_76 : decode cX1_zeros 76 = .ok (.istore_n 1, 1) := by decide +kernel
theorem dX1_zeros_77 : decode cX1_zeros 77 = .ok (.iinc 2 1, 3) := by decide +kernel
theorem dX1_zeros_80 : decode cX1_zeros 80 = .ok (.goto (-76), 3) := by decide +kernel
theorem dX1_zeros_83 : decode cX1_zeros 83 = .ok (.iload_n 1, 1) := by decide +kernel
theorem dX1_zeros_84 : decode cX1_zeros 84 = .ok (.ireturn, 1) := by decide +kernel
abbrev cX1_zeroCount : ByteArray := prog_3_method_18_code
def yX1_zeroCount : MethodName := ⟨RX1, "zeroCount", "()I"⟩
theorem dX1_zeroCount_0 : decode cX1_zeroCount 0 = .ok (.aload_n 0, 1) := by decide +kernel
theorem dX1_zeroCount_1 : decode cX1_zeroCount 1 = .ok (.invokevirtual 52, 3) := by decide +kernel
theorem dX1_zeroCount_4 : decode cX1_zeroCount 4 = .ok (.istore_n 1, 1) := by decide +kernel
theorem dX1_zeroCount_5 : decode cX1_zeroCount 5 = .ok (.iconst 0, 1) := by decide +kernel
theorem dX1_zeroCount_6 : decode cX1_zeroCount 6 = .ok (.istore_n 2, 1) := by decide +kernel
theorem dX1_zeroCount_7 : decode cX1_zeroCount 7 = .ok (.iconst 0, 1) := by decide +kernel
theorem dX1_zeroCount_8 : decode cX1_zeroCount 8 = .ok (.istore_n 3, 1) := by decide +kernel
theorem dX1_zeroCount_9 : decode cX1_zeroCount 9 = .ok (.iload_n 3, 1) := by decide +kernel
theorem dX1_zeroCount_10 : decode cX1_zeroCount 10 = .ok (.bipush 16, 2) := by decide +kernel
theorem dX1_zeroCount_12 : decode cX1_zeroCount 12 = .ok (.if_icmp .ge 17, 3) := by decide +kernel
theorem dX1_zeroCount_15 : decode cX1_zeroCount 15 = .ok (.iload_n 2, 1) := by decide +kernel
theorem dX1_zeroCount_16 : decode cX1_zeroCount 16 = .ok (.iload_n 1, 1) := by decide +kernel
theorem dX1_zeroCount_17 : decode cX1_zeroCount 17 = .ok (.iload_n 3, 1) := by decide +kernel
theorem dX1_zeroCount_18 : decode cX1_zeroCount 18 = .ok (.ishr, 1) := by decide +kernel
theorem dX1_zeroCount_19 : decode cX1_zeroCount 19 = .ok (.iconst 1, 1) := by decide +kernel
theorem dX1_zeroCount_20 : decode cX1_zeroCount 20 = .ok (.iand, 1) := by decide +kernel
theorem dX1_zeroCount_21 : decode cX1_zeroCount 21 = .ok (.iadd, 1) := by decide +kernel
theorem dX1_zeroCount_22 : decode cX1_zeroCount 22 = .ok (.istore_n 2, 1) := by decide +kernel
theorem dX1_zeroCount_23 : decode cX1_zeroCount 23 = .ok (.iinc 3 1, 3) := by decide +kernel
theorem dX1_zeroCount_26 : decode cX1_zeroCount 26 = .ok (.goto (-17), 3) := by decide +kernel
theorem dX1_zeroCount_29 : decode cX1_zeroCount 29 = .ok (.iload_n 2, 1) := by decide +kernel
theorem dX1_zeroCount_30 : decode cX1_zeroCount 30 = .ok (.ireturn, 1) := by decide +kernel
abbrev cX1_values : ByteArray := prog_3_method_19_code
def yX1_values : MethodName := ⟨RX1, "values", "(I)I"⟩
theorem dX1_values_0 : decode cX1_values 0 = .ok (.aload_n 0, 1) := by decide +kernel
theorem dX1_values_1 : decode cX1_values 1 = .ok (.invokevirtual 52, 3) := by decide +kernel
theorem dX1_values_4 : decode cX1_values 4 = .ok (.istore_n 2, 1) := by decide +kernel
theorem dX1_values_5 : decode cX1_values 5 = .ok (.iconst 0, 1) := by decide +kernel
theorem dX1_values_6 : decode cX1_values 6 = .ok (.istore_n 3, 1) := by decide +kernel
theorem dX1_values_7 : decode cX1_values 7 = .ok (.iconst 0, 1) := by decide +kernel
theorem dX1_values_8 : decode cX1_values 8 = .ok (.istore 4, 2) := by decide +kernel
theorem dX1_values_10 : decode cX1_values 10 = .ok (.iload 4, 2) := by decide +kernel
theorem dX1_values_12 : decode cX1_values 12 = .ok (.bipush 16, 2) := by decide +kernel
theorem dX1_values_14 : decode cX1_values 14 = .ok (.if_icmp .ge 43, 3) := by decide +kernel
theorem dX1_values_17 : decode cX1_values 17 = .ok (.iload_n 1, 1) := by decide +kernel
theorem dX1_values_18 : decode cX1_values 18 = .ok (.ifCond .lt 39, 3) := by decide +kernel
theorem dX1_values_21 : decode cX1_values 21 = .ok (.iload_n 1, 1) := by decide +kernel
theorem dX1_values_22 : decode cX1_values 22 = .ok (.iconst 3, 1) := by decide +kernel
theorem dX1_values_23 : decode cX1_values 23 = .ok (.if_icmp .gt 34, 3) := by decide +kernel
theorem dX1_values_26 : decode cX1_values 26 = .ok (.iload_n 2, 1) := by decide +kernel
theorem dX1_values_27 : decode cX1_values 27 = .ok (.iload 4, 2) := by decide +kernel
theorem dX1_values_29 : decode cX1_values 29 = .ok (.ishr, 1) := by decide +kernel
theorem dX1_values_30 : decode cX1_values 30 = .ok (.iconst 1, 1) := by decide +kernel
theorem dX1_values_31 : decode cX1_values 31 = .ok (.iand, 1) := by decide +kernel
theorem dX1_values_32 : decode cX1_values 32 = .ok (.iconst 1, 1) := by decide +kernel
theorem dX1_values_33 : decode cX1_values 33 = .ok (.if_icmp .ne 16, 3) := by decide +kernel
theorem dX1_values_36 : decode cX1_values 36 = .ok (.iload_n 3, 1) := by decide +kernel
theorem dX1_values_37 : decode cX1_values 37 = .ok (.iconst 1, 1) := by decide +kernel
theorem dX1_values_38 : decode cX1_values 38 = .ok (.iload 4, 2) := by decide +kernel
theorem dX1_values_40 : decode cX1_values 40 = .ok (.iload_n 1, 1) := by decide +kernel
theorem dX1_values_41 : decode cX1_values 41 = .ok (.ishr, 1) := by decide +kernel
theorem dX1_values_42 : decode cX1_values 42 = .ok (.iconst 1, 1) := by decide +kernel
theorem dX1_values_43 : decode cX1_values 43 = .ok (.iand, 1) := by decide +kernel
theorem dX1_values_44 : decode cX1_values 44 = .ok (.ishl, 1) := by decide +kernel
theorem dX1_values_45 : decode cX1_values 45 = .ok (.ior, 1) := by decide +kernel
theorem dX1_values_46 : decode cX1_values 46 = .ok (.goto 4, 3) := by decide +kernel
theorem dX1_values_49 : decode cX1_values 49 = .ok (.iload_n 3, 1) := by decide +kernel
theorem dX1_values_50 : decode cX1_values 50 = .ok (.istore_n 3, 1) := by decide +kernel
theorem dX1_values_51 : decode cX1_values 51 = .ok (.iinc 4 1, 3) := by decide +kernel
theorem dX1_values_54 : decode cX1_values 54 = .ok (.goto (-44), 3) := by decide +kernel
theorem dX1_values_57 : decode cX1_values 57 = .ok (.iload_n 3, 1) := by decide +kernel
theorem dX1_values_58 : decode cX1_values 58 = .ok (.ireturn, 1) := by decide +kernel
abbrev cX1_redundant : ByteArray := prog_3_method_20_code
def yX1_redundant : MethodName := ⟨RX1, "redundant", "(I)Z"⟩
theorem dX1_redundant_0 : decode cX1_redundant 0 = .ok (.iload_n 1, 1) := by decide +kernel
theorem dX1_redundant_1 : decode cX1_redundant 1 = .ok (.ifCond .lt 17, 3) := by decide +kernel
theorem dX1_redundant_4 : decode cX1_redundant 4 = .ok (.iload_n 1, 1) := by decide +kernel
theorem dX1_redundant_5 : decode cX1_redundant 5 = .ok (.iconst 5, 1) := by decide +kernel
theorem dX1_redundant_6 : decode cX1_redundant 6 = .ok (.if_icmp .gt 12, 3) := by decide +kernel
theorem dX1_redundant_9 : decode cX1_redundant 9 = .ok (.aload_n 0, 1) := by decide +kernel
theorem dX1_redundant_10 : decode cX1_redundant 10 = .ok (.getfield 7, 3) := by decide +kernel
theorem dX1_redundant_13 : decode cX1_redundant 13 = .ok (.iload_n 1, 1) := by decide +kernel
theorem dX1_redundant_14 : decode cX1_redundant 14 = .ok (.baload, 1) := by decide +kernel
theorem dX1_redundant_15 : decode cX1_redundant 15 = .ok (.ifCond .ne 5, 3) := by decide +kernel
theorem dX1_redundant_18 : decode cX1_redundant 18 = .ok (.iconst 0, 1) := by decide +kernel
theorem dX1_redundant_19 : decode cX1_redundant 19 = .ok (.ireturn, 1) := by decide +kernel
theorem dX1_redundant_20 : decode cX1_redundant 20 = .ok (.aload_n 0, 1) := by decide +kernel
theorem dX1_redundant_21 : decode cX1_redundant 21 = .ok (.iload_n 1, 1) := by decide +kernel
theorem dX1_redundant_22 : decode cX1_redundant 22 = .ok (.invokevirtual 43, 3) := by decide +kernel
theorem dX1_redundant_25 : decode cX1_redundant 25 = .ok (.aload_n 0, 1) := by decide +kernel
theorem dX1_redundant_26 : decode cX1_redundant 26 = .ok (.aload_n 0, 1) := by decide +kernel
theorem dX1_redundant_27 : decode cX1_redundant 27 = .ok (.getfield 13, 3) := by decide +kernel
theorem dX1_redundant_30 : decode cX1_redundant 30 = .ok (.iload_n 1, 1) := by decide +kernel
theorem dX1_redundant_31 : decode cX1_redundant 31 = .ok (.iaload, 1) := by decide +kernel
theorem dX1_redundant_32 : decode cX1_redundant 32 = .ok (.invokevirtual 28, 3) := by decide +kernel
theorem dX1_redundant_35 : decode cX1_redundant 35 = .ok (.ifCond .ne 7, 3) := by decide +kernel
theorem dX1_redundant_38 : decode cX1_redundant 38 = .ok (.iconst 1, 1) := by decide +kernel
theorem dX1_redundant_39 : decode cX1_redundant 39 = .ok (.goto 4, 3) := by decide +kernel
theorem dX1_redundant_42 : decode cX1_redundant 42 = .ok (.iconst 0, 1) := by decide +kernel
theorem dX1_redundant_43 : decode cX1_redundant 43 = .ok (.ireturn, 1) := by decide +kernel
abbrev cX1_relates : ByteArray := prog_3_method_21_code
def yX1_relates : MethodName := ⟨RX1, "relates", "(I)Z"⟩
theorem dX1_relates_0 : decode cX1_relates 0 = .ok (.iload_n 1, 1) := by decide +kernel
theorem dX1_relates_1 : decode cX1_relates 1 = .ok (.ifCond .lt 9, 3) := by decide +kernel
theorem dX1_relates_4 : decode cX1_relates 4 = .ok (.iload_n 1, 1) := by decide +kernel
theorem dX1_relates_5 : decode cX1_relates 5 = .ok (.bipush 15, 2) := by decide +kernel
theorem dX1_relates_7 : decode cX1_relates 7 = .ok (.if_icmp .le 5, 3) := by decide +kernel
theorem dX1_relates_10 : decode cX1_relates 10 = .ok (.iconst 0, 1) := by decide +kernel
theorem dX1_relates_11 : decode cX1_relates 11 = .ok (.ireturn, 1) := by decide +kernel
theorem dX1_relates_12 : decode cX1_relates 12 = .ok (.aload_n 0, 1) := by decide +kernel
theorem dX1_relates_13 : decode cX1_relates 13 = .ok (.iconst (-1), 1) := by decide +kernel
theorem dX1_relates_14 : decode cX1_relates 14 = .ok (.invokevirtual 43, 3) := by decide +kernel
theorem dX1_relates_17 : decode cX1_relates 17 = .ok (.iconst 0, 1) := by decide +kernel
theorem dX1_relates_18 : decode cX1_relates 18 = .ok (.istore_n 2, 1) := by decide +kernel
theorem dX1_relates_19 : decode cX1_relates 19 = .ok (.iload_n 2, 1) := by decide +kernel
theorem dX1_relates_20 : decode cX1_relates 20 = .ok (.bipush 16, 2) := by decide +kernel
theorem dX1_relates_22 : decode cX1_relates 22 = .ok (.if_icmp .ge 16, 3) := by decide +kernel
theorem dX1_relates_25 : decode cX1_relates 25 = .ok (.aload_n 0, 1) := by decide +kernel
theorem dX1_relates_26 : decode cX1_relates 26 = .ok (.getfield 20, 3) := by decide +kernel
theorem dX1_relates_29 : decode cX1_relates 29 = .ok (.iload_n 2, 1) := by decide +kernel
theorem dX1_relates_30 : decode cX1_relates 30 = .ok (.iconst 0, 1) := by decide +kernel
theorem dX1_relates_31 : decode cX1_relates 31 = .ok (.iastore, 1) := by decide +kernel
theorem dX1_relates_32 : decode cX1_relates 32 = .ok (.iinc 2 1, 3) := by decide +kernel
theorem dX1_relates_35 : decode cX1_relates 35 = .ok (.goto (-16), 3) := by decide +kernel
theorem dX1_relates_38 : decode cX1_relates 38 = .ok (.iconst 0, 1) := by decide +kernel
theorem dX1_relates_39 : decode cX1_relates 39 = .ok (.istore_n 2, 1) := by decide +kernel
theorem dX1_relates_40 : decode cX1_relates 40 = .ok (.iconst 0, 1) := by decide +kernel
theorem dX1_relates_41 : decode cX1_relates 41 = .ok (.istore_n 3, 1) := by decide +kernel
theorem dX1_relates_42 : decode cX1_relates 42 = .ok (.iload_n 3, 1) := by decide +kernel
theorem dX1_relates_43 : decode cX1_relates 43 = .ok (.bipush 16, 2) := by decide +kernel
theorem dX1_relates_45 : decode cX1_relates 45 = .ok (.if_icmp .ge 41, 3) := by decide +kernel
theorem dX1_relates_48 : decode cX1_relates 48 = .ok (.iload_n 3, 1) := by decide +kernel
theorem dX1_relates_49 : decode cX1_relates 49 = .ok (.iload_n 1, 1) := by decide +kernel
theorem dX1_relates_50 : decode cX1_relates 50 = .ok (.iconst (-1), 1) := by decide +kernel
theorem dX1_relates_51 : decode cX1_relates 51 = .ok (.ixor, 1) := by decide +kernel
theorem dX1_relates_52 : decode cX1_relates 52 = .ok (.iand, 1) := by decide +kernel
theorem dX1_relates_53 : decode cX1_relates 53 = .ok (.ifCond .ne 27, 3) := by decide +kernel
theorem dX1_relates_56 : decode cX1_relates 56 = .ok (.iload_n 2, 1) := by decide +kernel
theorem dX1_relates_57 : decode cX1_relates 57 = .ok (.ifCond .ne 17, 3) := by decide +kernel
theorem dX1_relates_60 : decode cX1_relates 60 = .ok (.aload_n 0, 1) := by decide +kernel
theorem dX1_relates_61 : decode cX1_relates 61 = .ok (.aload_n 0, 1) := by decide +kernel
theorem dX1_relates_62 : decode cX1_relates 62 = .ok (.iconst 1, 1) := by decide +kernel
theorem dX1_relates_63 : decode cX1_relates 63 = .ok (.iload_n 3, 1) := by decide +kernel
theorem dX1_relates_64 : decode cX1_relates 64 = .ok (.ishl, 1) := by decide +kernel
theorem dX1_relates_65 : decode cX1_relates 65 = .ok (.invokevirtual 28, 3) := by decide +kernel
theorem dX1_relates_68 : decode cX1_relates 68 = .ok (.invokevirtual 56, 3) := by decide +kernel
theorem dX1_relates_71 : decode cX1_relates 71 = .ok (.ifCond .ne 7, 3) := by decide +kernel
theorem dX1_relates_74 : decode cX1_relates 74 = .ok (.iconst 1, 1) := by decide +kernel
theorem dX1_relates_75 : decode cX1_relates 75 = .ok (.goto 4, 3) := by decide +kernel
theorem dX1_relates_78 : decode cX1_relates 78 = .ok (.iconst 0, 1) := by decide +kernel
theorem dX1_relates_79 : decode cX1_relates 79 = .ok (.istore_n 2, 1) := by decide +kernel
theorem dX1_relates_80 : decode cX1_relates 80 = .ok (.iinc 3 1, 3) := by decide +kernel
theorem dX1_relates_83 : decode cX1_relates 83 = .ok (.goto (-41), 3) := by decide +kernel
theorem dX1_relates_86 : decode cX1_relates 86 = .ok (.iload_n 2, 1) := by decide +kernel
theorem dX1_relates_87 : decode cX1_relates 87 = .ok (.ireturn, 1) := by decide +kernel
abbrev cX1_independent : ByteArray := prog_3_method_22_code
def yX1_independent : MethodName := ⟨RX1, "independent", "(I)Z"⟩
theorem dX1_independent_0 : decode cX1_independent 0 = .ok (.iload_n 1, 1) := by decide +kernel
theorem dX1_independent_1 : decode cX1_independent 1 = .ok (.istore_n 2, 1) := by decide +kernel
theorem dX1_independent_2 : decode cX1_independent 2 = .ok (.bipush 15, 2) := by decide +kernel
theorem dX1_independent_4 : decode cX1_independent 4 = .ok (.istore_n 3, 1) := by decide +kernel
theorem dX1_independent_5 : decode cX1_independent 5 = .ok (.iload_n 3, 1) := by decide +kernel
theorem dX1_independent_6 : decode cX1_independent 6 = .ok (.ifCond .lt 45, 3) := by decide +kernel
theorem dX1_independent_9 : decode cX1_independent 9 = .ok (.iload_n 2, 1) := by decide +kernel
theorem dX1_independent_10 : decode cX1_independent 10 = .ok (.iload_n 3, 1) := by decide +kernel
theorem dX1_independent_11 : decode cX1_independent 11 = .ok (.ishr, 1) := by decide +kernel
theorem dX1_independent_12 : decode cX1_independent 12 = .ok (.iconst 1, 1) := by decide +kernel
theorem dX1_independent_13 : decode cX1_independent 13 = .ok (.iand, 1) := by decide +kernel
theorem dX1_independent_14 : decode cX1_independent 14 = .ok (.iconst 1, 1) := by decide +kernel
theorem dX1_independent_15 : decode cX1_independent 15 = .ok (.if_icmp .ne 30, 3) := by decide +kernel
theorem dX1_independent_18 : decode cX1_independent 18 = .ok (.aload_n 0, 1) := by decide +kernel
theorem dX1_independent_19 : decode cX1_independent 19 = .ok (.getfield 20, 3) := by decide +kernel
theorem dX1_independent_22 : decode cX1_independent 22 = .ok (.iload_n 3, 1) := by decide +kernel
theorem dX1_independent_23 : decode cX1_independent 23 = .ok (.iaload, 1) := by decide +kernel
theorem dX1_independent_24 : decode cX1_independent 24 = .ok (.ifCond .ne 12, 3) := by decide +kernel
theorem dX1_independent_27 : decode cX1_independent 27 = .ok (.aload_n 0, 1) := by decide +kernel
theorem dX1_independent_28 : decode cX1_independent 28 = .ok (.getfield 20, 3) := by decide +kernel
theorem dX1_independent_31 : decode cX1_independent 31 = .ok (.iload_n 3, 1) := by decide +kernel
theorem dX1_independent_32 : decode cX1_independent 32 = .ok (.iload_n 2, 1) := by decide +kernel
theorem dX1_independent_33 : decode cX1_independent 33 = .ok (.iastore, 1) := by decide +kernel
theorem dX1_independent_34 : decode cX1_independent 34 = .ok (.iconst 1, 1) := by decide +kernel
theorem dX1_independent_35 : decode cX1_independent 35 = .ok (.ireturn, 1) := by decide +kernel
theorem dX1_independent_36 : decode cX1_independent 36 = .ok (.iload_n 2, 1) := by decide +kernel
theorem dX1_independent_37 : decode cX1_independent 37 = .ok (.aload_n 0, 1) := by decide +kernel
theorem dX1_independent_38 : decode cX1_independent 38 = .ok (.getfield 20, 3) := by decide +kernel
theorem dX1_independent_41 : decode cX1_independent 41 = .ok (.iload_n 3, 1) := by decide +kernel
theorem dX1_independent_42 : decode cX1_independent 42 = .ok (.iaload, 1) := by decide +kernel
theorem dX1_independent_43 : decode cX1_independent 43 = .ok (.ixor, 1) := by decide +kernel
theorem dX1_independent_44 : decode cX1_independent 44 = .ok (.istore_n 2, 1) := by decide +kernel
theorem dX1_independent_45 : decode cX1_independent 45 = .ok (.iinc 3 (-1), 3) := by decide +kernel
theorem dX1_independent_48 : decode cX1_independent 48 = .ok (.goto (-43), 3) := by decide +kernel
theorem dX1_independent_51 : decode cX1_independent 51 = .ok (.iconst 0, 1) := by decide +kernel
theorem dX1_independent_52 : decode cX1_independent 52 = .ok (.ireturn, 1) := by decide +kernel
theorem q18 : (Jvm.Cond.initialized "BooleanBasisModel") ∈ lw_all := lw_g (lw_at lw_m1 2 rfl) rfl
theorem q174 : (Jvm.Cond.instantiable "BooleanBasisModel" (4 : Nat)) ∈ lw_all := lw_g (lw_at lw_m1 158 rfl) rfl
theorem q176 : (Jvm.Cond.instanceMethod ({ cls := "BooleanBasisModel", name := "<init>", desc := "()V" } : Jvm.MethodName)) ∈ lw_all := lw_g (lw_at lw_m1 160 rfl) rfl
theorem q177 : (Jvm.Cond.code ({ cls := "BooleanBasisModel", name := "<init>", desc := "()V" } : Jvm.MethodName) prog_3_method_1_code (1 : Nat) (Option.none : Option Jvm.ClassFile.FieldType)) ∈ lw_all := lw_g (lw_at lw_m1 161 rfl) rfl
theorem q178 : (Jvm.Cond.methodLink "BooleanBasisModel" (1 : Nat) ({ cls := "java/lang/Object", name := "<init>", desc := "()V" } : Jvm.MethodName)) ∈ lw_all := lw_g (lw_at lw_m1 162 rfl) rfl
theorem q179 : (Jvm.Cond.fieldLink "BooleanBasisModel" (7 : Nat) "BooleanBasisModel" "there" "[Z") ∈ lw_all := lw_g (lw_at lw_m1 163 rfl) rfl
theorem q180 : (Jvm.Cond.fieldLink "BooleanBasisModel" (13 : Nat) "BooleanBasisModel" "gens" "[I") ∈ lw_all := lw_g (lw_at lw_m1 164 rfl) rfl
theorem q181 : (Jvm.Cond.fieldLink "BooleanBasisModel" (17 : Nat) "BooleanBasisModel" "heads" "[I") ∈ lw_all := lw_g (lw_at lw_m1 165 rfl) rfl
theorem q182 : (Jvm.Cond.fieldLink "BooleanBasisModel" (20 : Nat) "BooleanBasisModel" "others" "[I") ∈ lw_all := lw_g (lw_at lw_m1 166 rfl) rfl
theorem q183 : (Jvm.Cond.lays "BooleanBasisModel" "BooleanBasisModel" "there" "[Z") ∈ lw_all := lw_g (lw_at lw_m1 167 rfl) rfl
theorem q184 : (Jvm.Cond.soleField "BooleanBasisModel" "there") ∈ lw_all := lw_g (lw_at lw_m1 168 rfl) rfl
theorem q185 : (Jvm.Cond.lays "BooleanBasisModel" "BooleanBasisModel" "gens" "[I") ∈ lw_all := lw_g (lw_at lw_m1 169 rfl) rfl
theorem q186 : (Jvm.Cond.soleField "BooleanBasisModel" "gens") ∈ lw_all := lw_g (lw_at lw_m1 170 rfl) rfl
theorem q187 : (Jvm.Cond.lays "BooleanBasisModel" "BooleanBasisModel" "heads" "[I") ∈ lw_all := lw_g (lw_at lw_m1 171 rfl) rfl
theorem q188 : (Jvm.Cond.soleField "BooleanBasisModel" "heads") ∈ lw_all := lw_g (lw_at lw_m1 172 rfl) rfl
theorem q189 : (Jvm.Cond.lays "BooleanBasisModel" "BooleanBasisModel" "others" "[I") ∈ lw_all := lw_g (lw_at lw_m1 173 rfl) rfl
theorem q190 : (Jvm.Cond.soleField "BooleanBasisModel" "others") ∈ lw_all := lw_g (lw_at lw_m1 174 rfl) rfl
theorem q191 : (Jvm.Cond.superclass "BooleanBasisModel" "java/lang/Object") ∈ lw_all := lw_g (lw_at lw_m1 175 rfl) rfl
theorem q194 : (Jvm.Cond.instanceMethod ({ cls := "BooleanBasisModel", name := "add", desc := "(I)I" } : Jvm.MethodName)) ∈ lw_all := lw_g (lw_at lw_m1 178 rfl) rfl
theorem q195 : (Jvm.Cond.selects "BooleanBasisModel" ({ cls := "BooleanBasisModel", name := "add", desc := "(I)I" } : Jvm.MethodName) ({ cls := "BooleanBasisModel", name := "add", desc := "(I)I" } : Jvm.MethodName)) ∈ lw_all := lw_g (lw_at lw_m1 179 rfl) rfl
theorem q196 : (Jvm.Cond.code ({ cls := "BooleanBasisModel", name := "add", desc := "(I)I" } : Jvm.MethodName) prog_3_method_3_code (3 : Nat) (Option.some Jvm.ClassFile.FieldType.int)) ∈ lw_all := lw_g (lw_at lw_m1 180 rfl) rfl
theorem q197 : (Jvm.Cond.methodLink "BooleanBasisModel" (24 : Nat) ({ cls := "BooleanBasisModel", name := "polynomial", desc := "(I)Z" } : Jvm.MethodName)) ∈ lw_all := lw_g (lw_at lw_m1 181 rfl) rfl
theorem q198 : (Jvm.Cond.privateMethod ({ cls := "BooleanBasisModel", name := "polynomial", desc := "(I)Z" } : Jvm.MethodName)) ∈ lw_tbl := lw_at lw_m1 182 rfl
theorem q199 : (Jvm.Cond.instanceMethod ({ cls := "BooleanBasisModel", name := "polynomial", desc := "(I)Z" } : Jvm.MethodName)) ∈ lw_all := lw_g (lw_at lw_m1 183 rfl) rfl
theorem q200 : (Jvm.Cond.code ({ cls := "BooleanBasisModel", name := "polynomial", desc := "(I)Z" } : Jvm.MethodName) prog_3_method_2_code (2 : Nat) (Option.some Jvm.ClassFile.FieldType.boolean)) ∈ lw_all := lw_g (lw_at lw_m1 184 rfl) rfl
theorem q201 : (Jvm.Cond.constant "BooleanBasisModel" (23 : Nat) (65535 : Int32)) ∈ lw_all := lw_g (lw_at lw_m1 185 rfl) rfl
theorem q203 : (Jvm.Cond.instanceMethod ({ cls := "BooleanBasisModel", name := "remove", desc := "(I)Z" } : Jvm.MethodName)) ∈ lw_all := lw_g (lw_at lw_m1 187 rfl) rfl
theorem q204 : (Jvm.Cond.selects "BooleanBasisModel" ({ cls := "BooleanBasisModel", name := "remove", desc := "(I)Z" } : Jvm.MethodName) ({ cls := "BooleanBasisModel", name := "remove", desc := "(I)Z" } : Jvm.MethodName)) ∈ lw_all := lw_g (lw_at lw_m1 188 rfl) rfl
theorem q205 : (Jvm.Cond.code ({ cls := "BooleanBasisModel", name := "remove", desc := "(I)Z" } : Jvm.MethodName) prog_3_method_4_code (2 : Nat) (Option.some Jvm.ClassFile.FieldType.boolean)) ∈ lw_all := lw_g (lw_at lw_m1 189 rfl) rfl
theorem q207 : (Jvm.Cond.instanceMethod ({ cls := "BooleanBasisModel", name := "generators", desc := "()I" } : Jvm.MethodName)) ∈ lw_all := lw_g (lw_at lw_m1 191 rfl) rfl
theorem q208 : (Jvm.Cond.selects "BooleanBasisModel" ({ cls := "BooleanBasisModel", name := "generators", desc := "()I" } : Jvm.MethodName) ({ cls := "BooleanBasisModel", name := "generators", desc := "()I" } : Jvm.MethodName)) ∈ lw_all := lw_g (lw_at lw_m1 192 rfl) rfl
theorem q209 : (Jvm.Cond.code ({ cls := "BooleanBasisModel", name := "generators", desc := "()I" } : Jvm.MethodName) prog_3_method_5_code (3 : Nat) (Option.some Jvm.ClassFile.FieldType.int)) ∈ lw_all := lw_g (lw_at lw_m1 193 rfl) rfl
theorem q211 : (Jvm.Cond.instanceMethod ({ cls := "BooleanBasisModel", name := "product", desc := "(II)I" } : Jvm.MethodName)) ∈ lw_all := lw_g (lw_at lw_m1 195 rfl) rfl
theorem q212 : (Jvm.Cond.selects "BooleanBasisModel" ({ cls := "BooleanBasisModel", name := "product", desc := "(II)I" } : Jvm.MethodName) ({ cls := "BooleanBasisModel", name := "product", desc := "(II)I" } : Jvm.MethodName)) ∈ lw_all := lw_g (lw_at lw_m1 196 rfl) rfl
theorem q213 : (Jvm.Cond.code ({ cls := "BooleanBasisModel", name := "product", desc := "(II)I" } : Jvm.MethodName) prog_3_method_6_code (7 : Nat) (Option.some Jvm.ClassFile.FieldType.int)) ∈ lw_all := lw_g (lw_at lw_m1 197 rfl) rfl
theorem q215 : (Jvm.Cond.instanceMethod ({ cls := "BooleanBasisModel", name := "value", desc := "(II)I" } : Jvm.MethodName)) ∈ lw_all := lw_g (lw_at lw_m1 199 rfl) rfl
theorem q216 : (Jvm.Cond.selects "BooleanBasisModel" ({ cls := "BooleanBasisModel", name := "value", desc := "(II)I" } : Jvm.MethodName) ({ cls := "BooleanBasisModel", name := "value", desc := "(II)I" } : Jvm.MethodName)) ∈ lw_all := lw_g (lw_at lw_m1 200 rfl) rfl
theorem q217 : (Jvm.Cond.code ({ cls := "BooleanBasisModel", name := "value", desc := "(II)I" } : Jvm.MethodName) prog_3_method_7_code (5 : Nat) (Option.some Jvm.ClassFile.FieldType.int)) ∈ lw_all := lw_g (lw_at lw_m1 201 rfl) rfl
theorem q219 : (Jvm.Cond.instanceMethod ({ cls := "BooleanBasisModel", name := "contains", desc := "(I)Z" } : Jvm.MethodName)) ∈ lw_all := lw_g (lw_at lw_m1 203 rfl) rfl
theorem q220 : (Jvm.Cond.selects "BooleanBasisModel" ({ cls := "BooleanBasisModel", name := "contains", desc := "(I)Z" } : Jvm.MethodName) ({ cls := "BooleanBasisModel", name := "contains", desc := "(I)Z" } : Jvm.MethodName)) ∈ lw_all := lw_g (lw_at lw_m1 204 rfl) rfl
theorem q221 : (Jvm.Cond.code ({ cls := "BooleanBasisModel", name := "contains", desc := "(I)Z" } : Jvm.MethodName) prog_3_method_11_code (2 : Nat) (Option.some Jvm.ClassFile.FieldType.boolean)) ∈ lw_all := lw_g (lw_at lw_m1 205 rfl) rfl
theorem q222 : (Jvm.Cond.methodLink "BooleanBasisModel" (40 : Nat) ({ cls := "BooleanBasisModel", name := "rest", desc := "(I)I" } : Jvm.MethodName)) ∈ lw_all := lw_g (lw_at lw_m1 206 rfl) rfl
theorem q223 : (Jvm.Cond.instanceMethod ({ cls := "BooleanBasisModel", name := "rest", desc := "(I)I" } : Jvm.MethodName)) ∈ lw_all := lw_g (lw_at lw_m1 207 rfl) rfl
theorem q224 : (Jvm.Cond.selects "BooleanBasisModel" ({ cls := "BooleanBasisModel", name := "rest", desc := "(I)I" } : Jvm.MethodName) ({ cls := "BooleanBasisModel", name := "rest", desc := "(I)I" } : Jvm.MethodName)) ∈ lw_all := lw_g (lw_at lw_m1 208 rfl) rfl
theorem q225 : (Jvm.Cond.code ({ cls := "BooleanBasisModel", name := "rest", desc := "(I)I" } : Jvm.MethodName) prog_3_method_12_code (2 : Nat) (Option.some Jvm.ClassFile.FieldType.int)) ∈ lw_all := lw_g (lw_at lw_m1 209 rfl) rfl
theorem q226 : (Jvm.Cond.methodLink "BooleanBasisModel" (43 : Nat) ({ cls := "BooleanBasisModel", name := "work", desc := "(I)V" } : Jvm.MethodName)) ∈ lw_all := lw_g (lw_at lw_m1 210 rfl) rfl
theorem q227 : (Jvm.Cond.privateMethod ({ cls := "BooleanBasisModel", name := "work", desc := "(I)V" } : Jvm.MethodName)) ∈ lw_tbl := lw_at lw_m1 211 rfl
theorem q228 : (Jvm.Cond.instanceMethod ({ cls := "BooleanBasisModel", name := "work", desc := "(I)V" } : Jvm.MethodName)) ∈ lw_all := lw_g (lw_at lw_m1 212 rfl) rfl
theorem q229 : (Jvm.Cond.code ({ cls := "BooleanBasisModel", name := "work", desc := "(I)V" } : Jvm.MethodName) prog_3_method_10_code (4 : Nat) (Option.none : Option Jvm.ClassFile.FieldType)) ∈ lw_all := lw_g (lw_at lw_m1 213 rfl) rfl
theorem q230 : (Jvm.Cond.methodLink "BooleanBasisModel" (32 : Nat) ({ cls := "BooleanBasisModel", name := "product", desc := "(II)I" } : Jvm.MethodName)) ∈ lw_all := lw_g (lw_at lw_m1 214 rfl) rfl
theorem q231 : (Jvm.Cond.methodLink "BooleanBasisModel" (36 : Nat) ({ cls := "BooleanBasisModel", name := "keep", desc := "(I)V" } : Jvm.MethodName)) ∈ lw_all := lw_g (lw_at lw_m1 215 rfl) rfl
theorem q232 : (Jvm.Cond.privateMethod ({ cls := "BooleanBasisModel", name := "keep", desc := "(I)V" } : Jvm.MethodName)) ∈ lw_tbl := lw_at lw_m1 216 rfl
theorem q233 : (Jvm.Cond.instanceMethod ({ cls := "BooleanBasisModel", name := "keep", desc := "(I)V" } : Jvm.MethodName)) ∈ lw_all := lw_g (lw_at lw_m1 217 rfl) rfl
theorem q234 : (Jvm.Cond.code ({ cls := "BooleanBasisModel", name := "keep", desc := "(I)V" } : Jvm.MethodName) prog_3_method_8_code (4 : Nat) (Option.none : Option Jvm.ClassFile.FieldType)) ∈ lw_all := lw_g (lw_at lw_m1 218 rfl) rfl
theorem q235 : (Jvm.Cond.methodLink "BooleanBasisModel" (28 : Nat) ({ cls := "BooleanBasisModel", name := "reduce", desc := "(I)I" } : Jvm.MethodName)) ∈ lw_all := lw_g (lw_at lw_m1 219 rfl) rfl
theorem q236 : (Jvm.Cond.privateMethod ({ cls := "BooleanBasisModel", name := "reduce", desc := "(I)I" } : Jvm.MethodName)) ∈ lw_tbl := lw_at lw_m1 220 rfl
theorem q237 : (Jvm.Cond.instanceMethod ({ cls := "BooleanBasisModel", name := "reduce", desc := "(I)I" } : Jvm.MethodName)) ∈ lw_all := lw_g (lw_at lw_m1 221 rfl) rfl
theorem q238 : (Jvm.Cond.code ({ cls := "BooleanBasisModel", name := "reduce", desc := "(I)I" } : Jvm.MethodName) prog_3_method_9_code (4 : Nat) (Option.some Jvm.ClassFile.FieldType.int)) ∈ lw_all := lw_g (lw_at lw_m1 222 rfl) rfl
theorem q241 : (Jvm.Cond.instanceMethod ({ cls := "BooleanBasisModel", name := "basisSize", desc := "()I" } : Jvm.MethodName)) ∈ lw_all := lw_g (lw_at lw_m1 225 rfl) rfl
theorem q242 : (Jvm.Cond.selects "BooleanBasisModel" ({ cls := "BooleanBasisModel", name := "basisSize", desc := "()I" } : Jvm.MethodName) ({ cls := "BooleanBasisModel", name := "basisSize", desc := "()I" } : Jvm.MethodName)) ∈ lw_all := lw_g (lw_at lw_m1 226 rfl) rfl
theorem q243 : (Jvm.Cond.code ({ cls := "BooleanBasisModel", name := "basisSize", desc := "()I" } : Jvm.MethodName) prog_3_method_14_code (3 : Nat) (Option.some Jvm.ClassFile.FieldType.int)) ∈ lw_all := lw_g (lw_at lw_m1 227 rfl) rfl
theorem q244 : (Jvm.Cond.methodLink "BooleanBasisModel" (46 : Nat) ({ cls := "BooleanBasisModel", name := "least", desc := "(I)Z" } : Jvm.MethodName)) ∈ lw_all := lw_g (lw_at lw_m1 228 rfl) rfl
theorem q245 : (Jvm.Cond.privateMethod ({ cls := "BooleanBasisModel", name := "least", desc := "(I)Z" } : Jvm.MethodName)) ∈ lw_tbl := lw_at lw_m1 229 rfl
theorem q246 : (Jvm.Cond.instanceMethod ({ cls := "BooleanBasisModel", name := "least", desc := "(I)Z" } : Jvm.MethodName)) ∈ lw_all := lw_g (lw_at lw_m1 230 rfl) rfl
theorem q247 : (Jvm.Cond.code ({ cls := "BooleanBasisModel", name := "least", desc := "(I)Z" } : Jvm.MethodName) prog_3_method_13_code (4 : Nat) (Option.some Jvm.ClassFile.FieldType.boolean)) ∈ lw_all := lw_g (lw_at lw_m1 231 rfl) rfl
theorem q249 : (Jvm.Cond.instanceMethod ({ cls := "BooleanBasisModel", name := "basisAt", desc := "(I)I" } : Jvm.MethodName)) ∈ lw_all := lw_g (lw_at lw_m1 233 rfl) rfl
theorem q250 : (Jvm.Cond.selects "BooleanBasisModel" ({ cls := "BooleanBasisModel", name := "basisAt", desc := "(I)I" } : Jvm.MethodName) ({ cls := "BooleanBasisModel", name := "basisAt", desc := "(I)I" } : Jvm.MethodName)) ∈ lw_all := lw_g (lw_at lw_m1 234 rfl) rfl
theorem q251 : (Jvm.Cond.code ({ cls := "BooleanBasisModel", name := "basisAt", desc := "(I)I" } : Jvm.MethodName) prog_3_method_15_code (4 : Nat) (Option.some Jvm.ClassFile.FieldType.int)) ∈ lw_all := lw_g (lw_at lw_m1 235 rfl) rfl
theorem q253 : (Jvm.Cond.instanceMethod ({ cls := "BooleanBasisModel", name := "bound", desc := "()I" } : Jvm.MethodName)) ∈ lw_all := lw_g (lw_at lw_m1 237 rfl) rfl
theorem q254 : (Jvm.Cond.selects "BooleanBasisModel" ({ cls := "BooleanBasisModel", name := "bound", desc := "()I" } : Jvm.MethodName) ({ cls := "BooleanBasisModel", name := "bound", desc := "()I" } : Jvm.MethodName)) ∈ lw_all := lw_g (lw_at lw_m1 238 rfl) rfl
theorem q255 : (Jvm.Cond.code ({ cls := "BooleanBasisModel", name := "bound", desc := "()I" } : Jvm.MethodName) prog_3_method_16_code (3 : Nat) (Option.some Jvm.ClassFile.FieldType.int)) ∈ lw_all := lw_g (lw_at lw_m1 239 rfl) rfl
theorem q257 : (Jvm.Cond.instanceMethod ({ cls := "BooleanBasisModel", name := "zeros", desc := "()I" } : Jvm.MethodName)) ∈ lw_all := lw_g (lw_at lw_m2 1 rfl) rfl
theorem q258 : (Jvm.Cond.selects "BooleanBasisModel" ({ cls := "BooleanBasisModel", name := "zeros", desc := "()I" } : Jvm.MethodName) ({ cls := "BooleanBasisModel", name := "zeros", desc := "()I" } : Jvm.MethodName)) ∈ lw_all := lw_g (lw_at lw_m2 2 rfl) rfl
theorem q259 : (Jvm.Cond.code ({ cls := "BooleanBasisModel", name := "zeros", desc := "()I" } : Jvm.MethodName) prog_3_method_17_code (5 : Nat) (Option.some Jvm.ClassFile.FieldType.int)) ∈ lw_all := lw_g (lw_at lw_m2 3 rfl) rfl
theorem q260 : (Jvm.Cond.methodLink "BooleanBasisModel" (49 : Nat) ({ cls := "BooleanBasisModel", name := "value", desc := "(II)I" } : Jvm.MethodName)) ∈ lw_all := lw_g (lw_at lw_m2 4 rfl) rfl
theorem q262 : (Jvm.Cond.instanceMethod ({ cls := "BooleanBasisModel", name := "zeroCount", desc := "()I" } : Jvm.MethodName)) ∈ lw_all := lw_g (lw_at lw_m2 6 rfl) rfl
theorem q263 : (Jvm.Cond.selects "BooleanBasisModel" ({ cls := "BooleanBasisModel", name := "zeroCount", desc := "()I" } : Jvm.MethodName) ({ cls := "BooleanBasisModel", name := "zeroCount", desc := "()I" } : Jvm.MethodName)) ∈ lw_all := lw_g (lw_at lw_m2 7 rfl) rfl
theorem q264 : (Jvm.Cond.code ({ cls := "BooleanBasisModel", name := "zeroCount", desc := "()I" } : Jvm.MethodName) prog_3_method_18_code (4 : Nat) (Option.some Jvm.ClassFile.FieldType.int)) ∈ lw_all := lw_g (lw_at lw_m2 8 rfl) rfl
theorem q265 : (Jvm.Cond.methodLink "BooleanBasisModel" (52 : Nat) ({ cls := "BooleanBasisModel", name := "zeros", desc := "()I" } : Jvm.MethodName)) ∈ lw_all := lw_g (lw_at lw_m2 9 rfl) rfl
theorem q267 : (Jvm.Cond.instanceMethod ({ cls := "BooleanBasisModel", name := "values", desc := "(I)I" } : Jvm.MethodName)) ∈ lw_all := lw_g (lw_at lw_m2 11 rfl) rfl
theorem q268 : (Jvm.Cond.selects "BooleanBasisModel" ({ cls := "BooleanBasisModel", name := "values", desc := "(I)I" } : Jvm.MethodName) ({ cls := "BooleanBasisModel", name := "values", desc := "(I)I" } : Jvm.MethodName)) ∈ lw_all := lw_g (lw_at lw_m2 12 rfl) rfl
theorem q269 : (Jvm.Cond.code ({ cls := "BooleanBasisModel", name := "values", desc := "(I)I" } : Jvm.MethodName) prog_3_method_19_code (5 : Nat) (Option.some Jvm.ClassFile.FieldType.int)) ∈ lw_all := lw_g (lw_at lw_m2 13 rfl) rfl
theorem q271 : (Jvm.Cond.instanceMethod ({ cls := "BooleanBasisModel", name := "redundant", desc := "(I)Z" } : Jvm.MethodName)) ∈ lw_all := lw_g (lw_at lw_m2 15 rfl) rfl
theorem q272 : (Jvm.Cond.selects "BooleanBasisModel" ({ cls := "BooleanBasisModel", name := "redundant", desc := "(I)Z" } : Jvm.MethodName) ({ cls := "BooleanBasisModel", name := "redundant", desc := "(I)Z" } : Jvm.MethodName)) ∈ lw_all := lw_g (lw_at lw_m2 16 rfl) rfl
theorem q273 : (Jvm.Cond.code ({ cls := "BooleanBasisModel", name := "redundant", desc := "(I)Z" } : Jvm.MethodName) prog_3_method_20_code (2 : Nat) (Option.some Jvm.ClassFile.FieldType.boolean)) ∈ lw_all := lw_g (lw_at lw_m2 17 rfl) rfl
theorem q275 : (Jvm.Cond.instanceMethod ({ cls := "BooleanBasisModel", name := "relates", desc := "(I)Z" } : Jvm.MethodName)) ∈ lw_all := lw_g (lw_at lw_m2 19 rfl) rfl
theorem q276 : (Jvm.Cond.selects "BooleanBasisModel" ({ cls := "BooleanBasisModel", name := "relates", desc := "(I)Z" } : Jvm.MethodName) ({ cls := "BooleanBasisModel", name := "relates", desc := "(I)Z" } : Jvm.MethodName)) ∈ lw_all := lw_g (lw_at lw_m2 20 rfl) rfl
theorem q277 : (Jvm.Cond.code ({ cls := "BooleanBasisModel", name := "relates", desc := "(I)Z" } : Jvm.MethodName) prog_3_method_21_code (4 : Nat) (Option.some Jvm.ClassFile.FieldType.boolean)) ∈ lw_all := lw_g (lw_at lw_m2 21 rfl) rfl
theorem q278 : (Jvm.Cond.methodLink "BooleanBasisModel" (56 : Nat) ({ cls := "BooleanBasisModel", name := "independent", desc := "(I)Z" } : Jvm.MethodName)) ∈ lw_all := lw_g (lw_at lw_m2 22 rfl) rfl
theorem q279 : (Jvm.Cond.privateMethod ({ cls := "BooleanBasisModel", name := "independent", desc := "(I)Z" } : Jvm.MethodName)) ∈ lw_tbl := lw_at lw_m2 23 rfl
theorem q280 : (Jvm.Cond.instanceMethod ({ cls := "BooleanBasisModel", name := "independent", desc := "(I)Z" } : Jvm.MethodName)) ∈ lw_all := lw_g (lw_at lw_m2 24 rfl) rfl
theorem q281 : (Jvm.Cond.code ({ cls := "BooleanBasisModel", name := "independent", desc := "(I)Z" } : Jvm.MethodName) prog_3_method_22_code (4 : Nat) (Option.some Jvm.ClassFile.FieldType.boolean)) ∈ lw_all := lw_g (lw_at lw_m2 25 rfl) rfl
theorem in_X1 : ∀ w ∈ wsX10, w ∈ lw_all := lw_in wsX10 [183, 185, 187, 189] (by decide +kernel) (by decide +kernel)
end
section
/-! the law's own entry -/
set_option maxRecDepth 100000
abbrev cL_law : ByteArray := code
theorem dL_law_0 : decode cL_law 0 = .ok (.new 7, 3) := by decide +kernel
theorem dL_law_3 : decode cL_law 3 = .ok (.dup, 1) := by decide +kernel
theorem dL_law_4 : decode cL_law 4 = .ok (.invokespecial 9, 3) := by decide +kernel
theorem dL_law_7 : decode cL_law 7 = .ok (.astore_n 1, 1) := by decide +kernel
theorem dL_law_8 : decode cL_law 8 = .ok (.new 10, 3) := by decide +kernel
theorem dL_law_11 : decode cL_law 11 = .ok (.dup, 1) := by decide +kernel
theorem dL_law_12 : decode cL_law 12 = .ok (.invokespecial 12, 3) := by decide +kernel
theorem dL_law_15 : decode cL_law 15 = .ok (.astore_n 2, 1) := by decide +kernel
theorem dL_law_16 : decode cL_law 16 = .ok (.iconst 0, 1) := by decide +kernel
theorem dL_law_17 : decode cL_law 17 = .ok (.istore_n 3, 1) := by decide +kernel
theorem dL_law_18 : decode cL_law 18 = .ok (.iload_n 3, 1) := by decide +kernel
theorem dL_law_19 : decode cL_law 19 = .ok (.aload_n 0, 1) := by decide +kernel
theorem dL_law_20 : decode cL_law 20 = .ok (.arraylength, 1) := by decide +kernel
theorem dL_law_21 : decode cL_law 21 = .ok (.iconst 3, 1) := by decide +kernel
theorem dL_law_22 : decode cL_law 22 = .ok (.isub, 1) := by decide +kernel
theorem dL_law_23 : decode cL_law 23 = .ok (.if_icmp .gt 406, 3) := by decide +kernel
theorem dL_law_26 : decode cL_law 26 = .ok (.aload_n 0, 1) := by decide +kernel
theorem dL_law_27 : decode cL_law 27 = .ok (.iload_n 3, 1) := by decide +kernel
theorem dL_law_28 : decode cL_law 28 = .ok (.iaload, 1) := by decide +kernel
theorem dL_law_29 : decode cL_law 29 = .ok (.bipush 15, 2) := by decide +kernel
theorem dL_law_31 : decode cL_law 31 = .ok (.iand, 1) := by decide +kernel
theorem dL_law_32 : decode cL_law 32 = .ok (.tableswitch 391 0 14 #[76, 99, 122, 135, 168, 201, 224, 247, 260, 283, 296, 309, 322, 345, 368], 76) := by decide +kernel
theorem dL_law_108 : decode cL_law 108 = .ok (.aload_n 1, 1) := by decide +kernel
theorem dL_law_109 : decode cL_law 109 = .ok (.aload_n 0, 1) := by decide +kernel
theorem dL_law_110 : decode cL_law 110 = .ok (.iload_n 3, 1) := by decide +kernel
theorem dL_law_111 : decode cL_law 111 = .ok (.iconst 1, 1) := by decide +kernel
theorem dL_law_112 : decode cL_law 112 = .ok (.iadd, 1) := by decide +kernel
theorem dL_law_113 : decode cL_law 113 = .ok (.iaload, 1) := by decide +kernel
theorem dL_law_114 : decode cL_law 114 = .ok (.invokevirtual 13, 3) := by decide +kernel
theorem dL_law_117 : decode cL_law 117 = .ok (.aload_n 2, 1) := by decide +kernel
theorem dL_law_118 : decode cL_law 118 = .ok (.aload_n 0, 1) := by decide +kernel
theorem dL_law_119 : decode cL_law 119 = .ok (.iload_n 3, 1) := by decide +kernel
theorem dL_law_120 : decode cL_law 120 = .ok (.iconst 1, 1) := by decide +kernel
theorem dL_law_121 : decode cL_law 121 = .ok (.iadd, 1) := by decide +kernel
theorem dL_law_122 : decode cL_law 122 = .ok (.iaload, 1) := by decide +kernel
theorem dL_law_123 : decode cL_law 123 = .ok (.invokevirtual 17, 3) := by decide +kernel
theorem dL_law_126 : decode cL_law 126 = .ok (.if_icmp .eq 297, 3) := by decide +kernel
theorem dL_law_129 : decode cL_law 129 = .ok (.iconst 0, 1) := by decide +kernel
theorem dL_law_130 : decode cL_law 130 = .ok (.ireturn, 1) := by decide +kernel
theorem dL_law_131 : decode cL_law 131 = .ok (.aload_n 1, 1) := by decide +kernel
theorem dL_law_132 : decode cL_law 132 = .ok (.aload_n 0, 1) := by decide +kernel
theorem dL_law_133 : decode cL_law 133 = .ok (.iload_n 3, 1) := by decide +kernel
theorem dL_law_134 : decode cL_law 134 = .ok (.iconst 1, 1) := by decide +kernel
theorem dL_law_135 : decode cL_law 135 = .ok (.iadd, 1) := by decide +kernel
theorem dL_law_136 : decode cL_law 136 = .ok (.iaload, 1) := by decide +kernel
theorem dL_law_137 : decode cL_law 137 = .ok (.invokevirtual 18, 3) := by decide +kernel
theorem dL_law_140 : decode cL_law 140 = .ok (.aload_n 2, 1) := by decide +kernel
theorem dL_law_141 : decode cL_law 141 = .ok (.aload_n 0, 1) := by decide +kernel
theorem dL_law_142 : decode cL_law 142 = .ok (.iload_n 3, 1) := by decide +kernel
theorem dL_law_143 : decode cL_law 143 = .ok (.iconst 1, 1) := by decide +kernel
theorem dL_law_144 : decode cL_law 144 = .ok (.iadd, 1) := by decide +kernel
theorem dL_law_145 : decode cL_law 145 = .ok (.iaload, 1) := by decide +kernel
theorem dL_law_146 : decode cL_law 146 = .ok (.invokevirtual 22, 3) := by decide +kernel
theorem dL_law_149 : decode cL_law 149 = .ok (.if_icmp .eq 274, 3) := by decide +kernel
theorem dL_law_152 : decode cL_law 152 = .ok (.iconst 0, 1) := by decide +kernel
theorem dL_law_153 : decode cL_law 153 = .ok (.ireturn, 1) := by decide +kernel
theorem dL_law_154 : decode cL_law 154 = .ok (.aload_n 1, 1) := by decide +kernel
theorem dL_law_155 : decode cL_law 155 = .ok (.invokevirtual 23, 3) := by decide +kernel
theorem dL_law_158 : decode cL_law 158 = .ok (.aload_n 2, 1) := by decide +kernel
theorem dL_law_159 : decode cL_law 159 = .ok (.invokevirtual 27, 3) := by decide +kernel
theorem dL_law_162 : decode cL_law 162 = .ok (.if_icmp .eq 261, 3) := by decide +kernel
theorem dL_law_165 : decode cL_law 165 = .ok (.iconst 0, 1) := by decide +kernel
theorem dL_law_166 : decode cL_law 166 = .ok (.ireturn, 1) := by decide +kernel
theorem dL_law_167 : decode cL_law 167 = .ok (.aload_n 1, 1) := by decide +kernel
theorem dL_law_168 : decode cL_law 168 = .ok (.aload_n 0, 1) := by decide +kernel
theorem dL_law_169 : decode cL_law 169 = .ok (.iload_n 3, 1) := by decide +kernel
theorem dL_law_170 : decode cL_law 170 = .ok (.iconst 1, 1) := by decide +kernel
theorem dL_law_171 : decode cL_law 171 = .ok (.iadd, 1) := by decide +kernel
theorem dL_law_172 : decode cL_law 172 = .ok (.iaload, 1) := by decide +kernel
theorem dL_law_173 : decode cL_law 173 = .ok (.aload_n 0, 1) := by decide +kernel
theorem dL_law_174 : decode cL_law 174 = .ok (.iload_n 3, 1) := by decide +kernel
theorem dL_law_175 : decode cL_law 175 = .ok (.iconst 2, 1) := by decide +kernel
theorem dL_law_176 : decode cL_law 176 = .ok (.iadd, 1) := by decide +kernel
theorem dL_law_177 : decode cL_law 177 = .ok (.iaload, 1) := by decide +kernel
theorem dL_law_178 : decode cL_law 178 = .ok (.invokevirtual 28, 3) := by decide +kernel
theorem dL_law_181 : decode cL_law 181 = .ok (.aload_n 2, 1) := by decide +kernel
theorem dL_law_182 : decode cL_law 182 = .ok (.aload_n 0, 1) := by decide +kernel
theorem dL_law_183 : decode cL_law 183 = .ok (.iload_n 3, 1) := by decide +kernel
theorem dL_law_184 : decode cL_law 184 = .ok (.iconst 1, 1) := by decide +kernel
theorem dL_law_185 : decode cL_law 185 = .ok (.iadd, 1) := by decide +kernel
theorem dL_law_186 : decode cL_law 186 = .ok (.iaload, 1) := by decide +kernel
theorem dL_law_187 : decode cL_law 187 = .ok (.aload_n 0, 1) := by decide +kernel
theorem dL_law_188 : decode cL_law 188 = .ok (.iload_n 3, 1) := by decide +kernel
theorem dL_law_189 : decode cL_law 189 = .ok (.iconst 2, 1) := by decide +kernel
theorem dL_law_190 : decode cL_law 190 = .ok (.iadd, 1) := by decide +kernel
theorem dL_law_191 : decode cL_law 191 = .ok (.iaload, 1) := by decide +kernel
theorem dL_law_192 : decode cL_law 192 = .ok (.invokevirtual 32, 3) := by decide +kernel
theorem dL_law_195 : decode cL_law 195 = .ok (.if_icmp .eq 228, 3) := by decide +kernel
theorem dL_law_198 : decode cL_law 198 = .ok (.iconst 0, 1) := by decide +kernel
theorem dL_law_199 : decode cL_law 199 = .ok (.ireturn, 1) := by decide +kernel
theorem dL_law_200 : decode cL_law 200 = .ok (.aload_n 1, 1) := by decide +kernel
theorem dL_law_201 : decode cL_law 201 = .ok (.aload_n 0, 1) := by decide +kernel
theorem dL_law_202 : decode cL_law 202 = .ok (.iload_n 3, 1) := by decide +kernel
theorem dL_law_203 : decode cL_law 203 = .ok (.iconst 1, 1) := by decide +kernel
theorem dL_law_204 : decode cL_law 204 = .ok (.iadd, 1) := by decide +kernel
theorem dL_law_205 : decode cL_law 205 = .ok (.iaload, 1) := by decide +kernel
theorem dL_law_206 : decode cL_law 206 = .ok (.aload_n 0, 1) := by decide +kernel
theorem dL_law_207 : decode cL_law 207 = .ok (.iload_n 3, 1) := by decide +kernel
theorem dL_law_208 : decode cL_law 208 = .ok (.iconst 2, 1) := by decide +kernel
theorem dL_law_209 : decode cL_law 209 = .ok (.iadd, 1) := by decide +kernel
theorem dL_law_210 : decode cL_law 210 = .ok (.iaload, 1) := by decide +kernel
theorem dL_law_211 : decode cL_law 211 = .ok (.invokevirtual 33, 3) := by decide +kernel
theorem dL_law_214 : decode cL_law 214 = .ok (.aload_n 2, 1) := by decide +kernel
theorem dL_law_215 : decode cL_law 215 = .ok (.aload_n 0, 1) := by decide +kernel
theorem dL_law_216 : decode cL_law 216 = .ok (.iload_n 3, 1) := by decide +kernel
theorem dL_law_217 : decode cL_law 217 = .ok (.iconst 1, 1) := by decide +kernel
theorem dL_law_218 : decode cL_law 218 = .ok (.iadd, 1) := by decide +kernel
theorem dL_law_219 : decode cL_law 219 = .ok (.iaload, 1) := by decide +kernel
theorem dL_law_220 : decode cL_law 220 = .ok (.aload_n 0, 1) := by decide +kernel
theorem dL_law_221 : decode cL_law 221 = .ok (.iload_n 3, 1) := by decide +kernel
theorem dL_law_222 : decode cL_law 222 = .ok (.iconst 2, 1) := by decide +kernel
theorem dL_law_223 : decode cL_law 223 = .ok (.iadd, 1) := by decide +kernel
theorem dL_law_224 : decode cL_law 224 = .ok (.iaload, 1) := by decide +kernel
theorem dL_law_225 : decode cL_law 225 = .ok (.invokevirtual 36, 3) := by decide +kernel
theorem dL_law_228 : decode cL_law 228 = .ok (.if_icmp .eq 195, 3) := by decide +kernel
theorem dL_law_231 : decode cL_law 231 = .ok (.iconst 0, 1) := by decide +kernel
theorem dL_law_232 : decode cL_law 232 = .ok (.ireturn, 1) := by decide +kernel
theorem dL_law_233 : decode cL_law 233 = .ok (.aload_n 1, 1) := by decide +kernel
theorem dL_law_234 : decode cL_law 234 = .ok (.aload_n 0, 1) := by decide +kernel
theorem dL_law_235 : decode cL_law 235 = .ok (.iload_n 3, 1) := by decide +kernel
theorem dL_law_236 : decode cL_law 236 = .ok (.iconst 1, 1) := by decide +kernel
theorem dL_law_237 : decode cL_law 237 = .ok (.iadd, 1) := by decide +kernel
theorem dL_law_238 : decode cL_law 238 = .ok (.iaload, 1) := by decide +kernel
theorem dL_law_239 : decode cL_law 239 = .ok (.invokevirtual 37, 3) := by decide +kernel
theorem dL_law_242 : decode cL_law 242 = .ok (.aload_n 2, 1) := by decide +kernel
theorem dL_law_243 : decode cL_law 243 = .ok (.aload_n 0, 1) := by decide +kernel
theorem dL_law_244 : decode cL_law 244 = .ok (.iload_n 3, 1) := by decide +kernel
theorem dL_law_245 : decode cL_law 245 = .ok (.iconst 1, 1) := by decide +kernel
theorem dL_law_246 : decode cL_law 246 = .ok (.iadd, 1) := by decide +kernel
theorem dL_law_247 : decode cL_law 247 = .ok (.iaload, 1) := by decide +kernel
theorem dL_law_248 : decode cL_law 248 = .ok (.invokevirtual 40, 3) := by decide +kernel
theorem dL_law_251 : decode cL_law 251 = .ok (.if_icmp .eq 172, 3) := by decide +kernel
theorem dL_law_254 : decode cL_law 254 = .ok (.iconst 0, 1) := by decide +kernel
theorem dL_law_255 : decode cL_law 255 = .ok (.ireturn, 1) := by decide +kernel
theorem dL_law_256 : decode cL_law 256 = .ok (.aload_n 1, 1) := by decide +kernel
theorem dL_law_257 : decode cL_law 257 = .ok (.aload_n 0, 1) := by decide +kernel
theorem dL_law_258 : decode cL_law 258 = .ok (.iload_n 3, 1) := by decide +kernel
theorem dL_law_259 : decode cL_law 259 = .ok (.iconst 1, 1) := by decide +kernel
theorem dL_law_260 : decode cL_law 260 = .ok (.iadd, 1) := by decide +kernel
theorem dL_law_261 : decode cL_law 261 = .ok (.iaload, 1) := by decide +kernel
theorem dL_law_262 : decode cL_law 262 = .ok (.invokevirtual 41, 3) := by decide +kernel
theorem dL_law_265 : decode cL_law 265 = .ok (.aload_n 2, 1) := by decide +kernel
theorem dL_law_266 : decode cL_law 266 = .ok (.aload_n 0, 1) := by decide +kernel
theorem dL_law_267 : decode cL_law 267 = .ok (.iload_n 3, 1) := by decide +kernel
theorem dL_law_268 : decode cL_law 268 = .ok (.iconst 1, 1) := by decide +kernel
theorem dL_law_269 : decode cL_law 269 = .ok (.iadd, 1) := by decide +kernel
theorem dL_law_270 : decode cL_law 270 = .ok (.iaload, 1) := by decide +kernel
theorem dL_law_271 : decode cL_law 271 = .ok (.invokevirtual 44, 3) := by decide +kernel
theorem dL_law_274 : decode cL_law 274 = .ok (.if_icmp .eq 149, 3) := by decide +kernel
theorem dL_law_277 : decode cL_law 277 = .ok (.iconst 0, 1) := by decide +kernel
theorem dL_law_278 : decode cL_law 278 = .ok (.ireturn, 1) := by decide +kernel
theorem dL_law_279 : decode cL_law 279 = .ok (.aload_n 1, 1) := by decide +kernel
theorem dL_law_280 : decode cL_law 280 = .ok (.invokevirtual 45, 3) := by decide +kernel
theorem dL_law_283 : decode cL_law 283 = .ok (.aload_n 2, 1) := by decide +kernel
theorem dL_law_284 : decode cL_law 284 = .ok (.invokevirtual 48, 3) := by decide +kernel
theorem dL_law_287 : decode cL_law 287 = .ok (.if_icmp .eq 136, 3) := by decide +kernel
theorem dL_law_290 : decode cL_law 290 = .ok (.iconst 0, 1) := by decide +kernel
theorem dL_law_291 : decode cL_law 291 = .ok (.ireturn, 1) := by decide +kernel
theorem dL_law_292 : decode cL_law 292 = .ok (.aload_n 1, 1) := by decide +kernel
theorem dL_law_293 : decode cL_law 293 = .ok (.aload_n 0, 1) := by decide +kernel
theorem dL_law_294 : decode cL_law 294 = .ok (.iload_n 3, 1) := by decide +kernel
theorem dL_law_295 : decode cL_law 295 = .ok (.iconst 1, 1) := by decide +kernel
theorem dL_law_296 : decode cL_law 296 = .ok (.iadd, 1) := by decide +kernel
theorem dL_law_297 : decode cL_law 297 = .ok (.iaload, 1) := by decide +kernel
theorem dL_law_298 : decode cL_law 298 = .ok (.invokevirtual 49, 3) := by decide +kernel
theorem dL_law_301 : decode cL_law 301 = .ok (.aload_n 2, 1) := by decide +kernel
theorem dL_law_302 : decode cL_law 302 = .ok (.aload_n 0, 1) := by decide +kernel
theorem dL_law_303 : decode cL_law 303 = .ok (.iload_n 3, 1) := by decide +kernel
theorem dL_law_304 : decode cL_law 304 = .ok (.iconst 1, 1) := by decide +kernel
theorem dL_law_305 : decode cL_law 305 = .ok (.iadd, 1) := by decide +kernel
theorem dL_law_306 : decode cL_law 306 = .ok (.iaload, 1) := by decide +kernel
theorem dL_law_307 : decode cL_law 307 = .ok (.invokevirtual 52, 3) := by decide +kernel
theorem dL_law_310 : decode cL_law 310 = .ok (.if_icmp .eq 113, 3) := by decide +kernel
theorem dL_law_313 : decode cL_law 313 = .ok (.iconst 0, 1) := by decide +kernel
theorem dL_law_314 : decode cL_law 314 = .ok (.ireturn, 1) := by decide +kernel
theorem dL_law_315 : decode cL_law 315 = .ok (.aload_n 1, 1) := by decide +kernel
theorem dL_law_316 : decode cL_law 316 = .ok (.invokevirtual 53, 3) := by decide +kernel
theorem dL_law_319 : decode cL_law 319 = .ok (.aload_n 2, 1) := by decide +kernel
theorem dL_law_320 : decode cL_law 320 = .ok (.invokevirtual 56, 3) := by decide +kernel
theorem dL_law_323 : decode cL_law 323 = .ok (.if_icmp .eq 100, 3) := by decide +kernel
theorem dL_law_326 : decode cL_law 326 = .ok (.iconst 0, 1) := by decide +kernel
theorem dL_law_327 : decode cL_law 327 = .ok (.ireturn, 1) := by decide +kernel
theorem dL_law_328 : decode cL_law 328 = .ok (.aload_n 1, 1) := by decide +kernel
theorem dL_law_329 : decode cL_law 329 = .ok (.invokevirtual 57, 3) := by decide +kernel
theorem dL_law_332 : decode cL_law 332 = .ok (.aload_n 2, 1) := by decide +kernel
theorem dL_law_333 : decode cL_law 333 = .ok (.invokevirtual 60, 3) := by decide +kernel
theorem dL_law_336 : decode cL_law 336 = .ok (.if_icmp .eq 87, 3) := by decide +kernel
theorem dL_law_339 : decode cL_law 339 = .ok (.iconst 0, 1) := by decide +kernel
theorem dL_law_340 : decode cL_law 340 = .ok (.ireturn, 1) := by decide +kernel
theorem dL_law_341 : decode cL_law 341 = .ok (.aload_n 1, 1) := by decide +kernel
theorem dL_law_342 : decode cL_law 342 = .ok (.invokevirtual 61, 3) := by decide +kernel
theorem dL_law_345 : decode cL_law 345 = .ok (.aload_n 2, 1) := by decide +kernel
theorem dL_law_346 : decode cL_law 346 = .ok (.invokevirtual 64, 3) := by decide +kernel
theorem dL_law_349 : decode cL_law 349 = .ok (.if_icmp .eq 74, 3) := by decide +kernel
theorem dL_law_352 : decode cL_law 352 = .ok (.iconst 0, 1) := by decide +kernel
theorem dL_law_353 : decode cL_law 353 = .ok (.ireturn, 1) := by decide +kernel
theorem dL_law_354 : decode cL_law 354 = .ok (.aload_n 1, 1) := by decide +kernel
theorem dL_law_355 : decode cL_law 355 = .ok (.aload_n 0, 1) := by decide +kernel
theorem dL_law_356 : decode cL_law 356 = .ok (.iload_n 3, 1) := by decide +kernel
theorem dL_law_357 : decode cL_law 357 = .ok (.iconst 1, 1) := by decide +kernel
theorem dL_law_358 : decode cL_law 358 = .ok (.iadd, 1) := by decide +kernel
theorem dL_law_359 : decode cL_law 359 = .ok (.iaload, 1) := by decide +kernel
theorem dL_law_360 : decode cL_law 360 = .ok (.invokevirtual 65, 3) := by decide +kernel
theorem dL_law_363 : decode cL_law 363 = .ok (.aload_n 2, 1) := by decide +kernel
theorem dL_law_364 : decode cL_law 364 = .ok (.aload_n 0, 1) := by decide +kernel
theorem dL_law_365 : decode cL_law 365 = .ok (.iload_n 3, 1) := by decide +kernel
theorem dL_law_366 : decode cL_law 366 = .ok (.iconst 1, 1) := by decide +kernel
theorem dL_law_367 : decode cL_law 367 = .ok (.iadd, 1) := by decide +kernel
theorem dL_law_368 : decode cL_law 368 = .ok (.iaload, 1) := by decide +kernel
theorem dL_law_369 : decode cL_law 369 = .ok (.invokevirtual 68, 3) := by decide +kernel
theorem dL_law_372 : decode cL_law 372 = .ok (.if_icmp .eq 51, 3) := by decide +kernel
theorem dL_law_375 : decode cL_law 375 = .ok (.iconst 0, 1) := by decide +kernel
theorem dL_law_376 : decode cL_law 376 = .ok (.ireturn, 1) := by decide +kernel
theorem dL_law_377 : decode cL_law 377 = .ok (.aload_n 1, 1) := by decide +kernel
theorem dL_law_378 : decode cL_law 378 = .ok (.aload_n 0, 1) := by decide +kernel
theorem dL_law_379 : decode cL_law 379 = .ok (.iload_n 3, 1) := by decide +kernel
theorem dL_law_380 : decode cL_law 380 = .ok (.iconst 1, 1) := by decide +kernel
theorem dL_law_381 : decode cL_law 381 = .ok (.iadd, 1) := by decide +kernel
theorem dL_law_382 : decode cL_law 382 = .ok (.iaload, 1) := by decide +kernel
theorem dL_law_383 : decode cL_law 383 = .ok (.invokevirtual 69, 3) := by decide +kernel
theorem dL_law_386 : decode cL_law 386 = .ok (.aload_n 2, 1) := by decide +kernel
theorem dL_law_387 : decode cL_law 387 = .ok (.aload_n 0, 1) := by decide +kernel
theorem dL_law_388 : decode cL_law 388 = .ok (.iload_n 3, 1) := by decide +kernel
theorem dL_law_389 : decode cL_law 389 = .ok (.iconst 1, 1) := by decide +kernel
theorem dL_law_390 : decode cL_law 390 = .ok (.iadd, 1) := by decide +kernel
theorem dL_law_391 : decode cL_law 391 = .ok (.iaload, 1) := by decide +kernel
theorem dL_law_392 : decode cL_law 392 = .ok (.invokevirtual 72, 3) := by decide +kernel
theorem dL_law_395 : decode cL_law 395 = .ok (.if_icmp .eq 28, 3) := by decide +kernel
theorem dL_law_398 : decode cL_law 398 = .ok (.iconst 0, 1) := by decide +kernel
theorem dL_law_399 : decode cL_law 399 = .ok (.ireturn, 1) := by decide +kernel
theorem dL_law_400 : decode cL_law 400 = .ok (.aload_n 1, 1) := by decide +kernel
theorem dL_law_401 : decode cL_law 401 = .ok (.aload_n 0, 1) := by decide +kernel
theorem dL_law_402 : decode cL_law 402 = .ok (.iload_n 3, 1) := by decide +kernel
theorem dL_law_403 : decode cL_law 403 = .ok (.iconst 1, 1) := by decide +kernel
theorem dL_law_404 : decode cL_law 404 = .ok (.iadd, 1) := by decide +kernel
theorem dL_law_405 : decode cL_law 405 = .ok (.iaload, 1) := by decide +kernel
theorem dL_law_406 : decode cL_law 406 = .ok (.invokevirtual 73, 3) := by decide +kernel
theorem dL_law_409 : decode cL_law 409 = .ok (.aload_n 2, 1) := by decide +kernel
theorem dL_law_410 : decode cL_law 410 = .ok (.aload_n 0, 1) := by decide +kernel
theorem dL_law_411 : decode cL_law 411 = .ok (.iload_n 3, 1) := by decide +kernel
theorem dL_law_412 : decode cL_law 412 = .ok (.iconst 1, 1) := by decide +kernel
theorem dL_law_413 : decode cL_law 413 = .ok (.iadd, 1) := by decide +kernel
theorem dL_law_414 : decode cL_law 414 = .ok (.iaload, 1) := by decide +kernel
theorem dL_law_415 : decode cL_law 415 = .ok (.invokevirtual 76, 3) := by decide +kernel
theorem dL_law_418 : decode cL_law 418 = .ok (.if_icmp .eq 5, 3) := by decide +kernel
theorem dL_law_421 : decode cL_law 421 = .ok (.iconst 0, 1) := by decide +kernel
theorem dL_law_422 : decode cL_law 422 = .ok (.ireturn, 1) := by decide +kernel
theorem dL_law_423 : decode cL_law 423 = .ok (.iinc 3 3, 3) := by decide +kernel
theorem dL_law_426 : decode cL_law 426 = .ok (.goto (-408), 3) := by decide +kernel
theorem dL_law_429 : decode cL_law 429 = .ok (.iconst 1, 1) := by decide +kernel
theorem dL_law_430 : decode cL_law 430 = .ok (.ireturn, 1) := by decide +kernel
theorem q16 : (Jvm.Cond.initialized "BooleanBasisLaw") ∈ lw_all := lw_g (lw_at lw_m1 0 rfl) rfl
set_option maxRecDepth 100000
theorem q19 : (Jvm.Cond.classLink "BooleanBasisLaw" (7 : Nat) "BooleanBasis") ∈ lw_all := lw_g (lw_at lw_m1 3 rfl) rfl
theorem q21 : (Jvm.Cond.methodLink "BooleanBasisLaw" (9 : Nat) ({ cls := "BooleanBasis", name := "<init>", desc := "()V" } : Jvm.MethodName)) ∈ lw_all := lw_g (lw_at lw_m1 5 rfl) rfl
theorem q60 : (Jvm.Cond.methodLink "BooleanBasisLaw" (13 : Nat) ({ cls := "BooleanBasis", name := "add", desc := "(I)I" } : Jvm.MethodName)) ∈ lw_all := lw_g (lw_at lw_m1 44 rfl) rfl
theorem q72 : (Jvm.Cond.methodLink "BooleanBasisLaw" (18 : Nat) ({ cls := "BooleanBasis", name := "remove", desc := "(I)Z" } : Jvm.MethodName)) ∈ lw_all := lw_g (lw_at lw_m1 56 rfl) rfl
theorem q76 : (Jvm.Cond.methodLink "BooleanBasisLaw" (23 : Nat) ({ cls := "BooleanBasis", name := "generators", desc := "()I" } : Jvm.MethodName)) ∈ lw_all := lw_g (lw_at lw_m1 60 rfl) rfl
theorem q80 : (Jvm.Cond.methodLink "BooleanBasisLaw" (28 : Nat) ({ cls := "BooleanBasis", name := "product", desc := "(II)I" } : Jvm.MethodName)) ∈ lw_all := lw_g (lw_at lw_m1 64 rfl) rfl
theorem q87 : (Jvm.Cond.methodLink "BooleanBasisLaw" (33 : Nat) ({ cls := "BooleanBasis", name := "value", desc := "(II)I" } : Jvm.MethodName)) ∈ lw_all := lw_g (lw_at lw_m1 71 rfl) rfl
theorem q94 : (Jvm.Cond.methodLink "BooleanBasisLaw" (37 : Nat) ({ cls := "BooleanBasis", name := "contains", desc := "(I)Z" } : Jvm.MethodName)) ∈ lw_all := lw_g (lw_at lw_m1 78 rfl) rfl
theorem q137 : (Jvm.Cond.methodLink "BooleanBasisLaw" (41 : Nat) ({ cls := "BooleanBasis", name := "rest", desc := "(I)I" } : Jvm.MethodName)) ∈ lw_all := lw_g (lw_at lw_m1 121 rfl) rfl
theorem q141 : (Jvm.Cond.methodLink "BooleanBasisLaw" (45 : Nat) ({ cls := "BooleanBasis", name := "basisSize", desc := "()I" } : Jvm.MethodName)) ∈ lw_all := lw_g (lw_at lw_m1 125 rfl) rfl
theorem q145 : (Jvm.Cond.methodLink "BooleanBasisLaw" (49 : Nat) ({ cls := "BooleanBasis", name := "basisAt", desc := "(I)I" } : Jvm.MethodName)) ∈ lw_all := lw_g (lw_at lw_m1 129 rfl) rfl
theorem q149 : (Jvm.Cond.methodLink "BooleanBasisLaw" (53 : Nat) ({ cls := "BooleanBasis", name := "bound", desc := "()I" } : Jvm.MethodName)) ∈ lw_all := lw_g (lw_at lw_m1 133 rfl) rfl
theorem q153 : (Jvm.Cond.methodLink "BooleanBasisLaw" (57 : Nat) ({ cls := "BooleanBasis", name := "zeros", desc := "()I" } : Jvm.MethodName)) ∈ lw_all := lw_g (lw_at lw_m1 137 rfl) rfl
theorem q157 : (Jvm.Cond.methodLink "BooleanBasisLaw" (61 : Nat) ({ cls := "BooleanBasis", name := "zeroCount", desc := "()I" } : Jvm.MethodName)) ∈ lw_all := lw_g (lw_at lw_m1 141 rfl) rfl
theorem q161 : (Jvm.Cond.methodLink "BooleanBasisLaw" (65 : Nat) ({ cls := "BooleanBasis", name := "values", desc := "(I)I" } : Jvm.MethodName)) ∈ lw_all := lw_g (lw_at lw_m1 145 rfl) rfl
theorem q165 : (Jvm.Cond.methodLink "BooleanBasisLaw" (69 : Nat) ({ cls := "BooleanBasis", name := "redundant", desc := "(I)Z" } : Jvm.MethodName)) ∈ lw_all := lw_g (lw_at lw_m1 149 rfl) rfl
theorem q169 : (Jvm.Cond.methodLink "BooleanBasisLaw" (73 : Nat) ({ cls := "BooleanBasis", name := "relates", desc := "(I)Z" } : Jvm.MethodName)) ∈ lw_all := lw_g (lw_at lw_m1 153 rfl) rfl
theorem q173 : (Jvm.Cond.classLink "BooleanBasisLaw" (10 : Nat) "BooleanBasisModel") ∈ lw_all := lw_g (lw_at lw_m1 157 rfl) rfl
theorem q175 : (Jvm.Cond.methodLink "BooleanBasisLaw" (12 : Nat) ({ cls := "BooleanBasisModel", name := "<init>", desc := "()V" } : Jvm.MethodName)) ∈ lw_all := lw_g (lw_at lw_m1 159 rfl) rfl
theorem q193 : (Jvm.Cond.methodLink "BooleanBasisLaw" (17 : Nat) ({ cls := "BooleanBasisModel", name := "add", desc := "(I)I" } : Jvm.MethodName)) ∈ lw_all := lw_g (lw_at lw_m1 177 rfl) rfl
theorem q202 : (Jvm.Cond.methodLink "BooleanBasisLaw" (22 : Nat) ({ cls := "BooleanBasisModel", name := "remove", desc := "(I)Z" } : Jvm.MethodName)) ∈ lw_all := lw_g (lw_at lw_m1 186 rfl) rfl
theorem q206 : (Jvm.Cond.methodLink "BooleanBasisLaw" (27 : Nat) ({ cls := "BooleanBasisModel", name := "generators", desc := "()I" } : Jvm.MethodName)) ∈ lw_all := lw_g (lw_at lw_m1 190 rfl) rfl
theorem q210 : (Jvm.Cond.methodLink "BooleanBasisLaw" (32 : Nat) ({ cls := "BooleanBasisModel", name := "product", desc := "(II)I" } : Jvm.MethodName)) ∈ lw_all := lw_g (lw_at lw_m1 194 rfl) rfl
theorem q214 : (Jvm.Cond.methodLink "BooleanBasisLaw" (36 : Nat) ({ cls := "BooleanBasisModel", name := "value", desc := "(II)I" } : Jvm.MethodName)) ∈ lw_all := lw_g (lw_at lw_m1 198 rfl) rfl
theorem q218 : (Jvm.Cond.methodLink "BooleanBasisLaw" (40 : Nat) ({ cls := "BooleanBasisModel", name := "contains", desc := "(I)Z" } : Jvm.MethodName)) ∈ lw_all := lw_g (lw_at lw_m1 202 rfl) rfl
theorem q239 : (Jvm.Cond.methodLink "BooleanBasisLaw" (44 : Nat) ({ cls := "BooleanBasisModel", name := "rest", desc := "(I)I" } : Jvm.MethodName)) ∈ lw_all := lw_g (lw_at lw_m1 223 rfl) rfl
theorem q240 : (Jvm.Cond.methodLink "BooleanBasisLaw" (48 : Nat) ({ cls := "BooleanBasisModel", name := "basisSize", desc := "()I" } : Jvm.MethodName)) ∈ lw_all := lw_g (lw_at lw_m1 224 rfl) rfl
theorem q248 : (Jvm.Cond.methodLink "BooleanBasisLaw" (52 : Nat) ({ cls := "BooleanBasisModel", name := "basisAt", desc := "(I)I" } : Jvm.MethodName)) ∈ lw_all := lw_g (lw_at lw_m1 232 rfl) rfl
theorem q252 : (Jvm.Cond.methodLink "BooleanBasisLaw" (56 : Nat) ({ cls := "BooleanBasisModel", name := "bound", desc := "()I" } : Jvm.MethodName)) ∈ lw_all := lw_g (lw_at lw_m1 236 rfl) rfl
theorem q256 : (Jvm.Cond.methodLink "BooleanBasisLaw" (60 : Nat) ({ cls := "BooleanBasisModel", name := "zeros", desc := "()I" } : Jvm.MethodName)) ∈ lw_all := lw_g (lw_at lw_m2 0 rfl) rfl
theorem q261 : (Jvm.Cond.methodLink "BooleanBasisLaw" (64 : Nat) ({ cls := "BooleanBasisModel", name := "zeroCount", desc := "()I" } : Jvm.MethodName)) ∈ lw_all := lw_g (lw_at lw_m2 5 rfl) rfl
theorem q266 : (Jvm.Cond.methodLink "BooleanBasisLaw" (68 : Nat) ({ cls := "BooleanBasisModel", name := "values", desc := "(I)I" } : Jvm.MethodName)) ∈ lw_all := lw_g (lw_at lw_m2 10 rfl) rfl
theorem q270 : (Jvm.Cond.methodLink "BooleanBasisLaw" (72 : Nat) ({ cls := "BooleanBasisModel", name := "redundant", desc := "(I)Z" } : Jvm.MethodName)) ∈ lw_all := lw_g (lw_at lw_m2 14 rfl) rfl
theorem q274 : (Jvm.Cond.methodLink "BooleanBasisLaw" (76 : Nat) ({ cls := "BooleanBasisModel", name := "relates", desc := "(I)Z" } : Jvm.MethodName)) ∈ lw_all := lw_g (lw_at lw_m2 18 rfl) rfl
end
section
/-! the worlds of the two classes, a row a field and an array -/
abbrev bw_Cl : List vw_C := [(RX0, TX0, 10), (RX1, TX1, 4)]
/-- an object of the class: its address, its arrays' (given, polys, heads, basis), their classes -/
abbrev bw_A0 : Type := Nat × Nat × Nat × Nat × Nat × ClassId × ClassId × ClassId × ClassId
def bw_T0 (a : bw_A0) : List (ClassId × FieldType) := [(a.2.2.2.2.2.1, .int), (a.2.2.2.2.2.2.1, .int), (a.2.2.2.2.2.2.2.1, .byte), (a.2.2.2.2.2.2.2.2, .int)]
def bw_W0 (a : bw_A0) (pr : Nat) (gv : Nat → Nat) (kn sz : Nat) (po hd : Nat → Nat) (bc : Nat) (ba : Nat → Nat) (bs zs : Nat) : va_W := [(a.1, .inr (0, [.int (nI pr), .ref a.2.1, .int (nI kn), .int (nI sz), .ref a.2.2.1, .ref a.2.2.2.1, .int (nI bc), .ref a.2.2.2.2.1, .int (nI bs), .int (nI zs)])), (a.2.1, .inl (a.2.2.2.2.2.1, 6, .inl (bw_nF gv))), (a.2.2.1, .inl (a.2.2.2.2.2.2.1, 32, .inl (bw_nF po))), (a.2.2.2.1, .inl (a.2.2.2.2.2.2.2.1, 32, .inl (bw_nF hd))), (a.2.2.2.2.1, .inl (a.2.2.2.2.2.2.2.2, 16, .inl (bw_nF ba)))]
/-- an object of the reference: its address, its arrays' (there, gens, heads, others), their classes -/
def bw_T1 (a : bw_A0) : List (ClassId × FieldType) := [(a.2.2.2.2.2.1, .boolean), (a.2.2.2.2.2.2.1, .int), (a.2.2.2.2.2.2.2.1, .int), (a.2.2.2.2.2.2.2.2, .int)]
def bw_W1 (a : bw_A0) (th gn hs ot : Nat → Nat) : va_W := [(a.1, .inr (1, [.ref a.2.1, .ref a.2.2.1, .ref a.2.2.2.1, .ref a.2.2.2.2.1])), (a.2.1, .inl (a.2.2.2.2.2.1, 6, .inl (bw_nF th))), (a.2.2.1, .inl (a.2.2.2.2.2.2.1, 6, .inl (bw_nF gn))), (a.2.2.2.1, .inl (a.2.2.2.2.2.2.2.1, 16, .inl (bw_nF hs))), (a.2.2.2.2.1, .inl (a.2.2.2.2.2.2.2.2, 16, .inl (bw_nF ot)))]
theorem bw_bz1 : ∀ v, v < 2 → narrow .boolean (.int (nI v)) = .int (nI v) := by decide +kernel
theorem bw_bz2 : ∀ v, v < 2 → fits .boolean (.int (nI v)) = true := by decide +kernel
section BWC
variable {p : Program} {l : Launch} {e : Env} {R : Room} {s : State} {m : MethodId} {args : Array Value} {below : List Frame} {meth : Method} {c : Code} {H : Heap} {locs : List Loc} {cells slots : Nat} {Q : State → Prop}
variable {cc : ByteArray} {pc : Nat} {ls : Array Slot} {rest : List Value} {D : va_G} {A : Nat → Prop} {H0 : Heap}
theorem bw_g0_pr (hx : p.tables.exec = Jvm.exec) (hb : c.code = cc) {a : bw_A0} {pr : Nat} {gv : Nat → Nat} {kn sz : Nat} {po hd : Nat → Nat} {bc : Nat} {ba : Nat → Nat} {bs zs : Nat} (hts : ∀ w ∈ lw_all, w.before args s = true) (hown : s.vm.findClass RX0 = some m.cls) (hK : va_K D bw_Cl (bw_T0 a) s) (hw : bw_H D bw_Cl A H0 (bw_W0 a pr gv kn sz po hd bc ba bs zs) H locs) (hdg : decode cc pc = .ok (.getfield 24, 3)) (kk : W p l e R s m args below meth c H locs cells slots Q (F0 m (pc + 3) ls (.int (nI pr) :: rest))) : W p l e R s m args below meth c H locs cells slots Q (F0 m (pc) ls (.ref a.1 :: rest)) :=
  va_get (D := D) (ci := 0) (v := .int (nI pr)) (C := RX0) (T := TX0) (N := 10) (cl := bw_Cl) hx hb hts in_X0 hown hK hw.1 0 rfl rfl 0 (by decide) (hts _ q27) (fun _ h9 => h9) rfl hdg kk
theorem bw_p0_pr (hx : p.tables.exec = Jvm.exec) (hb : c.code = cc) {a : bw_A0} {pr : Nat} {gv : Nat → Nat} {kn sz : Nat} {po hd : Nat → Nat} {bc : Nat} {ba : Nat → Nat} {bs zs : Nat} (hts : ∀ w ∈ lw_all, w.before args s = true) (hown : s.vm.findClass RX0 = some m.cls) (hK : va_K D bw_Cl (bw_T0 a) s) (hw : bw_H D bw_Cl A H0 (bw_W0 a pr gv kn sz po hd bc ba bs zs) H locs) {v : Nat} (hdg : decode cc pc = .ok (.putfield 24, 3)) (kk : ∀ (H1 : Heap) (locs1 : List Loc), bw_H D bw_Cl A H0 (bw_W0 a v gv kn sz po hd bc ba bs zs) H1 locs1 → W p l e R s m args below meth c H1 locs1 cells slots Q (F0 m (pc + 3) ls (rest))) : W p l e R s m args below meth c H locs cells slots Q (F0 m (pc) ls (.int (nI v) :: .ref a.1 :: rest)) :=
  va_put (D := D) (ci := 0) (v := .int (nI v)) (ty := .int) (C := RX0) (T := TX0) (N := 10) (cl := bw_Cl) hx hb hts in_X0 tyX0 tyX0_ok nmX0 hown hK hw.1 hw.2.1 hw.2.2 0 rfl rfl 0 (by decide) (hts _ q27) (fun _ h9 => h9) rfl (by decide +kernel) rfl rfl (Nat.le_of_ble_eq_true rfl) hdg (fun H1 locs1 hP hD hS => kk H1 locs1 ⟨hP, hD, hS⟩)
theorem bw_g0_gv (hx : p.tables.exec = Jvm.exec) (hb : c.code = cc) {a : bw_A0} {pr : Nat} {gv : Nat → Nat} {kn sz : Nat} {po hd : Nat → Nat} {bc : Nat} {ba : Nat → Nat} {bs zs : Nat} (hts : ∀ w ∈ lw_all, w.before args s = true) (hown : s.vm.findClass RX0 = some m.cls) (hK : va_K D bw_Cl (bw_T0 a) s) (hw : bw_H D bw_Cl A H0 (bw_W0 a pr gv kn sz po hd bc ba bs zs) H locs) (hdg : decode cc pc = .ok (.getfield 7, 3)) (kk : W p l e R s m args below meth c H locs cells slots Q (F0 m (pc + 3) ls (.ref a.2.1 :: rest))) : W p l e R s m args below meth c H locs cells slots Q (F0 m (pc) ls (.ref a.1 :: rest)) :=
  va_get (D := D) (ci := 0) (v := .ref a.2.1) (C := RX0) (T := TX0) (N := 10) (cl := bw_Cl) hx hb hts in_X0 hown hK hw.1 0 rfl rfl 1 (by decide) (hts _ q28) (fun _ h9 => h9) rfl hdg kk
theorem bw_g0_kn (hx : p.tables.exec = Jvm.exec) (hb : c.code = cc) {a : bw_A0} {pr : Nat} {gv : Nat → Nat} {kn sz : Nat} {po hd : Nat → Nat} {bc : Nat} {ba : Nat → Nat} {bs zs : Nat} (hts : ∀ w ∈ lw_all, w.before args s = true) (hown : s.vm.findClass RX0 = some m.cls) (hK : va_K D bw_Cl (bw_T0 a) s) (hw : bw_H D bw_Cl A H0 (bw_W0 a pr gv kn sz po hd bc ba bs zs) H locs) (hdg : decode cc pc = .ok (.getfield 35, 3)) (kk : W p l e R s m args below meth c H locs cells slots Q (F0 m (pc + 3) ls (.int (nI kn) :: rest))) : W p l e R s m args below meth c H locs cells slots Q (F0 m (pc) ls (.ref a.1 :: rest)) :=
  va_get (D := D) (ci := 0) (v := .int (nI kn)) (C := RX0) (T := TX0) (N := 10) (cl := bw_Cl) hx hb hts in_X0 hown hK hw.1 0 rfl rfl 2 (by decide) (hts _ q29) (fun _ h9 => h9) rfl hdg kk
theorem bw_p0_kn (hx : p.tables.exec = Jvm.exec) (hb : c.code = cc) {a : bw_A0} {pr : Nat} {gv : Nat → Nat} {kn sz : Nat} {po hd : Nat → Nat} {bc : Nat} {ba : Nat → Nat} {bs zs : Nat} (hts : ∀ w ∈ lw_all, w.before args s = true) (hown : s.vm.findClass RX0 = some m.cls) (hK : va_K D bw_Cl (bw_T0 a) s) (hw : bw_H D bw_Cl A H0 (bw_W0 a pr gv kn sz po hd bc ba bs zs) H locs) {v : Nat} (hv : v < 2) (hdg : decode cc pc = .ok (.putfield 35, 3)) (kk : ∀ (H1 : Heap) (locs1 : List Loc), bw_H D bw_Cl A H0 (bw_W0 a pr gv v sz po hd bc ba bs zs) H1 locs1 → W p l e R s m args below meth c H1 locs1 cells slots Q (F0 m (pc + 3) ls (rest))) : W p l e R s m args below meth c H locs cells slots Q (F0 m (pc) ls (.int (nI v) :: .ref a.1 :: rest)) :=
  va_put (D := D) (ci := 0) (v := .int (nI v)) (ty := .boolean) (C := RX0) (T := TX0) (N := 10) (cl := bw_Cl) hx hb hts in_X0 tyX0 tyX0_ok nmX0 hown hK hw.1 hw.2.1 hw.2.2 0 rfl rfl 2 (by decide) (hts _ q29) (fun _ h9 => h9) rfl (by decide +kernel) (bw_bz1 v hv) (bw_bz2 v hv) (Nat.le_of_ble_eq_true rfl) hdg (fun H1 locs1 hP hD hS => kk H1 locs1 ⟨hP, hD, hS⟩)
theorem bw_g0_sz (hx : p.tables.exec = Jvm.exec) (hb : c.code = cc) {a : bw_A0} {pr : Nat} {gv : Nat → Nat} {kn sz : Nat} {po hd : Nat → Nat} {bc : Nat} {ba : Nat → Nat} {bs zs : Nat} (hts : ∀ w ∈ lw_all, w.before args s = true) (hown : s.vm.findClass RX0 = some m.cls) (hK : va_K D bw_Cl (bw_T0 a) s) (hw : bw_H D bw_Cl A H0 (bw_W0 a pr gv kn sz po hd bc ba bs zs) H locs) (hdg : decode cc pc = .ok (.getfield 50, 3)) (kk : W p l e R s m args below meth c H locs cells slots Q (F0 m (pc + 3) ls (.int (nI sz) :: rest))) : W p l e R s m args below meth c H locs cells slots Q (F0 m (pc) ls (.ref a.1 :: rest)) :=
  va_get (D := D) (ci := 0) (v := .int (nI sz)) (C := RX0) (T := TX0) (N := 10) (cl := bw_Cl) hx hb hts in_X0 hown hK hw.1 0 rfl rfl 3 (by decide) (hts _ q30) (fun _ h9 => h9) rfl hdg kk
theorem bw_p0_sz (hx : p.tables.exec = Jvm.exec) (hb : c.code = cc) {a : bw_A0} {pr : Nat} {gv : Nat → Nat} {kn sz : Nat} {po hd : Nat → Nat} {bc : Nat} {ba : Nat → Nat} {bs zs : Nat} (hts : ∀ w ∈ lw_all, w.before args s = true) (hown : s.vm.findClass RX0 = some m.cls) (hK : va_K D bw_Cl (bw_T0 a) s) (hw : bw_H D bw_Cl A H0 (bw_W0 a pr gv kn sz po hd bc ba bs zs) H locs) {v : Nat} (hdg : decode cc pc = .ok (.putfield 50, 3)) (kk : ∀ (H1 : Heap) (locs1 : List Loc), bw_H D bw_Cl A H0 (bw_W0 a pr gv kn v po hd bc ba bs zs) H1 locs1 → W p l e R s m args below meth c H1 locs1 cells slots Q (F0 m (pc + 3) ls (rest))) : W p l e R s m args below meth c H locs cells slots Q (F0 m (pc) ls (.int (nI v) :: .ref a.1 :: rest)) :=
  va_put (D := D) (ci := 0) (v := .int (nI v)) (ty := .int) (C := RX0) (T := TX0) (N := 10) (cl := bw_Cl) hx hb hts in_X0 tyX0 tyX0_ok nmX0 hown hK hw.1 hw.2.1 hw.2.2 0 rfl rfl 3 (by decide) (hts _ q30) (fun _ h9 => h9) rfl (by decide +kernel) rfl rfl (Nat.le_of_ble_eq_true rfl) hdg (fun H1 locs1 hP hD hS => kk H1 locs1 ⟨hP, hD, hS⟩)
theorem bw_g0_po (hx : p.tables.exec = Jvm.exec) (hb : c.code = cc) {a : bw_A0} {pr : Nat} {gv : Nat → Nat} {kn sz : Nat} {po hd : Nat → Nat} {bc : Nat} {ba : Nat → Nat} {bs zs : Nat} (hts : ∀ w ∈ lw_all, w.before args s = true) (hown : s.vm.findClass RX0 = some m.cls) (hK : va_K D bw_Cl (bw_T0 a) s) (hw : bw_H D bw_Cl A H0 (bw_W0 a pr gv kn sz po hd bc ba bs zs) H locs) (hdg : decode cc pc = .ok (.getfield 13, 3)) (kk : W p l e R s m args below meth c H locs cells slots Q (F0 m (pc + 3) ls (.ref a.2.2.1 :: rest))) : W p l e R s m args below meth c H locs cells slots Q (F0 m (pc) ls (.ref a.1 :: rest)) :=
  va_get (D := D) (ci := 0) (v := .ref a.2.2.1) (C := RX0) (T := TX0) (N := 10) (cl := bw_Cl) hx hb hts in_X0 hown hK hw.1 0 rfl rfl 4 (by decide) (hts _ q31) (fun _ h9 => h9) rfl hdg kk
theorem bw_g0_hd (hx : p.tables.exec = Jvm.exec) (hb : c.code = cc) {a : bw_A0} {pr : Nat} {gv : Nat → Nat} {kn sz : Nat} {po hd : Nat → Nat} {bc : Nat} {ba : Nat → Nat} {bs zs : Nat} (hts : ∀ w ∈ lw_all, w.before args s = true) (hown : s.vm.findClass RX0 = some m.cls) (hK : va_K D bw_Cl (bw_T0 a) s) (hw : bw_H D bw_Cl A H0 (bw_W0 a pr gv kn sz po hd bc ba bs zs) H locs) (hdg : decode cc pc = .ok (.getfield 16, 3)) (kk : W p l e R s m args below meth c H locs cells slots Q (F0 m (pc + 3) ls (.ref a.2.2.2.1 :: rest))) : W p l e R s m args below meth c H locs cells slots Q (F0 m (pc) ls (.ref a.1 :: rest)) :=
  va_get (D := D) (ci := 0) (v := .ref a.2.2.2.1) (C := RX0) (T := TX0) (N := 10) (cl := bw_Cl) hx hb hts in_X0 hown hK hw.1 0 rfl rfl 5 (by decide) (hts _ q32) (fun _ h9 => h9) rfl hdg kk
theorem bw_g0_bc (hx : p.tables.exec = Jvm.exec) (hb : c.code = cc) {a : bw_A0} {pr : Nat} {gv : Nat → Nat} {kn sz : Nat} {po hd : Nat → Nat} {bc : Nat} {ba : Nat → Nat} {bs zs : Nat} (hts : ∀ w ∈ lw_all, w.before args s = true) (hown : s.vm.findClass RX0 = some m.cls) (hK : va_K D bw_Cl (bw_T0 a) s) (hw : bw_H D bw_Cl A H0 (bw_W0 a pr gv kn sz po hd bc ba bs zs) H locs) (hdg : decode cc pc = .ok (.getfield 76, 3)) (kk : W p l e R s m args below meth c H locs cells slots Q (F0 m (pc + 3) ls (.int (nI bc) :: rest))) : W p l e R s m args below meth c H locs cells slots Q (F0 m (pc) ls (.ref a.1 :: rest)) :=
  va_get (D := D) (ci := 0) (v := .int (nI bc)) (C := RX0) (T := TX0) (N := 10) (cl := bw_Cl) hx hb hts in_X0 hown hK hw.1 0 rfl rfl 6 (by decide) (hts _ q33) (fun _ h9 => h9) rfl hdg kk
theorem bw_p0_bc (hx : p.tables.exec = Jvm.exec) (hb : c.code = cc) {a : bw_A0} {pr : Nat} {gv : Nat → Nat} {kn sz : Nat} {po hd : Nat → Nat} {bc : Nat} {ba : Nat → Nat} {bs zs : Nat} (hts : ∀ w ∈ lw_all, w.before args s = true) (hown : s.vm.findClass RX0 = some m.cls) (hK : va_K D bw_Cl (bw_T0 a) s) (hw : bw_H D bw_Cl A H0 (bw_W0 a pr gv kn sz po hd bc ba bs zs) H locs) {v : Nat} (hdg : decode cc pc = .ok (.putfield 76, 3)) (kk : ∀ (H1 : Heap) (locs1 : List Loc), bw_H D bw_Cl A H0 (bw_W0 a pr gv kn sz po hd v ba bs zs) H1 locs1 → W p l e R s m args below meth c H1 locs1 cells slots Q (F0 m (pc + 3) ls (rest))) : W p l e R s m args below meth c H locs cells slots Q (F0 m (pc) ls (.int (nI v) :: .ref a.1 :: rest)) :=
  va_put (D := D) (ci := 0) (v := .int (nI v)) (ty := .int) (C := RX0) (T := TX0) (N := 10) (cl := bw_Cl) hx hb hts in_X0 tyX0 tyX0_ok nmX0 hown hK hw.1 hw.2.1 hw.2.2 0 rfl rfl 6 (by decide) (hts _ q33) (fun _ h9 => h9) rfl (by decide +kernel) rfl rfl (Nat.le_of_ble_eq_true rfl) hdg (fun H1 locs1 hP hD hS => kk H1 locs1 ⟨hP, hD, hS⟩)
theorem bw_g0_ba (hx : p.tables.exec = Jvm.exec) (hb : c.code = cc) {a : bw_A0} {pr : Nat} {gv : Nat → Nat} {kn sz : Nat} {po hd : Nat → Nat} {bc : Nat} {ba : Nat → Nat} {bs zs : Nat} (hts : ∀ w ∈ lw_all, w.before args s = true) (hown : s.vm.findClass RX0 = some m.cls) (hK : va_K D bw_Cl (bw_T0 a) s) (hw : bw_H D bw_Cl A H0 (bw_W0 a pr gv kn sz po hd bc ba bs zs) H locs) (hdg : decode cc pc = .ok (.getfield 20, 3)) (kk : W p l e R s m args below meth c H locs cells slots Q (F0 m (pc + 3) ls (.ref a.2.2.2.2.1 :: rest))) : W p l e R s m args below meth c H locs cells slots Q (F0 m (pc) ls (.ref a.1 :: rest)) :=
  va_get (D := D) (ci := 0) (v := .ref a.2.2.2.2.1) (C := RX0) (T := TX0) (N := 10) (cl := bw_Cl) hx hb hts in_X0 hown hK hw.1 0 rfl rfl 7 (by decide) (hts _ q34) (fun _ h9 => h9) rfl hdg kk
theorem bw_g0_bs (hx : p.tables.exec = Jvm.exec) (hb : c.code = cc) {a : bw_A0} {pr : Nat} {gv : Nat → Nat} {kn sz : Nat} {po hd : Nat → Nat} {bc : Nat} {ba : Nat → Nat} {bs zs : Nat} (hts : ∀ w ∈ lw_all, w.before args s = true) (hown : s.vm.findClass RX0 = some m.cls) (hK : va_K D bw_Cl (bw_T0 a) s) (hw : bw_H D bw_Cl A H0 (bw_W0 a pr gv kn sz po hd bc ba bs zs) H locs) (hdg : decode cc pc = .ok (.getfield 73, 3)) (kk : W p l e R s m args below meth c H locs cells slots Q (F0 m (pc + 3) ls (.int (nI bs) :: rest))) : W p l e R s m args below meth c H locs cells slots Q (F0 m (pc) ls (.ref a.1 :: rest)) :=
  va_get (D := D) (ci := 0) (v := .int (nI bs)) (C := RX0) (T := TX0) (N := 10) (cl := bw_Cl) hx hb hts in_X0 hown hK hw.1 0 rfl rfl 8 (by decide) (hts _ q35) (fun _ h9 => h9) rfl hdg kk
theorem bw_p0_bs (hx : p.tables.exec = Jvm.exec) (hb : c.code = cc) {a : bw_A0} {pr : Nat} {gv : Nat → Nat} {kn sz : Nat} {po hd : Nat → Nat} {bc : Nat} {ba : Nat → Nat} {bs zs : Nat} (hts : ∀ w ∈ lw_all, w.before args s = true) (hown : s.vm.findClass RX0 = some m.cls) (hK : va_K D bw_Cl (bw_T0 a) s) (hw : bw_H D bw_Cl A H0 (bw_W0 a pr gv kn sz po hd bc ba bs zs) H locs) {v : Nat} (hdg : decode cc pc = .ok (.putfield 73, 3)) (kk : ∀ (H1 : Heap) (locs1 : List Loc), bw_H D bw_Cl A H0 (bw_W0 a pr gv kn sz po hd bc ba v zs) H1 locs1 → W p l e R s m args below meth c H1 locs1 cells slots Q (F0 m (pc + 3) ls (rest))) : W p l e R s m args below meth c H locs cells slots Q (F0 m (pc) ls (.int (nI v) :: .ref a.1 :: rest)) :=
  va_put (D := D) (ci := 0) (v := .int (nI v)) (ty := .int) (C := RX0) (T := TX0) (N := 10) (cl := bw_Cl) hx hb hts in_X0 tyX0 tyX0_ok nmX0 hown hK hw.1 hw.2.1 hw.2.2 0 rfl rfl 8 (by decide) (hts _ q35) (fun _ h9 => h9) rfl (by decide +kernel) rfl rfl (Nat.le_of_ble_eq_true rfl) hdg (fun H1 locs1 hP hD hS => kk H1 locs1 ⟨hP, hD, hS⟩)
theorem bw_g0_zs (hx : p.tables.exec = Jvm.exec) (hb : c.code = cc) {a : bw_A0} {pr : Nat} {gv : Nat → Nat} {kn sz : Nat} {po hd : Nat → Nat} {bc : Nat} {ba : Nat → Nat} {bs zs : Nat} (hts : ∀ w ∈ lw_all, w.before args s = true) (hown : s.vm.findClass RX0 = some m.cls) (hK : va_K D bw_Cl (bw_T0 a) s) (hw : bw_H D bw_Cl A H0 (bw_W0 a pr gv kn sz po hd bc ba bs zs) H locs) (hdg : decode cc pc = .ok (.getfield 82, 3)) (kk : W p l e R s m args below meth c H locs cells slots Q (F0 m (pc + 3) ls (.int (nI zs) :: rest))) : W p l e R s m args below meth c H locs cells slots Q (F0 m (pc) ls (.ref a.1 :: rest)) :=
  va_get (D := D) (ci := 0) (v := .int (nI zs)) (C := RX0) (T := TX0) (N := 10) (cl := bw_Cl) hx hb hts in_X0 hown hK hw.1 0 rfl rfl 9 (by decide) (hts _ q36) (fun _ h9 => h9) rfl hdg kk
theorem bw_p0_zs (hx : p.tables.exec = Jvm.exec) (hb : c.code = cc) {a : bw_A0} {pr : Nat} {gv : Nat → Nat} {kn sz : Nat} {po hd : Nat → Nat} {bc : Nat} {ba : Nat → Nat} {bs zs : Nat} (hts : ∀ w ∈ lw_all, w.before args s = true) (hown : s.vm.findClass RX0 = some m.cls) (hK : va_K D bw_Cl (bw_T0 a) s) (hw : bw_H D bw_Cl A H0 (bw_W0 a pr gv kn sz po hd bc ba bs zs) H locs) {v : Nat} (hdg : decode cc pc = .ok (.putfield 82, 3)) (kk : ∀ (H1 : Heap) (locs1 : List Loc), bw_H D bw_Cl A H0 (bw_W0 a pr gv kn sz po hd bc ba bs v) H1 locs1 → W p l e R s m args below meth c H1 locs1 cells slots Q (F0 m (pc + 3) ls (rest))) : W p l e R s m args below meth c H locs cells slots Q (F0 m (pc) ls (.int (nI v) :: .ref a.1 :: rest)) :=
  va_put (D := D) (ci := 0) (v := .int (nI v)) (ty := .int) (C := RX0) (T := TX0) (N := 10) (cl := bw_Cl) hx hb hts in_X0 tyX0 tyX0_ok nmX0 hown hK hw.1 hw.2.1 hw.2.2 0 rfl rfl 9 (by decide) (hts _ q36) (fun _ h9 => h9) rfl (by decide +kernel) rfl rfl (Nat.le_of_ble_eq_true rfl) hdg (fun H1 locs1 hP hD hS => kk H1 locs1 ⟨hP, hD, hS⟩)
theorem bw_l0_gv (hx : p.tables.exec = Jvm.exec) (hb : c.code = cc) {a : bw_A0} {pr : Nat} {gv : Nat → Nat} {kn sz : Nat} {po hd : Nat → Nat} {bc : Nat} {ba : Nat → Nat} {bs zs : Nat} (hK : va_K D bw_Cl (bw_T0 a) s) (hw : bw_H D bw_Cl A H0 (bw_W0 a pr gv kn sz po hd bc ba bs zs) H locs) {k : Nat} (hk : k < 6) (hdg : decode cc pc = .ok (.iaload, 1)) (kk : W p l e R s m args below meth c H locs cells slots Q (F0 m (pc + 1) ls (.int (nI (gv k)) :: rest))) : W p l e R s m args below meth c H locs cells slots Q (F0 m (pc) ls (.int (nI k) :: .ref a.2.1 :: rest)) :=
  bw_iald hx hb hK hw 1 0 rfl rfl hk (by decide) hdg kk
theorem bw_s0_gv (hx : p.tables.exec = Jvm.exec) (hb : c.code = cc) {a : bw_A0} {pr : Nat} {gv : Nat → Nat} {kn sz : Nat} {po hd : Nat → Nat} {bc : Nat} {ba : Nat → Nat} {bs zs : Nat} (hK : va_K D bw_Cl (bw_T0 a) s) (hw : bw_H D bw_Cl A H0 (bw_W0 a pr gv kn sz po hd bc ba bs zs) H locs) {k v : Nat} (hk : k < 6) (hdg : decode cc pc = .ok (.iastore, 1)) (kk : ∀ (H1 : Heap) (locs1 : List Loc), bw_H D bw_Cl A H0 (bw_W0 a pr (va_up gv k v) kn sz po hd bc ba bs zs) H1 locs1 → W p l e R s m args below meth c H1 locs1 cells slots Q (F0 m (pc + 1) ls (rest))) : W p l e R s m args below meth c H locs cells slots Q (F0 m (pc) ls (.int (nI v) :: .int (nI k) :: .ref a.2.1 :: rest)) :=
  bw_iast hx hb hK hw 1 0 rfl rfl hk (by decide) hdg kk
theorem bw_l0_po (hx : p.tables.exec = Jvm.exec) (hb : c.code = cc) {a : bw_A0} {pr : Nat} {gv : Nat → Nat} {kn sz : Nat} {po hd : Nat → Nat} {bc : Nat} {ba : Nat → Nat} {bs zs : Nat} (hK : va_K D bw_Cl (bw_T0 a) s) (hw : bw_H D bw_Cl A H0 (bw_W0 a pr gv kn sz po hd bc ba bs zs) H locs) {k : Nat} (hk : k < 32) (hdg : decode cc pc = .ok (.iaload, 1)) (kk : W p l e R s m args below meth c H locs cells slots Q (F0 m (pc + 1) ls (.int (nI (po k)) :: rest))) : W p l e R s m args below meth c H locs cells slots Q (F0 m (pc) ls (.int (nI k) :: .ref a.2.2.1 :: rest)) :=
  bw_iald hx hb hK hw 2 1 rfl rfl hk (by decide) hdg kk
theorem bw_s0_po (hx : p.tables.exec = Jvm.exec) (hb : c.code = cc) {a : bw_A0} {pr : Nat} {gv : Nat → Nat} {kn sz : Nat} {po hd : Nat → Nat} {bc : Nat} {ba : Nat → Nat} {bs zs : Nat} (hK : va_K D bw_Cl (bw_T0 a) s) (hw : bw_H D bw_Cl A H0 (bw_W0 a pr gv kn sz po hd bc ba bs zs) H locs) {k v : Nat} (hk : k < 32) (hdg : decode cc pc = .ok (.iastore, 1)) (kk : ∀ (H1 : Heap) (locs1 : List Loc), bw_H D bw_Cl A H0 (bw_W0 a pr gv kn sz (va_up po k v) hd bc ba bs zs) H1 locs1 → W p l e R s m args below meth c H1 locs1 cells slots Q (F0 m (pc + 1) ls (rest))) : W p l e R s m args below meth c H locs cells slots Q (F0 m (pc) ls (.int (nI v) :: .int (nI k) :: .ref a.2.2.1 :: rest)) :=
  bw_iast hx hb hK hw 2 1 rfl rfl hk (by decide) hdg kk
theorem bw_l0_hd (hx : p.tables.exec = Jvm.exec) (hb : c.code = cc) {a : bw_A0} {pr : Nat} {gv : Nat → Nat} {kn sz : Nat} {po hd : Nat → Nat} {bc : Nat} {ba : Nat → Nat} {bs zs : Nat} (hK : va_K D bw_Cl (bw_T0 a) s) (hw : bw_H D bw_Cl A H0 (bw_W0 a pr gv kn sz po hd bc ba bs zs) H locs) {k : Nat} (hk : k < 32) (hdg : decode cc pc = .ok (.baload, 1)) (kk : W p l e R s m args below meth c H locs cells slots Q (F0 m (pc + 1) ls (.int (nI (hd k)) :: rest))) : W p l e R s m args below meth c H locs cells slots Q (F0 m (pc) ls (.int (nI k) :: .ref a.2.2.2.1 :: rest)) :=
  bw_bald hx hb hK hw 3 2 rfl rfl hk (by decide) hdg kk
theorem bw_s0_hd (hx : p.tables.exec = Jvm.exec) (hb : c.code = cc) {a : bw_A0} {pr : Nat} {gv : Nat → Nat} {kn sz : Nat} {po hd : Nat → Nat} {bc : Nat} {ba : Nat → Nat} {bs zs : Nat} (hK : va_K D bw_Cl (bw_T0 a) s) (hw : bw_H D bw_Cl A H0 (bw_W0 a pr gv kn sz po hd bc ba bs zs) H locs) {k v : Nat} (hk : k < 32) (hv : v < 128) (hdg : decode cc pc = .ok (.bastore, 1)) (kk : ∀ (H1 : Heap) (locs1 : List Loc), bw_H D bw_Cl A H0 (bw_W0 a pr gv kn sz po (va_up hd k v) bc ba bs zs) H1 locs1 → W p l e R s m args below meth c H1 locs1 cells slots Q (F0 m (pc + 1) ls (rest))) : W p l e R s m args below meth c H locs cells slots Q (F0 m (pc) ls (.int (nI v) :: .int (nI k) :: .ref a.2.2.2.1 :: rest)) :=
  bw_bast hx hb hK hw 3 2 rfl rfl hk (by decide) hv hdg kk
theorem bw_l0_ba (hx : p.tables.exec = Jvm.exec) (hb : c.code = cc) {a : bw_A0} {pr : Nat} {gv : Nat → Nat} {kn sz : Nat} {po hd : Nat → Nat} {bc : Nat} {ba : Nat → Nat} {bs zs : Nat} (hK : va_K D bw_Cl (bw_T0 a) s) (hw : bw_H D bw_Cl A H0 (bw_W0 a pr gv kn sz po hd bc ba bs zs) H locs) {k : Nat} (hk : k < 16) (hdg : decode cc pc = .ok (.iaload, 1)) (kk : W p l e R s m args below meth c H locs cells slots Q (F0 m (pc + 1) ls (.int (nI (ba k)) :: rest))) : W p l e R s m args below meth c H locs cells slots Q (F0 m (pc) ls (.int (nI k) :: .ref a.2.2.2.2.1 :: rest)) :=
  bw_iald hx hb hK hw 4 3 rfl rfl hk (by decide) hdg kk
theorem bw_s0_ba (hx : p.tables.exec = Jvm.exec) (hb : c.code = cc) {a : bw_A0} {pr : Nat} {gv : Nat → Nat} {kn sz : Nat} {po hd : Nat → Nat} {bc : Nat} {ba : Nat → Nat} {bs zs : Nat} (hK : va_K D bw_Cl (bw_T0 a) s) (hw : bw_H D bw_Cl A H0 (bw_W0 a pr gv kn sz po hd bc ba bs zs) H locs) {k v : Nat} (hk : k < 16) (hdg : decode cc pc = .ok (.iastore, 1)) (kk : ∀ (H1 : Heap) (locs1 : List Loc), bw_H D bw_Cl A H0 (bw_W0 a pr gv kn sz po hd bc (va_up ba k v) bs zs) H1 locs1 → W p l e R s m args below meth c H1 locs1 cells slots Q (F0 m (pc + 1) ls (rest))) : W p l e R s m args below meth c H locs cells slots Q (F0 m (pc) ls (.int (nI v) :: .int (nI k) :: .ref a.2.2.2.2.1 :: rest)) :=
  bw_iast hx hb hK hw 4 3 rfl rfl hk (by decide) hdg kk
theorem bw_g1_th (hx : p.tables.exec = Jvm.exec) (hb : c.code = cc) {a : bw_A0} {th gn hs ot : Nat → Nat} (hts : ∀ w ∈ lw_all, w.before args s = true) (hown : s.vm.findClass RX1 = some m.cls) (hK : va_K D bw_Cl (bw_T1 a) s) (hw : bw_H D bw_Cl A H0 (bw_W1 a th gn hs ot) H locs) (hdg : decode cc pc = .ok (.getfield 7, 3)) (kk : W p l e R s m args below meth c H locs cells slots Q (F0 m (pc + 3) ls (.ref a.2.1 :: rest))) : W p l e R s m args below meth c H locs cells slots Q (F0 m (pc) ls (.ref a.1 :: rest)) :=
  va_get (D := D) (ci := 1) (v := .ref a.2.1) (C := RX1) (T := TX1) (N := 4) (cl := bw_Cl) hx hb hts in_X1 hown hK hw.1 0 rfl rfl 0 (by decide) (hts _ q179) (fun _ h9 => h9) rfl hdg kk
theorem bw_g1_gn (hx : p.tables.exec = Jvm.exec) (hb : c.code = cc) {a : bw_A0} {th gn hs ot : Nat → Nat} (hts : ∀ w ∈ lw_all, w.before args s = true) (hown : s.vm.findClass RX1 = some m.cls) (hK : va_K D bw_Cl (bw_T1 a) s) (hw : bw_H D bw_Cl A H0 (bw_W1 a th gn hs ot) H locs) (hdg : decode cc pc = .ok (.getfield 13, 3)) (kk : W p l e R s m args below meth c H locs cells slots Q (F0 m (pc + 3) ls (.ref a.2.2.1 :: rest))) : W p l e R s m args below meth c H locs cells slots Q (F0 m (pc) ls (.ref a.1 :: rest)) :=
  va_get (D := D) (ci := 1) (v := .ref a.2.2.1) (C := RX1) (T := TX1) (N := 4) (cl := bw_Cl) hx hb hts in_X1 hown hK hw.1 0 rfl rfl 1 (by decide) (hts _ q180) (fun _ h9 => h9) rfl hdg kk
theorem bw_g1_hs (hx : p.tables.exec = Jvm.exec) (hb : c.code = cc) {a : bw_A0} {th gn hs ot : Nat → Nat} (hts : ∀ w ∈ lw_all, w.before args s = true) (hown : s.vm.findClass RX1 = some m.cls) (hK : va_K D bw_Cl (bw_T1 a) s) (hw : bw_H D bw_Cl A H0 (bw_W1 a th gn hs ot) H locs) (hdg : decode cc pc = .ok (.getfield 17, 3)) (kk : W p l e R s m args below meth c H locs cells slots Q (F0 m (pc + 3) ls (.ref a.2.2.2.1 :: rest))) : W p l e R s m args below meth c H locs cells slots Q (F0 m (pc) ls (.ref a.1 :: rest)) :=
  va_get (D := D) (ci := 1) (v := .ref a.2.2.2.1) (C := RX1) (T := TX1) (N := 4) (cl := bw_Cl) hx hb hts in_X1 hown hK hw.1 0 rfl rfl 2 (by decide) (hts _ q181) (fun _ h9 => h9) rfl hdg kk
theorem bw_g1_ot (hx : p.tables.exec = Jvm.exec) (hb : c.code = cc) {a : bw_A0} {th gn hs ot : Nat → Nat} (hts : ∀ w ∈ lw_all, w.before args s = true) (hown : s.vm.findClass RX1 = some m.cls) (hK : va_K D bw_Cl (bw_T1 a) s) (hw : bw_H D bw_Cl A H0 (bw_W1 a th gn hs ot) H locs) (hdg : decode cc pc = .ok (.getfield 20, 3)) (kk : W p l e R s m args below meth c H locs cells slots Q (F0 m (pc + 3) ls (.ref a.2.2.2.2.1 :: rest))) : W p l e R s m args below meth c H locs cells slots Q (F0 m (pc) ls (.ref a.1 :: rest)) :=
  va_get (D := D) (ci := 1) (v := .ref a.2.2.2.2.1) (C := RX1) (T := TX1) (N := 4) (cl := bw_Cl) hx hb hts in_X1 hown hK hw.1 0 rfl rfl 3 (by decide) (hts _ q182) (fun _ h9 => h9) rfl hdg kk
theorem bw_l1_th (hx : p.tables.exec = Jvm.exec) (hb : c.code = cc) {a : bw_A0} {th gn hs ot : Nat → Nat} (hK : va_K D bw_Cl (bw_T1 a) s) (hw : bw_H D bw_Cl A H0 (bw_W1 a th gn hs ot) H locs) {k : Nat} (hk : k < 6) (hdg : decode cc pc = .ok (.baload, 1)) (kk : W p l e R s m args below meth c H locs cells slots Q (F0 m (pc + 1) ls (.int (nI (th k)) :: rest))) : W p l e R s m args below meth c H locs cells slots Q (F0 m (pc) ls (.int (nI k) :: .ref a.2.1 :: rest)) :=
  bw_zald hx hb hK hw 1 0 rfl rfl hk (by decide) hdg kk
theorem bw_s1_th (hx : p.tables.exec = Jvm.exec) (hb : c.code = cc) {a : bw_A0} {th gn hs ot : Nat → Nat} (hK : va_K D bw_Cl (bw_T1 a) s) (hw : bw_H D bw_Cl A H0 (bw_W1 a th gn hs ot) H locs) {k v : Nat} (hk : k < 6) (hv : v < 2) (hdg : decode cc pc = .ok (.bastore, 1)) (kk : ∀ (H1 : Heap) (locs1 : List Loc), bw_H D bw_Cl A H0 (bw_W1 a (va_up th k v) gn hs ot) H1 locs1 → W p l e R s m args below meth c H1 locs1 cells slots Q (F0 m (pc + 1) ls (rest))) : W p l e R s m args below meth c H locs cells slots Q (F0 m (pc) ls (.int (nI v) :: .int (nI k) :: .ref a.2.1 :: rest)) :=
  bw_zast hx hb hK hw 1 0 rfl rfl hk (by decide) hv hdg kk
theorem bw_l1_gn (hx : p.tables.exec = Jvm.exec) (hb : c.code = cc) {a : bw_A0} {th gn hs ot : Nat → Nat} (hK : va_K D bw_Cl (bw_T1 a) s) (hw : bw_H D bw_Cl A H0 (bw_W1 a th gn hs ot) H locs) {k : Nat} (hk : k < 6) (hdg : decode cc pc = .ok (.iaload, 1)) (kk : W p l e R s m args below meth c H locs cells slots Q (F0 m (pc + 1) ls (.int (nI (gn k)) :: rest))) : W p l e R s m args below meth c H locs cells slots Q (F0 m (pc) ls (.int (nI k) :: .ref a.2.2.1 :: rest)) :=
  bw_iald hx hb hK hw 2 1 rfl rfl hk (by decide) hdg kk
theorem bw_s1_gn (hx : p.tables.exec = Jvm.exec) (hb : c.code = cc) {a : bw_A0} {th gn hs ot : Nat → Nat} (hK : va_K D bw_Cl (bw_T1 a) s) (hw : bw_H D bw_Cl A H0 (bw_W1 a th gn hs ot) H locs) {k v : Nat} (hk : k < 6) (hdg : decode cc pc = .ok (.iastore, 1)) (kk : ∀ (H1 : Heap) (locs1 : List Loc), bw_H D bw_Cl A H0 (bw_W1 a th (va_up gn k v) hs ot) H1 locs1 → W p l e R s m args below meth c H1 locs1 cells slots Q (F0 m (pc + 1) ls (rest))) : W p l e R s m args below meth c H locs cells slots Q (F0 m (pc) ls (.int (nI v) :: .int (nI k) :: .ref a.2.2.1 :: rest)) :=
  bw_iast hx hb hK hw 2 1 rfl rfl hk (by decide) hdg kk
theorem bw_l1_hs (hx : p.tables.exec = Jvm.exec) (hb : c.code = cc) {a : bw_A0} {th gn hs ot : Nat → Nat} (hK : va_K D bw_Cl (bw_T1 a) s) (hw : bw_H D bw_Cl A H0 (bw_W1 a th gn hs ot) H locs) {k : Nat} (hk : k < 16) (hdg : decode cc pc = .ok (.iaload, 1)) (kk : W p l e R s m args below meth c H locs cells slots Q (F0 m (pc + 1) ls (.int (nI (hs k)) :: rest))) : W p l e R s m args below meth c H locs cells slots Q (F0 m (pc) ls (.int (nI k) :: .ref a.2.2.2.1 :: rest)) :=
  bw_iald hx hb hK hw 3 2 rfl rfl hk (by decide) hdg kk
theorem bw_s1_hs (hx : p.tables.exec = Jvm.exec) (hb : c.code = cc) {a : bw_A0} {th gn hs ot : Nat → Nat} (hK : va_K D bw_Cl (bw_T1 a) s) (hw : bw_H D bw_Cl A H0 (bw_W1 a th gn hs ot) H locs) {k v : Nat} (hk : k < 16) (hdg : decode cc pc = .ok (.iastore, 1)) (kk : ∀ (H1 : Heap) (locs1 : List Loc), bw_H D bw_Cl A H0 (bw_W1 a th gn (va_up hs k v) ot) H1 locs1 → W p l e R s m args below meth c H1 locs1 cells slots Q (F0 m (pc + 1) ls (rest))) : W p l e R s m args below meth c H locs cells slots Q (F0 m (pc) ls (.int (nI v) :: .int (nI k) :: .ref a.2.2.2.1 :: rest)) :=
  bw_iast hx hb hK hw 3 2 rfl rfl hk (by decide) hdg kk
theorem bw_l1_ot (hx : p.tables.exec = Jvm.exec) (hb : c.code = cc) {a : bw_A0} {th gn hs ot : Nat → Nat} (hK : va_K D bw_Cl (bw_T1 a) s) (hw : bw_H D bw_Cl A H0 (bw_W1 a th gn hs ot) H locs) {k : Nat} (hk : k < 16) (hdg : decode cc pc = .ok (.iaload, 1)) (kk : W p l e R s m args below meth c H locs cells slots Q (F0 m (pc + 1) ls (.int (nI (ot k)) :: rest))) : W p l e R s m args below meth c H locs cells slots Q (F0 m (pc) ls (.int (nI k) :: .ref a.2.2.2.2.1 :: rest)) :=
  bw_iald hx hb hK hw 4 3 rfl rfl hk (by decide) hdg kk
theorem bw_s1_ot (hx : p.tables.exec = Jvm.exec) (hb : c.code = cc) {a : bw_A0} {th gn hs ot : Nat → Nat} (hK : va_K D bw_Cl (bw_T1 a) s) (hw : bw_H D bw_Cl A H0 (bw_W1 a th gn hs ot) H locs) {k v : Nat} (hk : k < 16) (hdg : decode cc pc = .ok (.iastore, 1)) (kk : ∀ (H1 : Heap) (locs1 : List Loc), bw_H D bw_Cl A H0 (bw_W1 a th gn hs (va_up ot k v)) H1 locs1 → W p l e R s m args below meth c H1 locs1 cells slots Q (F0 m (pc + 1) ls (rest))) : W p l e R s m args below meth c H locs cells slots Q (F0 m (pc) ls (.int (nI v) :: .int (nI k) :: .ref a.2.2.2.2.1 :: rest)) :=
  bw_iast hx hb hK hw 4 3 rfl rfl hk (by decide) hdg kk
end BWC
/-- a call of the own object's method: its world is the caller's -/
theorem bw_ownI {p : Program} {l : Launch} {e : Env} {R : Room} {s : State} {m : MethodId} {args : Array Value} {below : List Frame} {meth : Method} {c : Code} {H : Heap} {locs : List Loc} {cells slots : Nat} {Q : State → Prop} {pc : Nat} {ls : Array Slot} {D : va_G} {cl : List vw_C} {A : Nat → Prop} {tys : List (ClassId × FieldType)} {wa w1 : va_W} {y : MethodName} {bytes cc : ByteArray} {maxL nL n index : Nat} {ret : Option FieldType} {ws : List Cond} {rm : Room} {Ts : List Cond} {own : String} {st0 : List Value} {C : String} {b : Nat} {T : u_T} {N : Nat} {fs : List Value} {G : Int32} (S : CallFix p m c cc nL s args Ts own) (As rest : List Value) (hM : bw_MI l y ws rm D cl tys (.ref b :: As) wa w1 G) (cw : CallW R s args own C index y bytes maxL ret ws rm 0 0 n) (ci q0 : Nat) (hc : cl[ci]? = some (C, T, N)) (he : wa[q0]? = some (b, .inr (ci, fs))) (hK : va_K D cl tys s) (hA : ∀ q : Nat, s.heap.size ≤ q → A q) (hw : bw_H D cl A s.heap wa H locs)
    (hnA : As.length = n) (hsize : ls.size = nL) (hst : st0 = As.reverse ++ .ref b :: rest) (hrest : (rest.map fun v => v.category).sum ≤ 8) (hdg : decode cc pc = .ok (.invokevirtual index, 3)) (hf : cells ≤ R.cells ∧ slots ≤ R.slots)
    (kk : ∀ (H1 : Heap) (locs1 : List Loc), bw_H D cl A s.heap w1 H1 locs1 → W p l e R s m args below meth c H1 locs1 cells slots Q (F0 m (pc + 3) ls (.int G :: rest))) : W p l e R s m args below meth c H locs cells slots Q (F0 m pc ls st0) := by
  obtain ⟨hP, hD, hS⟩ := hw
  have hFc : ∀ q : Nat, va_A wa H.size q → A q := by
    intro q h
    rcases h with ⟨k, e, h⟩ | h
    · exact hD.2 k _ h
    · exact hA q (Nat.le_trans hS.1 h)
  subst hst
  refine va_calli (va_runV (As := As) (rest := rest) S (hM H.size) cw ⟨fun a U g mk q => by obtain ⟨q0, q1, qP, qK, qD⟩ := q; exact ⟨q0, q1, qP, va_K.moved (u := U) (U := U.calling g mk a) (Vm.Alike.refl U.vm) qK, qD⟩, va_recv hK hP (ci := ci) (q0 := q0) hc he, fun U hU hW => ⟨rfl, by rw [hU], by rw [hU]; exact hP, va_K.moved hW.alike hK, hD.weaken (fun _ _ _ _ => trivial)⟩⟩ rfl hnA hsize rfl (lv_room hrest) hdg hf) hS (fun q _ h => hFc q h) hFc (fun r u t H1 locs1 ht hvm hw1 hB hz1 hk1 hS1 => ?_)
  have hw1 : r = G := hw1
  subst hw1
  obtain ⟨hP1, hK1, hD1⟩ := hB
  rw [ht] at hP1
  exact kk H1 locs1 ⟨hP1, hD1.weaken (fun _ q _ h => hFc q.1 h), hS1⟩
/-- a call of the own object's method: its world is the caller's -/
theorem bw_ownV {p : Program} {l : Launch} {e : Env} {R : Room} {s : State} {m : MethodId} {args : Array Value} {below : List Frame} {meth : Method} {c : Code} {H : Heap} {locs : List Loc} {cells slots : Nat} {Q : State → Prop} {pc : Nat} {ls : Array Slot} {D : va_G} {cl : List vw_C} {A : Nat → Prop} {tys : List (ClassId × FieldType)} {wa w1 : va_W} {y : MethodName} {bytes cc : ByteArray} {maxL nL n index : Nat} {ret : Option FieldType} {ws : List Cond} {rm : Room} {Ts : List Cond} {own : String} {st0 : List Value} {C : String} {b : Nat} {T : u_T} {N : Nat} {fs : List Value} (S : CallFix p m c cc nL s args Ts own) (As rest : List Value) (hM : bw_MV l y ws rm D cl tys (.ref b :: As) wa w1) (cw : CallW R s args own C index y bytes maxL ret ws rm 0 0 n) (ci q0 : Nat) (hc : cl[ci]? = some (C, T, N)) (he : wa[q0]? = some (b, .inr (ci, fs))) (hK : va_K D cl tys s) (hA : ∀ q : Nat, s.heap.size ≤ q → A q) (hw : bw_H D cl A s.heap wa H locs)
    (hnA : As.length = n) (hsize : ls.size = nL) (hst : st0 = As.reverse ++ .ref b :: rest) (hrest : (rest.map fun v => v.category).sum ≤ 8) (hdg : decode cc pc = .ok (.invokevirtual index, 3)) (hf : cells ≤ R.cells ∧ slots ≤ R.slots)
    (kk : ∀ (H1 : Heap) (locs1 : List Loc), bw_H D cl A s.heap w1 H1 locs1 → W p l e R s m args below meth c H1 locs1 cells slots Q (F0 m (pc + 3) ls (rest))) : W p l e R s m args below meth c H locs cells slots Q (F0 m pc ls st0) := by
  obtain ⟨hP, hD, hS⟩ := hw
  have hFc : ∀ q : Nat, va_A wa H.size q → A q := by
    intro q h
    rcases h with ⟨k, e, h⟩ | h
    · exact hD.2 k _ h
    · exact hA q (Nat.le_trans hS.1 h)
  subst hst
  refine va_callv (va_runV (As := As) (rest := rest) S (hM H.size) cw ⟨fun a U g mk q => by obtain ⟨q0, q1, qP, qK, qD⟩ := q; exact ⟨q0, q1, qP, va_K.moved (u := U) (U := U.calling g mk a) (Vm.Alike.refl U.vm) qK, qD⟩, va_recv hK hP (ci := ci) (q0 := q0) hc he, fun U hU hW => ⟨rfl, by rw [hU], by rw [hU]; exact hP, va_K.moved hW.alike hK, hD.weaken (fun _ _ _ _ => trivial)⟩⟩ rfl hnA hsize rfl (lv_room hrest) hdg hf) hS (fun q _ h => hFc q h) hFc (fun u t H1 locs1 ht hvm hw1 hB hz1 hk1 hS1 => ?_)
  obtain ⟨hP1, hK1, hD1⟩ := hB
  rw [ht] at hP1
  exact kk H1 locs1 ⟨hP1, hD1.weaken (fun _ q _ h => hFc q.1 h), hS1⟩
/-- a static call: it has no world -/
theorem bw_stat {p : Program} {l : Launch} {e : Env} {R : Room} {s : State} {m : MethodId} {args : Array Value} {below : List Frame} {meth : Method} {c : Code} {H : Heap} {locs : List Loc} {cells slots : Nat} {Q : State → Prop} {pc : Nat} {ls : Array Slot} {D : va_G} {cl : List vw_C} {A : Nat → Prop} {tys : List (ClassId × FieldType)} {wa : va_W} {y : MethodName} {bytes cc : ByteArray} {maxL nL n index : Nat} {ret : Option FieldType} {ws : List Cond} {rm : Room} {Ts : List Cond} {own : String} {st0 : List Value} {G : Int32} (S : CallFix p m c cc nL s args Ts own) (As rest : List Value) (hM : bw_MI l y ws rm D cl [] As [] [] G) (cw : CallB R s args own index y bytes maxL ret ws rm 0 0 n ∧ (Cond.static y).before args s = true) (hK : va_K D cl tys s) (hA : ∀ q : Nat, s.heap.size ≤ q → A q) (hw : bw_H D cl A s.heap wa H locs)
    (hnA : As.length = n) (hsize : ls.size = nL) (hst : st0 = As.reverse ++ rest) (hrest : (rest.map fun v => v.category).sum ≤ 8) (hdg : decode cc pc = .ok (.invokestatic index, 3)) (hf : cells ≤ R.cells ∧ slots ≤ R.slots)
    (kk : ∀ (H1 : Heap) (locs1 : List Loc), bw_H D cl A s.heap wa H1 locs1 → W p l e R s m args below meth c H1 locs1 cells slots Q (F0 m (pc + 3) ls (.int G :: rest))) : W p l e R s m args below meth c H locs cells slots Q (F0 m pc ls st0) := by
  obtain ⟨hP, hD, hS⟩ := hw
  have hFc : ∀ q : Nat, va_A [] H.size q → A q := by
    intro q h
    rcases h with ⟨k, e, h⟩ | h
    · simp at h
    · exact hA q (Nat.le_trans hS.1 h)
  have hKc : va_K D cl [] s := hK.sub (tys' := []) [] rfl
  subst hst
  refine va_calli (va_runS (As := As) (rest := rest) S (hM H.size) cw ⟨fun a U g mk q => by obtain ⟨q0, q1, qP, qK, qD⟩ := q; exact ⟨q0, q1, qP, va_K.moved (u := U) (U := U.calling g mk a) (Vm.Alike.refl U.vm) qK, qD⟩, fun U hU hW => ⟨rfl, by rw [hU], by rw [hU]; exact fun k q h => by simp at h, va_K.moved hW.alike hKc, ⟨fun i j p q h => by simp at h, fun k q h => by simp at h⟩⟩⟩ rfl hnA hsize rfl (lv_room hrest) hdg hf) hS (fun q _ h => hFc q h) hFc (fun r u t H1 locs1 ht hvm hw1 hB hz1 hk1 hS1 => ?_)
  have hw1 : r = G := hw1
  subst hw1
  refine kk H1 locs1 ⟨hP.kept (fun k x hx => hk1 x.1 (hP k x hx).lt (fun h => ?_)), hD, hS1⟩
  rcases h with ⟨k2, e, h⟩ | h
  · simp at h
  · have := (hP k x hx).lt
    omega
end
section
/-! a boolean's int; small rows for the walks -/
def bw_bI (b : Bool) : Int32 := nI (if b = true then 1 else 0)
theorem bw_bI_n (b : Bool) : narrow .boolean (.int (bw_bI b)) = .int (bw_bI b) := by cases b <;> decide +kernel
theorem bw_bI_0 (b : Bool) : bw_bI b = 0 ↔ b = false := by cases b <;> decide +kernel
theorem bw_inc (x : Nat) : nI x + Int32.ofInt 1 = nI (x + 1) := nI_1 x
theorem bw_dec (x : Nat) : nI x + Int32.ofInt (-1) = bw_dn x := rfl
section BWS
variable {p : Program} {l : Launch} {e : Env} {R : Room} {s : State} {m : MethodId} {args : Array Value} {below : List Frame} {meth : Method} {c : Code} {H : Heap} {locs : List Loc} {cells slots : Nat} {Q : State → Prop}
variable {cc : ByteArray} {pc : Nat} {ls : Array Slot} {rest : List Value}
theorem bw_fz (hx : p.tables.exec = Jvm.exec) (hb : c.code = cc) {b : Bool} {off : Int} {tgt : Nat} (hdg : decode cc pc = .ok (.ifCond .eq off, 3)) (ht : (pc : Int) + off = (tgt : Int)) (kt : b = false → W p l e R s m args below meth c H locs cells slots Q (F0 m tgt ls rest)) (kf : b = true → W p l e R s m args below meth c H locs cells slots Q (F0 m (pc + 3) ls rest)) : W p l e R s m args below meth c H locs cells slots Q (F0 m pc ls (.int (bw_bI b) :: rest)) :=
  lv_if_eq hx hb hdg ht (fun q => kt ((bw_bI_0 b).mp q)) (fun q => kf (by
    cases h : b
    · exact absurd ((bw_bI_0 b).mpr h) q
    · rfl))
theorem bw_fnz (hx : p.tables.exec = Jvm.exec) (hb : c.code = cc) {b : Bool} {off : Int} {tgt : Nat} (hdg : decode cc pc = .ok (.ifCond .ne off, 3)) (ht : (pc : Int) + off = (tgt : Int)) (kt : b = true → W p l e R s m args below meth c H locs cells slots Q (F0 m tgt ls rest)) (kf : b = false → W p l e R s m args below meth c H locs cells slots Q (F0 m (pc + 3) ls rest)) : W p l e R s m args below meth c H locs cells slots Q (F0 m pc ls (.int (bw_bI b) :: rest)) :=
  lv_if_ne hx hb hdg ht (fun q => kt (by
    cases h : b
    · exact absurd ((bw_bI_0 b).mpr h) q
    · rfl)) (fun q => kf ((bw_bI_0 b).mp q))
end BWS
theorem bb_val_in {f p i : Nat} (h : i &&& p = i) : bb_lin (fun m => if m &&& p = m then 1 else 0) f (i + 1) = bb_lin (fun m => if m &&& p = m then 1 else 0) f i ^^^ (f >>> i &&& 1) := by
  rw [bb_lin_succ, bw_b1]
  simp only [if_pos h]
theorem bb_val_out {f p i : Nat} (h : ¬ i &&& p = i) : bb_lin (fun m => if m &&& p = m then 1 else 0) f (i + 1) = bb_lin (fun m => if m &&& p = m then 1 else 0) f i := by
  rw [bb_lin_succ]
  simp only [if_neg h]
  split <;> exact Nat.xor_zero _
theorem bb_hI_t {f n : Nat} (h : f.testBit n = true) : bb_hI f (n + 1) = nI n := by
  show (if f.testBit n = true then nI n else bb_hI f n) = nI n
  rw [if_pos h]
theorem bb_hI_f {f n : Nat} (h : f.testBit n = false) : bb_hI f (n + 1) = bb_hI f n := by
  show (if f.testBit n = true then nI n else bb_hI f n) = bb_hI f n
  rw [if_neg (by rw [h]; decide)]
end
section
/-! PURE rows that the walks use -/
/-- the state's numbers are small -/
def bb_ok (st : bb_St) : Prop := st.1 ≤ 32 ∧ ∀ i, i < st.1 → st.2.1 i < 65536 ∧ st.2.2 i < 16
theorem bb_bq_some {st : bb_St} {m g : Nat} (h : bb_dv st.2.2 m st.1 0 = some g) : bb_bq st m = bb_tms (st.2.1 g) (bb_df m (st.2.2 g)) := by unfold bb_bq; rw [h]
theorem bb_bq_none {st : bb_St} {m : Nat} (h : bb_dv st.2.2 m st.1 0 = none) : bb_bq st m = 0 := by unfold bb_bq; rw [h]
theorem bb_bq_lt {st : bb_St} (ok : bb_ok st) : ∀ m, m < 16 → bb_bq st m < 65536 := by
  intro m hm
  cases e : bb_dv st.2.2 m st.1 0 with
  | none => rw [bb_bq_none e]; decide
  | some g =>
    rw [bb_bq_some e]
    obtain ⟨-, h1, -⟩ := bb_dv_some e
    exact bb_tms_lt _ (bb_df_lt m hm _ (ok.2 g (by omega)).2)
theorem bb_red_ok {st : bb_St} (ok : bb_ok st) {f : Nat} (hf : f < 65536) : bb_red (bb_bq st) f < 65536 := bb_rd_lt (bb_bq_lt ok) (Nat.le_refl 16) hf
theorem bb_hd_16 (f : Nat) : bb_hd f 16 < 16 := by
  have : ∀ n, bb_hd f (n + 1) < n + 1 := by
    intro n
    induction n with
    | zero => unfold bb_hd; split <;> simp [bb_hd]
    | succ n ih => unfold bb_hd; split <;> omega
  exact this 15
theorem bb_tk_0 {st : bb_St} {f : Nat} (h : bb_red (bb_bq st) f = 0 ∨ 32 ≤ st.1) : bb_tk st f = st := by unfold bb_tk; rw [if_pos h]
theorem bb_tk_1 {st : bb_St} {f : Nat} (h : bb_red (bb_bq st) f ≠ 0) (h2 : st.1 < 32) : bb_tk st f = (st.1 + 1, va_up st.2.1 st.1 (bb_red (bb_bq st) f), va_up st.2.2 st.1 (bb_hd (bb_red (bb_bq st) f) 16)) := by
  unfold bb_tk
  rw [if_neg (fun q => q.elim h (fun z => by omega))]
theorem bb_tk_le (st : bb_St) (f : Nat) : st.1 ≤ (bb_tk st f).1 := by
  by_cases h : bb_red (bb_bq st) f = 0 ∨ 32 ≤ st.1
  · rw [bb_tk_0 h]; exact Nat.le_refl _
  · rw [bb_tk_1 (fun q => h (Or.inl q)) (Nat.not_le.mp (fun q => h (Or.inr q)))]; exact Nat.le_succ _
theorem bb_tk_lt {st : bb_St} {i : Nat} (h : i < st.1) (f : Nat) : i < (bb_tk st f).1 := Nat.lt_of_lt_of_le h (bb_tk_le st f)
theorem bb_ok_tk {st : bb_St} (ok : bb_ok st) {f : Nat} (hf : f < 65536) : bb_ok (bb_tk st f) := by
  by_cases h : bb_red (bb_bq st) f = 0 ∨ 32 ≤ st.1
  · rw [bb_tk_0 h]; exact ok
  · have h2 : st.1 < 32 := Nat.not_le.mp (fun q => h (Or.inr q))
    rw [bb_tk_1 (fun q => h (Or.inl q)) h2]
    refine ⟨h2, fun i hi => ?_⟩
    show va_up st.2.1 st.1 _ i < 65536 ∧ va_up st.2.2 st.1 _ i < 16
    by_cases q : i = st.1
    · rw [q, bb_up_s, bb_up_s]; exact ⟨bb_red_ok ok hf, bb_hd_16 _⟩
    · rw [bb_up_n q, bb_up_n q]
      have : i < st.1 + 1 := hi
      exact ok.2 i (by omega)
theorem bb_x16 {a b : Nat} (ha : a < 65536) (hb : b < 65536) : a ^^^ b < 65536 := Nat.xor_lt_two_pow (n := 16) ha hb
def bb_tkb (st : bb_St) (f : Nat) : Bool := !(decide (bb_red (bb_bq st) f = 0 ∨ 32 ≤ st.1))
-- divisor's loop
theorem bb_dv_t {hd : Nat → Nat} {m z i : Nat} (h : i < z) (hc : hd i &&& m = hd i) : bb_dv hd m (z - i) i = some i := by
  rw [show z - i = (z - (i + 1)) + 1 by omega]
  unfold bb_dv
  rw [if_pos hc]
theorem bb_dv_f {hd : Nat → Nat} {m z i : Nat} (h : i < z) (hc : ¬ hd i &&& m = hd i) : bb_dv hd m (z - i) i = bb_dv hd m (z - (i + 1)) (i + 1) := by
  rw [show z - i = (z - (i + 1)) + 1 by omega]
  conv => lhs; unfold bb_dv
  rw [if_neg hc]
theorem bb_dv_e {hd : Nat → Nat} {m z i : Nat} (h : z ≤ i) : bb_dv hd m (z - i) i = none := by
  rw [show z - i = 0 by omega]; rfl
-- add's loop
def bb_free (pr : Nat) : Nat → Nat → Option Nat
  | 0, _ => none
  | k + 1, i => if pr.testBit i = true then bb_free pr k (i + 1) else some i
theorem bb_free_t {pr i : Nat} (h : i < 6) (hc : pr.testBit i = true) : bb_free pr (6 - i) i = bb_free pr (6 - (i + 1)) (i + 1) := by
  rw [show 6 - i = (6 - (i + 1)) + 1 by omega]
  conv => lhs; unfold bb_free
  rw [if_pos hc]
theorem bb_free_f {pr i : Nat} (h : i < 6) (hc : pr.testBit i = false) : bb_free pr (6 - i) i = some i := by
  rw [show 6 - i = (6 - (i + 1)) + 1 by omega]
  unfold bb_free
  rw [if_neg (by rw [hc]; decide)]
theorem bb_free_e {pr i : Nat} (h : 6 ≤ i) : bb_free pr (6 - i) i = none := by
  rw [show 6 - i = 0 by omega]; rfl
def bb_oJ (o : Option Nat) : Int32 := match o with
  | none => -2
  | some i => nI i
def bb_apr (pr : Nat) (o : Option Nat) : Nat := match o with
  | none => pr
  | some i => pr ||| 2 ^ i
def bb_agv (gv : Nat → Nat) (o : Option Nat) (f : Nat) : Nat → Nat := match o with
  | none => gv
  | some i => va_up gv i f
def bb_akn (kn : Nat) (o : Option Nat) : Nat := match o with
  | none => kn
  | some _ => 0
def bb_rmv (pr i : Nat) : Nat := pr &&& (2 ^ i ^^^ 4294967295)
-- squares, pairs, the loop
theorem bb_sq1_t {st : bb_St} {i v : Nat} (h : (st.2.2 i).testBit v = true) : bb_sq1 st i v = bb_tk st (bb_tms (st.2.1 i) (2 ^ v) ^^^ st.2.1 i) := by unfold bb_sq1; rw [if_pos h]
theorem bb_sq1_f {st : bb_St} {i v : Nat} (h : (st.2.2 i).testBit v = false) : bb_sq1 st i v = st := by unfold bb_sq1; rw [if_neg (by rw [h]; decide)]
theorem bb_sq_ok2 {st : bb_St} (ok : bb_ok st) {i : Nat} (hi : i < st.1) : ∀ v, v ≤ 4 → bb_ok (bb_sq st i v) ∧ st.1 ≤ (bb_sq st i v).1 := by
  intro v
  induction v with
  | zero => intro _; exact ⟨ok, Nat.le_refl _⟩
  | succ v ih =>
    intro hv
    obtain ⟨a, b⟩ := ih (by omega)
    show bb_ok (bb_sq1 (bb_sq st i v) i v) ∧ st.1 ≤ (bb_sq1 (bb_sq st i v) i v).1
    generalize bb_sq st i v = t at *
    have := a.2 i (by omega)
    cases e : (t.2.2 i).testBit v with
    | false => rw [bb_sq1_f e]; exact ⟨a, b⟩
    | true =>
      rw [bb_sq1_t e]
      exact ⟨bb_ok_tk a (bb_x16 (bb_tms_lt _ (bb_pw16 v (by omega))) this.1), Nat.le_trans b (bb_tk_le _ _)⟩
theorem bb_td_ok2 {st : bb_St} (ok : bb_ok st) {i j : Nat} (hi : i < st.1) (hj : j < st.1) : bb_ok (bb_td st i j) := by
  have h1 := ok.2 i hi
  have h2 := ok.2 j hj
  have h16 := bb_or16 _ h1.2 _ h2.2
  exact bb_ok_tk ok (bb_x16 (bb_tms_lt _ (bb_df_lt _ h16 _ h1.2)) (bb_tms_lt _ (bb_df_lt _ h16 _ h2.2)))
theorem bb_lp_t {t : bb_St} {i : Nat} (h : i < t.1) (h2 : i ≤ 32) : bb_lp (33 - i) i t = bb_lp (33 - (i + 1)) (i + 1) (bb_row t i) := by
  rw [show 33 - i = (33 - (i + 1)) + 1 by omega]
  conv => lhs; unfold bb_lp
  rw [if_pos h]
theorem bb_lp_e {t : bb_St} {k i : Nat} (h : t.1 ≤ i) : bb_lp k i t = t := by
  cases k with
  | zero => rfl
  | succ k => unfold bb_lp; rw [if_neg (by omega)]
theorem bb_gn_t {set : Nat} {gv : Nat → Nat} {st : bb_St} {i : Nat} (h : set.testBit i = true) : bb_gn set gv st (i + 1) = bb_tk (bb_gn set gv st i) (gv i) := by
  conv => lhs; unfold bb_gn
  rw [if_pos h]
theorem bb_gn_f {set : Nat} {gv : Nat → Nat} {st : bb_St} {i : Nat} (h : set.testBit i = false) : bb_gn set gv st (i + 1) = bb_gn set gv st i := by
  conv => lhs; unfold bb_gn
  rw [if_neg (by rw [h]; decide)]
-- learn
/-- what learn knows: the state, the basis, the bound monomials, the zeros -/
abbrev bb_LS : Type := bb_St × Nat × (Nat → Nat) × Nat × Nat
def bb_ln0 (pr : Nat) (gv : Nat → Nat) (q : bb_LS) : bb_LS := (bb_cmp pr gv q.1.2.1 q.1.2.2, (bb_bl (bb_least (bb_cmp pr gv q.1.2.1 q.1.2.2)) (bb_bq (bb_cmp pr gv q.1.2.1 q.1.2.2)) q.2.2.1 16).1, (bb_bl (bb_least (bb_cmp pr gv q.1.2.1 q.1.2.2)) (bb_bq (bb_cmp pr gv q.1.2.1 q.1.2.2)) q.2.2.1 16).2, bb_bs (bb_bd (bb_cmp pr gv q.1.2.1 q.1.2.2)) 16, bb_bs (fun p => bb_van (bb_bl (bb_least (bb_cmp pr gv q.1.2.1 q.1.2.2)) (bb_bq (bb_cmp pr gv q.1.2.1 q.1.2.2)) q.2.2.1 16).2 p (bb_bl (bb_least (bb_cmp pr gv q.1.2.1 q.1.2.2)) (bb_bq (bb_cmp pr gv q.1.2.1 q.1.2.2)) q.2.2.1 16).1) 16)
def bb_ln (kn pr : Nat) (gv : Nat → Nat) (q : bb_LS) : bb_LS := if kn = 0 then bb_ln0 pr gv q else q
theorem bb_bs_t {P : Nat → Bool} {n : Nat} (h : P n = true) : bb_bs P (n + 1) = bb_bs P n ||| 2 ^ n := by
  conv => lhs; unfold bb_bs
  rw [if_pos h]
theorem bb_bs_f {P : Nat → Bool} {n : Nat} (h : P n = false) : bb_bs P (n + 1) = bb_bs P n ||| 0 := by
  conv => lhs; unfold bb_bs
  rw [if_neg (by rw [h]; decide)]
theorem bb_bs_f' {P : Nat → Bool} {n : Nat} (h : P n = false) : bb_bs P (n + 1) = bb_bs P n := by rw [bb_bs_f h, Nat.or_zero]
theorem bb_bs_lt (P : Nat → Bool) (n : Nat) : bb_bs P n < 2 ^ n := by
  induction n with
  | zero => exact Nat.one_pos
  | succ n ih =>
    have h1 : bb_bs P n < 2 ^ (n + 1) := Nat.lt_trans ih (Nat.pow_lt_pow_right (by decide) (Nat.lt_succ_self n))
    cases h : P n with
    | true => rw [bb_bs_t h]; exact Nat.or_lt_two_pow h1 (Nat.pow_lt_pow_right (by decide) (Nat.lt_succ_self n))
    | false => rw [bb_bs_f' h]; exact h1
theorem bb_bl_t {L : Nat → Bool} {h ba : Nat → Nat} {m : Nat} (e : L m = true) : bb_bl L h ba (m + 1) = ((bb_bl L h ba m).1 + 1, va_up (bb_bl L h ba m).2 (bb_bl L h ba m).1 (2 ^ m ^^^ bb_red h (2 ^ m))) := by
  conv => lhs; unfold bb_bl
  rw [if_pos e]
theorem bb_bl_f {L : Nat → Bool} {h ba : Nat → Nat} {m : Nat} (e : L m = false) : bb_bl L h ba (m + 1) = bb_bl L h ba m := by
  conv => lhs; unfold bb_bl
  rw [if_neg (by rw [e]; decide)]
theorem bb_bd_s {st : bb_St} {m g : Nat} (h : bb_dv st.2.2 m st.1 0 = some g) : bb_bd st m = true := by unfold bb_bd; rw [h]; rfl
theorem bb_bd_n {st : bb_St} {m : Nat} (h : bb_dv st.2.2 m st.1 0 = none) : bb_bd st m = false := by unfold bb_bd; rw [h]; rfl
theorem bb_lb_mono {st : bb_St} {m a : Nat} : ∀ b, a ≤ b → bb_lb st m a = false → bb_lb st m b = false := by
  intro b
  induction b with
  | zero => intro h e; rw [show a = 0 by omega] at e; exact e
  | succ b ih =>
    intro h e
    by_cases q : a = b + 1
    · rw [← q]; exact e
    · have := ih (by omega) e
      show (bb_lb st m b && _) = false
      rw [this]; rfl
theorem bb_lb_no {st : bb_St} {m v : Nat} (h1 : bb_df m (2 ^ v) ≠ m) (h2 : bb_bd st (bb_df m (2 ^ v)) = true) : bb_lb st m (v + 1) = false := by
  show (bb_lb st m v && (bb_df m (2 ^ v) == m || !(bb_bd st (bb_df m (2 ^ v))))) = false
  rw [h2]
  simp [h1]
theorem bb_lb_y1 {st : bb_St} {m v : Nat} (h : bb_lb st m v = true) (h1 : bb_df m (2 ^ v) = m) : bb_lb st m (v + 1) = true := by
  show (bb_lb st m v && (bb_df m (2 ^ v) == m || !(bb_bd st (bb_df m (2 ^ v))))) = true
  rw [h, h1]; simp
theorem bb_lb_y2 {st : bb_St} {m v : Nat} (h : bb_lb st m v = true) (h2 : bb_bd st (bb_df m (2 ^ v)) = false) : bb_lb st m (v + 1) = true := by
  show (bb_lb st m v && (bb_df m (2 ^ v) == m || !(bb_bd st (bb_df m (2 ^ v))))) = true
  rw [h, h2]; simp
theorem bb_van_mono {ba : Nat → Nat} {p a : Nat} : ∀ b, a ≤ b → bb_van ba p a = false → bb_van ba p b = false := by
  intro b
  induction b with
  | zero => intro h e; rw [show a = 0 by omega] at e; exact e
  | succ b ih =>
    intro h e
    by_cases q : a = b + 1
    · rw [← q]; exact e
    · have := ih (by omega) e
      show (bb_van ba p b && _) = false
      rw [this]; rfl
theorem bb_van_no {ba : Nat → Nat} {p k : Nat} (h : bb_val (ba k) p ≠ 0) : bb_van ba p (k + 1) = false := by
  show (bb_van ba p k && (bb_val (ba k) p == 0)) = false
  simp [h]
theorem bb_van_y {ba : Nat → Nat} {p k : Nat} (h : bb_van ba p k = true) (h1 : bb_val (ba k) p = 0) : bb_van ba p (k + 1) = true := by
  show (bb_van ba p k && (bb_val (ba k) p == 0)) = true
  rw [h, h1]; rfl
theorem bb_p16 {m : Nat} (h : m < 16) : 2 ^ m < 65536 := Nat.pow_lt_pow_right (n := 16) (by decide) h
end
section
/-! PURE rows for learn and the answers -/
theorem bb_ok_cmp {set : Nat} {gv : Nat → Nat} (hgv : ∀ i, i < 6 → gv i < 65536) (po hd : Nat → Nat) : bb_ok (bb_cmp set gv po hd) := by
  obtain ⟨g, -⟩ := bb_cmp_ok (sel := fun i => set.testBit i) (gv := gv) (set := set) (fun _ _ => rfl) (fun i hi _ => hgv i hi) po hd
  have h16 : (bb_cmp set gv po hd).1 ≤ 16 := Nat.le_trans g.2.2 (bb_lc_le _ 16)
  exact ⟨by omega, fun i hi => ⟨bb_Hd_16 (g.1 i hi).1 (g.1 i hi).2, (g.1 i hi).1⟩⟩
theorem bb_upb {z : Nat → Nat} {n v M : Nat} (h : ∀ k, k < n → z k < M) (hv : v < M) : ∀ k, k < n + 1 → va_up z n v k < M := by
  intro k hk
  by_cases e : k = n
  · rw [e, bb_up_s]; exact hv
  · rw [bb_up_n e]; exact h k (by omega)
theorem bb_ln_0 (pr : Nat) (gv : Nat → Nat) (q : bb_LS) : bb_ln 0 pr gv q = bb_ln0 pr gv q := rfl
theorem bb_ln_1 (pr : Nat) (gv : Nat → Nat) (q : bb_LS) : bb_ln 1 pr gv q = q := rfl
theorem bb_vals_t {z i t : Nat} (h : z.testBit t = true) : bb_vals z i (t + 1) = bb_vals z i t ||| 2 ^ (t >>> i &&& 1) := by
  conv => lhs; unfold bb_vals
  rw [if_pos h]
theorem bb_vals_f {z i t : Nat} (h : z.testBit t = false) : bb_vals z i (t + 1) = bb_vals z i t := by
  conv => lhs; unfold bb_vals
  rw [if_neg (by rw [h]; decide)]
theorem bb_seen_t {z u t : Nat} (h : z.testBit t = true) : bb_seen z u (t + 1) = bb_seen z u t ||| 2 ^ (t &&& u) := by
  conv => lhs; unfold bb_seen
  rw [if_pos h]
theorem bb_seen_f {z u t : Nat} (h : z.testBit t = false) : bb_seen z u (t + 1) = bb_seen z u t := by
  conv => lhs; unfold bb_seen
  rw [if_neg (by rw [h]; decide)]
theorem bb_seen_lt (z u : Nat) : ∀ n, n ≤ 16 → bb_seen z u n < 65536 := by
  intro n
  induction n with
  | zero => intro _; show 0 < 65536; decide
  | succ n ih =>
    intro hn
    cases h : z.testBit n with
    | true =>
      rw [bb_seen_t h]
      exact Nat.or_lt_two_pow (n := 16) (ih (by omega)) (bb_p16 (Nat.lt_of_le_of_lt Nat.and_le_left (by omega)))
    | false => rw [bb_seen_f h]; exact ih (by omega)
theorem bb_uns_mono {a seen u : Nat} : ∀ b, a ≤ b → bb_uns seen u a = true → bb_uns seen u b = true := by
  intro b
  induction b with
  | zero => intro h e; rw [show a = 0 by omega] at e; exact e
  | succ b ih =>
    intro h e
    by_cases q : a = b + 1
    · rw [← q]; exact e
    · have := ih (by omega) e
      show (bb_uns seen u b || _) = true
      rw [this]; rfl
theorem bb_uns_y {seen u t : Nat} (h1 : t &&& u = t) (h2 : seen.testBit t = false) : bb_uns seen u (t + 1) = true := by
  show (bb_uns seen u t || ((t &&& u == t) && !(seen.testBit t))) = true
  rw [h2, h1]; simp
theorem bb_uns_n1 {seen u t : Nat} (h : bb_uns seen u t = false) (h1 : ¬ t &&& u = t) : bb_uns seen u (t + 1) = false := by
  show (bb_uns seen u t || ((t &&& u == t) && !(seen.testBit t))) = false
  rw [h]; simp [h1]
theorem bb_uns_n2 {seen u t : Nat} (h : bb_uns seen u t = false) (h2 : seen.testBit t = true) : bb_uns seen u (t + 1) = false := by
  show (bb_uns seen u t || ((t &&& u == t) && !(seen.testBit t))) = false
  rw [h, h2]; simp
theorem bb_rmv_lt {pr i : Nat} (h : pr < 64) : bb_rmv pr i < 64 := Nat.lt_of_le_of_lt Nat.and_le_left h
end
section
/-! PURE rows for the reference's walks -/
/-- the reference's flags are the class's bits -/
def bb_TH (pr : Nat) (th : Nat → Nat) : Prop := ∀ i, i < 6 → th i = (if pr.testBit i = true then 1 else 0)
theorem bb_TH_lt {pr : Nat} {th : Nat → Nat} (h : bb_TH pr th) {i : Nat} (hi : i < 6) : th i < 2 := by
  rw [h i hi]; split <;> decide
theorem bb_TH_0 {pr : Nat} {th : Nat → Nat} (h : bb_TH pr th) {i : Nat} (hi : i < 6) (h0 : th i = 0) : pr.testBit i = false := by
  rw [h i hi] at h0
  cases e : pr.testBit i with
  | false => rfl
  | true => rw [if_pos e] at h0; cases h0
theorem bb_TH_1 {pr : Nat} {th : Nat → Nat} (h : bb_TH pr th) {i : Nat} (hi : i < 6) (h0 : th i ≠ 0) : pr.testBit i = true := by
  rw [h i hi] at h0
  cases e : pr.testBit i with
  | true => rfl
  | false => rw [if_neg (by rw [e]; decide)] at h0; exact absurd rfl h0
def bb_ath (th : Nat → Nat) (o : Option Nat) : Nat → Nat := match o with
  | none => th
  | some i => va_up th i 1
theorem bb_bs_bit (P : Nat → Bool) (n i : Nat) : (bb_bs P n).testBit i = (decide (i < n) && P i) := by
  induction n with
  | zero => show Nat.testBit 0 i = _; rw [Nat.zero_testBit]; simp
  | succ n ih =>
    by_cases q : i = n
    · subst q
      cases h : P i with
      | true => rw [bb_bs_t h, Nat.testBit_or, Nat.testBit_two_pow]; simp
      | false => rw [bb_bs_f' h, ih]; simp
    · have e2 : decide (i < n + 1) = decide (i < n) := by
        apply decide_eq_decide.mpr; omega
      rw [e2]
      cases h : P n with
      | true => rw [bb_bs_t h, Nat.testBit_or, ih, Nat.testBit_two_pow, decide_eq_false (show ¬ n = i from fun z => q z.symm), Bool.or_false]
      | false => rw [bb_bs_f' h, ih]
theorem bb_bs_id {z n : Nat} (h : z < 2 ^ n) : bb_bs (fun i => z.testBit i) n = z := by
  refine Nat.eq_of_testBit_eq (fun i => ?_)
  rw [bb_bs_bit]
  by_cases e : i < n
  · simp [e]
  · simp [e, bb_tb_lt h (Nat.not_lt.mp e)]
theorem bb_bs_congr {P R : Nat → Bool} {n : Nat} (h : ∀ i, i < n → P i = R i) : bb_bs P n = bb_bs R n := by
  refine Nat.eq_of_testBit_eq (fun i => ?_)
  rw [bb_bs_bit, bb_bs_bit]
  by_cases e : i < n
  · simp [e, h i e]
  · simp [e]
theorem bb_pi_t {f g m n : Nat} (h1 : f.testBit m = true) (h2 : g.testBit n = true) : bb_pi f g m (n + 1) = bb_pi f g m n ^^^ 2 ^ (m ||| n) := by
  show bb_pi f g m n ^^^ _ = _
  simp only [h1, h2, and_self, if_true]
theorem bb_pi_f1 {f g m n : Nat} (h1 : f.testBit m = false) : bb_pi f g m (n + 1) = bb_pi f g m n := by
  show bb_pi f g m n ^^^ _ = _
  simp [h1]
theorem bb_pi_f2 {f g m n : Nat} (h2 : g.testBit n = false) : bb_pi f g m (n + 1) = bb_pi f g m n := by
  show bb_pi f g m n ^^^ _ = _
  simp [h2]
theorem bb_lt_step {r k : Nat} (h : r < 2 ^ (k + 1)) (hb : r.testBit k = false) : r < 2 ^ k := bb_lt_of (fun i hi => by
  rcases Nat.lt_or_eq_of_le hi with z | z
  · exact bb_tb_lt h z
  · rw [← z]; exact hb)
theorem bb_hd_is {r k : Nat} (hr : r < 65536) (h : r < 2 ^ (k + 1)) (hb : r.testBit k = true) : bb_hd r 16 = k := by
  have h0 : r ≠ 0 := fun e => by rw [e, Nat.zero_testBit] at hb; cases hb
  exact bb_Hd_uniq (bb_hd_spec (n := 16) hr h0).1 ⟨h, hb⟩
theorem bb_kp_1 {h : Nat → Nat} {f k : Nat} (hr : bb_red h f < 65536) (h1 : bb_red h f < 2 ^ (k + 1)) (hb : (bb_red h f).testBit k = true) : bb_kp h f = va_up h k (bb_red h f) := by
  have h0 : bb_red h f ≠ 0 := fun e => by rw [e, Nat.zero_testBit] at hb; cases hb
  unfold bb_kp
  rw [if_neg h0, bb_hd_is hr h1 hb]
theorem bb_kp_0 {h : Nat → Nat} {f : Nat} (h1 : bb_red h f < 2 ^ 0) : bb_kp h f = h := by
  unfold bb_kp
  rw [if_pos (by have : (2 : Nat) ^ 0 = 1 := rfl; omega)]
theorem bb_kp_lt {h : Nat → Nat} (hh : ∀ m, m < 16 → h m < 65536) {f : Nat} (hf : f < 65536) : ∀ m, m < 16 → bb_kp h f m < 65536 := by
  intro m hm
  unfold bb_kp
  split
  · exact hh m hm
  · by_cases e : m = bb_hd (bb_red h f) 16
    · rw [e, bb_up_s]; exact bb_rd_lt hh (Nat.le_refl 16) hf
    · rw [bb_up_n e]; exact hh m hm
theorem bb_wkm_t {sl : Bool} {g : Nat} {h : Nat → Nat} {t : Nat} (e : sl = true) : bb_wkm sl g h (t + 1) = bb_kp (bb_wkm sl g h t) (bb_tms g t) := by
  conv => lhs; unfold bb_wkm
  rw [if_pos e]
theorem bb_wkm_f {sl : Bool} {g : Nat} {h : Nat → Nat} {t : Nat} (e : ¬ sl = true) : bb_wkm sl g h (t + 1) = bb_wkm sl g h t := by
  conv => lhs; unfold bb_wkm
  rw [if_neg e]
theorem bb_nI_m1 : ∀ i, i < 6 → nI i ≠ -1 := by decide +kernel
theorem bb_sel_m1 (pr : Nat) : ∀ i, i < 6 → ((fun i => pr.testBit i) i = true ↔ pr.testBit i = true ∧ nI i ≠ -1) := fun i hi => ⟨fun h => ⟨h, bb_nI_m1 i hi⟩, fun h => h.1⟩
theorem bb_wk_lt (sel : Nat → Bool) (gv h : Nat → Nat) : ∀ m, m < 16 → bb_wk sel gv h m < 65536 := by
  intro m hm
  rcases bb_wk_Ech sel gv h m hm with e | e
  · rw [e]; decide
  · exact bb_Hd_16 hm e
theorem bb_ml_0 {h : Nat → Nat} {m n : Nat} (e : bb_ml h m n = false) : bb_ml h m (n + 1) = false := by
  show (bb_ml h m n && _) = false
  rw [e]; rfl
theorem bb_ml_eq {h : Nat → Nat} {m n : Nat} (e : bb_ml h m n = true) (q : n = m) : bb_ml h m (n + 1) = true := by
  show (bb_ml h m n && !(!(n == m) && (n &&& m == n) && !(h n == 0))) = true
  rw [e]; simp [q]
theorem bb_ml_ns {h : Nat → Nat} {m n : Nat} (e : bb_ml h m n = true) (q : ¬ n &&& m = n) : bb_ml h m (n + 1) = true := by
  show (bb_ml h m n && !(!(n == m) && (n &&& m == n) && !(h n == 0))) = true
  rw [e]; simp [q]
theorem bb_ml_z {h : Nat → Nat} {m n : Nat} (e : bb_ml h m n = true) (q : h n = 0) : bb_ml h m (n + 1) = true := by
  show (bb_ml h m n && !(!(n == m) && (n &&& m == n) && !(h n == 0))) = true
  rw [e]; simp [q]
theorem bb_ml_no {h : Nat → Nat} {m n : Nat} (q1 : n ≠ m) (q2 : n &&& m = n) (q3 : h n ≠ 0) : bb_ml h m (n + 1) = false := by
  show (bb_ml h m n && !(!(n == m) && (n &&& m == n) && !(h n == 0))) = false
  simp [q1, q2, q3]
theorem bb_lc_t {L : Nat → Bool} {m : Nat} (e : L m = true) : bb_lc L (m + 1) = bb_lc L m + 1 := by
  conv => lhs; unfold bb_lc
  rw [if_pos e]
theorem bb_lc_f {L : Nat → Bool} {m : Nat} (e : L m = false) : bb_lc L (m + 1) = bb_lc L m := by
  conv => lhs; unfold bb_lc
  rw [if_neg (by rw [e]; decide)]
theorem bb_bl_lc (L : Nat → Bool) (h z : Nat → Nat) (m : Nat) : (bb_bl L h z m).1 = bb_lc L m := by
  induction m with
  | zero => rfl
  | succ m ih =>
    cases e : L m with
    | true => rw [bb_bl_t e, bb_lc_t e, ← ih]
    | false => rw [bb_bl_f e, bb_lc_f e, ih]
theorem bb_lc_up {L : Nat → Bool} {a : Nat} : ∀ b, a ≤ b → bb_lc L a ≤ bb_lc L b := by
  intro b
  induction b with
  | zero => intro h; rw [show a = 0 by omega]; exact Nat.le_refl _
  | succ b ih =>
    intro h
    by_cases q : a = b + 1
    · rw [q]; exact Nat.le_refl _
    · have := ih (by omega)
      cases e : L b with
      | true => rw [bb_lc_t e]; omega
      | false => rw [bb_lc_f e]; exact this
theorem bb_bl_keep {L : Nat → Bool} {h z : Nat → Nat} {a i : Nat} (hi : i < bb_lc L a) : ∀ b, a ≤ b → (bb_bl L h z b).2 i = (bb_bl L h z a).2 i := by
  intro b
  induction b with
  | zero => intro q; rw [show a = 0 by omega]
  | succ b ih =>
    intro q
    by_cases e : a = b + 1
    · rw [e]
    · have h1 := ih (by omega)
      have h2 := bb_lc_up (L := L) b (show a ≤ b by omega)
      cases e2 : L b with
      | true =>
        rw [bb_bl_t e2]
        show va_up _ _ _ i = _
        rw [bb_up_n (by rw [bb_bl_lc]; omega)]
        exact h1
      | false => rw [bb_bl_f e2]; exact h1
/-- the i-th of the list is found at its monomial -/
theorem bb_bl_at {L : Nat → Bool} {h z : Nat → Nat} {t : Nat} (ht : t < 16) (e : L t = true) : (bb_bl L h z 16).2 (bb_lc L t) = 2 ^ t ^^^ bb_red h (2 ^ t) := by
  rw [bb_bl_keep (a := t + 1) (by rw [bb_lc_t e]; omega) 16 (by omega), bb_bl_t e]
  show va_up _ _ _ (bb_lc L t) = _
  rw [bb_bl_lc, bb_up_s]
theorem bb_zr_0 {th gv : Nat → Nat} {t i : Nat} (e : bb_zr th gv t i = false) : bb_zr th gv t (i + 1) = false := by
  show (bb_zr th gv t i && _) = false
  rw [e]; rfl
theorem bb_zr_n {th gv : Nat → Nat} {t i : Nat} (e : bb_zr th gv t i = true) (q : th i = 0) : bb_zr th gv t (i + 1) = true := by
  show (bb_zr th gv t i && (th i == 0 || bb_val (gv i) t == 0)) = true
  rw [e, q]; rfl
theorem bb_zr_v {th gv : Nat → Nat} {t i : Nat} (e : bb_zr th gv t i = true) (q : bb_val (gv i) t = 0) : bb_zr th gv t (i + 1) = true := by
  show (bb_zr th gv t i && (th i == 0 || bb_val (gv i) t == 0)) = true
  rw [e, q]; simp
theorem bb_zr_f {th gv : Nat → Nat} {t i : Nat} (q1 : th i ≠ 0) (q2 : bb_val (gv i) t ≠ 0) : bb_zr th gv t (i + 1) = false := by
  show (bb_zr th gv t i && (th i == 0 || bb_val (gv i) t == 0)) = false
  simp [q1, q2]
theorem bb_ind_f {o : Nat → Nat} {k r : Nat} (e : r.testBit k = false) : bb_ind o (k + 1) r = bb_ind o k r := by
  conv => lhs; unfold bb_ind
  rw [if_neg (by rw [e]; decide)]
theorem bb_ind_s {o : Nat → Nat} {k r : Nat} (e : r.testBit k = true) (q : o k = 0) : bb_ind o (k + 1) r = some (va_up o k r) := by
  conv => lhs; unfold bb_ind
  rw [if_pos e, if_pos q]
theorem bb_ind_g {o : Nat → Nat} {k r : Nat} (e : r.testBit k = true) (q : o k ≠ 0) : bb_ind o (k + 1) r = bb_ind o k (r ^^^ o k) := by
  conv => lhs; unfold bb_ind
  rw [if_pos e, if_neg q]
theorem bb_ind_lt {o : Nat → Nat} (ho : ∀ m, m < 16 → o m < 65536) {k : Nat} (hk : k ≤ 16) {r : Nat} (hr : r < 65536) {o' : Nat → Nat} (e : bb_ind o k r = some o') : ∀ m, m < 16 → o' m < 65536 := by
  induction k generalizing r with
  | zero => cases e
  | succ k ih =>
    cases b : r.testBit k with
    | false => rw [bb_ind_f b] at e; exact ih (by omega) hr e
    | true =>
      by_cases q : o k = 0
      · rw [bb_ind_s b q] at e
        cases e
        intro m hm
        by_cases z : m = k
        · rw [z, bb_up_s]; exact hr
        · rw [bb_up_n z]; exact ho m hm
      · rw [bb_ind_g b q] at e
        exact ih (by omega) (bb_x16 hr (ho k (by omega))) e
theorem bb_rel_n {h : Nat → Nat} {u : Nat} {o : Nat → Nat} {m : Nat} (e : ¬ m &&& u = m) : bb_rel h u o (m + 1) = bb_rel h u o m := by
  conv => lhs; unfold bb_rel
  rw [if_neg e]
theorem bb_rel_y {h : Nat → Nat} {u : Nat} {o : Nat → Nat} {m : Nat} (e : m &&& u = m) {o2 : Nat → Nat} (q : bb_rel h u o m = (true, o2)) : bb_rel h u o (m + 1) = (true, o2) := by
  conv => lhs; unfold bb_rel
  rw [if_pos e, q]; rfl
theorem bb_rel_i {h : Nat → Nat} {u : Nat} {o : Nat → Nat} {m : Nat} (e : m &&& u = m) {o2 : Nat → Nat} (q : bb_rel h u o m = (false, o2)) : bb_rel h u o (m + 1) = (!(bb_ind o2 16 (bb_red h (2 ^ m))).isSome, (bb_ind o2 16 (bb_red h (2 ^ m))).getD o2) := by
  conv => lhs; unfold bb_rel
  rw [if_pos e, q, if_neg (show ¬ false = true by decide)]
  cases bb_ind o2 16 (bb_red h (2 ^ m)) <;> rfl
theorem bb_rel_i0 {h : Nat → Nat} {u : Nat} {o : Nat → Nat} {m : Nat} (e : m &&& u = m) {o2 : Nat → Nat} (q : bb_rel h u o m = (false, o2)) (z : (bb_ind o2 16 (bb_red h (2 ^ m))).isSome = true) : bb_rel h u o (m + 1) = (false, (bb_ind o2 16 (bb_red h (2 ^ m))).getD o2) := by
  rw [bb_rel_i e q, z]; rfl
theorem bb_rel_i1 {h : Nat → Nat} {u : Nat} {o : Nat → Nat} {m : Nat} (e : m &&& u = m) {o2 : Nat → Nat} (q : bb_rel h u o m = (false, o2)) (z : (bb_ind o2 16 (bb_red h (2 ^ m))).isSome = false) : bb_rel h u o (m + 1) = (true, (bb_ind o2 16 (bb_red h (2 ^ m))).getD o2) := by
  rw [bb_rel_i e q, z]; rfl
theorem bb_ind_gd {o : Nat → Nat} (ho : ∀ m, m < 16 → o m < 65536) {r : Nat} (hr : r < 65536) : ∀ m, m < 16 → (bb_ind o 16 r).getD o m < 65536 := by
  cases e : bb_ind o 16 r with
  | none => exact ho
  | some o' => exact bb_ind_lt ho (Nat.le_refl 16) hr e
theorem bb_clr_lt (h : Nat → Nat) : ∀ m, m < 16 → bb_clr h 16 m < 65536 := fun m hm => by rw [bb_clr_0 h 16 m hm]; decide
end
section
/-! PURE D: the two sides' answers agree: least monomials, the basis, zeros, relations -/
theorem bb_lb_iff (st : bb_St) (m : Nat) : ∀ n, bb_lb st m n = true ↔ ∀ v, v < n → (bb_df m (2 ^ v) = m ∨ bb_bd st (bb_df m (2 ^ v)) = false) := by
  intro n
  induction n with
  | zero => exact ⟨fun _ v hv => absurd hv (Nat.not_lt_zero v), fun _ => rfl⟩
  | succ n ih =>
    constructor
    · intro h v hv
      by_cases e : v = n
      · subst e
        rcases Nat.decEq (bb_df m (2 ^ v)) m with q | q
        · right
          cases b : bb_bd st (bb_df m (2 ^ v)) with
          | false => rfl
          | true => rw [bb_lb_no q b] at h; cases h
        · exact Or.inl q
      · refine (ih.mp ?_) v (by omega)
        cases b : bb_lb st m n with
        | true => rfl
        | false => rw [bb_lb_mono (n + 1) (Nat.le_succ n) b] at h; cases h
    · intro h
      have h1 := ih.mpr (fun v hv => h v (by omega))
      rcases h n (Nat.lt_succ_self n) with q | q
      · exact bb_lb_y1 h1 q
      · exact bb_lb_y2 h1 q
theorem bb_ml_iff (h : Nat → Nat) (m : Nat) : ∀ n, bb_ml h m n = true ↔ h m ≠ 0 ∧ ∀ k, k < n → ¬ (k ≠ m ∧ k &&& m = k ∧ h k ≠ 0) := by
  intro n
  induction n with
  | zero =>
    show (!(h m == 0)) = true ↔ _
    constructor
    · intro q; exact ⟨by simpa using q, fun k hk => absurd hk (Nat.not_lt_zero k)⟩
    · intro q; simpa using q.1
  | succ n ih =>
    constructor
    · intro q
      have h1 : bb_ml h m n = true := by
        cases b : bb_ml h m n with
        | true => rfl
        | false => rw [bb_ml_0 b] at q; cases q
      refine ⟨(ih.mp h1).1, fun k hk => ?_⟩
      by_cases e : k = n
      · subst e
        rintro ⟨a, b, c⟩
        rw [bb_ml_no a b c] at q; cases q
      · exact (ih.mp h1).2 k (by omega)
    · rintro ⟨q1, q2⟩
      have h1 := ih.mpr ⟨q1, fun k hk => q2 k (by omega)⟩
      have h2 := q2 n (Nat.lt_succ_self n)
      by_cases a : n = m
      · exact bb_ml_eq h1 a
      · by_cases b : n &&& m = n
        · by_cases c : h n = 0
          · exact bb_ml_z h1 c
          · exact absurd ⟨a, b, c⟩ h2
        · exact bb_ml_ns h1 b
theorem bb_prop4b : ∀ n, n < 16 → ∀ m, m < 16 → (n == m || !(n &&& m == n) || (!(bb_df m (2 ^ 0) == m) && (n &&& bb_df m (2 ^ 0) == n)) || (!(bb_df m (2 ^ 1) == m) && (n &&& bb_df m (2 ^ 1) == n)) || (!(bb_df m (2 ^ 2) == m) && (n &&& bb_df m (2 ^ 2) == n)) || (!(bb_df m (2 ^ 3) == m) && (n &&& bb_df m (2 ^ 3) == n))) = true := by decide +kernel
theorem bb_prop4 (n : Nat) (hn : n < 16) (m : Nat) (hm : m < 16) (h1 : n ≠ m) (h2 : n &&& m = n) : ∃ v, v < 4 ∧ bb_df m (2 ^ v) ≠ m ∧ n &&& bb_df m (2 ^ v) = n := by
  have h := bb_prop4b n hn m hm
  simp only [Bool.or_eq_true, Bool.and_eq_true, beq_iff_eq, Bool.not_eq_true', beq_eq_false_iff_ne] at h
  rcases h with ((((h | h) | h) | h) | h) | h
  · exact absurd h h1
  · exact absurd h2 h
  · exact ⟨0, by decide, h.1, h.2⟩
  · exact ⟨1, by decide, h.1, h.2⟩
  · exact ⟨2, by decide, h.1, h.2⟩
  · exact ⟨3, by decide, h.1, h.2⟩
theorem bb_df_sub : ∀ m, m < 16 → ∀ v, v < 4 → bb_df m (2 ^ v) &&& m = bb_df m (2 ^ v) := by decide +kernel
theorem bb_sub_tr : ∀ a, a < 16 → ∀ b, b < 16 → ∀ c, c < 16 → a &&& b = a → b &&& c = b → a &&& c = a := by decide +kernel
theorem bb_df_le (m h : Nat) : bb_df m h ≤ m := Nat.and_le_left
theorem bb_bd_up {st : bb_St} (g : bb_GI st) {a b : Nat} (ha : a < 16) (hb : b < 16) (hs : a &&& b = a) (h : bb_bd st a = true) : bb_bd st b = true := by
  obtain ⟨i, h1, h2⟩ := (bb_bd_iff st a).mp h
  exact (bb_bd_iff st b).mpr ⟨i, h1, bb_sub_tr _ (g i h1).1 a ha b hb h2 hs⟩
theorem bb_D3 {st : bb_St} (g : bb_GI st) {h : Nat → Nat} (hb : ∀ m, m < 16 → (bb_bd st m = true ↔ h m ≠ 0)) {m : Nat} (hm : m < 16) : bb_least st m = bb_ml h m 16 := by
  have key : bb_least st m = true ↔ bb_ml h m 16 = true := by
    unfold bb_least
    rw [Bool.and_eq_true, bb_lb_iff, bb_ml_iff, hb m hm]
    constructor
    · rintro ⟨q1, q2⟩
      refine ⟨q1, fun k hk => ?_⟩
      rintro ⟨a, b, c⟩
      obtain ⟨v, hv, v1, v2⟩ := bb_prop4 k hk m hm a b
      have h1 := bb_bd_up g hk (bb_df_lt m hm _ (bb_pw16 v hv)) v2 ((hb k hk).mpr c)
      rcases q2 v hv with z | z
      · exact v1 z
      · rw [h1] at z; cases z
    · rintro ⟨q1, q2⟩
      refine ⟨q1, fun v hv => ?_⟩
      by_cases e : bb_df m (2 ^ v) = m
      · exact Or.inl e
      · right
        have hl := bb_df_lt m hm _ (bb_pw16 v hv)
        cases b : bb_bd st (bb_df m (2 ^ v)) with
        | false => rfl
        | true => exact absurd ⟨e, bb_df_sub m hm v hv, (hb _ hl).mp b⟩ (q2 _ hl)
  cases a : bb_least st m <;> cases b : bb_ml h m 16
  · rfl
  · rw [a, b] at key; exact absurd (key.mpr rfl) (by decide)
  · rw [a, b] at key; exact absurd (key.mp rfl) (by decide)
  · rfl
theorem bb_lc_hit {L : Nat → Bool} {i : Nat} : ∀ n, i < bb_lc L n → ∃ t, t < n ∧ L t = true ∧ bb_lc L t = i := by
  intro n
  induction n with
  | zero => intro h; exact absurd h (Nat.not_lt_zero i)
  | succ n ih =>
    intro h
    by_cases q : i < bb_lc L n
    · obtain ⟨t, a, b⟩ := ih q
      exact ⟨t, by omega, b⟩
    · cases e : L n with
      | false => rw [bb_lc_f e] at h; exact absurd h q
      | true => rw [bb_lc_t e] at h; exact ⟨n, Nat.lt_succ_self n, e, by omega⟩
/-- the two lists of basis polynomials -/
theorem bb_D5 {L M : Nat → Bool} (hL : ∀ m, m < 16 → L m = M m) {h k : Nat → Nat} (hr : ∀ f, f < 65536 → bb_red h f = bb_red k f) (z y : Nat → Nat) {i : Nat} (hi : i < bb_lc L 16) : (bb_bl L h z 16).2 i = (bb_bl M k y 16).2 i := by
  obtain ⟨t, ht, e, rfl⟩ := bb_lc_hit 16 hi
  rw [bb_bl_at ht e]
  have e2 : bb_lc L t = bb_lc M t := bb_lc_congr (fun m hm => hL m (by omega))
  rw [e2, bb_bl_at ht (by rw [← hL t ht]; exact e), hr _ (bb_p16 ht)]
-- zeros
theorem bb_van_iff (ba : Nat → Nat) (t : Nat) : ∀ n, bb_van ba t n = true ↔ ∀ k, k < n → bb_val (ba k) t = 0 := by
  intro n
  induction n with
  | zero => exact ⟨fun _ k hk => absurd hk (Nat.not_lt_zero k), fun _ => rfl⟩
  | succ n ih =>
    constructor
    · intro h k hk
      by_cases e : k = n
      · subst e
        rcases Nat.decEq (bb_val (ba k) t) 0 with q | q
        · rw [bb_van_no q] at h; cases h
        · exact q
      · refine (ih.mp ?_) k (by omega)
        cases b : bb_van ba t n with
        | true => rfl
        | false => rw [bb_van_mono (n + 1) (Nat.le_succ n) b] at h; cases h
    · intro h
      exact bb_van_y (ih.mpr (fun k hk => h k (by omega))) (h n (Nat.lt_succ_self n))
theorem bb_zr_iff (th gv : Nat → Nat) (t : Nat) : ∀ n, bb_zr th gv t n = true ↔ ∀ i, i < n → th i = 0 ∨ bb_val (gv i) t = 0 := by
  intro n
  induction n with
  | zero => exact ⟨fun _ k hk => absurd hk (Nat.not_lt_zero k), fun _ => rfl⟩
  | succ n ih =>
    constructor
    · intro h i hi
      have h1 : bb_zr th gv t n = true := by
        cases b : bb_zr th gv t n with
        | true => rfl
        | false => rw [bb_zr_0 b] at h; cases h
      by_cases e : i = n
      · subst e
        by_cases q1 : th i = 0
        · exact Or.inl q1
        · by_cases q2 : bb_val (gv i) t = 0
          · exact Or.inr q2
          · rw [bb_zr_f q1 q2] at h; cases h
      · exact ih.mp h1 i (by omega)
    · intro h
      have h1 := ih.mpr (fun i hi => h i (by omega))
      rcases h n (Nat.lt_succ_self n) with q | q
      · exact bb_zr_n h1 q
      · exact bb_zr_v h1 q
/-- below a bound monomial there is a least one -/
theorem bb_least_ex {st : bb_St} : ∀ (n m : Nat), m < n → m < 16 → bb_bd st m = true → ∃ t, t < 16 ∧ t &&& m = t ∧ bb_least st t = true := by
  intro n
  induction n with
  | zero => intro m h; omega
  | succ n ih =>
    intro m hn hm hb
    cases e : bb_lb st m 4 with
    | true => exact ⟨m, hm, Nat.and_self m, by unfold bb_least; rw [hb, e]; rfl⟩
    | false =>
      have : ¬ ∀ v, v < 4 → (bb_df m (2 ^ v) = m ∨ bb_bd st (bb_df m (2 ^ v)) = false) := fun q => by
        rw [(bb_lb_iff st m 4).mpr q] at e; cases e
      have : ∃ v, v < 4 ∧ bb_df m (2 ^ v) ≠ m ∧ bb_bd st (bb_df m (2 ^ v)) = true := Classical.byContradiction (fun q => this (fun v hv => by
        by_cases a : bb_df m (2 ^ v) = m
        · exact Or.inl a
        · right
          cases b : bb_bd st (bb_df m (2 ^ v)) with
          | false => rfl
          | true => exact absurd ⟨v, hv, a, b⟩ q))
      obtain ⟨v, hv, a, b⟩ := this
      have hle := bb_df_le m (2 ^ v)
      have hl := bb_df_lt m hm _ (bb_pw16 v hv)
      obtain ⟨t, h1, h2, h3⟩ := ih (bb_df m (2 ^ v)) (by omega) hl b
      exact ⟨t, h1, bb_sub_tr t h1 _ hl m hm h2 (bb_df_sub m hm v hv), h3⟩
theorem bb_rd_pow {h : Nat → Nat} (E : bb_Ech h) {n : Nat} : ∀ k, k ≤ 16 → ∀ f, f < 2 ^ n → n ≤ k → bb_rd h k f < 2 ^ n := by
  intro k hk f hf hn
  refine bb_lt_of (fun i hi => ?_)
  have key : ∀ k, k ≤ 16 → ∀ f, f < 2 ^ n → (bb_rd h k f).testBit i = false := by
    intro k
    induction k with
    | zero => intro _ f hf; exact bb_tb_lt hf hi
    | succ k ih =>
      intro hk f hf
      by_cases e : f.testBit k = true
      · rw [bb_rd_t e]
        have hkn := bb_bit_lt hf e
        refine ih (by omega) _ (Nat.xor_lt_two_pow hf ?_)
        rcases E k (by omega) with z | z
        · rw [z]; exact Nat.two_pow_pos n
        · exact Nat.lt_of_lt_of_le z.1 (Nat.pow_le_pow_right (by decide) (by omega))
      · rw [bb_rd_f (Bool.eq_false_iff.mpr e)]; exact ih (by omega) f hf
  exact key k hk f hf
theorem bb_rd_any {h : Nat → Nat} (E : bb_Ech h) {n : Nat} {f : Nat} (hf : f < 2 ^ n) : bb_red h f < 2 ^ n := by
  rcases Nat.le_total n 16 with q | q
  · exact bb_rd_pow E 16 (Nat.le_refl 16) f hf q
  · refine bb_lt_of (fun i hi => ?_)
    unfold bb_red
    rw [bb_rd_hi E (Nat.le_refl 16) f (by omega)]
    exact bb_tb_lt hf hi
/-- a bound monomial goes to something less -/
theorem bb_red_mono {h : Nat → Nat} (E : bb_Ech h) {t : Nat} (ht : t < 16) (h0 : h t ≠ 0) : bb_red h (2 ^ t) < 2 ^ t := by
  have e : bb_red h (2 ^ t) = bb_red h (2 ^ t ^^^ h t) := by
    rw [bb_red_xor, bb_red_own E ht, Nat.xor_zero]
  rw [e]
  rcases E t ht with z | z
  · exact absurd z h0
  · refine bb_rd_any E ?_
    rw [Nat.xor_comm]
    exact bb_Hd_un z
theorem bb_D6 {sel : Nat → Bool} {gv : Nat → Nat} {st : bb_St} (g : bb_G sel gv st) (s : ∀ f, f < 65536 → (bb_red (bb_bq st) f = 0 ↔ bb_V sel gv f)) (hgv : ∀ i, i < 6 → sel i = true → gv i < 65536) (ba : Nat → Nat) {t : Nat} (ht : t < 16) :
    bb_van (bb_bl (bb_least st) (bb_bq st) ba 16).2 t (bb_bl (bb_least st) (bb_bq st) ba 16).1 = true ↔ ∀ i, i < 6 → sel i = true → bb_val (gv i) t = 0 := by
  have E := bb_bq_Ech g.1
  rw [bb_van_iff, bb_bl_lc]
  constructor
  · intro hv
    have key : ∀ k, k ≤ 16 → ∀ f, f < 2 ^ k → bb_V sel gv f → bb_val f t = 0 := by
      intro k
      induction k with
      | zero =>
        intro _ f hf _
        rw [show f = 0 by have : (2 : Nat) ^ 0 = 1 := rfl; omega]
        exact (bb_val_L t).1
      | succ k ih =>
        intro hk f hf hV
        by_cases e : f.testBit k = true
        · have hk16 : k < 16 := by omega
          have hd : bb_Hd f k := ⟨hf, e⟩
          have h0 := (s f (bb_Hd_16 hk16 hd)).mpr hV
          have hq : bb_bq st k ≠ 0 := fun z => by
            have := bb_rd_stay E (Nat.le_refl 16) hk16 hd z
            rw [show bb_rd (bb_bq st) 16 f = 0 from h0, Nat.zero_testBit] at this
            cases this
          obtain ⟨u, hu, hs, hl⟩ := bb_least_ex (k + 1) k (Nat.lt_succ_self k) hk16 ((bb_bd_bq g.1 hk16).mpr hq)
          have hub : bb_bd st u = true := by
            unfold bb_least at hl
            rw [Bool.and_eq_true] at hl
            exact hl.1
          have hB : bb_Hd (2 ^ u ^^^ bb_red (bb_bq st) (2 ^ u)) u := by
            rw [Nat.xor_comm]
            exact bb_Hd_mk (bb_red_mono E hu ((bb_bd_bq g.1 hu).mp hub))
          have hlc : bb_lc (bb_least st) u < bb_lc (bb_least st) 16 := by
            have := bb_lc_up (L := bb_least st) 16 (show u + 1 ≤ 16 by omega)
            rw [bb_lc_t hl] at this
            omega
          have hvB := hv _ hlc
          rw [bb_bl_at hu hl] at hvB
          have hVB : bb_V sel gv (2 ^ u ^^^ bb_red (bb_bq st) (2 ^ u)) := bb_red_S (bb_V_cl sel gv) (bb_bq_V g) _
          have hdf := bb_df_lt k hk16 u hu
          have hC := bb_tms_Hd hu hdf (bb_df_and k hk16 u hu) hB
          rw [bb_df_or k hk16 u hu hs] at hC
          have hlt := Nat.xor_lt_two_pow (bb_Hd_un hd) (bb_Hd_un hC)
          rw [bb_x4, Nat.xor_self, Nat.xor_zero] at hlt
          have h1 := ih (by omega) _ hlt ((bb_V_cl sel gv).2 _ _ hV (bb_V_tms hdf hVB))
          rw [bb_val_xor, bb_val_tms _ hdf ht, hvB] at h1
          rw [show (if bb_df k u &&& t = bb_df k u then 0 else 0) = 0 by split <;> rfl, Nat.xor_zero] at h1
          exact h1
        · exact ih (by omega) f (bb_lt_step hf (Bool.eq_false_iff.mpr e)) hV
    intro i hi hs
    exact key 16 (Nat.le_refl 16) (gv i) (hgv i hi hs) (bb_V_gen hi hs)
  · intro hz k hk
    obtain ⟨u, hu, e, rfl⟩ := bb_lc_hit 16 hk
    rw [bb_bl_at hu e]
    exact bb_red_S (bb_V_cl sel gv) (bb_bq_V g) (2 ^ u) t ht hz
-- relations
def bb_Sup (u n F : Nat) : Prop := F < 2 ^ n ∧ ∀ m, F.testBit m = true → m &&& u = m
theorem bb_Sup_xor {u n F K : Nat} (a : bb_Sup u n F) (b : bb_Sup u n K) : bb_Sup u n (F ^^^ K) := ⟨Nat.xor_lt_two_pow a.1 b.1, fun m h => by
  rw [Nat.testBit_xor] at h
  by_cases q : F.testBit m = true
  · exact a.2 m q
  · rw [Bool.eq_false_iff.mpr q, Bool.false_xor] at h
    exact b.2 m h⟩
theorem bb_Sup_up {u n k F : Nat} (h : n ≤ k) (a : bb_Sup u n F) : bb_Sup u k F := ⟨Nat.lt_of_lt_of_le a.1 (Nat.pow_le_pow_right (by decide) h), a.2⟩
theorem bb_Sup_pow {u n : Nat} (h : n &&& u = n) : bb_Sup u (n + 1) (2 ^ n) := ⟨Nat.pow_lt_pow_right (by decide) (Nat.lt_succ_self n), fun m q => by
  rw [Nat.testBit_two_pow] at q
  have : n = m := by simpa using q
  rw [← this]; exact h⟩
theorem bb_Sup_0 (u n : Nat) : bb_Sup u n 0 := ⟨Nat.two_pow_pos n, fun m h => by rw [Nat.zero_testBit] at h; cases h⟩
theorem bb_ind_ok {o : Nat → Nat} (E : bb_Ech o) : ∀ k, k ≤ 16 → ∀ r, r < 2 ^ k → match bb_ind o k r with
    | none => bb_rd o k r = 0
    | some o' => bb_rd o k r ≠ 0 ∧ ∃ j r', j < 16 ∧ o' = va_up o j r' ∧ bb_Hd r' j ∧ o j = 0 ∧ ∀ S, bb_cl S → (∀ m, m < 16 → S (o m)) → S (r ^^^ r') := by
  intro k
  induction k with
  | zero =>
    intro _ r hr
    show r = 0
    have : (2 : Nat) ^ 0 = 1 := rfl
    omega
  | succ k ih =>
    intro hk r hr
    cases b : r.testBit k with
    | false =>
      rw [bb_ind_f b, bb_rd_f b]
      exact ih (by omega) r (bb_lt_step hr b)
    | true =>
      by_cases q : o k = 0
      · rw [bb_ind_s b q]
        refine ⟨fun z => ?_, k, r, by omega, rfl, ⟨hr, b⟩, q, fun S hS _ => ?_⟩
        · have := bb_rd_stay E hk (Nat.lt_succ_self k) ⟨hr, b⟩ q
          rw [z, Nat.zero_testBit] at this
          cases this
        · rw [Nat.xor_self]; exact hS.1
      · rw [bb_ind_g b q, bb_rd_t b]
        have ho : bb_Hd (o k) k := (E k (by omega)).resolve_left q
        have hlt := Nat.xor_lt_two_pow (bb_Hd_un ⟨hr, b⟩) (bb_Hd_un ho)
        rw [bb_x4, Nat.xor_self, Nat.xor_zero] at hlt
        have h1 := ih (by omega) _ hlt
        cases e : bb_ind o k (r ^^^ o k) with
        | none => rw [e] at h1; exact h1
        | some o' =>
          rw [e] at h1
          obtain ⟨a, j, r', c1, c2, c3, c4, c5⟩ := h1
          refine ⟨a, j, r', c1, c2, c3, c4, fun S hS hm => ?_⟩
          have h2 := hS.2 _ _ (hm k (by omega)) (c5 S hS hm)
          rw [← Nat.xor_assoc, ← Nat.xor_assoc, Nat.xor_comm (o k) r, bb_xx] at h2
          exact h2
/-- relates' state: independent so far, or a relation found -/
def bb_RI (h : Nat → Nat) (u n : Nat) (q : Bool × (Nat → Nat)) : Prop := match q.1 with
  | true => ∃ F, bb_Sup u 16 F ∧ F ≠ 0 ∧ bb_red h F = 0
  | false => bb_Ech q.2 ∧ (∀ k, k < 16 → ∃ F, bb_Sup u n F ∧ q.2 k = bb_red h F) ∧ (∀ F, bb_Sup u n F → bb_red q.2 (bb_red h F) = 0) ∧ ∀ F, bb_Sup u n F → bb_red h F = 0 → F = 0
theorem bb_rel_ok {h : Nat → Nat} (E : bb_Ech h) {u : Nat} {o : Nat → Nat} (ho : ∀ m, m < 16 → o m = 0) : ∀ n, n ≤ 16 → bb_RI h u n (bb_rel h u o n) := by
  intro n
  induction n with
  | zero =>
    intro _
    show bb_Ech o ∧ (∀ k, k < 16 → ∃ F, bb_Sup u 0 F ∧ o k = bb_red h F) ∧ (∀ F, bb_Sup u 0 F → bb_red o (bb_red h F) = 0) ∧ ∀ F, bb_Sup u 0 F → bb_red h F = 0 → F = 0
    have z : ∀ F, bb_Sup u 0 F → F = 0 := fun F hF => by have := hF.1; have : (2 : Nat) ^ 0 = 1 := rfl; omega
    refine ⟨fun m hm => Or.inl (ho m hm), fun k hk => ⟨0, bb_Sup_0 u 0, by rw [ho k hk, (bb_red_L h).1]⟩, fun F hF => ?_, fun F hF _ => z F hF⟩
    rw [z F hF, (bb_red_L h).1, (bb_red_L o).1]
  | succ n ih =>
    intro hn
    have I := ih (by omega)
    by_cases e : n &&& u = n
    · cases hq : bb_rel h u o n with
      | mk b p =>
        rw [hq] at I
        cases b with
        | true => rw [bb_rel_y e hq]; exact I
        | false =>
          obtain ⟨Ep, I1, I2, I3⟩ : bb_Ech p ∧ (∀ k, k < 16 → ∃ F, bb_Sup u n F ∧ p k = bb_red h F) ∧ (∀ F, bb_Sup u n F → bb_red p (bb_red h F) = 0) ∧ ∀ F, bb_Sup u n F → bb_red h F = 0 → F = 0 := I
          have hS : bb_cl (fun x => ∃ F, bb_Sup u n F ∧ x = bb_red h F) := by
            refine ⟨⟨0, bb_Sup_0 u n, (bb_red_L h).1.symm⟩, ?_⟩
            rintro a b ⟨F, f1, rfl⟩ ⟨K, k1, rfl⟩
            exact ⟨F ^^^ K, bb_Sup_xor f1 k1, (bb_red_xor h F K).symm⟩
          have hr : bb_red h (2 ^ n) < 65536 := bb_red_lt E (bb_p16 (by omega))
          have K := bb_ind_ok Ep 16 (Nat.le_refl 16) _ hr
          cases hi : bb_ind p 16 (bb_red h (2 ^ n)) with
          | none =>
            rw [hi] at K
            have K : bb_red p (bb_red h (2 ^ n)) = 0 := K
            rw [bb_rel_i1 e hq (by rw [hi]; rfl)]
            show ∃ F, bb_Sup u 16 F ∧ F ≠ 0 ∧ bb_red h F = 0
            have h1 := bb_red_S hS I1 (bb_red h (2 ^ n))
            rw [K, Nat.xor_zero] at h1
            obtain ⟨F, f1, f2⟩ := h1
            refine ⟨2 ^ n ^^^ F, bb_Sup_up (by omega) (bb_Sup_xor (bb_Sup_pow e) (bb_Sup_up (Nat.le_succ n) f1)), ?_, by rw [bb_red_xor, f2, Nat.xor_self]⟩
            rw [Nat.xor_comm]
            exact bb_Hd_ne (bb_Hd_mk f1.1)
          | some p' =>
            rw [hi] at K
            obtain ⟨K0, j, r', hj, rfl, hd, hj0, KS⟩ := K
            rw [bb_rel_i0 e hq (by rw [hi]; rfl), hi]
            show bb_Ech (va_up p j r') ∧ (∀ k, k < 16 → ∃ F, bb_Sup u (n + 1) F ∧ va_up p j r' k = bb_red h F) ∧ (∀ F, bb_Sup u (n + 1) F → bb_red (va_up p j r') (bb_red h F) = 0) ∧ ∀ F, bb_Sup u (n + 1) F → bb_red h F = 0 → F = 0
            have E2 : bb_Ech (va_up p j r') := fun m hm => by
              by_cases q : m = j
              · rw [q, bb_up_s]; exact Or.inr hd
              · rw [bb_up_n q]; exact Ep m hm
            have C2 := bb_L_cl (bb_red_L (va_up p j r'))
            have S2 : ∀ m, m < 16 → bb_red (va_up p j r') (p m) = 0 := fun m hm => by
              by_cases q : m = j
              · rw [q, hj0]; exact (bb_red_L _).1
              · have := bb_red_own E2 hm
                rw [bb_up_n q] at this
                exact this
            have old : ∀ F, bb_Sup u n F → bb_red (va_up p j r') (bb_red h F) = 0 := fun F hF => by
              have := bb_red_S C2 S2 (bb_red h F)
              rw [I2 F hF, Nat.xor_zero] at this
              exact this
            have new : bb_red (va_up p j r') (bb_red h (2 ^ n)) = 0 := by
              have h1 := KS _ C2 S2
              have h2 : bb_red (va_up p j r') r' = 0 := by
                have := bb_red_own E2 hj
                rw [bb_up_s] at this
                exact this
              have := C2.2 _ _ h1 h2
              rw [bb_xx] at this
              exact this
            have parts : ∀ F, bb_Sup u (n + 1) F → bb_Sup u n F ∨ ∃ G, bb_Sup u n G ∧ F = G ^^^ 2 ^ n := fun F hF => by
              by_cases q : F.testBit n = true
              · right
                refine ⟨F ^^^ 2 ^ n, ⟨bb_Hd_un ⟨hF.1, q⟩, fun m hm => ?_⟩, (bb_xx F _).symm⟩
                exact (bb_Sup_xor hF (bb_Sup_pow e)).2 m hm
              · left
                exact ⟨bb_lt_step hF.1 (Bool.eq_false_iff.mpr q), hF.2⟩
            refine ⟨E2, fun k hk => ?_, fun F hF => ?_, fun F hF h0 => ?_⟩
            · by_cases q : k = j
              · obtain ⟨F, f1, f2⟩ := KS _ hS I1
                refine ⟨2 ^ n ^^^ F, bb_Sup_xor (bb_Sup_pow e) (bb_Sup_up (Nat.le_succ n) f1), ?_⟩
                rw [q, bb_up_s, bb_red_xor, ← f2, bb_xx']
              · obtain ⟨F, f1, f2⟩ := I1 k hk
                exact ⟨F, bb_Sup_up (Nat.le_succ n) f1, by rw [bb_up_n q]; exact f2⟩
            · rcases parts F hF with a | ⟨G, g1, rfl⟩
              · exact old F a
              · rw [bb_red_xor, bb_red_xor, old G g1, new]; rfl
            · rcases parts F hF with a | ⟨G, g1, rfl⟩
              · exact I3 F a h0
              · rw [bb_red_xor] at h0
                have h1 := I2 G g1
                rw [bb_xor_0 h0] at h1
                exact absurd h1 K0
    · rw [bb_rel_n e]
      have nb : ∀ F, bb_Sup u (n + 1) F → bb_Sup u n F := fun F hF => ⟨bb_lt_step hF.1 (by
        cases b : F.testBit n with
        | false => rfl
        | true => exact absurd (hF.2 n b) e), hF.2⟩
      cases hq : bb_rel h u o n with
      | mk b p =>
        rw [hq] at I
        cases b with
        | true => exact I
        | false =>
          obtain ⟨Ep, I1, I2, I3⟩ : bb_Ech p ∧ (∀ k, k < 16 → ∃ F, bb_Sup u n F ∧ p k = bb_red h F) ∧ (∀ F, bb_Sup u n F → bb_red p (bb_red h F) = 0) ∧ ∀ F, bb_Sup u n F → bb_red h F = 0 → F = 0 := I
          exact ⟨Ep, fun k hk => by
            obtain ⟨F, f1, f2⟩ := I1 k hk
            exact ⟨F, bb_Sup_up (Nat.le_succ n) f1, f2⟩, fun F hF => I2 F (nb F hF), fun F hF => I3 F (nb F hF)⟩
-- the zero set's shadow
theorem bb_seen_bit (z u q : Nat) : ∀ n, (bb_seen z u n).testBit q = true ↔ ∃ t, t < n ∧ z.testBit t = true ∧ t &&& u = q := by
  intro n
  induction n with
  | zero =>
    show Nat.testBit 0 q = true ↔ _
    rw [Nat.zero_testBit]
    exact ⟨fun h => (by cases h), fun ⟨t, h, _⟩ => absurd h (Nat.not_lt_zero t)⟩
  | succ n ih =>
    cases b : z.testBit n with
    | true =>
      rw [bb_seen_t b, Nat.testBit_or, Bool.or_eq_true, ih, Nat.testBit_two_pow]
      constructor
      · rintro (⟨t, h1, h2⟩ | h)
        · exact ⟨t, by omega, h2⟩
        · exact ⟨n, Nat.lt_succ_self n, b, by simpa using h⟩
      · rintro ⟨t, h1, h2, h3⟩
        by_cases e : t = n
        · right; rw [← e]; simpa using h3
        · left; exact ⟨t, by omega, h2, h3⟩
    | false =>
      rw [bb_seen_f b, ih]
      constructor
      · rintro ⟨t, h1, h2⟩; exact ⟨t, by omega, h2⟩
      · rintro ⟨t, h1, h2, h3⟩
        by_cases e : t = n
        · rw [e, b] at h2; cases h2
        · exact ⟨t, by omega, h2, h3⟩
theorem bb_uns_iff (seen u : Nat) : ∀ n, bb_uns seen u n = true ↔ ∃ q, q < n ∧ q &&& u = q ∧ seen.testBit q = false := by
  intro n
  induction n with
  | zero => exact ⟨fun h => (by cases h), fun ⟨q, h, _⟩ => absurd h (Nat.not_lt_zero q)⟩
  | succ n ih =>
    constructor
    · intro h
      cases b : bb_uns seen u n with
      | true =>
        obtain ⟨q, h1, h2⟩ := ih.mp b
        exact ⟨q, by omega, h2⟩
      | false =>
        by_cases e : n &&& u = n
        · cases b2 : seen.testBit n with
          | false => exact ⟨n, Nat.lt_succ_self n, e, b2⟩
          | true => rw [bb_uns_n2 b b2] at h; cases h
        · rw [bb_uns_n1 b e] at h; cases h
    · rintro ⟨q, h1, h2, h3⟩
      exact bb_uns_mono (n + 1) (by omega) (bb_uns_y h2 h3)
theorem bb_lin_congr2 {φ ψ : Nat → Nat} {f n : Nat} (h : ∀ m, m < n → f.testBit m = true → φ m = ψ m) : bb_lin φ f n = bb_lin ψ f n := by
  refine bb_xs_congr (fun m hm => ?_)
  by_cases e : f.testBit m = true
  · rw [if_pos e, if_pos e, h m hm e]
  · rw [if_neg e, if_neg e]
theorem bb_sub_and : ∀ m, m < 16 → ∀ u, u < 16 → ∀ t, t < 16 → m &&& u = m → ((m &&& t = m) ↔ (m &&& (t &&& u) = m)) := by decide +kernel
theorem bb_val_shadow {F u t : Nat} (hF : bb_Sup u 16 F) (hu : u < 16) (ht : t < 16) : bb_val F t = bb_val F (t &&& u) := by
  refine bb_lin_congr2 (fun m hm hb => ?_)
  have := bb_sub_and m hm u hu t ht (hF.2 m hb)
  by_cases q : m &&& t = m
  · rw [if_pos q, if_pos (this.mp q)]
  · rw [if_neg q, if_neg (fun z => q (this.mpr z))]
/-- 1 just where the variables of u are q -/
def bb_ft (q u : Nat) : Nat := bb_bs (fun m => (q &&& m == q) && (m &&& u == m)) 16
theorem bb_ft_val : ∀ q, q < 16 → ∀ u, u < 16 → q &&& u = q → ∀ t, t < 16 → bb_val (bb_ft q u) t = if t &&& u = q then 1 else 0 := by decide +kernel
theorem bb_ft_Sup (q u : Nat) : bb_Sup u 16 (bb_ft q u) := ⟨bb_bs_lt _ 16, fun m h => by
  unfold bb_ft at h
  rw [bb_bs_bit] at h
  simp only [Bool.and_eq_true, beq_iff_eq] at h
  exact h.2.2⟩
theorem bb_ft_ne {q u : Nat} (hq : q < 16) (h : q &&& u = q) : bb_ft q u ≠ 0 := fun e => by
  have : (bb_ft q u).testBit q = true := by
    unfold bb_ft
    rw [bb_bs_bit]
    simp [hq, h]
  rw [e, Nat.zero_testBit] at this
  cases this
/-- relates on both sides -/
theorem bb_D7 {sel : Nat → Bool} {gv h o : Nat → Nat} {z u : Nat} (E : bb_Ech h) (s : ∀ f, f < 65536 → (bb_red h f = 0 ↔ bb_V sel gv f)) (ho : ∀ m, m < 16 → o m = 0) (hu : u < 16) (hz : ∀ t, t < 16 → (z.testBit t = true ↔ ∀ i, i < 6 → sel i = true → bb_val (gv i) t = 0)) :
    bb_uns (bb_seen z u 16) u 16 = (bb_rel h u o 16).1 := by
  have R := bb_rel_ok E (u := u) ho 16 (Nat.le_refl 16)
  have key : bb_uns (bb_seen z u 16) u 16 = true ↔ ∃ F, bb_Sup u 16 F ∧ F ≠ 0 ∧ bb_red h F = 0 := by
    rw [bb_uns_iff]
    constructor
    · rintro ⟨q, hq, q1, q2⟩
      refine ⟨bb_ft q u, bb_ft_Sup q u, bb_ft_ne hq q1, (s _ (bb_ft_Sup q u).1).mpr (fun t ht hzt => ?_)⟩
      rw [bb_ft_val q hq u hu q1 t ht]
      by_cases e : t &&& u = q
      · have := (bb_seen_bit z u q 16).mpr ⟨t, ht, (hz t ht).mpr hzt, e⟩
        rw [q2] at this; cases this
      · rw [if_neg e]
    · rintro ⟨F, hF, f0, f1⟩
      have hV := (s F hF.1).mp f1
      have : ∃ t, t < 16 ∧ bb_val F t ≠ 0 := Classical.byContradiction (fun q => f0 (bb_inj hF.1 (fun t ht => by
        by_cases e : bb_val F t = 0
        · exact e
        · exact absurd ⟨t, ht, e⟩ q)))
      obtain ⟨t, ht, e⟩ := this
      have hq : t &&& u < 16 := Nat.lt_of_le_of_lt Nat.and_le_left ht
      refine ⟨t &&& u, hq, by rw [Nat.and_assoc, Nat.and_self], ?_⟩
      cases b : (bb_seen z u 16).testBit (t &&& u) with
      | false => rfl
      | true =>
        obtain ⟨t2, h1, h2, h3⟩ := (bb_seen_bit z u (t &&& u) 16).mp b
        have h4 := hV t2 h1 ((hz t2 h1).mp h2)
        rw [bb_val_shadow hF hu h1, h3, ← bb_val_shadow hF hu ht] at h4
        exact absurd h4 e
  cases a : (bb_rel h u o 16) with
  | mk b p =>
    rw [a] at R
    cases b with
    | true => exact key.mpr R
    | false =>
      obtain ⟨-, -, -, I3⟩ : bb_Ech p ∧ (∀ k, k < 16 → ∃ F, bb_Sup u 16 F ∧ p k = bb_red h F) ∧ (∀ F, bb_Sup u 16 F → bb_red p (bb_red h F) = 0) ∧ ∀ F, bb_Sup u 16 F → bb_red h F = 0 → F = 0 := R
      cases c : bb_uns (bb_seen z u 16) u 16 with
      | false => rfl
      | true =>
        obtain ⟨F, f1, f2, f3⟩ := key.mp c
        exact absurd (I3 F f1 f3) f2
end
section
/-! OPS, pure: what both sides answer, out of what learn knows -/
theorem bl_ln {pr kn : Nat} {gv : Nat → Nat} {q : bb_LS} (h : kn = 0 ∨ (kn = 1 ∧ ∃ q0, q = bb_ln0 pr gv q0)) : ∃ q0, bb_ln kn pr gv q = bb_ln0 pr gv q0 := by
  rcases h with rfl | ⟨rfl, q0, rfl⟩
  · exact ⟨q, rfl⟩
  · exact ⟨q0, rfl⟩
theorem bl_kn {pr kn : Nat} {gv : Nat → Nat} {q : bb_LS} (h : kn = 0 ∨ (kn = 1 ∧ ∃ q0, q = bb_ln0 pr gv q0)) : kn = 0 ∨ kn = 1 := h.elim Or.inl (fun z => Or.inr z.1)
section BL
variable {pr : Nat} {gv : Nat → Nat} {q0 : bb_LS}
theorem bl_G (hgv : ∀ i, i < 6 → gv i < 65536) (po hd : Nat → Nat) : bb_G (fun i => pr.testBit i) gv (bb_cmp pr gv po hd) ∧ ∀ f, f < 65536 → (bb_red (bb_bq (bb_cmp pr gv po hd)) f = 0 ↔ bb_V (fun i => pr.testBit i) gv f) :=
  bb_cmp_ok (sel := fun i => pr.testBit i) (fun _ _ => rfl) (fun i hi _ => hgv i hi) po hd
theorem bl_ok (hgv : ∀ i, i < 6 → gv i < 65536) : bb_ok (bb_ln0 pr gv q0).1 := bb_ok_cmp hgv _ _
theorem bl_red (hgv : ∀ i, i < 6 → gv i < 65536) (h : Nat → Nat) {f : Nat} (hf : f < 65536) : bb_red (bb_bq (bb_ln0 pr gv q0).1) f = bb_red (bb_wk (fun i => pr.testBit i) gv h) f :=
  bb_T1 (sel := fun i => pr.testBit i) (fun _ _ => rfl) (fun i hi _ => hgv i hi) _ _ h hf
theorem bl_bd (hgv : ∀ i, i < 6 → gv i < 65536) (h : Nat → Nat) {m : Nat} (hm : m < 16) : bb_bd (bb_ln0 pr gv q0).1 m = true ↔ bb_wk (fun i => pr.testBit i) gv h m ≠ 0 :=
  bb_T2 (sel := fun i => pr.testBit i) (fun _ _ => rfl) (fun i hi _ => hgv i hi) _ _ h hm
theorem bl_lst (hgv : ∀ i, i < 6 → gv i < 65536) (h : Nat → Nat) {m : Nat} (hm : m < 16) : bb_least (bb_ln0 pr gv q0).1 m = bb_ml (bb_wk (fun i => pr.testBit i) gv h) m 16 :=
  bb_D3 (bl_G hgv _ _).1.1 (fun _ hm => bl_bd hgv h hm) hm
theorem bl_size (hgv : ∀ i, i < 6 → gv i < 65536) (h : Nat → Nat) : (bb_ln0 pr gv q0).2.1 = bb_lc (fun m => bb_ml (bb_wk (fun i => pr.testBit i) gv h) m 16) 16 := by
  show (bb_bl (bb_least (bb_ln0 pr gv q0).1) (bb_bq (bb_ln0 pr gv q0).1) q0.2.2.1 16).1 = _
  rw [bb_bl_lc]
  exact bb_lc_congr (fun m hm => bl_lst hgv h hm)
theorem bl_at (hgv : ∀ i, i < 6 → gv i < 65536) (h z : Nat → Nat) {i : Nat} (hi : i < (bb_ln0 pr gv q0).2.1) : (bb_ln0 pr gv q0).2.2.1 i = (bb_bl (fun m => bb_ml (bb_wk (fun i => pr.testBit i) gv h) m 16) (bb_wk (fun i => pr.testBit i) gv h) z 16).2 i := by
  have hi2 : i < bb_lc (bb_least (bb_ln0 pr gv q0).1) 16 := by
    have := hi
    rw [show (bb_ln0 pr gv q0).2.1 = (bb_bl (bb_least (bb_ln0 pr gv q0).1) (bb_bq (bb_ln0 pr gv q0).1) q0.2.2.1 16).1 from rfl, bb_bl_lc] at this
    exact this
  exact bb_D5 (L := bb_least (bb_ln0 pr gv q0).1) (M := fun m => bb_ml (bb_wk (fun i => pr.testBit i) gv h) m 16) (h := bb_bq (bb_ln0 pr gv q0).1) (fun m hm => bl_lst hgv h hm) (fun f hf => bl_red hgv h hf) q0.2.2.1 z hi2
theorem bl_bound (hgv : ∀ i, i < 6 → gv i < 65536) (h : Nat → Nat) : (bb_ln0 pr gv q0).2.2.2.1 = bb_bs (fun m => !(bb_wk (fun i => pr.testBit i) gv h m == 0)) 16 := by
  show bb_bs (bb_bd (bb_ln0 pr gv q0).1) 16 = _
  refine bb_bs_congr (fun m hm => ?_)
  have := bl_bd (pr := pr) (q0 := q0) hgv h hm
  by_cases e : bb_wk (fun i => pr.testBit i) gv h m = 0
  · rw [e]
    cases b : bb_bd (bb_ln0 pr gv q0).1 m with
    | false => rfl
    | true => exact absurd e (this.mp b)
  · rw [this.mpr e]
    simp [e]
theorem bl_van (hgv : ∀ i, i < 6 → gv i < 65536) {t : Nat} (ht : t < 16) : bb_van (bb_ln0 pr gv q0).2.2.1 t (bb_ln0 pr gv q0).2.1 = true ↔ ∀ i, i < 6 → pr.testBit i = true → bb_val (gv i) t = 0 :=
  bb_D6 (sel := fun i => pr.testBit i) (bl_G hgv _ _).1 (bl_G hgv _ _).2 (fun i hi _ => hgv i hi) q0.2.2.1 ht
theorem bl_zbit (hgv : ∀ i, i < 6 → gv i < 65536) {t : Nat} (ht : t < 16) : (bb_ln0 pr gv q0).2.2.2.2.testBit t = true ↔ ∀ i, i < 6 → pr.testBit i = true → bb_val (gv i) t = 0 := by
  refine Iff.trans ?_ (bl_van (q0 := q0) hgv ht)
  show (bb_bs (fun p => bb_van (bb_ln0 pr gv q0).2.2.1 p (bb_ln0 pr gv q0).2.1) 16).testBit t = true ↔ _
  rw [bb_bs_bit]
  simp [ht]
theorem bl_zlt : (bb_ln0 pr gv q0).2.2.2.2 < 65536 := bb_bs_lt _ 16
theorem bl_zeros (hgv : ∀ i, i < 6 → gv i < 65536) {th : Nat → Nat} (hth : bb_TH pr th) : (bb_ln0 pr gv q0).2.2.2.2 = bb_bs (fun p => bb_zr th gv p 6) 16 := by
  show bb_bs (fun p => bb_van (bb_ln0 pr gv q0).2.2.1 p (bb_ln0 pr gv q0).2.1) 16 = _
  refine bb_bs_congr (fun t ht => ?_)
  have key : bb_van (bb_ln0 pr gv q0).2.2.1 t (bb_ln0 pr gv q0).2.1 = true ↔ bb_zr th gv t 6 = true := by
    rw [bl_van hgv ht, bb_zr_iff]
    constructor
    · intro h i hi
      by_cases e : th i = 0
      · exact Or.inl e
      · exact Or.inr (h i hi (bb_TH_1 hth hi e))
    · intro h i hi e
      rcases h i hi with z | z
      · rw [bb_TH_0 hth hi z] at e; cases e
      · exact z
  show bb_van (bb_ln0 pr gv q0).2.2.1 t (bb_ln0 pr gv q0).2.1 = bb_zr th gv t 6
  cases a : bb_van (bb_ln0 pr gv q0).2.2.1 t (bb_ln0 pr gv q0).2.1 <;> cases b : bb_zr th gv t 6
  · rfl
  · rw [a, b] at key; exact absurd (key.mpr rfl) (by decide)
  · rw [a, b] at key; exact absurd (key.mp rfl) (by decide)
  · rfl
theorem bl_rel (hgv : ∀ i, i < 6 → gv i < 65536) (h ot : Nat → Nat) {u : Nat} (hu : u < 16) : bb_uns (bb_seen (bb_ln0 pr gv q0).2.2.2.2 u 16) u 16 = (bb_rel (bb_wk (fun i => pr.testBit i) gv h) u (bb_clr ot 16) 16).1 :=
  bb_D7 (sel := fun i => pr.testBit i) (gv := gv) (bb_wk_Ech _ gv h) (fun f hf => bb_wk_span (fun i hi _ => hgv i hi) h hf) (bb_clr_0 ot 16) hu (fun t ht => bl_zbit hgv ht)
end BL
/-- all but i -/
def bl_sel (pr i : Nat) : Nat → Bool := fun j => pr.testBit j && !(j == i)
theorem bl_rmv0 : ∀ pr, pr < 64 → ∀ i, i < 6 → ∀ j, j < 6 → (bb_rmv pr i).testBit j = (pr.testBit j && !(j == i)) := by decide +kernel
theorem bl_nIne : ∀ i, i < 6 → ∀ j, j < 6 → (nI j ≠ nI i ↔ j ≠ i) := by decide +kernel
theorem bl_hsel (pr : Nat) {i : Nat} (hi : i < 6) : ∀ j, j < 6 → (bl_sel pr i j = true ↔ pr.testBit j = true ∧ nI j ≠ nI i) := by
  intro j hj
  rw [bl_nIne i hi j hj]
  unfold bl_sel
  simp
theorem bl_redun {pr : Nat} (hpr : pr < 64) {gv : Nat → Nat} (hgv : ∀ i, i < 6 → gv i < 65536) {i : Nat} (hi : i < 6) (po hd h : Nat → Nat) {f : Nat} (hf : f < 65536) : bb_red (bb_bq (bb_cmp (bb_rmv pr i) gv po hd)) f = bb_red (bb_wk (bl_sel pr i) gv h) f :=
  bb_T1 (sel := bl_sel pr i) (fun j hj => bl_rmv0 pr hpr i hi j hj) (fun i hi _ => hgv i hi) po hd h hf
theorem bl_TH_rmv {pr : Nat} (hpr : pr < 64) {th : Nat → Nat} (h : bb_TH pr th) {i : Nat} (hi : i < 6) : bb_TH (bb_rmv pr i) (va_up th i 0) := by
  intro j hj
  rw [bl_rmv0 pr hpr i hi j hj]
  by_cases e : j = i
  · rw [e, bb_up_s]; simp
  · rw [bb_up_n e, h j hj]; simp [e]
theorem bl_free {pr k i j : Nat} (h : bb_free pr k i = some j) : i ≤ j ∧ j < i + k ∧ pr.testBit j = false := by
  induction k generalizing i with
  | zero => cases h
  | succ k ih =>
    unfold bb_free at h
    by_cases e : pr.testBit i = true
    · rw [if_pos e] at h
      obtain ⟨a, b, c⟩ := ih h
      exact ⟨by omega, by omega, c⟩
    · rw [if_neg e] at h
      cases h
      exact ⟨Nat.le_refl _, by omega, Bool.eq_false_iff.mpr e⟩
theorem bl_TH_add {pr : Nat} {th : Nat → Nat} (h : bb_TH pr th) (i : Nat) : bb_TH (pr ||| 2 ^ i) (va_up th i 1) := by
  intro j hj
  rw [Nat.testBit_or, Nat.testBit_two_pow]
  by_cases e : j = i
  · rw [e, bb_up_s]; simp
  · rw [bb_up_n e, h j hj, decide_eq_false (show ¬ i = j from fun z => e z.symm), Bool.or_false]
theorem bl_dom (x : Int32) (n : Nat) : (∃ f, f < n ∧ x = nI f) ∨ ∀ j : Nat, j < n → x ≠ nI j := by
  by_cases h : ∃ f, f < n ∧ x = nI f
  · exact Or.inl h
  · exact Or.inr (fun j hj e => h ⟨j, hj, e⟩)
end
section
/-! WALKS 20: static methods of the class -/
set_option maxHeartbeats 4000000 in
set_option maxRecDepth 100000 in
/-- isPolynomial of a polynomial -/
theorem mt_ip1 (l : Launch) (D : va_G) (f : Nat) (hf : f < 65536) : bw_MI l yX0_isPolynomial (ws_ yX0_isPolynomial cX0_isPolynomial 1 (some .boolean)) ({ frames := 0, cells := 0, slots := 0, locals := 0 }) D bw_Cl [] [.int (nI f)] [] [] (nI 1) := by
  refine bw_startI (by decide) (Nat.le_of_ble_eq_true rfl) (by decide +kernel) ?_
  intro p e s m below meth c A Q ls hx hb hml hown hts hA hK hw hl hret
  have hown : s.vm.findClass RX0 = some m.cls := hown
  have hl : lv_has ls 1 [(0, .int (nI f))] := hl
  refine lv_iload_n hx hb dX0_isPolynomial_0 rfl (lv_at hl 0 rfl) ?_
  refine bw_lt0n (tgt := 14) hx hb dX0_isPolynomial_1 (by decide) (by omega) ?_
  refine lv_iload_n hx hb dX0_isPolynomial_4 rfl (lv_at hl 0 rfl) ?_
  refine lv_ldc (v := nI 65535) hx hb hown (hts _ q67) dX0_isPolynomial_5 ?_
  refine bw_cgt (tgt := 14) hx hb dX0_isPolynomial_7 (by decide) (by omega) (by omega) (fun c7 => ?_) (fun c7 => ?_)
  · exact absurd c7 (by omega)
  · refine lv_iconst (v := nI 1) hx hb dX0_isPolynomial_10 (by decide) ?_
    refine lv_goto (tgt := 15) hx hb dX0_isPolynomial_11 (by decide) ?_
    exact hret _ _ _ _ hw dX0_isPolynomial_15
set_option maxHeartbeats 4000000 in
set_option maxRecDepth 100000 in
/-- isPolynomial of no polynomial -/
theorem mt_ip0 (l : Launch) (D : va_G) (x : Int32) (hbad : ∀ j : Nat, j < 65536 → x ≠ nI j) : bw_MI l yX0_isPolynomial (ws_ yX0_isPolynomial cX0_isPolynomial 1 (some .boolean)) ({ frames := 0, cells := 0, slots := 0, locals := 0 }) D bw_Cl [] [.int x] [] [] (nI 0) := by
  refine bw_startI (by decide) (Nat.le_of_ble_eq_true rfl) (by decide +kernel) ?_
  intro p e s m below meth c A Q ls hx hb hml hown hts hA hK hw hl hret
  have hown : s.vm.findClass RX0 = some m.cls := hown
  have hl : lv_has ls 1 [(0, .int x)] := hl
  refine lv_iload_n hx hb dX0_isPolynomial_0 rfl (lv_at hl 0 rfl) ?_
  refine lv_if_lt (tgt := 14) hx hb dX0_isPolynomial_1 (by decide) (fun c1 => ?_) (fun c1 => ?_)
  · refine lv_iconst (v := nI 0) hx hb dX0_isPolynomial_14 (by decide) ?_
    exact hret _ _ _ _ hw dX0_isPolynomial_15
  · obtain ⟨j, hj, rfl⟩ := nI_of c1
    refine lv_iload_n hx hb dX0_isPolynomial_4 rfl (lv_at hl 0 rfl) ?_
    refine lv_ldc (v := nI 65535) hx hb hown (hts _ q67) dX0_isPolynomial_5 ?_
    refine bw_cgt (tgt := 14) hx hb dX0_isPolynomial_7 (by decide) (by omega) (by omega) (fun c7 => ?_) (fun c7 => ?_)
    · refine lv_iconst (v := nI 0) hx hb dX0_isPolynomial_14 (by decide) ?_
      exact hret _ _ _ _ hw dX0_isPolynomial_15
    · exact absurd rfl (hbad j (by omega))
set_option maxHeartbeats 4000000 in
set_option maxRecDepth 100000 in
/-- times: the product with a monomial -/
theorem mt_times (l : Launch) (D : va_G) (f t : Nat) (hf : f < 65536) (ht : t < 16) : bw_MI l yX0_times (ws_ yX0_times cX0_times 4 (some .int)) ({ frames := 0, cells := 0, slots := 0, locals := 0 }) D bw_Cl [] [.int (nI f), .int (nI t)] [] [] (nI (bb_tms f t)) := by
  refine bw_startI (by decide) (Nat.le_of_ble_eq_true rfl) rfl ?_
  intro p e s m below meth c A Q ls hx hb hml hown hts hA hK hw hl hret
  have hown : s.vm.findClass RX0 = some m.cls := hown
  have hl : lv_has ls 4 [(0, .int (nI f)), (1, .int (nI t))] := hl
  refine lv_iconst (v := nI 0) hx hb dX0_times_0 (by decide) ?_
  refine lv_istore_n (lv' := [(2, .int (nI 0)), (0, .int (nI f)), (1, .int (nI t))]) hx hb dX0_times_1 rfl hl (by decide) rfl (fun ls hl => ?_)
  refine lv_iconst (v := nI 0) hx hb dX0_times_2 (by decide) ?_
  refine lv_istore_n (lv' := [(3, .int (nI 0)), (2, .int (nI 0)), (0, .int (nI f)), (1, .int (nI t))]) hx hb dX0_times_3 rfl hl (by decide) rfl (fun ls hl => ?_)
  refine bw_loop (pc := 4) (fun (qq : Nat × Nat) ls H locs => qq.2 ≤ 16 ∧ qq.1 = bb_lin (fun m => 2 ^ (m ||| t)) f qq.2 ∧ lv_has ls 4 [(3, .int (nI qq.2)), (2, .int (nI qq.1)), (0, .int (nI f)), (1, .int (nI t))] ∧ bw_H D bw_Cl A s.heap ([]) H locs) (fun qq => 16 - qq.2) ?_ (0, 0) ⟨Nat.zero_le _, rfl, lv_sub hl [0, 1, 2, 3] rfl, hw⟩
  rintro ⟨r, i⟩ ls H locs ⟨k4_0, k4_1, hl, hw⟩ ih4
  have k4_0 : i ≤ 16 := k4_0
  have k4_1 : r = bb_lin (fun m => 2 ^ (m ||| t)) f i := k4_1
  have hl : lv_has ls 4 [(3, .int (nI i)), (2, .int (nI r)), (0, .int (nI f)), (1, .int (nI t))] := hl
  refine lv_iload_n hx hb dX0_times_4 rfl (lv_at hl 0 rfl) ?_
  refine lv_bipush (v := nI 16) hx hb dX0_times_5 (by decide) ?_
  refine bw_cge (tgt := 32) hx hb dX0_times_7 (by decide) (by omega) (by omega) (fun c7 => ?_) (fun c7 => ?_)
  · refine lv_iload_n hx hb dX0_times_32 rfl (lv_at hl 1 rfl) ?_
    refine bw_top (y := nI (bb_tms f t)) (by rw [k4_1, show i = 16 by omega]; rfl) ?_
    exact hret _ _ _ _ hw dX0_times_33
  · refine lv_iload_n hx hb dX0_times_10 rfl (lv_at hl 2 rfl) ?_
    refine lv_iload_n hx hb dX0_times_11 rfl (lv_at hl 0 rfl) ?_
    refine bw_ishr hx hb dX0_times_12 (by omega) (by omega) ?_
    refine lv_iconst (v := nI 1) hx hb dX0_times_13 (by decide) ?_
    refine bw_iand hx hb dX0_times_14 ?_
    refine bw_bz (tgt := 26) hx hb dX0_times_15 (by decide) (fun c15 => ?_) (fun c15 => ?_)
    · refine lv_iinc (v := nI (i + 1)) (lv' := [(3, .int (nI (i + 1))), (2, .int (nI r)), (0, .int (nI f)), (1, .int (nI t))]) hx hb dX0_times_26 hl (k := 0) rfl (bw_inc i) (by decide) rfl (fun ls hl => ?_)
      refine lv_goto (tgt := 4) hx hb dX0_times_29 (by decide) ?_
      exact ih4 (r, i + 1) _ _ _ (by show 16 - (i + 1) < 16 - i; omega) ⟨by show (i + 1) ≤ 16; omega, by rw [k4_1]; first | exact (bb_lin_f c15).symm | exact (bb_lin_t c15).symm, lv_sub hl [0, 1, 2, 3] rfl, hw⟩
    · refine lv_iload_n hx hb dX0_times_18 rfl (lv_at hl 1 rfl) ?_
      refine lv_iconst (v := nI 1) hx hb dX0_times_19 (by decide) ?_
      refine lv_iload_n hx hb dX0_times_20 rfl (lv_at hl 0 rfl) ?_
      refine lv_iload_n hx hb dX0_times_21 rfl (lv_at hl 3 rfl) ?_
      refine bw_ior hx hb dX0_times_22 ?_
      refine bw_ishl hx hb dX0_times_23 (Nat.lt_of_lt_of_le (bb_or16 _ (by omega) _ (by omega)) (by decide)) ?_
      refine bw_ixor hx hb dX0_times_24 ?_
      refine lv_istore_n (lv' := [(2, .int (nI (r ^^^ (2 ^ (i ||| t))))), (3, .int (nI i)), (0, .int (nI f)), (1, .int (nI t))]) hx hb dX0_times_25 rfl hl (by decide) rfl (fun ls hl => ?_)
      refine lv_iinc (v := nI (i + 1)) (lv' := [(3, .int (nI (i + 1))), (2, .int (nI (r ^^^ (2 ^ (i ||| t))))), (0, .int (nI f)), (1, .int (nI t))]) hx hb dX0_times_26 hl (k := 1) rfl (bw_inc i) (by decide) rfl (fun ls hl => ?_)
      refine lv_goto (tgt := 4) hx hb dX0_times_29 (by decide) ?_
      exact ih4 (r ^^^ (2 ^ (i ||| t)), i + 1) _ _ _ (by show 16 - (i + 1) < 16 - i; omega) ⟨by show (i + 1) ≤ 16; omega, by rw [k4_1]; first | exact (bb_lin_f c15).symm | exact (bb_lin_t c15).symm, lv_sub hl [0, 1, 2, 3] rfl, hw⟩
set_option maxHeartbeats 4000000 in
set_option maxRecDepth 100000 in
/-- valueAt: the value at a point -/
theorem mt_valueAt (l : Launch) (D : va_G) (f t : Nat) (hf : f < 65536) (ht : t < 16) : bw_MI l yX0_valueAt (ws_ yX0_valueAt cX0_valueAt 4 (some .int)) ({ frames := 0, cells := 0, slots := 0, locals := 0 }) D bw_Cl [] [.int (nI f), .int (nI t)] [] [] (nI (bb_val f t)) := by
  refine bw_startI (by decide) (Nat.le_of_ble_eq_true rfl) rfl ?_
  intro p e s m below meth c A Q ls hx hb hml hown hts hA hK hw hl hret
  have hown : s.vm.findClass RX0 = some m.cls := hown
  have hl : lv_has ls 4 [(0, .int (nI f)), (1, .int (nI t))] := hl
  refine lv_iconst (v := nI 0) hx hb dX0_valueAt_0 (by decide) ?_
  refine lv_istore_n (lv' := [(2, .int (nI 0)), (0, .int (nI f)), (1, .int (nI t))]) hx hb dX0_valueAt_1 rfl hl (by decide) rfl (fun ls hl => ?_)
  refine lv_iconst (v := nI 0) hx hb dX0_valueAt_2 (by decide) ?_
  refine lv_istore_n (lv' := [(3, .int (nI 0)), (2, .int (nI 0)), (0, .int (nI f)), (1, .int (nI t))]) hx hb dX0_valueAt_3 rfl hl (by decide) rfl (fun ls hl => ?_)
  refine bw_loop (pc := 4) (fun (qq : Nat × Nat) ls H locs => qq.2 ≤ 16 ∧ qq.1 = bb_lin (fun m => if m &&& t = m then 1 else 0) f qq.2 ∧ lv_has ls 4 [(3, .int (nI qq.2)), (2, .int (nI qq.1)), (0, .int (nI f)), (1, .int (nI t))] ∧ bw_H D bw_Cl A s.heap ([]) H locs) (fun qq => 16 - qq.2) ?_ (0, 0) ⟨Nat.zero_le _, rfl, lv_sub hl [0, 1, 2, 3] rfl, hw⟩
  rintro ⟨r, i⟩ ls H locs ⟨k4_0, k4_1, hl, hw⟩ ih4
  have k4_0 : i ≤ 16 := k4_0
  have k4_1 : r = bb_lin (fun m => if m &&& t = m then 1 else 0) f i := k4_1
  have hl : lv_has ls 4 [(3, .int (nI i)), (2, .int (nI r)), (0, .int (nI f)), (1, .int (nI t))] := hl
  refine lv_iload_n hx hb dX0_valueAt_4 rfl (lv_at hl 0 rfl) ?_
  refine lv_bipush (v := nI 16) hx hb dX0_valueAt_5 (by decide) ?_
  refine bw_cge (tgt := 32) hx hb dX0_valueAt_7 (by decide) (by omega) (by omega) (fun c7 => ?_) (fun c7 => ?_)
  · refine lv_iload_n hx hb dX0_valueAt_32 rfl (lv_at hl 1 rfl) ?_
    refine bw_top (y := nI (bb_val f t)) (by rw [k4_1, show i = 16 by omega]; rfl) ?_
    exact hret _ _ _ _ hw dX0_valueAt_33
  · refine lv_iload_n hx hb dX0_valueAt_10 rfl (lv_at hl 0 rfl) ?_
    refine lv_iload_n hx hb dX0_valueAt_11 rfl (lv_at hl 3 rfl) ?_
    refine lv_iconst (v := nI 4294967295) hx hb dX0_valueAt_12 (by decide) ?_
    refine bw_ixor hx hb dX0_valueAt_13 ?_
    refine bw_iand hx hb dX0_valueAt_14 ?_
    refine bw_sne (tgt := 26) hx hb dX0_valueAt_15 (by decide) (by omega) (by omega) (fun c15 => ?_) (fun c15 => ?_)
    · refine lv_iinc (v := nI (i + 1)) (lv' := [(3, .int (nI (i + 1))), (2, .int (nI r)), (0, .int (nI f)), (1, .int (nI t))]) hx hb dX0_valueAt_26 hl (k := 0) rfl (bw_inc i) (by decide) rfl (fun ls hl => ?_)
      refine lv_goto (tgt := 4) hx hb dX0_valueAt_29 (by decide) ?_
      exact ih4 (r, i + 1) _ _ _ (by show 16 - (i + 1) < 16 - i; omega) ⟨by show (i + 1) ≤ 16; omega, by rw [k4_1]; first | exact (bb_val_out c15).symm | exact (bb_val_in c15).symm, lv_sub hl [0, 1, 2, 3] rfl, hw⟩
    · refine lv_iload_n hx hb dX0_valueAt_18 rfl (lv_at hl 1 rfl) ?_
      refine lv_iload_n hx hb dX0_valueAt_19 rfl (lv_at hl 2 rfl) ?_
      refine lv_iload_n hx hb dX0_valueAt_20 rfl (lv_at hl 0 rfl) ?_
      refine bw_ishr hx hb dX0_valueAt_21 (by omega) (by omega) ?_
      refine lv_iconst (v := nI 1) hx hb dX0_valueAt_22 (by decide) ?_
      refine bw_iand hx hb dX0_valueAt_23 ?_
      refine bw_ixor hx hb dX0_valueAt_24 ?_
      refine lv_istore_n (lv' := [(2, .int (nI (r ^^^ ((f >>> i) &&& 1)))), (3, .int (nI i)), (0, .int (nI f)), (1, .int (nI t))]) hx hb dX0_valueAt_25 rfl hl (by decide) rfl (fun ls hl => ?_)
      refine lv_iinc (v := nI (i + 1)) (lv' := [(3, .int (nI (i + 1))), (2, .int (nI (r ^^^ ((f >>> i) &&& 1)))), (0, .int (nI f)), (1, .int (nI t))]) hx hb dX0_valueAt_26 hl (k := 1) rfl (bw_inc i) (by decide) rfl (fun ls hl => ?_)
      refine lv_goto (tgt := 4) hx hb dX0_valueAt_29 (by decide) ?_
      exact ih4 (r ^^^ ((f >>> i) &&& 1), i + 1) _ _ _ (by show 16 - (i + 1) < 16 - i; omega) ⟨by show (i + 1) ≤ 16; omega, by rw [k4_1]; first | exact (bb_val_out c15).symm | exact (bb_val_in c15).symm, lv_sub hl [0, 1, 2, 3] rfl, hw⟩
set_option maxHeartbeats 4000000 in
set_option maxRecDepth 100000 in
/-- headOf: the greatest monomial, -1 for none -/
theorem mt_headOf (l : Launch) (D : va_G) (f : Nat) (hf : f < 65536) : bw_MI l yX0_headOf (ws_ yX0_headOf cX0_headOf 3 (some .int)) ({ frames := 0, cells := 0, slots := 0, locals := 0 }) D bw_Cl [] [.int (nI f)] [] [] (bb_hI f 16) := by
  refine bw_startI (by decide) (Nat.le_of_ble_eq_true rfl) rfl ?_
  intro p e s m below meth c A Q ls hx hb hml hown hts hA hK hw hl hret
  have hown : s.vm.findClass RX0 = some m.cls := hown
  have hl : lv_has ls 3 [(0, .int (nI f))] := hl
  refine lv_iconst (v := -1) hx hb dX0_headOf_0 (by decide) ?_
  refine lv_istore_n (lv' := [(1, .int ((-1))), (0, .int (nI f))]) hx hb dX0_headOf_1 rfl hl (by decide) rfl (fun ls hl => ?_)
  refine lv_iconst (v := nI 0) hx hb dX0_headOf_2 (by decide) ?_
  refine lv_istore_n (lv' := [(2, .int (nI 0)), (1, .int ((-1))), (0, .int (nI f))]) hx hb dX0_headOf_3 rfl hl (by decide) rfl (fun ls hl => ?_)
  refine bw_loop (pc := 4) (fun (qq : Int32 × Nat) ls H locs => qq.2 ≤ 16 ∧ qq.1 = bb_hI f qq.2 ∧ lv_has ls 3 [(2, .int (nI qq.2)), (1, .int qq.1), (0, .int (nI f))] ∧ bw_H D bw_Cl A s.heap ([]) H locs) (fun qq => 16 - qq.2) ?_ ((-1), 0) ⟨Nat.zero_le _, rfl, lv_sub hl [0, 1, 2] rfl, hw⟩
  rintro ⟨r, i⟩ ls H locs ⟨k4_0, k4_1, hl, hw⟩ ih4
  have k4_0 : i ≤ 16 := k4_0
  have k4_1 : r = bb_hI f i := k4_1
  have hl : lv_has ls 3 [(2, .int (nI i)), (1, .int r), (0, .int (nI f))] := hl
  refine lv_iload_n hx hb dX0_headOf_4 rfl (lv_at hl 0 rfl) ?_
  refine lv_bipush (v := nI 16) hx hb dX0_headOf_5 (by decide) ?_
  refine bw_cge (tgt := 26) hx hb dX0_headOf_7 (by decide) (by omega) (by omega) (fun c7 => ?_) (fun c7 => ?_)
  · refine lv_iload_n hx hb dX0_headOf_26 rfl (lv_at hl 1 rfl) ?_
    refine bw_top (y := bb_hI f 16) (by rw [k4_1, show i = 16 by omega]) ?_
    exact hret _ _ _ _ hw dX0_headOf_27
  · refine lv_iload_n hx hb dX0_headOf_10 rfl (lv_at hl 2 rfl) ?_
    refine lv_iload_n hx hb dX0_headOf_11 rfl (lv_at hl 0 rfl) ?_
    refine bw_ishr hx hb dX0_headOf_12 (by omega) (by omega) ?_
    refine lv_iconst (v := nI 1) hx hb dX0_headOf_13 (by decide) ?_
    refine bw_iand hx hb dX0_headOf_14 ?_
    refine bw_bz (tgt := 20) hx hb dX0_headOf_15 (by decide) (fun c15 => ?_) (fun c15 => ?_)
    · refine lv_iinc (v := nI (i + 1)) (lv' := [(2, .int (nI (i + 1))), (1, .int r), (0, .int (nI f))]) hx hb dX0_headOf_20 hl (k := 0) rfl (bw_inc i) (by decide) rfl (fun ls hl => ?_)
      refine lv_goto (tgt := 4) hx hb dX0_headOf_23 (by decide) ?_
      exact ih4 (r, i + 1) _ _ _ (by show 16 - (i + 1) < 16 - i; omega) ⟨by show (i + 1) ≤ 16; omega, by first | exact k4_1.trans (bb_hI_f c15).symm | exact (bb_hI_t c15).symm, lv_sub hl [0, 1, 2] rfl, hw⟩
    · refine lv_iload_n hx hb dX0_headOf_18 rfl (lv_at hl 0 rfl) ?_
      refine lv_istore_n (lv' := [(1, .int (nI i)), (2, .int (nI i)), (0, .int (nI f))]) hx hb dX0_headOf_19 rfl hl (by decide) rfl (fun ls hl => ?_)
      refine lv_iinc (v := nI (i + 1)) (lv' := [(2, .int (nI (i + 1))), (1, .int (nI i)), (0, .int (nI f))]) hx hb dX0_headOf_20 hl (k := 1) rfl (bw_inc i) (by decide) rfl (fun ls hl => ?_)
      refine lv_goto (tgt := 4) hx hb dX0_headOf_23 (by decide) ?_
      exact ih4 ((nI i), i + 1) _ _ _ (by show 16 - (i + 1) < 16 - i; omega) ⟨by show (i + 1) ≤ 16; omega, by first | exact k4_1.trans (bb_hI_f c15).symm | exact (bb_hI_t c15).symm, lv_sub hl [0, 1, 2] rfl, hw⟩
end
section
/-! WALKS 21: small methods of the class, reduce -/
set_option maxHeartbeats 4000000 in
set_option maxRecDepth 100000 in
/-- has, in range -/
theorem mt_has (l : Launch) (D : va_G) (a : bw_A0) (pr : Nat) (gv : Nat → Nat) (kn sz : Nat) (po hd : Nat → Nat) (bc : Nat) (ba : Nat → Nat) (bs zs : Nat) (i : Nat) (hpr : pr < 64) (hi : i < 6) : bw_MI l yX0_has (ws_ yX0_has cX0_has 2 (some .boolean)) ({ frames := 0, cells := 0, slots := 0, locals := 0 }) D bw_Cl (bw_T0 a) [.ref a.1, .int (nI i)] (bw_W0 a pr gv kn sz po hd bc ba bs zs) (bw_W0 a pr gv kn sz po hd bc ba bs zs) (bw_bI (pr.testBit i)) := by
  refine bw_startI (by decide) (Nat.le_of_ble_eq_true rfl) (bw_bI_n _) ?_
  intro p e s m below meth c A Q ls hx hb hml hown hts hA hK hw hl hret
  have hown : s.vm.findClass RX0 = some m.cls := hown
  have hl : lv_has ls 2 [(0, .ref a.1), (1, .int (nI i))] := hl
  refine lv_iload_n hx hb dX0_has_0 rfl (lv_at hl 1 rfl) ?_
  refine bw_lt0n (tgt := 25) hx hb dX0_has_1 (by decide) (by omega) ?_
  refine lv_iload_n hx hb dX0_has_4 rfl (lv_at hl 1 rfl) ?_
  refine lv_bipush (v := nI 6) hx hb dX0_has_5 (by decide) ?_
  refine bw_cge (tgt := 25) hx hb dX0_has_7 (by decide) (by omega) (by omega) (fun c7 => ?_) (fun c7 => ?_)
  · exact absurd c7 (by omega)
  · refine lv_aload_n hx hb dX0_has_10 rfl (lv_at hl 0 rfl) ?_
    refine bw_g0_pr hx hb hts hown hK hw dX0_has_11 ?_
    refine lv_iload_n hx hb dX0_has_14 rfl (lv_at hl 1 rfl) ?_
    refine bw_ishr hx hb dX0_has_15 (by omega) (by omega) ?_
    refine lv_iconst (v := nI 1) hx hb dX0_has_16 (by decide) ?_
    refine bw_iand hx hb dX0_has_17 ?_
    refine bw_bz (tgt := 25) hx hb dX0_has_18 (by decide) (fun c18 => ?_) (fun c18 => ?_)
    · refine lv_iconst (v := nI 0) hx hb dX0_has_25 (by decide) ?_
      refine bw_top (y := bw_bI (pr.testBit i)) (by rw [c18]; rfl) ?_
      exact hret _ _ _ _ hw dX0_has_26
    · refine lv_iconst (v := nI 1) hx hb dX0_has_21 (by decide) ?_
      refine lv_goto (tgt := 26) hx hb dX0_has_22 (by decide) ?_
      refine bw_top (y := bw_bI (pr.testBit i)) (by rw [c18]; rfl) ?_
      exact hret _ _ _ _ hw dX0_has_26
set_option maxHeartbeats 4000000 in
set_option maxRecDepth 100000 in
/-- has, out of range -/
theorem mt_hasX (l : Launch) (D : va_G) (a : bw_A0) (pr : Nat) (gv : Nat → Nat) (kn sz : Nat) (po hd : Nat → Nat) (bc : Nat) (ba : Nat → Nat) (bs zs : Nat) (x : Int32) (hbad : ∀ j : Nat, j < 6 → x ≠ nI j) : bw_MI l yX0_has (ws_ yX0_has cX0_has 2 (some .boolean)) ({ frames := 0, cells := 0, slots := 0, locals := 0 }) D bw_Cl (bw_T0 a) [.ref a.1, .int x] (bw_W0 a pr gv kn sz po hd bc ba bs zs) (bw_W0 a pr gv kn sz po hd bc ba bs zs) (nI 0) := by
  refine bw_startI (by decide) (Nat.le_of_ble_eq_true rfl) (by decide +kernel) ?_
  intro p e s m below meth c A Q ls hx hb hml hown hts hA hK hw hl hret
  have hown : s.vm.findClass RX0 = some m.cls := hown
  have hl : lv_has ls 2 [(0, .ref a.1), (1, .int x)] := hl
  refine lv_iload_n hx hb dX0_has_0 rfl (lv_at hl 1 rfl) ?_
  refine lv_if_lt (tgt := 25) hx hb dX0_has_1 (by decide) (fun c1 => ?_) (fun c1 => ?_)
  · refine lv_iconst (v := nI 0) hx hb dX0_has_25 (by decide) ?_
    exact hret _ _ _ _ hw dX0_has_26
  · obtain ⟨j, hj, rfl⟩ := nI_of c1
    refine lv_iload_n hx hb dX0_has_4 rfl (lv_at hl 1 rfl) ?_
    refine lv_bipush (v := nI 6) hx hb dX0_has_5 (by decide) ?_
    refine bw_cge (tgt := 25) hx hb dX0_has_7 (by decide) (by omega) (by omega) (fun c7 => ?_) (fun c7 => ?_)
    · refine lv_iconst (v := nI 0) hx hb dX0_has_25 (by decide) ?_
      exact hret _ _ _ _ hw dX0_has_26
    · exact absurd rfl (hbad j (by omega))
set_option maxHeartbeats 4000000 in
set_option maxRecDepth 100000 in
/-- generators -/
theorem mt_generators (l : Launch) (D : va_G) (a : bw_A0) (pr : Nat) (gv : Nat → Nat) (kn sz : Nat) (po hd : Nat → Nat) (bc : Nat) (ba : Nat → Nat) (bs zs : Nat) : bw_MI l yX0_generators (ws_ yX0_generators cX0_generators 1 (some .int)) ({ frames := 0, cells := 0, slots := 0, locals := 0 }) D bw_Cl (bw_T0 a) [.ref a.1] (bw_W0 a pr gv kn sz po hd bc ba bs zs) (bw_W0 a pr gv kn sz po hd bc ba bs zs) (nI pr) := by
  refine bw_startI (by decide) (Nat.le_of_ble_eq_true rfl) rfl ?_
  intro p e s m below meth c A Q ls hx hb hml hown hts hA hK hw hl hret
  have hown : s.vm.findClass RX0 = some m.cls := hown
  have hl : lv_has ls 1 [(0, .ref a.1)] := hl
  refine lv_aload_n hx hb dX0_generators_0 rfl (lv_at hl 0 rfl) ?_
  refine bw_g0_pr hx hb hts hown hK hw dX0_generators_1 ?_
  exact hret _ _ _ _ hw dX0_generators_4
set_option maxHeartbeats 4000000 in
set_option maxRecDepth 100000 in
/-- add: the first free place -/
theorem mt_add (l : Launch) (D : va_G) (a : bw_A0) (pr : Nat) (gv : Nat → Nat) (kn sz : Nat) (po hd : Nat → Nat) (bc : Nat) (ba : Nat → Nat) (bs zs : Nat) (f : Nat) (hpr : pr < 64) (hf : f < 65536) : bw_MI l yX0_add (ws_ yX0_add cX0_add 3 (some .int)) ({ frames := 1, cells := 0, slots := 0, locals := 21 }) D bw_Cl (bw_T0 a) [.ref a.1, .int (nI f)] (bw_W0 a pr gv kn sz po hd bc ba bs zs) (bw_W0 a (bb_apr pr (bb_free pr 6 0)) (bb_agv gv (bb_free pr 6 0) f) (bb_akn kn (bb_free pr 6 0)) sz po hd bc ba bs zs) (bb_oJ (bb_free pr 6 0)) := by
  refine bw_startI (by decide) (Nat.le_of_ble_eq_true rfl) rfl ?_
  intro p e s m below meth c A Q ls hx hb hml hown hts hA hK hw hl hret
  have hown : s.vm.findClass RX0 = some m.cls := hown
  have hl : lv_has ls 3 [(0, .ref a.1), (1, .int (nI f))] := hl
  refine lv_iload_n hx hb dX0_add_0 rfl (lv_at hl 1 rfl) ?_
  refine bw_stat ⟨hx, hb, hml, hown, hts⟩ [.int (nI f)] [] (mt_ip1 l D f hf) (va_cwS 1 hts (lw_S q64 q65 q17 q66) rfl rfl rfl (by decide +kernel) ⟨Nat.le_of_ble_eq_true rfl, Nat.le_of_ble_eq_true rfl⟩) hK hA hw rfl hl.1 rfl (Nat.le_of_ble_eq_true rfl) dX0_add_1 ⟨Nat.zero_le _, Nat.zero_le _⟩ (fun H locs hw => ?_)
  refine bw_ne0y (tgt := 9) hx hb dX0_add_4 (by decide) (by decide) ?_
  refine lv_iconst (v := nI 0) hx hb dX0_add_9 (by decide) ?_
  refine lv_istore_n (lv' := [(2, .int (nI 0)), (0, .ref a.1), (1, .int (nI f))]) hx hb dX0_add_10 rfl hl (by decide) rfl (fun ls hl => ?_)
  refine bw_loop (pc := 11) (fun (qq : Nat) ls H locs => qq ≤ 6 ∧ bb_free pr (6 - qq) qq = bb_free pr 6 0 ∧ lv_has ls 3 [(2, .int (nI qq)), (0, .ref a.1), (1, .int (nI f))] ∧ bw_H D bw_Cl A s.heap (bw_W0 a pr gv kn sz po hd bc ba bs zs) H locs) (fun qq => 6 - qq) ?_ 0 ⟨Nat.zero_le _, rfl, lv_sub hl [0, 1, 2] rfl, hw⟩
  rintro i ls H locs ⟨k11_0, k11_1, hl, hw⟩ ih11
  have k11_0 : i ≤ 6 := k11_0
  have k11_1 : bb_free pr (6 - i) i = bb_free pr 6 0 := k11_1
  have hl : lv_has ls 3 [(2, .int (nI i)), (0, .ref a.1), (1, .int (nI f))] := hl
  have hw : bw_H D bw_Cl A s.heap (bw_W0 a pr gv kn sz po hd bc ba bs zs) H locs := hw
  refine lv_iload_n hx hb dX0_add_11 rfl (lv_at hl 0 rfl) ?_
  refine lv_bipush (v := nI 6) hx hb dX0_add_12 (by decide) ?_
  refine bw_cge (tgt := 57) hx hb dX0_add_14 (by decide) (by omega) (by omega) (fun c14 => ?_) (fun c14 => ?_)
  · refine lv_bipush (v := -2) hx hb dX0_add_57 (by decide) ?_
    rw [← k11_1, bb_free_e c14] at hret
    exact hret _ _ _ _ hw dX0_add_59
  · refine lv_aload_n hx hb dX0_add_17 rfl (lv_at hl 1 rfl) ?_
    refine lv_iload_n hx hb dX0_add_18 rfl (lv_at hl 0 rfl) ?_
    refine bw_ownI ⟨hx, hb, hml, hown, hts⟩ [.int (nI i)] [] (mt_has l D a pr gv kn sz po hd bc ba bs zs i hpr (by omega)) (cwV 1 hts (lw_V q68 q70 qs0 q17 q71) rfl rfl rfl (by decide +kernel) ⟨Nat.le_of_ble_eq_true rfl, Nat.le_of_ble_eq_true rfl⟩) 0 0 rfl rfl hK hA hw rfl hl.1 rfl (Nat.le_of_ble_eq_true rfl) dX0_add_19 ⟨Nat.zero_le _, Nat.zero_le _⟩ (fun H locs hw => ?_)
    refine bw_fnz (tgt := 51) hx hb dX0_add_22 (by decide) (fun c22 => ?_) (fun c22 => ?_)
    · refine lv_iinc (v := nI (i + 1)) (lv' := [(2, .int (nI (i + 1))), (0, .ref a.1), (1, .int (nI f))]) hx hb dX0_add_51 hl (k := 0) rfl (bw_inc i) (by decide) rfl (fun ls hl => ?_)
      refine lv_goto (tgt := 11) hx hb dX0_add_54 (by decide) ?_
      exact ih11 (i + 1) _ _ _ (by show 6 - (i + 1) < 6 - i; omega) ⟨by show (i + 1) ≤ 6; omega, by rw [← k11_1]; exact (bb_free_t (by omega) c22).symm, lv_sub hl [0, 1, 2] rfl, hw⟩
    · refine lv_aload_n hx hb dX0_add_25 rfl (lv_at hl 1 rfl) ?_
      refine lv_dup hx hb dX0_add_26 rfl ?_
      refine bw_g0_pr hx hb hts hown hK hw dX0_add_27 ?_
      refine lv_iconst (v := nI 1) hx hb dX0_add_30 (by decide) ?_
      refine lv_iload_n hx hb dX0_add_31 rfl (lv_at hl 0 rfl) ?_
      refine bw_ishl hx hb dX0_add_32 (by omega) ?_
      refine bw_ior hx hb dX0_add_33 ?_
      refine bw_p0_pr hx hb hts hown hK hw dX0_add_34 (fun H locs hw => ?_)
      refine lv_aload_n hx hb dX0_add_37 rfl (lv_at hl 1 rfl) ?_
      refine bw_g0_gv hx hb hts hown hK hw dX0_add_38 ?_
      refine lv_iload_n hx hb dX0_add_41 rfl (lv_at hl 0 rfl) ?_
      refine lv_iload_n hx hb dX0_add_42 rfl (lv_at hl 2 rfl) ?_
      refine bw_s0_gv hx hb hK hw (by omega) dX0_add_43 (fun H locs hw => ?_)
      refine lv_aload_n hx hb dX0_add_44 rfl (lv_at hl 1 rfl) ?_
      refine lv_iconst (v := nI 0) hx hb dX0_add_45 (by decide) ?_
      refine bw_p0_kn hx hb hts hown hK hw (by decide) dX0_add_46 (fun H locs hw => ?_)
      refine lv_iload_n hx hb dX0_add_49 rfl (lv_at hl 0 rfl) ?_
      rw [← k11_1, bb_free_f (by omega) c22] at hret
      exact hret _ _ _ _ hw dX0_add_50
set_option maxHeartbeats 4000000 in
set_option maxRecDepth 100000 in
/-- add of no polynomial -/
theorem mt_addX (l : Launch) (D : va_G) (a : bw_A0) (pr : Nat) (gv : Nat → Nat) (kn sz : Nat) (po hd : Nat → Nat) (bc : Nat) (ba : Nat → Nat) (bs zs : Nat) (x : Int32) (hbad : ∀ j : Nat, j < 65536 → x ≠ nI j) : bw_MI l yX0_add (ws_ yX0_add cX0_add 3 (some .int)) ({ frames := 1, cells := 0, slots := 0, locals := 21 }) D bw_Cl (bw_T0 a) [.ref a.1, .int x] (bw_W0 a pr gv kn sz po hd bc ba bs zs) (bw_W0 a pr gv kn sz po hd bc ba bs zs) (-1) := by
  refine bw_startI (by decide) (Nat.le_of_ble_eq_true rfl) rfl ?_
  intro p e s m below meth c A Q ls hx hb hml hown hts hA hK hw hl hret
  have hown : s.vm.findClass RX0 = some m.cls := hown
  have hl : lv_has ls 3 [(0, .ref a.1), (1, .int x)] := hl
  refine lv_iload_n hx hb dX0_add_0 rfl (lv_at hl 1 rfl) ?_
  refine bw_stat ⟨hx, hb, hml, hown, hts⟩ [.int x] [] (mt_ip0 l D x hbad) (va_cwS 1 hts (lw_S q64 q65 q17 q66) rfl rfl rfl (by decide +kernel) ⟨Nat.le_of_ble_eq_true rfl, Nat.le_of_ble_eq_true rfl⟩) hK hA hw rfl hl.1 rfl (Nat.le_of_ble_eq_true rfl) dX0_add_1 ⟨Nat.zero_le _, Nat.zero_le _⟩ (fun H locs hw => ?_)
  refine bw_ne0n (tgt := 9) hx hb dX0_add_4 (by decide) (by decide) ?_
  refine lv_iconst (v := -1) hx hb dX0_add_7 (by decide) ?_
  exact hret _ _ _ _ hw dX0_add_8
set_option maxHeartbeats 4000000 in
set_option maxRecDepth 100000 in
/-- remove of one that is there -/
theorem mt_remove1 (l : Launch) (D : va_G) (a : bw_A0) (pr : Nat) (gv : Nat → Nat) (kn sz : Nat) (po hd : Nat → Nat) (bc : Nat) (ba : Nat → Nat) (bs zs : Nat) (i : Nat) (hpr : pr < 64) (hi : i < 6) (hbit : pr.testBit i = true) : bw_MI l yX0_remove (ws_ yX0_remove cX0_remove 2 (some .boolean)) ({ frames := 1, cells := 0, slots := 0, locals := 21 }) D bw_Cl (bw_T0 a) [.ref a.1, .int (nI i)] (bw_W0 a pr gv kn sz po hd bc ba bs zs) (bw_W0 a (bb_rmv pr i) gv 0 sz po hd bc ba bs zs) (nI 1) := by
  refine bw_startI (by decide) (Nat.le_of_ble_eq_true rfl) (by decide +kernel) ?_
  intro p e s m below meth c A Q ls hx hb hml hown hts hA hK hw hl hret
  have hown : s.vm.findClass RX0 = some m.cls := hown
  have hl : lv_has ls 2 [(0, .ref a.1), (1, .int (nI i))] := hl
  refine lv_aload_n hx hb dX0_remove_0 rfl (lv_at hl 0 rfl) ?_
  refine lv_iload_n hx hb dX0_remove_1 rfl (lv_at hl 1 rfl) ?_
  refine bw_ownI ⟨hx, hb, hml, hown, hts⟩ [.int (nI i)] [] (mt_has l D a pr gv kn sz po hd bc ba bs zs i hpr hi) (cwV 1 hts (lw_V q68 q70 qs0 q17 q71) rfl rfl rfl (by decide +kernel) ⟨Nat.le_of_ble_eq_true rfl, Nat.le_of_ble_eq_true rfl⟩) 0 0 rfl rfl hK hA hw rfl hl.1 rfl (Nat.le_of_ble_eq_true rfl) dX0_remove_2 ⟨Nat.zero_le _, Nat.zero_le _⟩ (fun H locs hw => ?_)
  refine bw_fnz (tgt := 10) hx hb dX0_remove_5 (by decide) (fun c5 => ?_) (fun c5 => ?_)
  · refine lv_aload_n hx hb dX0_remove_10 rfl (lv_at hl 0 rfl) ?_
    refine lv_dup hx hb dX0_remove_11 rfl ?_
    refine bw_g0_pr hx hb hts hown hK hw dX0_remove_12 ?_
    refine lv_iconst (v := nI 1) hx hb dX0_remove_15 (by decide) ?_
    refine lv_iload_n hx hb dX0_remove_16 rfl (lv_at hl 1 rfl) ?_
    refine bw_ishl hx hb dX0_remove_17 (by omega) ?_
    refine lv_iconst (v := nI 4294967295) hx hb dX0_remove_18 (by decide) ?_
    refine bw_ixor hx hb dX0_remove_19 ?_
    refine bw_iand hx hb dX0_remove_20 ?_
    refine bw_p0_pr hx hb hts hown hK hw dX0_remove_21 (fun H locs hw => ?_)
    refine lv_aload_n hx hb dX0_remove_24 rfl (lv_at hl 0 rfl) ?_
    refine lv_iconst (v := nI 0) hx hb dX0_remove_25 (by decide) ?_
    refine bw_p0_kn hx hb hts hown hK hw (by decide) dX0_remove_26 (fun H locs hw => ?_)
    refine lv_iconst (v := nI 1) hx hb dX0_remove_29 (by decide) ?_
    exact hret _ _ _ _ hw dX0_remove_30
  · rw [hbit] at c5; cases c5
set_option maxHeartbeats 4000000 in
set_option maxRecDepth 100000 in
/-- remove of one that is not there -/
theorem mt_remove0 (l : Launch) (D : va_G) (a : bw_A0) (pr : Nat) (gv : Nat → Nat) (kn sz : Nat) (po hd : Nat → Nat) (bc : Nat) (ba : Nat → Nat) (bs zs : Nat) (i : Nat) (hpr : pr < 64) (hi : i < 6) (hbit : pr.testBit i = false) : bw_MI l yX0_remove (ws_ yX0_remove cX0_remove 2 (some .boolean)) ({ frames := 1, cells := 0, slots := 0, locals := 21 }) D bw_Cl (bw_T0 a) [.ref a.1, .int (nI i)] (bw_W0 a pr gv kn sz po hd bc ba bs zs) (bw_W0 a pr gv kn sz po hd bc ba bs zs) (nI 0) := by
  refine bw_startI (by decide) (Nat.le_of_ble_eq_true rfl) (by decide +kernel) ?_
  intro p e s m below meth c A Q ls hx hb hml hown hts hA hK hw hl hret
  have hown : s.vm.findClass RX0 = some m.cls := hown
  have hl : lv_has ls 2 [(0, .ref a.1), (1, .int (nI i))] := hl
  refine lv_aload_n hx hb dX0_remove_0 rfl (lv_at hl 0 rfl) ?_
  refine lv_iload_n hx hb dX0_remove_1 rfl (lv_at hl 1 rfl) ?_
  refine bw_ownI ⟨hx, hb, hml, hown, hts⟩ [.int (nI i)] [] (mt_has l D a pr gv kn sz po hd bc ba bs zs i hpr hi) (cwV 1 hts (lw_V q68 q70 qs0 q17 q71) rfl rfl rfl (by decide +kernel) ⟨Nat.le_of_ble_eq_true rfl, Nat.le_of_ble_eq_true rfl⟩) 0 0 rfl rfl hK hA hw rfl hl.1 rfl (Nat.le_of_ble_eq_true rfl) dX0_remove_2 ⟨Nat.zero_le _, Nat.zero_le _⟩ (fun H locs hw => ?_)
  refine bw_fnz (tgt := 10) hx hb dX0_remove_5 (by decide) (fun c5 => ?_) (fun c5 => ?_)
  · rw [hbit] at c5; cases c5
  · refine lv_iconst (v := nI 0) hx hb dX0_remove_8 (by decide) ?_
    exact hret _ _ _ _ hw dX0_remove_9
set_option maxHeartbeats 4000000 in
set_option maxRecDepth 100000 in
/-- remove out of range -/
theorem mt_removeX (l : Launch) (D : va_G) (a : bw_A0) (pr : Nat) (gv : Nat → Nat) (kn sz : Nat) (po hd : Nat → Nat) (bc : Nat) (ba : Nat → Nat) (bs zs : Nat) (x : Int32) (hbad : ∀ j : Nat, j < 6 → x ≠ nI j) : bw_MI l yX0_remove (ws_ yX0_remove cX0_remove 2 (some .boolean)) ({ frames := 1, cells := 0, slots := 0, locals := 21 }) D bw_Cl (bw_T0 a) [.ref a.1, .int x] (bw_W0 a pr gv kn sz po hd bc ba bs zs) (bw_W0 a pr gv kn sz po hd bc ba bs zs) (nI 0) := by
  refine bw_startI (by decide) (Nat.le_of_ble_eq_true rfl) (by decide +kernel) ?_
  intro p e s m below meth c A Q ls hx hb hml hown hts hA hK hw hl hret
  have hown : s.vm.findClass RX0 = some m.cls := hown
  have hl : lv_has ls 2 [(0, .ref a.1), (1, .int x)] := hl
  refine lv_aload_n hx hb dX0_remove_0 rfl (lv_at hl 0 rfl) ?_
  refine lv_iload_n hx hb dX0_remove_1 rfl (lv_at hl 1 rfl) ?_
  refine bw_ownI ⟨hx, hb, hml, hown, hts⟩ [.int x] [] (mt_hasX l D a pr gv kn sz po hd bc ba bs zs x hbad) (cwV 1 hts (lw_V q68 q70 qs0 q17 q71) rfl rfl rfl (by decide +kernel) ⟨Nat.le_of_ble_eq_true rfl, Nat.le_of_ble_eq_true rfl⟩) 0 0 rfl rfl hK hA hw rfl hl.1 rfl (Nat.le_of_ble_eq_true rfl) dX0_remove_2 ⟨Nat.zero_le _, Nat.zero_le _⟩ (fun H locs hw => ?_)
  refine bw_ne0n (tgt := 10) hx hb dX0_remove_5 (by decide) (by decide) ?_
  refine lv_iconst (v := nI 0) hx hb dX0_remove_8 (by decide) ?_
  exact hret _ _ _ _ hw dX0_remove_9
set_option maxHeartbeats 4000000 in
set_option maxRecDepth 100000 in
/-- product of two polynomials -/
theorem mt_product (l : Launch) (D : va_G) (a : bw_A0) (pr : Nat) (gv : Nat → Nat) (kn sz : Nat) (po hd : Nat → Nat) (bc : Nat) (ba : Nat → Nat) (bs zs : Nat) (f g : Nat) (hf : f < 65536) (hg : g < 65536) : bw_MI l yX0_product (ws_ yX0_product cX0_product 5 (some .int)) ({ frames := 1, cells := 0, slots := 0, locals := 23 }) D bw_Cl (bw_T0 a) [.ref a.1, .int (nI f), .int (nI g)] (bw_W0 a pr gv kn sz po hd bc ba bs zs) (bw_W0 a pr gv kn sz po hd bc ba bs zs) (nI (bb_prod f g)) := by
  refine bw_startI (by decide) (Nat.le_of_ble_eq_true rfl) rfl ?_
  intro p e s m below meth c A Q ls hx hb hml hown hts hA hK hw hl hret
  have hown : s.vm.findClass RX0 = some m.cls := hown
  have hl : lv_has ls 5 [(0, .ref a.1), (1, .int (nI f)), (2, .int (nI g))] := hl
  refine lv_iload_n hx hb dX0_product_0 rfl (lv_at hl 1 rfl) ?_
  refine bw_stat ⟨hx, hb, hml, hown, hts⟩ [.int (nI f)] [] (mt_ip1 l D f hf) (va_cwS 1 hts (lw_S q64 q65 q17 q66) rfl rfl rfl (by decide +kernel) ⟨Nat.le_of_ble_eq_true rfl, Nat.le_of_ble_eq_true rfl⟩) hK hA hw rfl hl.1 rfl (Nat.le_of_ble_eq_true rfl) dX0_product_1 ⟨Nat.zero_le _, Nat.zero_le _⟩ (fun H locs hw => ?_)
  refine bw_eq0n (tgt := 14) hx hb dX0_product_4 (by decide) (by decide) ?_
  refine lv_iload_n hx hb dX0_product_7 rfl (lv_at hl 2 rfl) ?_
  refine bw_stat ⟨hx, hb, hml, hown, hts⟩ [.int (nI g)] [] (mt_ip1 l D g hg) (va_cwS 1 hts (lw_S q64 q65 q17 q66) rfl rfl rfl (by decide +kernel) ⟨Nat.le_of_ble_eq_true rfl, Nat.le_of_ble_eq_true rfl⟩) hK hA hw rfl hl.1 rfl (Nat.le_of_ble_eq_true rfl) dX0_product_8 ⟨Nat.zero_le _, Nat.zero_le _⟩ (fun H locs hw => ?_)
  refine bw_ne0y (tgt := 16) hx hb dX0_product_11 (by decide) (by decide) ?_
  refine lv_iconst (v := nI 0) hx hb dX0_product_16 (by decide) ?_
  refine lv_istore_n (lv' := [(3, .int (nI 0)), (0, .ref a.1), (1, .int (nI f)), (2, .int (nI g))]) hx hb dX0_product_17 rfl hl (by decide) rfl (fun ls hl => ?_)
  refine lv_iconst (v := nI 0) hx hb dX0_product_18 (by decide) ?_
  refine lv_istore (lv' := [(4, .int (nI 0)), (3, .int (nI 0)), (0, .ref a.1), (1, .int (nI f)), (2, .int (nI g))]) hx hb dX0_product_19 hl (by decide) rfl (fun ls hl => ?_)
  refine bw_loop (pc := 21) (fun (qq : Nat × Nat) ls H locs => qq.2 ≤ 16 ∧ qq.1 = bb_lin (fun n => bb_tms f n) g qq.2 ∧ lv_has ls 5 [(4, .int (nI qq.2)), (3, .int (nI qq.1)), (0, .ref a.1), (1, .int (nI f)), (2, .int (nI g))] ∧ bw_H D bw_Cl A s.heap (bw_W0 a pr gv kn sz po hd bc ba bs zs) H locs) (fun qq => 16 - qq.2) ?_ (0, 0) ⟨Nat.zero_le _, rfl, lv_sub hl [0, 1, 2, 3, 4] rfl, hw⟩
  rintro ⟨r, i⟩ ls H locs ⟨k21_0, k21_1, hl, hw⟩ ih21
  have k21_0 : i ≤ 16 := k21_0
  have k21_1 : r = bb_lin (fun n => bb_tms f n) g i := k21_1
  have hl : lv_has ls 5 [(4, .int (nI i)), (3, .int (nI r)), (0, .ref a.1), (1, .int (nI f)), (2, .int (nI g))] := hl
  have hw : bw_H D bw_Cl A s.heap (bw_W0 a pr gv kn sz po hd bc ba bs zs) H locs := hw
  refine lv_iload hx hb dX0_product_21 (lv_at hl 0 rfl) ?_
  refine lv_bipush (v := nI 16) hx hb dX0_product_23 (by decide) ?_
  refine bw_cge (tgt := 52) hx hb dX0_product_25 (by decide) (by omega) (by omega) (fun c25 => ?_) (fun c25 => ?_)
  · refine lv_iload_n hx hb dX0_product_52 rfl (lv_at hl 1 rfl) ?_
    refine bw_top (y := nI (bb_prod f g)) (by rw [k21_1, show i = 16 by omega]; rfl) ?_
    exact hret _ _ _ _ hw dX0_product_53
  · refine lv_iload_n hx hb dX0_product_28 rfl (lv_at hl 4 rfl) ?_
    refine lv_iload hx hb dX0_product_29 (lv_at hl 0 rfl) ?_
    refine bw_ishr hx hb dX0_product_31 (by omega) (by omega) ?_
    refine lv_iconst (v := nI 1) hx hb dX0_product_32 (by decide) ?_
    refine bw_iand hx hb dX0_product_33 ?_
    refine bw_bz (tgt := 46) hx hb dX0_product_34 (by decide) (fun c34 => ?_) (fun c34 => ?_)
    · refine lv_iinc (v := nI (i + 1)) (lv' := [(4, .int (nI (i + 1))), (3, .int (nI r)), (0, .ref a.1), (1, .int (nI f)), (2, .int (nI g))]) hx hb dX0_product_46 hl (k := 0) rfl (bw_inc i) (by decide) rfl (fun ls hl => ?_)
      refine lv_goto (tgt := 21) hx hb dX0_product_49 (by decide) ?_
      exact ih21 (r, i + 1) _ _ _ (by show 16 - (i + 1) < 16 - i; omega) ⟨by show (i + 1) ≤ 16; omega, by rw [k21_1]; first | exact (bb_lin_f c34).symm | exact (bb_lin_t c34).symm, lv_sub hl [0, 1, 2, 3, 4] rfl, hw⟩
    · refine lv_iload_n hx hb dX0_product_37 rfl (lv_at hl 1 rfl) ?_
      refine lv_iload_n hx hb dX0_product_38 rfl (lv_at hl 3 rfl) ?_
      refine lv_iload hx hb dX0_product_39 (lv_at hl 0 rfl) ?_
      refine bw_stat ⟨hx, hb, hml, hown, hts⟩ [.int (nI f), .int (nI i)] [.int (nI r)] (mt_times l D f i hf (by omega)) (va_cwS 2 hts (lw_S q84 q85 q17 q86) rfl rfl rfl (by decide +kernel) ⟨Nat.le_of_ble_eq_true rfl, Nat.le_of_ble_eq_true rfl⟩) hK hA hw rfl hl.1 rfl (Nat.le_of_ble_eq_true rfl) dX0_product_41 ⟨Nat.zero_le _, Nat.zero_le _⟩ (fun H locs hw => ?_)
      refine bw_ixor hx hb dX0_product_44 ?_
      refine lv_istore_n (lv' := [(3, .int (nI (r ^^^ (bb_tms f i)))), (4, .int (nI i)), (0, .ref a.1), (1, .int (nI f)), (2, .int (nI g))]) hx hb dX0_product_45 rfl hl (by decide) rfl (fun ls hl => ?_)
      refine lv_iinc (v := nI (i + 1)) (lv' := [(4, .int (nI (i + 1))), (3, .int (nI (r ^^^ (bb_tms f i)))), (0, .ref a.1), (1, .int (nI f)), (2, .int (nI g))]) hx hb dX0_product_46 hl (k := 1) rfl (bw_inc i) (by decide) rfl (fun ls hl => ?_)
      refine lv_goto (tgt := 21) hx hb dX0_product_49 (by decide) ?_
      exact ih21 (r ^^^ (bb_tms f i), i + 1) _ _ _ (by show 16 - (i + 1) < 16 - i; omega) ⟨by show (i + 1) ≤ 16; omega, by rw [k21_1]; first | exact (bb_lin_f c34).symm | exact (bb_lin_t c34).symm, lv_sub hl [0, 1, 2, 3, 4] rfl, hw⟩
set_option maxHeartbeats 4000000 in
set_option maxRecDepth 100000 in
/-- product, the first is no polynomial -/
theorem mt_productX1 (l : Launch) (D : va_G) (a : bw_A0) (pr : Nat) (gv : Nat → Nat) (kn sz : Nat) (po hd : Nat → Nat) (bc : Nat) (ba : Nat → Nat) (bs zs : Nat) (x y : Int32) (hbad : ∀ j : Nat, j < 65536 → x ≠ nI j) : bw_MI l yX0_product (ws_ yX0_product cX0_product 5 (some .int)) ({ frames := 1, cells := 0, slots := 0, locals := 23 }) D bw_Cl (bw_T0 a) [.ref a.1, .int x, .int y] (bw_W0 a pr gv kn sz po hd bc ba bs zs) (bw_W0 a pr gv kn sz po hd bc ba bs zs) (-1) := by
  refine bw_startI (by decide) (Nat.le_of_ble_eq_true rfl) rfl ?_
  intro p e s m below meth c A Q ls hx hb hml hown hts hA hK hw hl hret
  have hown : s.vm.findClass RX0 = some m.cls := hown
  have hl : lv_has ls 5 [(0, .ref a.1), (1, .int x), (2, .int y)] := hl
  refine lv_iload_n hx hb dX0_product_0 rfl (lv_at hl 1 rfl) ?_
  refine bw_stat ⟨hx, hb, hml, hown, hts⟩ [.int x] [] (mt_ip0 l D x hbad) (va_cwS 1 hts (lw_S q64 q65 q17 q66) rfl rfl rfl (by decide +kernel) ⟨Nat.le_of_ble_eq_true rfl, Nat.le_of_ble_eq_true rfl⟩) hK hA hw rfl hl.1 rfl (Nat.le_of_ble_eq_true rfl) dX0_product_1 ⟨Nat.zero_le _, Nat.zero_le _⟩ (fun H locs hw => ?_)
  refine bw_eq0y (tgt := 14) hx hb dX0_product_4 (by decide) (by decide) ?_
  refine lv_iconst (v := -1) hx hb dX0_product_14 (by decide) ?_
  exact hret _ _ _ _ hw dX0_product_15
set_option maxHeartbeats 4000000 in
set_option maxRecDepth 100000 in
/-- product, the second is no polynomial -/
theorem mt_productX2 (l : Launch) (D : va_G) (a : bw_A0) (pr : Nat) (gv : Nat → Nat) (kn sz : Nat) (po hd : Nat → Nat) (bc : Nat) (ba : Nat → Nat) (bs zs : Nat) (f : Nat) (y : Int32) (hf : f < 65536) (hbad : ∀ j : Nat, j < 65536 → y ≠ nI j) : bw_MI l yX0_product (ws_ yX0_product cX0_product 5 (some .int)) ({ frames := 1, cells := 0, slots := 0, locals := 23 }) D bw_Cl (bw_T0 a) [.ref a.1, .int (nI f), .int y] (bw_W0 a pr gv kn sz po hd bc ba bs zs) (bw_W0 a pr gv kn sz po hd bc ba bs zs) (-1) := by
  refine bw_startI (by decide) (Nat.le_of_ble_eq_true rfl) rfl ?_
  intro p e s m below meth c A Q ls hx hb hml hown hts hA hK hw hl hret
  have hown : s.vm.findClass RX0 = some m.cls := hown
  have hl : lv_has ls 5 [(0, .ref a.1), (1, .int (nI f)), (2, .int y)] := hl
  refine lv_iload_n hx hb dX0_product_0 rfl (lv_at hl 1 rfl) ?_
  refine bw_stat ⟨hx, hb, hml, hown, hts⟩ [.int (nI f)] [] (mt_ip1 l D f hf) (va_cwS 1 hts (lw_S q64 q65 q17 q66) rfl rfl rfl (by decide +kernel) ⟨Nat.le_of_ble_eq_true rfl, Nat.le_of_ble_eq_true rfl⟩) hK hA hw rfl hl.1 rfl (Nat.le_of_ble_eq_true rfl) dX0_product_1 ⟨Nat.zero_le _, Nat.zero_le _⟩ (fun H locs hw => ?_)
  refine bw_eq0n (tgt := 14) hx hb dX0_product_4 (by decide) (by decide) ?_
  refine lv_iload_n hx hb dX0_product_7 rfl (lv_at hl 2 rfl) ?_
  refine bw_stat ⟨hx, hb, hml, hown, hts⟩ [.int y] [] (mt_ip0 l D y hbad) (va_cwS 1 hts (lw_S q64 q65 q17 q66) rfl rfl rfl (by decide +kernel) ⟨Nat.le_of_ble_eq_true rfl, Nat.le_of_ble_eq_true rfl⟩) hK hA hw rfl hl.1 rfl (Nat.le_of_ble_eq_true rfl) dX0_product_8 ⟨Nat.zero_le _, Nat.zero_le _⟩ (fun H locs hw => ?_)
  refine bw_ne0n (tgt := 16) hx hb dX0_product_11 (by decide) (by decide) ?_
  refine lv_iconst (v := -1) hx hb dX0_product_14 (by decide) ?_
  exact hret _ _ _ _ hw dX0_product_15
set_option maxHeartbeats 4000000 in
set_option maxRecDepth 100000 in
/-- value at a point -/
theorem mt_value (l : Launch) (D : va_G) (a : bw_A0) (pr : Nat) (gv : Nat → Nat) (kn sz : Nat) (po hd : Nat → Nat) (bc : Nat) (ba : Nat → Nat) (bs zs : Nat) (f t : Nat) (hf : f < 65536) (ht : t < 16) : bw_MI l yX0_value (ws_ yX0_value cX0_value 3 (some .int)) ({ frames := 1, cells := 0, slots := 0, locals := 23 }) D bw_Cl (bw_T0 a) [.ref a.1, .int (nI f), .int (nI t)] (bw_W0 a pr gv kn sz po hd bc ba bs zs) (bw_W0 a pr gv kn sz po hd bc ba bs zs) (nI (bb_val f t)) := by
  refine bw_startI (by decide) (Nat.le_of_ble_eq_true rfl) rfl ?_
  intro p e s m below meth c A Q ls hx hb hml hown hts hA hK hw hl hret
  have hown : s.vm.findClass RX0 = some m.cls := hown
  have hl : lv_has ls 3 [(0, .ref a.1), (1, .int (nI f)), (2, .int (nI t))] := hl
  refine lv_iload_n hx hb dX0_value_0 rfl (lv_at hl 1 rfl) ?_
  refine bw_stat ⟨hx, hb, hml, hown, hts⟩ [.int (nI f)] [] (mt_ip1 l D f hf) (va_cwS 1 hts (lw_S q64 q65 q17 q66) rfl rfl rfl (by decide +kernel) ⟨Nat.le_of_ble_eq_true rfl, Nat.le_of_ble_eq_true rfl⟩) hK hA hw rfl hl.1 rfl (Nat.le_of_ble_eq_true rfl) dX0_value_1 ⟨Nat.zero_le _, Nat.zero_le _⟩ (fun H locs hw => ?_)
  refine bw_eq0n (tgt := 25) hx hb dX0_value_4 (by decide) (by decide) ?_
  refine lv_iload_n hx hb dX0_value_7 rfl (lv_at hl 2 rfl) ?_
  refine bw_lt0n (tgt := 25) hx hb dX0_value_8 (by decide) (by omega) ?_
  refine lv_iload_n hx hb dX0_value_11 rfl (lv_at hl 2 rfl) ?_
  refine lv_bipush (v := nI 16) hx hb dX0_value_12 (by decide) ?_
  refine bw_cge (tgt := 25) hx hb dX0_value_14 (by decide) (by omega) (by omega) (fun c14 => ?_) (fun c14 => ?_)
  · exact absurd c14 (by omega)
  · refine lv_iload_n hx hb dX0_value_17 rfl (lv_at hl 1 rfl) ?_
    refine lv_iload_n hx hb dX0_value_18 rfl (lv_at hl 2 rfl) ?_
    refine bw_stat ⟨hx, hb, hml, hown, hts⟩ [.int (nI f), .int (nI t)] [] (mt_valueAt l D f t hf (by omega)) (va_cwS 2 hts (lw_S q91 q92 q17 q93) rfl rfl rfl (by decide +kernel) ⟨Nat.le_of_ble_eq_true rfl, Nat.le_of_ble_eq_true rfl⟩) hK hA hw rfl hl.1 rfl (Nat.le_of_ble_eq_true rfl) dX0_value_19 ⟨Nat.zero_le _, Nat.zero_le _⟩ (fun H locs hw => ?_)
    refine lv_goto (tgt := 26) hx hb dX0_value_22 (by decide) ?_
    exact hret _ _ _ _ hw dX0_value_26
set_option maxHeartbeats 4000000 in
set_option maxRecDepth 100000 in
/-- value of no polynomial -/
theorem mt_valueX1 (l : Launch) (D : va_G) (a : bw_A0) (pr : Nat) (gv : Nat → Nat) (kn sz : Nat) (po hd : Nat → Nat) (bc : Nat) (ba : Nat → Nat) (bs zs : Nat) (x y : Int32) (hbad : ∀ j : Nat, j < 65536 → x ≠ nI j) : bw_MI l yX0_value (ws_ yX0_value cX0_value 3 (some .int)) ({ frames := 1, cells := 0, slots := 0, locals := 23 }) D bw_Cl (bw_T0 a) [.ref a.1, .int x, .int y] (bw_W0 a pr gv kn sz po hd bc ba bs zs) (bw_W0 a pr gv kn sz po hd bc ba bs zs) (-1) := by
  refine bw_startI (by decide) (Nat.le_of_ble_eq_true rfl) rfl ?_
  intro p e s m below meth c A Q ls hx hb hml hown hts hA hK hw hl hret
  have hown : s.vm.findClass RX0 = some m.cls := hown
  have hl : lv_has ls 3 [(0, .ref a.1), (1, .int x), (2, .int y)] := hl
  refine lv_iload_n hx hb dX0_value_0 rfl (lv_at hl 1 rfl) ?_
  refine bw_stat ⟨hx, hb, hml, hown, hts⟩ [.int x] [] (mt_ip0 l D x hbad) (va_cwS 1 hts (lw_S q64 q65 q17 q66) rfl rfl rfl (by decide +kernel) ⟨Nat.le_of_ble_eq_true rfl, Nat.le_of_ble_eq_true rfl⟩) hK hA hw rfl hl.1 rfl (Nat.le_of_ble_eq_true rfl) dX0_value_1 ⟨Nat.zero_le _, Nat.zero_le _⟩ (fun H locs hw => ?_)
  refine bw_eq0y (tgt := 25) hx hb dX0_value_4 (by decide) (by decide) ?_
  refine lv_iconst (v := -1) hx hb dX0_value_25 (by decide) ?_
  exact hret _ _ _ _ hw dX0_value_26
set_option maxHeartbeats 4000000 in
set_option maxRecDepth 100000 in
/-- value at no point -/
theorem mt_valueX2 (l : Launch) (D : va_G) (a : bw_A0) (pr : Nat) (gv : Nat → Nat) (kn sz : Nat) (po hd : Nat → Nat) (bc : Nat) (ba : Nat → Nat) (bs zs : Nat) (f : Nat) (y : Int32) (hf : f < 65536) (hbad : ∀ j : Nat, j < 16 → y ≠ nI j) : bw_MI l yX0_value (ws_ yX0_value cX0_value 3 (some .int)) ({ frames := 1, cells := 0, slots := 0, locals := 23 }) D bw_Cl (bw_T0 a) [.ref a.1, .int (nI f), .int y] (bw_W0 a pr gv kn sz po hd bc ba bs zs) (bw_W0 a pr gv kn sz po hd bc ba bs zs) (-1) := by
  refine bw_startI (by decide) (Nat.le_of_ble_eq_true rfl) rfl ?_
  intro p e s m below meth c A Q ls hx hb hml hown hts hA hK hw hl hret
  have hown : s.vm.findClass RX0 = some m.cls := hown
  have hl : lv_has ls 3 [(0, .ref a.1), (1, .int (nI f)), (2, .int y)] := hl
  refine lv_iload_n hx hb dX0_value_0 rfl (lv_at hl 1 rfl) ?_
  refine bw_stat ⟨hx, hb, hml, hown, hts⟩ [.int (nI f)] [] (mt_ip1 l D f hf) (va_cwS 1 hts (lw_S q64 q65 q17 q66) rfl rfl rfl (by decide +kernel) ⟨Nat.le_of_ble_eq_true rfl, Nat.le_of_ble_eq_true rfl⟩) hK hA hw rfl hl.1 rfl (Nat.le_of_ble_eq_true rfl) dX0_value_1 ⟨Nat.zero_le _, Nat.zero_le _⟩ (fun H locs hw => ?_)
  refine bw_eq0n (tgt := 25) hx hb dX0_value_4 (by decide) (by decide) ?_
  refine lv_iload_n hx hb dX0_value_7 rfl (lv_at hl 2 rfl) ?_
  refine lv_if_lt (tgt := 25) hx hb dX0_value_8 (by decide) (fun c8 => ?_) (fun c8 => ?_)
  · refine lv_iconst (v := -1) hx hb dX0_value_25 (by decide) ?_
    exact hret _ _ _ _ hw dX0_value_26
  · obtain ⟨j, hj, rfl⟩ := nI_of c8
    refine lv_iload_n hx hb dX0_value_11 rfl (lv_at hl 2 rfl) ?_
    refine lv_bipush (v := nI 16) hx hb dX0_value_12 (by decide) ?_
    refine bw_cge (tgt := 25) hx hb dX0_value_14 (by decide) (by omega) (by omega) (fun c14 => ?_) (fun c14 => ?_)
    · refine lv_iconst (v := -1) hx hb dX0_value_25 (by decide) ?_
      exact hret _ _ _ _ hw dX0_value_26
    · exact absurd rfl (hbad j (by omega))
set_option maxHeartbeats 4000000 in
set_option maxRecDepth 100000 in
/-- divisor: the first whose head divides m -/
theorem mt_divisor (l : Launch) (D : va_G) (a : bw_A0) (pr : Nat) (gv : Nat → Nat) (kn : Nat) (st : bb_St) (bc : Nat) (ba : Nat → Nat) (bs zs : Nat) (u : Nat) (hok : bb_ok st) (hu : u < 16) : bw_MI l yX0_divisor (ws_ yX0_divisor cX0_divisor 3 (some .int)) ({ frames := 0, cells := 0, slots := 0, locals := 0 }) D bw_Cl (bw_T0 a) [.ref a.1, .int (nI u)] (bw_W0 a pr gv kn st.1 st.2.1 st.2.2 bc ba bs zs) (bw_W0 a pr gv kn st.1 st.2.1 st.2.2 bc ba bs zs) (bb_oI (bb_dv st.2.2 u st.1 0)) := by
  refine bw_startI (by decide) (Nat.le_of_ble_eq_true rfl) rfl ?_
  intro p e s m below meth c A Q ls hx hb hml hown hts hA hK hw hl hret
  have hown : s.vm.findClass RX0 = some m.cls := hown
  have hl : lv_has ls 3 [(0, .ref a.1), (1, .int (nI u))] := hl
  have hz := hok.1
  refine lv_iconst (v := nI 0) hx hb dX0_divisor_0 (by decide) ?_
  refine lv_istore_n (lv' := [(2, .int (nI 0)), (0, .ref a.1), (1, .int (nI u))]) hx hb dX0_divisor_1 rfl hl (by decide) rfl (fun ls hl => ?_)
  refine bw_loop (pc := 2) (fun (qq : Nat) ls H locs => qq ≤ st.1 ∧ bb_dv st.2.2 u (st.1 - qq) qq = bb_dv st.2.2 u st.1 0 ∧ lv_has ls 3 [(2, .int (nI qq)), (0, .ref a.1), (1, .int (nI u))] ∧ bw_H D bw_Cl A s.heap (bw_W0 a pr gv kn st.1 st.2.1 st.2.2 bc ba bs zs) H locs) (fun qq => st.1 - qq) ?_ 0 ⟨Nat.zero_le _, rfl, lv_sub hl [0, 1, 2] rfl, hw⟩
  rintro i ls H locs ⟨k2_0, k2_1, hl, hw⟩ ih2
  have k2_0 : i ≤ st.1 := k2_0
  have k2_1 : bb_dv st.2.2 u (st.1 - i) i = bb_dv st.2.2 u st.1 0 := k2_1
  have hl : lv_has ls 3 [(2, .int (nI i)), (0, .ref a.1), (1, .int (nI u))] := hl
  have hw : bw_H D bw_Cl A s.heap (bw_W0 a pr gv kn st.1 st.2.1 st.2.2 bc ba bs zs) H locs := hw
  refine lv_iload_n hx hb dX0_divisor_2 rfl (lv_at hl 0 rfl) ?_
  refine lv_aload_n hx hb dX0_divisor_3 rfl (lv_at hl 1 rfl) ?_
  refine bw_g0_sz hx hb hts hown hK hw dX0_divisor_4 ?_
  refine bw_cge (tgt := 31) hx hb dX0_divisor_7 (by decide) (by omega) (by omega) (fun c7 => ?_) (fun c7 => ?_)
  · refine lv_iconst (v := -1) hx hb dX0_divisor_31 (by decide) ?_
    refine bw_top (y := bb_oI (bb_dv st.2.2 u st.1 0)) (by rw [← k2_1, bb_dv_e c7]; rfl) ?_
    exact hret _ _ _ _ hw dX0_divisor_32
  · have hh := (hok.2 i c7).2
    refine lv_aload_n hx hb dX0_divisor_10 rfl (lv_at hl 1 rfl) ?_
    refine bw_g0_hd hx hb hts hown hK hw dX0_divisor_11 ?_
    refine lv_iload_n hx hb dX0_divisor_14 rfl (lv_at hl 0 rfl) ?_
    refine bw_l0_hd hx hb hK hw (by omega) dX0_divisor_15 ?_
    refine lv_iload_n hx hb dX0_divisor_16 rfl (lv_at hl 2 rfl) ?_
    refine lv_iconst (v := nI 4294967295) hx hb dX0_divisor_17 (by decide) ?_
    refine bw_ixor hx hb dX0_divisor_18 ?_
    refine bw_iand hx hb dX0_divisor_19 ?_
    refine bw_sne (tgt := 25) hx hb dX0_divisor_20 (by decide) (by omega) (by omega) (fun c20 => ?_) (fun c20 => ?_)
    · refine lv_iinc (v := nI (i + 1)) (lv' := [(2, .int (nI (i + 1))), (0, .ref a.1), (1, .int (nI u))]) hx hb dX0_divisor_25 hl (k := 0) rfl (bw_inc i) (by decide) rfl (fun ls hl => ?_)
      refine lv_goto (tgt := 2) hx hb dX0_divisor_28 (by decide) ?_
      exact ih2 (i + 1) _ _ _ (by show st.1 - (i + 1) < st.1 - i; omega) ⟨by show (i + 1) ≤ st.1; omega, by rw [← k2_1]; exact (bb_dv_f c7 c20).symm, lv_sub hl [0, 1, 2] rfl, hw⟩
    · refine lv_iload_n hx hb dX0_divisor_23 rfl (lv_at hl 0 rfl) ?_
      refine bw_top (y := bb_oI (bb_dv st.2.2 u st.1 0)) (by rw [← k2_1, bb_dv_t c7 c20]; rfl) ?_
      exact hret _ _ _ _ hw dX0_divisor_24
set_option maxHeartbeats 4000000 in
set_option maxRecDepth 100000 in
/-- reduce: monomials taken away from the greatest down -/
theorem mt_reduce (l : Launch) (D : va_G) (a : bw_A0) (pr : Nat) (gv : Nat → Nat) (kn : Nat) (st : bb_St) (bc : Nat) (ba : Nat → Nat) (bs zs : Nat) (f : Nat) (hok : bb_ok st) (hf : f < 65536) : bw_MI l yX0_reduce (ws_ yX0_reduce cX0_reduce 5 (some .int)) ({ frames := 1, cells := 0, slots := 0, locals := 23 }) D bw_Cl (bw_T0 a) [.ref a.1, .int (nI f)] (bw_W0 a pr gv kn st.1 st.2.1 st.2.2 bc ba bs zs) (bw_W0 a pr gv kn st.1 st.2.1 st.2.2 bc ba bs zs) (nI (bb_red (bb_bq st) f)) := by
  refine bw_startI (by decide) (Nat.le_of_ble_eq_true rfl) rfl ?_
  intro p e s m below meth c A Q ls hx hb hml hown hts hA hK hw hl hret
  have hown : s.vm.findClass RX0 = some m.cls := hown
  have hl : lv_has ls 5 [(0, .ref a.1), (1, .int (nI f))] := hl
  have hz := hok.1
  refine lv_iload_n hx hb dX0_reduce_0 rfl (lv_at hl 1 rfl) ?_
  refine lv_istore_n (lv' := [(2, .int (nI f)), (0, .ref a.1), (1, .int (nI f))]) hx hb dX0_reduce_1 rfl hl (by decide) rfl (fun ls hl => ?_)
  refine lv_bipush (v := nI 15) hx hb dX0_reduce_2 (by decide) ?_
  refine lv_istore_n (lv' := [(3, .int (nI 15)), (2, .int (nI f)), (0, .ref a.1), (1, .int (nI f))]) hx hb dX0_reduce_4 rfl hl (by decide) rfl (fun ls hl => ?_)
  have hl : lv_has ls 5 [(3, .int (bw_dn 16)), (2, .int (nI f)), (0, .ref a.1), (1, .int (nI f))] := by rw [show bw_dn 16 = nI 15 from bw_dn_s 15]; exact hl
  refine bw_loop (pc := 5) (fun (qq : Nat × Nat) ls H locs => qq.2 ≤ 16 ∧ qq.1 < 65536 ∧ bb_rd (bb_bq st) qq.2 qq.1 = bb_red (bb_bq st) f ∧ lv_has ls 5 [(3, .int (bw_dn qq.2)), (2, .int (nI qq.1)), (0, .ref a.1), (1, .int (nI f))] ∧ bw_H D bw_Cl A s.heap (bw_W0 a pr gv kn st.1 st.2.1 st.2.2 bc ba bs zs) H locs) (fun qq => qq.2) ?_ (f, 16) ⟨Nat.le_refl _, hf, rfl, lv_sub hl [0, 1, 2, 3] rfl, hw⟩
  rintro ⟨r, k⟩ ls H locs ⟨k5_0, k5_1, k5_2, hl, hw⟩ ih5
  have k5_0 : k ≤ 16 := k5_0
  have k5_1 : r < 65536 := k5_1
  have k5_2 : bb_rd (bb_bq st) k r = bb_red (bb_bq st) f := k5_2
  have hl : lv_has ls 5 [(3, .int (bw_dn k)), (2, .int (nI r)), (0, .ref a.1), (1, .int (nI f))] := hl
  have hw : bw_H D bw_Cl A s.heap (bw_W0 a pr gv kn st.1 st.2.1 st.2.2 bc ba bs zs) H locs := hw
  rcases Nat.eq_zero_or_pos k with z0 | z0
  · subst z0
    refine lv_iload_n hx hb dX0_reduce_5 rfl (lv_at hl 0 rfl) ?_
    refine bw_lt0y (tgt := 63) hx hb dX0_reduce_6 (by decide) bw_dn_0 ?_
    refine lv_iload_n hx hb dX0_reduce_63 rfl (lv_at hl 1 rfl) ?_
    refine bw_top (y := nI (bb_red (bb_bq st) f)) (by rw [← k5_2]; rfl) ?_
    exact hret _ _ _ _ hw dX0_reduce_64
  · obtain ⟨k', rfl⟩ : ∃ z, k = z + 1 := ⟨k - 1, by omega⟩
    rw [bw_dn_s] at hl
    refine lv_iload_n hx hb dX0_reduce_5 rfl (lv_at hl 0 rfl) ?_
    refine bw_lt0n (tgt := 63) hx hb dX0_reduce_6 (by decide) (by omega) ?_
    refine lv_iload_n hx hb dX0_reduce_9 rfl (lv_at hl 1 rfl) ?_
    refine lv_iload_n hx hb dX0_reduce_10 rfl (lv_at hl 0 rfl) ?_
    refine bw_ishr hx hb dX0_reduce_11 (by omega) (by omega) ?_
    refine lv_iconst (v := nI 1) hx hb dX0_reduce_12 (by decide) ?_
    refine bw_iand hx hb dX0_reduce_13 ?_
    refine bw_bz (tgt := 25) hx hb dX0_reduce_14 (by decide) (fun c14 => ?_) (fun c14 => ?_)
    · refine lv_iconst (v := -1) hx hb dX0_reduce_25 (by decide) ?_
      refine lv_istore (lv' := [(4, .int ((-1))), (3, .int (nI k')), (2, .int (nI r)), (0, .ref a.1), (1, .int (nI f))]) hx hb dX0_reduce_26 hl (by decide) rfl (fun ls hl => ?_)
      refine lv_iload hx hb dX0_reduce_28 (lv_at hl 0 rfl) ?_
      refine bw_lt0y (tgt := 57) hx hb dX0_reduce_30 (by decide) (by decide) ?_
      refine lv_iinc (v := bw_dn k') (lv' := [(3, .int (bw_dn k')), (4, .int ((-1))), (2, .int (nI r)), (0, .ref a.1), (1, .int (nI f))]) hx hb dX0_reduce_57 hl (k := 1) rfl (bw_dec k') (by decide) rfl (fun ls hl => ?_)
      refine lv_goto (tgt := 5) hx hb dX0_reduce_60 (by decide) ?_
      exact ih5 (r, k') _ _ _ (by show k' < (k' + 1); omega) ⟨by show k' ≤ 16; omega, by first | exact k5_1 | exact bb_x16 k5_1 (bb_tms_lt _ (bb_df_lt _ (by omega) _ hh)), by first | exact (bb_rd_f c14).symm.trans k5_2 | (rw [← k5_2, bb_rd_t c14, bb_bq_some ho]; done) | (rw [← k5_2, bb_rd_t c14, bb_bq_none ho, Nat.xor_zero]; done), lv_sub hl [0, 2, 3, 4] rfl, hw⟩
    · refine lv_aload_n hx hb dX0_reduce_17 rfl (lv_at hl 2 rfl) ?_
      refine lv_iload_n hx hb dX0_reduce_18 rfl (lv_at hl 0 rfl) ?_
      refine bw_ownI ⟨hx, hb, hml, hown, hts⟩ [.int (nI k')] [] (mt_divisor l D a pr gv kn st bc ba bs zs k' hok (by omega)) (cwV 1 hts (lw_V q114 q116 qs5 q17 q117) rfl rfl rfl (by decide +kernel) ⟨Nat.le_of_ble_eq_true rfl, Nat.le_of_ble_eq_true rfl⟩) 0 0 rfl rfl hK hA hw rfl hl.1 rfl (Nat.le_of_ble_eq_true rfl) dX0_reduce_19 ⟨Nat.zero_le _, Nat.zero_le _⟩ (fun H locs hw => ?_)
      rcases ho : bb_dv st.2.2 k' st.1 0 with _ | g
      · refine bw_top (y := -1) rfl ?_
        refine lv_goto (tgt := 26) hx hb dX0_reduce_22 (by decide) ?_
        refine lv_istore (lv' := [(4, .int ((-1))), (3, .int (nI k')), (2, .int (nI r)), (0, .ref a.1), (1, .int (nI f))]) hx hb dX0_reduce_26 hl (by decide) rfl (fun ls hl => ?_)
        refine lv_iload hx hb dX0_reduce_28 (lv_at hl 0 rfl) ?_
        refine bw_lt0y (tgt := 57) hx hb dX0_reduce_30 (by decide) (by decide) ?_
        refine lv_iinc (v := bw_dn k') (lv' := [(3, .int (bw_dn k')), (4, .int ((-1))), (2, .int (nI r)), (0, .ref a.1), (1, .int (nI f))]) hx hb dX0_reduce_57 hl (k := 1) rfl (bw_dec k') (by decide) rfl (fun ls hl => ?_)
        refine lv_goto (tgt := 5) hx hb dX0_reduce_60 (by decide) ?_
        exact ih5 (r, k') _ _ _ (by show k' < (k' + 1); omega) ⟨by show k' ≤ 16; omega, by first | exact k5_1 | exact bb_x16 k5_1 (bb_tms_lt _ (bb_df_lt _ (by omega) _ hh)), by first | exact (bb_rd_f c14).symm.trans k5_2 | (rw [← k5_2, bb_rd_t c14, bb_bq_some ho]; done) | (rw [← k5_2, bb_rd_t c14, bb_bq_none ho, Nat.xor_zero]; done), lv_sub hl [0, 2, 3, 4] rfl, hw⟩
      · refine bw_top (y := nI g) rfl ?_
        obtain ⟨-, hg2, hg3⟩ := bb_dv_some ho
        have hgz : g < st.1 := by omega
        obtain ⟨hp, hh⟩ := hok.2 g hgz
        refine lv_goto (tgt := 26) hx hb dX0_reduce_22 (by decide) ?_
        refine lv_istore (lv' := [(4, .int (nI g)), (3, .int (nI k')), (2, .int (nI r)), (0, .ref a.1), (1, .int (nI f))]) hx hb dX0_reduce_26 hl (by decide) rfl (fun ls hl => ?_)
        refine lv_iload hx hb dX0_reduce_28 (lv_at hl 0 rfl) ?_
        refine bw_lt0n (tgt := 57) hx hb dX0_reduce_30 (by decide) (by omega) ?_
        refine lv_iload_n hx hb dX0_reduce_33 rfl (lv_at hl 2 rfl) ?_
        refine lv_aload_n hx hb dX0_reduce_34 rfl (lv_at hl 3 rfl) ?_
        refine bw_g0_po hx hb hts hown hK hw dX0_reduce_35 ?_
        refine lv_iload hx hb dX0_reduce_38 (lv_at hl 0 rfl) ?_
        refine bw_l0_po hx hb hK hw (by omega) dX0_reduce_40 ?_
        refine lv_iload_n hx hb dX0_reduce_41 rfl (lv_at hl 1 rfl) ?_
        refine lv_aload_n hx hb dX0_reduce_42 rfl (lv_at hl 3 rfl) ?_
        refine bw_g0_hd hx hb hts hown hK hw dX0_reduce_43 ?_
        refine lv_iload hx hb dX0_reduce_46 (lv_at hl 0 rfl) ?_
        refine bw_l0_hd hx hb hK hw (by omega) dX0_reduce_48 ?_
        refine lv_iconst (v := nI 4294967295) hx hb dX0_reduce_49 (by decide) ?_
        refine bw_ixor hx hb dX0_reduce_50 ?_
        refine bw_iand hx hb dX0_reduce_51 ?_
        refine bw_topn (bw_nsub k' (by omega) (st.2.2 g) (by omega)) ?_
        refine bw_stat ⟨hx, hb, hml, hown, hts⟩ [.int (nI (st.2.1 g)), .int (nI (bb_df k' (st.2.2 g)))] [.int (nI r)] (mt_times l D (st.2.1 g) (bb_df k' (st.2.2 g)) hp (bb_df_lt _ (by omega) _ hh)) (va_cwS 2 hts (lw_S q84 q85 q17 q86) rfl rfl rfl (by decide +kernel) ⟨Nat.le_of_ble_eq_true rfl, Nat.le_of_ble_eq_true rfl⟩) hK hA hw rfl hl.1 rfl (Nat.le_of_ble_eq_true rfl) dX0_reduce_52 ⟨Nat.zero_le _, Nat.zero_le _⟩ (fun H locs hw => ?_)
        refine bw_ixor hx hb dX0_reduce_55 ?_
        refine lv_istore_n (lv' := [(2, .int (nI (r ^^^ (bb_tms (st.2.1 g) (bb_df k' (st.2.2 g)))))), (4, .int (nI g)), (3, .int (nI k')), (0, .ref a.1), (1, .int (nI f))]) hx hb dX0_reduce_56 rfl hl (by decide) rfl (fun ls hl => ?_)
        refine lv_iinc (v := bw_dn k') (lv' := [(3, .int (bw_dn k')), (2, .int (nI (r ^^^ (bb_tms (st.2.1 g) (bb_df k' (st.2.2 g)))))), (4, .int (nI g)), (0, .ref a.1), (1, .int (nI f))]) hx hb dX0_reduce_57 hl (k := 2) rfl (bw_dec k') (by decide) rfl (fun ls hl => ?_)
        refine lv_goto (tgt := 5) hx hb dX0_reduce_60 (by decide) ?_
        exact ih5 (r ^^^ (bb_tms (st.2.1 g) (bb_df k' (st.2.2 g))), k') _ _ _ (by show k' < (k' + 1); omega) ⟨by show k' ≤ 16; omega, by first | exact k5_1 | exact bb_x16 k5_1 (bb_tms_lt _ (bb_df_lt _ (by omega) _ hh)), by first | exact (bb_rd_f c14).symm.trans k5_2 | (rw [← k5_2, bb_rd_t c14, bb_bq_some ho]; done) | (rw [← k5_2, bb_rd_t c14, bb_bq_none ho, Nat.xor_zero]; done), lv_sub hl [0, 1, 3, 4] rfl, hw⟩
end
section
/-! WALKS 22: completing -/
set_option maxHeartbeats 4000000 in
set_option maxRecDepth 100000 in
/-- takeIn -/
theorem mt_takeIn (l : Launch) (D : va_G) (a : bw_A0) (pr : Nat) (gv : Nat → Nat) (kn : Nat) (st : bb_St) (bc : Nat) (ba : Nat → Nat) (bs zs : Nat) (f : Nat) (hok : bb_ok st) (hf : f < 65536) : bw_MI l yX0_takeIn (ws_ yX0_takeIn cX0_takeIn 3 (some .boolean)) ({ frames := 2, cells := 0, slots := 0, locals := 47 }) D bw_Cl (bw_T0 a) [.ref a.1, .int (nI f)] (bw_W0 a pr gv kn st.1 st.2.1 st.2.2 bc ba bs zs) (bw_W0 a pr gv kn ((bb_tk st f).1) ((bb_tk st f).2.1) ((bb_tk st f).2.2) bc ba bs zs) (bw_bI (bb_tkb st f)) := by
  refine bw_startI (by decide) (Nat.le_of_ble_eq_true rfl) (bw_bI_n _) ?_
  intro p e s m below meth c A Q ls hx hb hml hown hts hA hK hw hl hret
  have hown : s.vm.findClass RX0 = some m.cls := hown
  have hl : lv_has ls 3 [(0, .ref a.1), (1, .int (nI f))] := hl
  have hz := hok.1
  have hR : bb_red (bb_bq st) f < 65536 := bb_red_ok hok hf
  refine lv_aload_n hx hb dX0_takeIn_0 rfl (lv_at hl 0 rfl) ?_
  refine lv_iload_n hx hb dX0_takeIn_1 rfl (lv_at hl 1 rfl) ?_
  refine bw_ownI ⟨hx, hb, hml, hown, hts⟩ [.int (nI f)] [] (mt_reduce l D a pr gv kn st bc ba bs zs f hok hf) (cwV 1 hts (lw_V q110 q112 qs4 q17 q113) rfl rfl rfl (by decide +kernel) ⟨Nat.le_of_ble_eq_true rfl, Nat.le_of_ble_eq_true rfl⟩) 0 0 rfl rfl hK hA hw rfl hl.1 rfl (Nat.le_of_ble_eq_true rfl) dX0_takeIn_2 ⟨Nat.zero_le _, Nat.zero_le _⟩ (fun H locs hw => ?_)
  refine lv_istore_n (lv' := [(2, .int (nI (bb_red (bb_bq st) f))), (0, .ref a.1), (1, .int (nI f))]) hx hb dX0_takeIn_5 rfl hl (by decide) rfl (fun ls hl => ?_)
  refine lv_iload_n hx hb dX0_takeIn_6 rfl (lv_at hl 0 rfl) ?_
  refine bw_eq0 (tgt := 19) hx hb dX0_takeIn_7 (by decide) (by omega) (fun c7 => ?_) (fun c7 => ?_)
  · refine lv_iconst (v := nI 0) hx hb dX0_takeIn_19 (by decide) ?_
    have hq : bb_red (bb_bq st) f = 0 ∨ 32 ≤ st.1 := by first | exact Or.inl c7 | exact Or.inr c16
    rw [bb_tk_0 hq] at hret
    refine bw_top (y := bw_bI (bb_tkb st f)) (by unfold bb_tkb; rw [decide_eq_true hq]; rfl) ?_
    exact hret _ _ _ _ hw dX0_takeIn_20
  · refine lv_aload_n hx hb dX0_takeIn_10 rfl (lv_at hl 1 rfl) ?_
    refine bw_g0_sz hx hb hts hown hK hw dX0_takeIn_11 ?_
    refine lv_bipush (v := nI 32) hx hb dX0_takeIn_14 (by decide) ?_
    refine bw_clt (tgt := 21) hx hb dX0_takeIn_16 (by decide) (by omega) (by omega) (fun c16 => ?_) (fun c16 => ?_)
    · refine lv_aload_n hx hb dX0_takeIn_21 rfl (lv_at hl 1 rfl) ?_
      refine bw_g0_po hx hb hts hown hK hw dX0_takeIn_22 ?_
      refine lv_aload_n hx hb dX0_takeIn_25 rfl (lv_at hl 1 rfl) ?_
      refine bw_g0_sz hx hb hts hown hK hw dX0_takeIn_26 ?_
      refine lv_iload_n hx hb dX0_takeIn_29 rfl (lv_at hl 0 rfl) ?_
      refine bw_s0_po hx hb hK hw (by omega) dX0_takeIn_30 (fun H locs hw => ?_)
      refine lv_aload_n hx hb dX0_takeIn_31 rfl (lv_at hl 1 rfl) ?_
      refine bw_g0_hd hx hb hts hown hK hw dX0_takeIn_32 ?_
      refine lv_aload_n hx hb dX0_takeIn_35 rfl (lv_at hl 1 rfl) ?_
      refine bw_g0_sz hx hb hts hown hK hw dX0_takeIn_36 ?_
      refine lv_iload_n hx hb dX0_takeIn_39 rfl (lv_at hl 0 rfl) ?_
      refine bw_stat ⟨hx, hb, hml, hown, hts⟩ [.int (nI (bb_red (bb_bq st) f))] [.int (nI st.1), .ref a.2.2.2.1] (mt_headOf l D (bb_red (bb_bq st) f) hR) (va_cwS 1 hts (lw_S q118 q119 q17 q120) rfl rfl rfl (by decide +kernel) ⟨Nat.le_of_ble_eq_true rfl, Nat.le_of_ble_eq_true rfl⟩) hK hA hw rfl hl.1 rfl (Nat.le_of_ble_eq_true rfl) dX0_takeIn_40 ⟨Nat.zero_le _, Nat.zero_le _⟩ (fun H locs hw => ?_)
      refine bw_top (bb_hI_eq (n := 16) hR c7) ?_
      have hH := bb_hd_16 (bb_red (bb_bq st) f)
      refine lv_i2b hx hb dX0_takeIn_43 (bw_i8 _ (by omega)) ?_
      refine bw_s0_hd hx hb hK hw (by omega) (by omega) dX0_takeIn_44 (fun H locs hw => ?_)
      refine lv_aload_n hx hb dX0_takeIn_45 rfl (lv_at hl 1 rfl) ?_
      refine lv_dup hx hb dX0_takeIn_46 rfl ?_
      refine bw_g0_sz hx hb hts hown hK hw dX0_takeIn_47 ?_
      refine lv_iconst (v := nI 1) hx hb dX0_takeIn_50 (by decide) ?_
      refine bw_iadd hx hb dX0_takeIn_51 ?_
      refine bw_p0_sz hx hb hts hown hK hw dX0_takeIn_52 (fun H locs hw => ?_)
      refine lv_iconst (v := nI 1) hx hb dX0_takeIn_55 (by decide) ?_
      rw [bb_tk_1 c7 c16] at hret
      refine bw_top (y := bw_bI (bb_tkb st f)) (by unfold bb_tkb; rw [decide_eq_false (fun q => q.elim c7 (fun z => by omega))]; rfl) ?_
      exact hret _ _ _ _ hw dX0_takeIn_56
    · refine lv_iconst (v := nI 0) hx hb dX0_takeIn_19 (by decide) ?_
      have hq : bb_red (bb_bq st) f = 0 ∨ 32 ≤ st.1 := by first | exact Or.inl c7 | exact Or.inr c16
      rw [bb_tk_0 hq] at hret
      refine bw_top (y := bw_bI (bb_tkb st f)) (by unfold bb_tkb; rw [decide_eq_true hq]; rfl) ?_
      exact hret _ _ _ _ hw dX0_takeIn_20
set_option maxHeartbeats 4000000 in
set_option maxRecDepth 100000 in
/-- takeSquares -/
theorem mt_takeSquares (l : Launch) (D : va_G) (a : bw_A0) (pr : Nat) (gv : Nat → Nat) (kn : Nat) (st : bb_St) (bc : Nat) (ba : Nat → Nat) (bs zs : Nat) (i : Nat) (hok : bb_ok st) (hi : i < st.1) : bw_MV l yX0_takeSquares (ws_ yX0_takeSquares cX0_takeSquares 4 none) ({ frames := 3, cells := 0, slots := 0, locals := 69 }) D bw_Cl (bw_T0 a) [.ref a.1, .int (nI i)] (bw_W0 a pr gv kn st.1 st.2.1 st.2.2 bc ba bs zs) (bw_W0 a pr gv kn ((bb_sq st i 4).1) ((bb_sq st i 4).2.1) ((bb_sq st i 4).2.2) bc ba bs zs) := by
  refine bw_startV (by decide) (Nat.le_of_ble_eq_true rfl) ?_
  intro p e s m below meth c A Q ls hx hb hml hown hts hA hK hw hl hret
  have hown : s.vm.findClass RX0 = some m.cls := hown
  have hl : lv_has ls 4 [(0, .ref a.1), (1, .int (nI i))] := hl
  refine lv_iconst (v := nI 0) hx hb dX0_takeSquares_0 (by decide) ?_
  refine lv_istore_n (lv' := [(2, .int (nI 0)), (0, .ref a.1), (1, .int (nI i))]) hx hb dX0_takeSquares_1 rfl hl (by decide) rfl (fun ls hl => ?_)
  refine bw_loop (pc := 2) (fun (qq : bb_St × Nat) ls H locs => qq.2 ≤ 4 ∧ bb_sq st i qq.2 = qq.1 ∧ bb_ok qq.1 ∧ i < qq.1.1 ∧ lv_has ls 4 [(2, .int (nI qq.2)), (0, .ref a.1), (1, .int (nI i))] ∧ bw_H D bw_Cl A s.heap (bw_W0 a pr gv kn qq.1.1 qq.1.2.1 qq.1.2.2 bc ba bs zs) H locs) (fun qq => 4 - qq.2) ?_ (st, 0) ⟨Nat.zero_le _, rfl, hok, hi, lv_sub hl [0, 1, 2] rfl, hw⟩
  rintro ⟨t, v⟩ ls H locs ⟨k2_0, k2_1, k2_2, k2_3, hl, hw⟩ ih2
  have k2_0 : v ≤ 4 := k2_0
  have k2_1 : bb_sq st i v = t := k2_1
  have k2_2 : bb_ok t := k2_2
  have k2_3 : i < t.1 := k2_3
  have hl : lv_has ls 4 [(2, .int (nI v)), (0, .ref a.1), (1, .int (nI i))] := hl
  have hw : bw_H D bw_Cl A s.heap (bw_W0 a pr gv kn t.1 t.2.1 t.2.2 bc ba bs zs) H locs := hw
  have hz := k2_2.1
  obtain ⟨hp, hh⟩ := k2_2.2 i k2_3
  refine lv_iload_n hx hb dX0_takeSquares_2 rfl (lv_at hl 0 rfl) ?_
  refine lv_iconst (v := nI 4) hx hb dX0_takeSquares_3 (by decide) ?_
  refine bw_cge (tgt := 52) hx hb dX0_takeSquares_4 (by decide) (by omega) (by omega) (fun c4 => ?_) (fun c4 => ?_)
  · rw [← k2_1, show v = 4 by omega] at hw
    exact hret _ _ _ _ hw dX0_takeSquares_52
  · refine lv_aload_n hx hb dX0_takeSquares_7 rfl (lv_at hl 1 rfl) ?_
    refine bw_g0_hd hx hb hts hown hK hw dX0_takeSquares_8 ?_
    refine lv_iload_n hx hb dX0_takeSquares_11 rfl (lv_at hl 2 rfl) ?_
    refine bw_l0_hd hx hb hK hw (by omega) dX0_takeSquares_12 ?_
    refine lv_iload_n hx hb dX0_takeSquares_13 rfl (lv_at hl 0 rfl) ?_
    refine bw_ishr hx hb dX0_takeSquares_14 (by omega) (by omega) ?_
    refine lv_iconst (v := nI 1) hx hb dX0_takeSquares_15 (by decide) ?_
    refine bw_iand hx hb dX0_takeSquares_16 ?_
    refine bw_bz (tgt := 46) hx hb dX0_takeSquares_17 (by decide) (fun c17 => ?_) (fun c17 => ?_)
    · refine lv_iinc (v := nI (v + 1)) (lv' := [(2, .int (nI (v + 1))), (0, .ref a.1), (1, .int (nI i))]) hx hb dX0_takeSquares_46 hl (k := 0) rfl (bw_inc v) (by decide) rfl (fun ls hl => ?_)
      refine lv_goto (tgt := 2) hx hb dX0_takeSquares_49 (by decide) ?_
      exact ih2 (t, v + 1) _ _ _ (by show 4 - (v + 1) < 4 - v; omega) ⟨by show (v + 1) ≤ 4; omega, by show bb_sq1 (bb_sq st i v) i v = _; rw [k2_1]; first | exact bb_sq1_f c17 | exact bb_sq1_t c17, by first | exact k2_2 | exact bb_ok_tk k2_2 (bb_x16 (bb_tms_lt _ (bb_pw16 v (by omega))) hp), by first | exact k2_3 | exact bb_tk_lt k2_3 _, lv_sub hl [0, 1, 2] rfl, hw⟩
    · refine lv_aload_n hx hb dX0_takeSquares_20 rfl (lv_at hl 1 rfl) ?_
      refine bw_g0_po hx hb hts hown hK hw dX0_takeSquares_21 ?_
      refine lv_iload_n hx hb dX0_takeSquares_24 rfl (lv_at hl 2 rfl) ?_
      refine bw_l0_po hx hb hK hw (by omega) dX0_takeSquares_25 ?_
      refine lv_iconst (v := nI 1) hx hb dX0_takeSquares_26 (by decide) ?_
      refine lv_iload_n hx hb dX0_takeSquares_27 rfl (lv_at hl 0 rfl) ?_
      refine bw_ishl hx hb dX0_takeSquares_28 (by omega) ?_
      refine bw_stat ⟨hx, hb, hml, hown, hts⟩ [.int (nI (t.2.1 i)), .int (nI (2 ^ v))] [] (mt_times l D (t.2.1 i) (2 ^ v) hp (bb_pw16 v (by omega))) (va_cwS 2 hts (lw_S q84 q85 q17 q86) rfl rfl rfl (by decide +kernel) ⟨Nat.le_of_ble_eq_true rfl, Nat.le_of_ble_eq_true rfl⟩) hK hA hw rfl hl.1 rfl (Nat.le_of_ble_eq_true rfl) dX0_takeSquares_29 ⟨Nat.zero_le _, Nat.zero_le _⟩ (fun H locs hw => ?_)
      refine lv_istore_n (lv' := [(3, .int (nI (bb_tms (t.2.1 i) (2 ^ v)))), (2, .int (nI v)), (0, .ref a.1), (1, .int (nI i))]) hx hb dX0_takeSquares_32 rfl hl (by decide) rfl (fun ls hl => ?_)
      refine lv_aload_n hx hb dX0_takeSquares_33 rfl (lv_at hl 2 rfl) ?_
      refine lv_iload_n hx hb dX0_takeSquares_34 rfl (lv_at hl 0 rfl) ?_
      refine lv_aload_n hx hb dX0_takeSquares_35 rfl (lv_at hl 2 rfl) ?_
      refine bw_g0_po hx hb hts hown hK hw dX0_takeSquares_36 ?_
      refine lv_iload_n hx hb dX0_takeSquares_39 rfl (lv_at hl 3 rfl) ?_
      refine bw_l0_po hx hb hK hw (by omega) dX0_takeSquares_40 ?_
      refine bw_ixor hx hb dX0_takeSquares_41 ?_
      refine bw_ownI ⟨hx, hb, hml, hown, hts⟩ [.int (nI ((bb_tms (t.2.1 i) (2 ^ v)) ^^^ (t.2.1 i)))] [] (mt_takeIn l D a pr gv kn t bc ba bs zs ((bb_tms (t.2.1 i) (2 ^ v)) ^^^ (t.2.1 i)) k2_2 (bb_x16 (bb_tms_lt _ (bb_pw16 v (by omega))) hp)) (cwV 1 hts (lw_V q106 q108 qs3 q17 q109) rfl rfl rfl (by decide +kernel) ⟨Nat.le_of_ble_eq_true rfl, Nat.le_of_ble_eq_true rfl⟩) 0 0 rfl rfl hK hA hw rfl hl.1 rfl (Nat.le_of_ble_eq_true rfl) dX0_takeSquares_42 ⟨Nat.zero_le _, Nat.zero_le _⟩ (fun H locs hw => ?_)
      refine lv_pop hx hb dX0_takeSquares_45 rfl ?_
      refine lv_iinc (v := nI (v + 1)) (lv' := [(2, .int (nI (v + 1))), (3, .int (nI (bb_tms (t.2.1 i) (2 ^ v)))), (0, .ref a.1), (1, .int (nI i))]) hx hb dX0_takeSquares_46 hl (k := 1) rfl (bw_inc v) (by decide) rfl (fun ls hl => ?_)
      refine lv_goto (tgt := 2) hx hb dX0_takeSquares_49 (by decide) ?_
      exact ih2 (bb_tk t ((bb_tms (t.2.1 i) (2 ^ v)) ^^^ (t.2.1 i)), v + 1) _ _ _ (by show 4 - (v + 1) < 4 - v; omega) ⟨by show (v + 1) ≤ 4; omega, by show bb_sq1 (bb_sq st i v) i v = _; rw [k2_1]; first | exact bb_sq1_f c17 | exact bb_sq1_t c17, by first | exact k2_2 | exact bb_ok_tk k2_2 (bb_x16 (bb_tms_lt _ (bb_pw16 v (by omega))) hp), by first | exact k2_3 | exact bb_tk_lt k2_3 _, lv_sub hl [0, 2, 3] rfl, hw⟩
set_option maxHeartbeats 4000000 in
set_option maxRecDepth 100000 in
/-- takeDifference -/
theorem mt_takeDifference (l : Launch) (D : va_G) (a : bw_A0) (pr : Nat) (gv : Nat → Nat) (kn : Nat) (st : bb_St) (bc : Nat) (ba : Nat → Nat) (bs zs : Nat) (i j : Nat) (hok : bb_ok st) (hi : i < st.1) (hj : j < st.1) : bw_MV l yX0_takeDifference (ws_ yX0_takeDifference cX0_takeDifference 6 none) ({ frames := 3, cells := 0, slots := 0, locals := 69 }) D bw_Cl (bw_T0 a) [.ref a.1, .int (nI i), .int (nI j)] (bw_W0 a pr gv kn st.1 st.2.1 st.2.2 bc ba bs zs) (bw_W0 a pr gv kn ((bb_td st i j).1) ((bb_td st i j).2.1) ((bb_td st i j).2.2) bc ba bs zs) := by
  refine bw_startV (by decide) (Nat.le_of_ble_eq_true rfl) ?_
  intro p e s m below meth c A Q ls hx hb hml hown hts hA hK hw hl hret
  have hown : s.vm.findClass RX0 = some m.cls := hown
  have hl : lv_has ls 6 [(0, .ref a.1), (1, .int (nI i)), (2, .int (nI j))] := hl
  have hz := hok.1
  have h1 := hok.2 i hi
  have h2 := hok.2 j hj
  have h16 := bb_or16 _ h1.2 _ h2.2
  refine lv_aload_n hx hb dX0_takeDifference_0 rfl (lv_at hl 0 rfl) ?_
  refine bw_g0_hd hx hb hts hown hK hw dX0_takeDifference_1 ?_
  refine lv_iload_n hx hb dX0_takeDifference_4 rfl (lv_at hl 1 rfl) ?_
  refine bw_l0_hd hx hb hK hw (by omega) dX0_takeDifference_5 ?_
  refine lv_aload_n hx hb dX0_takeDifference_6 rfl (lv_at hl 0 rfl) ?_
  refine bw_g0_hd hx hb hts hown hK hw dX0_takeDifference_7 ?_
  refine lv_iload_n hx hb dX0_takeDifference_10 rfl (lv_at hl 2 rfl) ?_
  refine bw_l0_hd hx hb hK hw (by omega) dX0_takeDifference_11 ?_
  refine bw_ior hx hb dX0_takeDifference_12 ?_
  refine lv_istore_n (lv' := [(3, .int (nI ((st.2.2 i) ||| (st.2.2 j)))), (0, .ref a.1), (1, .int (nI i)), (2, .int (nI j))]) hx hb dX0_takeDifference_13 rfl hl (by decide) rfl (fun ls hl => ?_)
  refine lv_aload_n hx hb dX0_takeDifference_14 rfl (lv_at hl 1 rfl) ?_
  refine bw_g0_po hx hb hts hown hK hw dX0_takeDifference_15 ?_
  refine lv_iload_n hx hb dX0_takeDifference_18 rfl (lv_at hl 2 rfl) ?_
  refine bw_l0_po hx hb hK hw (by omega) dX0_takeDifference_19 ?_
  refine lv_iload_n hx hb dX0_takeDifference_20 rfl (lv_at hl 0 rfl) ?_
  refine lv_aload_n hx hb dX0_takeDifference_21 rfl (lv_at hl 1 rfl) ?_
  refine bw_g0_hd hx hb hts hown hK hw dX0_takeDifference_22 ?_
  refine lv_iload_n hx hb dX0_takeDifference_25 rfl (lv_at hl 2 rfl) ?_
  refine bw_l0_hd hx hb hK hw (by omega) dX0_takeDifference_26 ?_
  refine lv_iconst (v := nI 4294967295) hx hb dX0_takeDifference_27 (by decide) ?_
  refine bw_ixor hx hb dX0_takeDifference_28 ?_
  refine bw_iand hx hb dX0_takeDifference_29 ?_
  refine bw_topn (bw_nsub ((st.2.2 i) ||| (st.2.2 j)) h16 (st.2.2 i) h1.2) ?_
  refine bw_stat ⟨hx, hb, hml, hown, hts⟩ [.int (nI (st.2.1 i)), .int (nI (bb_df ((st.2.2 i) ||| (st.2.2 j)) (st.2.2 i)))] [] (mt_times l D (st.2.1 i) (bb_df ((st.2.2 i) ||| (st.2.2 j)) (st.2.2 i)) h1.1 (bb_df_lt _ h16 _ h1.2)) (va_cwS 2 hts (lw_S q84 q85 q17 q86) rfl rfl rfl (by decide +kernel) ⟨Nat.le_of_ble_eq_true rfl, Nat.le_of_ble_eq_true rfl⟩) hK hA hw rfl hl.1 rfl (Nat.le_of_ble_eq_true rfl) dX0_takeDifference_30 ⟨Nat.zero_le _, Nat.zero_le _⟩ (fun H locs hw => ?_)
  refine lv_istore (lv' := [(4, .int (nI (bb_tms (st.2.1 i) (bb_df ((st.2.2 i) ||| (st.2.2 j)) (st.2.2 i))))), (3, .int (nI ((st.2.2 i) ||| (st.2.2 j)))), (0, .ref a.1), (1, .int (nI i)), (2, .int (nI j))]) hx hb dX0_takeDifference_33 hl (by decide) rfl (fun ls hl => ?_)
  refine lv_aload_n hx hb dX0_takeDifference_35 rfl (lv_at hl 2 rfl) ?_
  refine bw_g0_po hx hb hts hown hK hw dX0_takeDifference_36 ?_
  refine lv_iload_n hx hb dX0_takeDifference_39 rfl (lv_at hl 4 rfl) ?_
  refine bw_l0_po hx hb hK hw (by omega) dX0_takeDifference_40 ?_
  refine lv_iload_n hx hb dX0_takeDifference_41 rfl (lv_at hl 1 rfl) ?_
  refine lv_aload_n hx hb dX0_takeDifference_42 rfl (lv_at hl 2 rfl) ?_
  refine bw_g0_hd hx hb hts hown hK hw dX0_takeDifference_43 ?_
  refine lv_iload_n hx hb dX0_takeDifference_46 rfl (lv_at hl 4 rfl) ?_
  refine bw_l0_hd hx hb hK hw (by omega) dX0_takeDifference_47 ?_
  refine lv_iconst (v := nI 4294967295) hx hb dX0_takeDifference_48 (by decide) ?_
  refine bw_ixor hx hb dX0_takeDifference_49 ?_
  refine bw_iand hx hb dX0_takeDifference_50 ?_
  refine bw_topn (bw_nsub ((st.2.2 i) ||| (st.2.2 j)) h16 (st.2.2 j) h2.2) ?_
  refine bw_stat ⟨hx, hb, hml, hown, hts⟩ [.int (nI (st.2.1 j)), .int (nI (bb_df ((st.2.2 i) ||| (st.2.2 j)) (st.2.2 j)))] [] (mt_times l D (st.2.1 j) (bb_df ((st.2.2 i) ||| (st.2.2 j)) (st.2.2 j)) h2.1 (bb_df_lt _ h16 _ h2.2)) (va_cwS 2 hts (lw_S q84 q85 q17 q86) rfl rfl rfl (by decide +kernel) ⟨Nat.le_of_ble_eq_true rfl, Nat.le_of_ble_eq_true rfl⟩) hK hA hw rfl hl.1 rfl (Nat.le_of_ble_eq_true rfl) dX0_takeDifference_51 ⟨Nat.zero_le _, Nat.zero_le _⟩ (fun H locs hw => ?_)
  refine lv_istore (lv' := [(5, .int (nI (bb_tms (st.2.1 j) (bb_df ((st.2.2 i) ||| (st.2.2 j)) (st.2.2 j))))), (4, .int (nI (bb_tms (st.2.1 i) (bb_df ((st.2.2 i) ||| (st.2.2 j)) (st.2.2 i))))), (3, .int (nI ((st.2.2 i) ||| (st.2.2 j)))), (0, .ref a.1), (1, .int (nI i)), (2, .int (nI j))]) hx hb dX0_takeDifference_54 hl (by decide) rfl (fun ls hl => ?_)
  refine lv_aload_n hx hb dX0_takeDifference_56 rfl (lv_at hl 3 rfl) ?_
  refine lv_iload hx hb dX0_takeDifference_57 (lv_at hl 1 rfl) ?_
  refine lv_iload hx hb dX0_takeDifference_59 (lv_at hl 0 rfl) ?_
  refine bw_ixor hx hb dX0_takeDifference_61 ?_
  refine bw_ownI ⟨hx, hb, hml, hown, hts⟩ [.int (nI ((bb_tms (st.2.1 i) (bb_df ((st.2.2 i) ||| (st.2.2 j)) (st.2.2 i))) ^^^ (bb_tms (st.2.1 j) (bb_df ((st.2.2 i) ||| (st.2.2 j)) (st.2.2 j)))))] [] (mt_takeIn l D a pr gv kn st bc ba bs zs ((bb_tms (st.2.1 i) (bb_df ((st.2.2 i) ||| (st.2.2 j)) (st.2.2 i))) ^^^ (bb_tms (st.2.1 j) (bb_df ((st.2.2 i) ||| (st.2.2 j)) (st.2.2 j)))) hok (bb_x16 (bb_tms_lt _ (bb_df_lt _ h16 _ h1.2)) (bb_tms_lt _ (bb_df_lt _ h16 _ h2.2)))) (cwV 1 hts (lw_V q106 q108 qs3 q17 q109) rfl rfl rfl (by decide +kernel) ⟨Nat.le_of_ble_eq_true rfl, Nat.le_of_ble_eq_true rfl⟩) 0 0 rfl rfl hK hA hw rfl hl.1 rfl (Nat.le_of_ble_eq_true rfl) dX0_takeDifference_62 ⟨Nat.zero_le _, Nat.zero_le _⟩ (fun H locs hw => ?_)
  refine lv_pop hx hb dX0_takeDifference_65 rfl ?_
  exact hret _ _ _ _ hw dX0_takeDifference_66
set_option maxHeartbeats 4000000 in
set_option maxRecDepth 100000 in
/-- complete -/
theorem mt_complete (l : Launch) (D : va_G) (a : bw_A0) (pr : Nat) (gv : Nat → Nat) (kn : Nat) (st : bb_St) (bc : Nat) (ba : Nat → Nat) (bs zs : Nat) (set : Nat) (hset : set < 64) (hgv : ∀ i, i < 6 → gv i < 65536) : bw_MV l yX0_complete (ws_ yX0_complete cX0_complete 4 none) ({ frames := 4, cells := 0, slots := 0, locals := 94 }) D bw_Cl (bw_T0 a) [.ref a.1, .int (nI set)] (bw_W0 a pr gv kn st.1 st.2.1 st.2.2 bc ba bs zs) (bw_W0 a pr gv kn ((bb_cmp set gv st.2.1 st.2.2).1) ((bb_cmp set gv st.2.1 st.2.2).2.1) ((bb_cmp set gv st.2.1 st.2.2).2.2) bc ba bs zs) := by
  refine bw_startV (by decide) (Nat.le_of_ble_eq_true rfl) ?_
  intro p e s m below meth c A Q ls hx hb hml hown hts hA hK hw hl hret
  have hown : s.vm.findClass RX0 = some m.cls := hown
  have hl : lv_has ls 4 [(0, .ref a.1), (1, .int (nI set))] := hl
  refine lv_aload_n hx hb dX0_complete_0 rfl (lv_at hl 0 rfl) ?_
  refine lv_iconst (v := nI 0) hx hb dX0_complete_1 (by decide) ?_
  refine bw_p0_sz hx hb hts hown hK hw dX0_complete_2 (fun H locs hw => ?_)
  refine lv_iconst (v := nI 0) hx hb dX0_complete_5 (by decide) ?_
  refine lv_istore_n (lv' := [(2, .int (nI 0)), (0, .ref a.1), (1, .int (nI set))]) hx hb dX0_complete_6 rfl hl (by decide) rfl (fun ls hl => ?_)
  refine bw_loop (pc := 7) (fun (qq : bb_St × Nat) ls H locs => qq.2 ≤ 6 ∧ bb_gn set gv (0, st.2.1, st.2.2) qq.2 = qq.1 ∧ bb_ok qq.1 ∧ lv_has ls 4 [(2, .int (nI qq.2)), (0, .ref a.1), (1, .int (nI set))] ∧ bw_H D bw_Cl A s.heap (bw_W0 a pr gv kn qq.1.1 qq.1.2.1 qq.1.2.2 bc ba bs zs) H locs) (fun qq => 6 - qq.2) ?_ ((0, st.2.1, st.2.2), 0) ⟨Nat.zero_le _, rfl, ⟨Nat.zero_le _, fun i hi => absurd hi (Nat.not_lt_zero i)⟩, lv_sub hl [0, 1, 2] rfl, hw⟩
  rintro ⟨t, i⟩ ls H locs ⟨k7_0, k7_1, k7_2, hl, hw⟩ ih7
  have k7_0 : i ≤ 6 := k7_0
  have k7_1 : bb_gn set gv (0, st.2.1, st.2.2) i = t := k7_1
  have k7_2 : bb_ok t := k7_2
  have hl : lv_has ls 4 [(2, .int (nI i)), (0, .ref a.1), (1, .int (nI set))] := hl
  have hw : bw_H D bw_Cl A s.heap (bw_W0 a pr gv kn t.1 t.2.1 t.2.2 bc ba bs zs) H locs := hw
  refine lv_iload_n hx hb dX0_complete_7 rfl (lv_at hl 0 rfl) ?_
  refine lv_bipush (v := nI 6) hx hb dX0_complete_8 (by decide) ?_
  refine bw_cge (tgt := 38) hx hb dX0_complete_10 (by decide) (by omega) (by omega) (fun c10 => ?_) (fun c10 => ?_)
  · refine lv_iconst (v := nI 0) hx hb dX0_complete_38 (by decide) ?_
    refine lv_istore_n (lv' := [(2, .int (nI 0)), (0, .ref a.1), (1, .int (nI set))]) hx hb dX0_complete_39 rfl hl (by decide) rfl (fun ls hl => ?_)
    refine bw_loop (pc := 40) (fun (qq : bb_St × Nat) ls H locs => bb_ok qq.1 ∧ qq.2 ≤ 32 ∧ bb_lp (33 - qq.2) qq.2 qq.1 = bb_cmp set gv st.2.1 st.2.2 ∧ lv_has ls 4 [(2, .int (nI qq.2)), (0, .ref a.1), (1, .int (nI set))] ∧ bw_H D bw_Cl A s.heap (bw_W0 a pr gv kn qq.1.1 qq.1.2.1 qq.1.2.2 bc ba bs zs) H locs) (fun qq => 33 - qq.2) ?_ (t, 0) ⟨k7_2, Nat.zero_le _, by rw [← k7_1, show i = 6 by omega]; rfl, lv_sub hl [0, 1, 2] rfl, hw⟩
    rintro ⟨t, i⟩ ls H locs ⟨k40_0, k40_1, k40_2, hl, hw⟩ ih40
    have k40_0 : bb_ok t := k40_0
    have k40_1 : i ≤ 32 := k40_1
    have k40_2 : bb_lp (33 - i) i t = bb_cmp set gv st.2.1 st.2.2 := k40_2
    have hl : lv_has ls 4 [(2, .int (nI i)), (0, .ref a.1), (1, .int (nI set))] := hl
    have hw : bw_H D bw_Cl A s.heap (bw_W0 a pr gv kn t.1 t.2.1 t.2.2 bc ba bs zs) H locs := hw
    have hz := k40_0.1
    refine lv_iload_n hx hb dX0_complete_40 rfl (lv_at hl 0 rfl) ?_
    refine lv_aload_n hx hb dX0_complete_41 rfl (lv_at hl 1 rfl) ?_
    refine bw_g0_sz hx hb hts hown hK hw dX0_complete_42 ?_
    refine bw_cge (tgt := 78) hx hb dX0_complete_45 (by decide) (by omega) (by omega) (fun c45 => ?_) (fun c45 => ?_)
    · rw [bb_lp_e c45] at k40_2
      rw [k40_2] at hw
      exact hret _ _ _ _ hw dX0_complete_78
    · refine lv_aload_n hx hb dX0_complete_48 rfl (lv_at hl 1 rfl) ?_
      refine lv_iload_n hx hb dX0_complete_49 rfl (lv_at hl 0 rfl) ?_
      refine bw_ownV ⟨hx, hb, hml, hown, hts⟩ [.int (nI i)] [] (mt_takeSquares l D a pr gv kn t bc ba bs zs i k40_0 c45) (cwV 1 hts (lw_V q121 q123 qs6 q17 q124) rfl rfl rfl (by decide +kernel) ⟨Nat.le_of_ble_eq_true rfl, Nat.le_of_ble_eq_true rfl⟩) 0 0 rfl rfl hK hA hw rfl hl.1 rfl (Nat.le_of_ble_eq_true rfl) dX0_complete_50 ⟨Nat.zero_le _, Nat.zero_le _⟩ (fun H locs hw => ?_)
      refine lv_iconst (v := nI 0) hx hb dX0_complete_53 (by decide) ?_
      refine lv_istore_n (lv' := [(3, .int (nI 0)), (2, .int (nI i)), (0, .ref a.1), (1, .int (nI set))]) hx hb dX0_complete_54 rfl hl (by decide) rfl (fun ls hl => ?_)
      refine bw_loop (pc := 55) (fun (qq : bb_St × Nat) ls H locs => bb_tds (bb_sq t i 4) i qq.2 = qq.1 ∧ bb_ok qq.1 ∧ qq.2 ≤ i ∧ i < qq.1.1 ∧ lv_has ls 4 [(3, .int (nI qq.2)), (2, .int (nI i)), (0, .ref a.1), (1, .int (nI set))] ∧ bw_H D bw_Cl A s.heap (bw_W0 a pr gv kn qq.1.1 qq.1.2.1 qq.1.2.2 bc ba bs zs) H locs) (fun qq => i - qq.2) ?_ (bb_sq t i 4, 0) ⟨rfl, (bb_sq_ok2 k40_0 c45 4 (Nat.le_refl 4)).1, Nat.zero_le _, Nat.lt_of_lt_of_le c45 (bb_sq_ok2 k40_0 c45 4 (Nat.le_refl 4)).2, lv_sub hl [0, 1, 2, 3] rfl, hw⟩
      rintro ⟨u, j⟩ ls H locs ⟨k55_0, k55_1, k55_2, k55_3, hl, hw⟩ ih55
      have k55_0 : bb_tds (bb_sq t i 4) i j = u := k55_0
      have k55_1 : bb_ok u := k55_1
      have k55_2 : j ≤ i := k55_2
      have k55_3 : i < u.1 := k55_3
      have hl : lv_has ls 4 [(3, .int (nI j)), (2, .int (nI i)), (0, .ref a.1), (1, .int (nI set))] := hl
      have hw : bw_H D bw_Cl A s.heap (bw_W0 a pr gv kn u.1 u.2.1 u.2.2 bc ba bs zs) H locs := hw
      have hz2 := k55_1.1
      refine lv_iload_n hx hb dX0_complete_55 rfl (lv_at hl 0 rfl) ?_
      refine lv_iload_n hx hb dX0_complete_56 rfl (lv_at hl 1 rfl) ?_
      refine bw_cge (tgt := 72) hx hb dX0_complete_57 (by decide) (by omega) (by omega) (fun c57 => ?_) (fun c57 => ?_)
      · refine lv_iinc (v := nI (i + 1)) (lv' := [(2, .int (nI (i + 1))), (3, .int (nI j)), (0, .ref a.1), (1, .int (nI set))]) hx hb dX0_complete_72 hl (k := 1) rfl (bw_inc i) (by decide) rfl (fun ls hl => ?_)
        refine lv_goto (tgt := 40) hx hb dX0_complete_75 (by decide) ?_
        exact ih40 (u, i + 1) _ _ _ (by show 33 - (i + 1) < 33 - i; omega) ⟨k55_1, by show (i + 1) ≤ 32; omega, by rw [← k40_2, bb_lp_t c45 k40_1, ← k55_0, show j = i by omega]; rfl, lv_sub hl [0, 2, 3] rfl, hw⟩
      · refine lv_aload_n hx hb dX0_complete_60 rfl (lv_at hl 2 rfl) ?_
        refine lv_iload_n hx hb dX0_complete_61 rfl (lv_at hl 1 rfl) ?_
        refine lv_iload_n hx hb dX0_complete_62 rfl (lv_at hl 0 rfl) ?_
        refine bw_ownV ⟨hx, hb, hml, hown, hts⟩ [.int (nI i), .int (nI j)] [] (mt_takeDifference l D a pr gv kn u bc ba bs zs i j k55_1 k55_3 (by omega)) (cwV 2 hts (lw_V q125 q127 qs7 q17 q128) rfl rfl rfl (by decide +kernel) ⟨Nat.le_of_ble_eq_true rfl, Nat.le_of_ble_eq_true rfl⟩) 0 0 rfl rfl hK hA hw rfl hl.1 rfl (Nat.le_of_ble_eq_true rfl) dX0_complete_63 ⟨Nat.zero_le _, Nat.zero_le _⟩ (fun H locs hw => ?_)
        refine lv_iinc (v := nI (j + 1)) (lv' := [(3, .int (nI (j + 1))), (2, .int (nI i)), (0, .ref a.1), (1, .int (nI set))]) hx hb dX0_complete_66 hl (k := 0) rfl (bw_inc j) (by decide) rfl (fun ls hl => ?_)
        refine lv_goto (tgt := 55) hx hb dX0_complete_69 (by decide) ?_
        exact ih55 (bb_td u i j, j + 1) _ _ _ (by show i - (j + 1) < i - j; omega) ⟨by show bb_td (bb_tds (bb_sq t i 4) i j) i j = _; rw [k55_0], bb_td_ok2 k55_1 k55_3 (by omega), by show (j + 1) ≤ i; omega, bb_tk_lt k55_3 _, lv_sub hl [0, 1, 2, 3] rfl, hw⟩
  · refine lv_iload_n hx hb dX0_complete_13 rfl (lv_at hl 2 rfl) ?_
    refine lv_iload_n hx hb dX0_complete_14 rfl (lv_at hl 0 rfl) ?_
    refine bw_ishr hx hb dX0_complete_15 (by omega) (by omega) ?_
    refine lv_iconst (v := nI 1) hx hb dX0_complete_16 (by decide) ?_
    refine bw_iand hx hb dX0_complete_17 ?_
    refine bw_bz (tgt := 32) hx hb dX0_complete_18 (by decide) (fun c18 => ?_) (fun c18 => ?_)
    · refine lv_iinc (v := nI (i + 1)) (lv' := [(2, .int (nI (i + 1))), (0, .ref a.1), (1, .int (nI set))]) hx hb dX0_complete_32 hl (k := 0) rfl (bw_inc i) (by decide) rfl (fun ls hl => ?_)
      refine lv_goto (tgt := 7) hx hb dX0_complete_35 (by decide) ?_
      exact ih7 (t, i + 1) _ _ _ (by show 6 - (i + 1) < 6 - i; omega) ⟨by show (i + 1) ≤ 6; omega, by first | exact (bb_gn_f c18).trans k7_1 | (rw [bb_gn_t c18, k7_1]; done), by first | exact k7_2 | exact bb_ok_tk k7_2 (hgv i (by omega)), lv_sub hl [0, 1, 2] rfl, hw⟩
    · refine lv_aload_n hx hb dX0_complete_21 rfl (lv_at hl 1 rfl) ?_
      refine lv_aload_n hx hb dX0_complete_22 rfl (lv_at hl 1 rfl) ?_
      refine bw_g0_gv hx hb hts hown hK hw dX0_complete_23 ?_
      refine lv_iload_n hx hb dX0_complete_26 rfl (lv_at hl 0 rfl) ?_
      refine bw_l0_gv hx hb hK hw (by omega) dX0_complete_27 ?_
      refine bw_ownI ⟨hx, hb, hml, hown, hts⟩ [.int (nI (gv i))] [] (mt_takeIn l D a pr gv kn t bc ba bs zs (gv i) k7_2 (hgv i (by omega))) (cwV 1 hts (lw_V q106 q108 qs3 q17 q109) rfl rfl rfl (by decide +kernel) ⟨Nat.le_of_ble_eq_true rfl, Nat.le_of_ble_eq_true rfl⟩) 0 0 rfl rfl hK hA hw rfl hl.1 rfl (Nat.le_of_ble_eq_true rfl) dX0_complete_28 ⟨Nat.zero_le _, Nat.zero_le _⟩ (fun H locs hw => ?_)
      refine lv_pop hx hb dX0_complete_31 rfl ?_
      refine lv_iinc (v := nI (i + 1)) (lv' := [(2, .int (nI (i + 1))), (0, .ref a.1), (1, .int (nI set))]) hx hb dX0_complete_32 hl (k := 0) rfl (bw_inc i) (by decide) rfl (fun ls hl => ?_)
      refine lv_goto (tgt := 7) hx hb dX0_complete_35 (by decide) ?_
      exact ih7 (bb_tk t (gv i), i + 1) _ _ _ (by show 6 - (i + 1) < 6 - i; omega) ⟨by show (i + 1) ≤ 6; omega, by first | exact (bb_gn_f c18).trans k7_1 | (rw [bb_gn_t c18, k7_1]; done), by first | exact k7_2 | exact bb_ok_tk k7_2 (hgv i (by omega)), lv_sub hl [0, 1, 2] rfl, hw⟩
set_option maxHeartbeats 4000000 in
set_option maxRecDepth 100000 in
/-- leastBound -/
theorem mt_leastBound (l : Launch) (D : va_G) (a : bw_A0) (pr : Nat) (gv : Nat → Nat) (kn : Nat) (st : bb_St) (bc : Nat) (ba : Nat → Nat) (bs zs : Nat) (u : Nat) (hok : bb_ok st) (hu : u < 16) : bw_MI l yX0_leastBound (ws_ yX0_leastBound cX0_leastBound 4 (some .boolean)) ({ frames := 1, cells := 0, slots := 0, locals := 22 }) D bw_Cl (bw_T0 a) [.ref a.1, .int (nI u)] (bw_W0 a pr gv kn st.1 st.2.1 st.2.2 bc ba bs zs) (bw_W0 a pr gv kn st.1 st.2.1 st.2.2 bc ba bs zs) (bw_bI (bb_least st u)) := by
  refine bw_startI (by decide) (Nat.le_of_ble_eq_true rfl) (bw_bI_n _) ?_
  intro p e s m below meth c A Q ls hx hb hml hown hts hA hK hw hl hret
  have hown : s.vm.findClass RX0 = some m.cls := hown
  have hl : lv_has ls 4 [(0, .ref a.1), (1, .int (nI u))] := hl
  have hz := hok.1
  refine lv_aload_n hx hb dX0_leastBound_0 rfl (lv_at hl 0 rfl) ?_
  refine lv_iload_n hx hb dX0_leastBound_1 rfl (lv_at hl 1 rfl) ?_
  refine bw_ownI ⟨hx, hb, hml, hown, hts⟩ [.int (nI u)] [] (mt_divisor l D a pr gv kn st bc ba bs zs u hok hu) (cwV 1 hts (lw_V q114 q116 qs5 q17 q117) rfl rfl rfl (by decide +kernel) ⟨Nat.le_of_ble_eq_true rfl, Nat.le_of_ble_eq_true rfl⟩) 0 0 rfl rfl hK hA hw rfl hl.1 rfl (Nat.le_of_ble_eq_true rfl) dX0_leastBound_2 ⟨Nat.zero_le _, Nat.zero_le _⟩ (fun H locs hw => ?_)
  rcases ho5 : bb_dv st.2.2 u st.1 0 with _ | g
  · refine bw_top (y := -1) rfl ?_
    refine bw_ge0n (tgt := 10) hx hb dX0_leastBound_5 (by decide) (by decide) ?_
    refine lv_iconst (v := nI 0) hx hb dX0_leastBound_8 (by decide) ?_
    refine bw_top (y := bw_bI (bb_least st u)) (by unfold bb_least; rw [bb_bd_n ho5]; rfl) ?_
    exact hret _ _ _ _ hw dX0_leastBound_9
  · refine bw_top (y := nI g) rfl ?_
    have hg5 := (bb_dv_some ho5).2.1
    refine bw_ge0y (tgt := 10) hx hb dX0_leastBound_5 (by decide) (by omega) ?_
    refine lv_iconst (v := nI 0) hx hb dX0_leastBound_10 (by decide) ?_
    refine lv_istore_n (lv' := [(2, .int (nI 0)), (0, .ref a.1), (1, .int (nI u))]) hx hb dX0_leastBound_11 rfl hl (by decide) rfl (fun ls hl => ?_)
    refine bw_loop (pc := 12) (fun (qq : Nat) ls H locs => qq ≤ 4 ∧ bb_lb st u qq = true ∧ lv_has ls 4 [(2, .int (nI qq)), (0, .ref a.1), (1, .int (nI u))] ∧ bw_H D bw_Cl A s.heap (bw_W0 a pr gv kn st.1 st.2.1 st.2.2 bc ba bs zs) H locs) (fun qq => 4 - qq) ?_ 0 ⟨Nat.zero_le _, rfl, lv_sub hl [0, 1, 2] rfl, hw⟩
    rintro v ls H locs ⟨k12_0, k12_1, hl, hw⟩ ih12
    have k12_0 : v ≤ 4 := k12_0
    have k12_1 : bb_lb st u v = true := k12_1
    have hl : lv_has ls 4 [(2, .int (nI v)), (0, .ref a.1), (1, .int (nI u))] := hl
    have hw : bw_H D bw_Cl A s.heap (bw_W0 a pr gv kn st.1 st.2.1 st.2.2 bc ba bs zs) H locs := hw
    refine lv_iload_n hx hb dX0_leastBound_12 rfl (lv_at hl 0 rfl) ?_
    refine lv_iconst (v := nI 4) hx hb dX0_leastBound_13 (by decide) ?_
    refine bw_cge (tgt := 46) hx hb dX0_leastBound_14 (by decide) (by omega) (by omega) (fun c14 => ?_) (fun c14 => ?_)
    · refine lv_iconst (v := nI 1) hx hb dX0_leastBound_46 (by decide) ?_
      have hv4 : v = 4 := by omega
      subst hv4
      refine bw_top (y := bw_bI (bb_least st u)) (by unfold bb_least; rw [bb_bd_s ho5, k12_1]; rfl) ?_
      exact hret _ _ _ _ hw dX0_leastBound_47
    · refine lv_iload_n hx hb dX0_leastBound_17 rfl (lv_at hl 2 rfl) ?_
      refine lv_iconst (v := nI 1) hx hb dX0_leastBound_18 (by decide) ?_
      refine lv_iload_n hx hb dX0_leastBound_19 rfl (lv_at hl 0 rfl) ?_
      refine bw_ishl hx hb dX0_leastBound_20 (by omega) ?_
      refine lv_iconst (v := nI 4294967295) hx hb dX0_leastBound_21 (by decide) ?_
      refine bw_ixor hx hb dX0_leastBound_22 ?_
      refine bw_iand hx hb dX0_leastBound_23 ?_
      refine bw_topn (bw_nsub u hu (2 ^ v) (bb_pw16 v (by omega))) ?_
      refine lv_istore_n (lv' := [(3, .int (nI (bb_df u (2 ^ v)))), (2, .int (nI v)), (0, .ref a.1), (1, .int (nI u))]) hx hb dX0_leastBound_24 rfl hl (by decide) rfl (fun ls hl => ?_)
      refine lv_iload_n hx hb dX0_leastBound_25 rfl (lv_at hl 0 rfl) ?_
      refine lv_iload_n hx hb dX0_leastBound_26 rfl (lv_at hl 3 rfl) ?_
      have hd9 := bb_df_lt u hu (2 ^ v) (bb_pw16 v (by omega))
      refine bw_ceq (tgt := 40) hx hb dX0_leastBound_27 (by decide) (by omega) (by omega) (fun c27 => ?_) (fun c27 => ?_)
      · refine lv_iinc (v := nI (v + 1)) (lv' := [(2, .int (nI (v + 1))), (3, .int (nI (bb_df u (2 ^ v)))), (0, .ref a.1), (1, .int (nI u))]) hx hb dX0_leastBound_40 hl (k := 1) rfl (bw_inc v) (by decide) rfl (fun ls hl => ?_)
        refine lv_goto (tgt := 12) hx hb dX0_leastBound_43 (by decide) ?_
        exact ih12 (v + 1) _ _ _ (by show 4 - (v + 1) < 4 - v; omega) ⟨by show (v + 1) ≤ 4; omega, by first | exact bb_lb_y1 k12_1 c27 | exact bb_lb_y2 k12_1 (bb_bd_n ho35), lv_sub hl [0, 2, 3] rfl, hw⟩
      · refine lv_aload_n hx hb dX0_leastBound_30 rfl (lv_at hl 2 rfl) ?_
        refine lv_iload_n hx hb dX0_leastBound_31 rfl (lv_at hl 0 rfl) ?_
        refine bw_ownI ⟨hx, hb, hml, hown, hts⟩ [.int (nI (bb_df u (2 ^ v)))] [] (mt_divisor l D a pr gv kn st bc ba bs zs (bb_df u (2 ^ v)) hok (bb_df_lt _ hu _ (bb_pw16 v (by omega)))) (cwV 1 hts (lw_V q114 q116 qs5 q17 q117) rfl rfl rfl (by decide +kernel) ⟨Nat.le_of_ble_eq_true rfl, Nat.le_of_ble_eq_true rfl⟩) 0 0 rfl rfl hK hA hw rfl hl.1 rfl (Nat.le_of_ble_eq_true rfl) dX0_leastBound_32 ⟨Nat.zero_le _, Nat.zero_le _⟩ (fun H locs hw => ?_)
        rcases ho35 : bb_dv st.2.2 (bb_df u (2 ^ v)) st.1 0 with _ | g
        · refine bw_top (y := -1) rfl ?_
          refine bw_lt0y (tgt := 40) hx hb dX0_leastBound_35 (by decide) (by decide) ?_
          refine lv_iinc (v := nI (v + 1)) (lv' := [(2, .int (nI (v + 1))), (3, .int (nI (bb_df u (2 ^ v)))), (0, .ref a.1), (1, .int (nI u))]) hx hb dX0_leastBound_40 hl (k := 1) rfl (bw_inc v) (by decide) rfl (fun ls hl => ?_)
          refine lv_goto (tgt := 12) hx hb dX0_leastBound_43 (by decide) ?_
          exact ih12 (v + 1) _ _ _ (by show 4 - (v + 1) < 4 - v; omega) ⟨by show (v + 1) ≤ 4; omega, by first | exact bb_lb_y1 k12_1 c27 | exact bb_lb_y2 k12_1 (bb_bd_n ho35), lv_sub hl [0, 2, 3] rfl, hw⟩
        · refine bw_top (y := nI g) rfl ?_
          have hg35 := (bb_dv_some ho35).2.1
          refine bw_lt0n (tgt := 40) hx hb dX0_leastBound_35 (by decide) (by omega) ?_
          refine lv_iconst (v := nI 0) hx hb dX0_leastBound_38 (by decide) ?_
          refine bw_top (y := bw_bI (bb_least st u)) (by unfold bb_least; rw [bb_lb_mono 4 (by omega) (bb_lb_no c27 (bb_bd_s ho35)), Bool.and_false]; rfl) ?_
          exact hret _ _ _ _ hw dX0_leastBound_39
set_option maxHeartbeats 4000000 in
set_option maxRecDepth 100000 in
/-- vanishes -/
theorem mt_vanishes (l : Launch) (D : va_G) (a : bw_A0) (pr : Nat) (gv : Nat → Nat) (kn sz : Nat) (po hd : Nat → Nat) (bc : Nat) (ba : Nat → Nat) (bs zs : Nat) (t : Nat) (ht : t < 16) (hbc : bc ≤ 16) (hba : ∀ k, k < bc → ba k < 65536) : bw_MI l yX0_vanishes (ws_ yX0_vanishes cX0_vanishes 3 (some .boolean)) ({ frames := 1, cells := 0, slots := 0, locals := 23 }) D bw_Cl (bw_T0 a) [.ref a.1, .int (nI t)] (bw_W0 a pr gv kn sz po hd bc ba bs zs) (bw_W0 a pr gv kn sz po hd bc ba bs zs) (bw_bI (bb_van ba t bc)) := by
  refine bw_startI (by decide) (Nat.le_of_ble_eq_true rfl) (bw_bI_n _) ?_
  intro p e s m below meth c A Q ls hx hb hml hown hts hA hK hw hl hret
  have hown : s.vm.findClass RX0 = some m.cls := hown
  have hl : lv_has ls 3 [(0, .ref a.1), (1, .int (nI t))] := hl
  refine lv_iconst (v := nI 0) hx hb dX0_vanishes_0 (by decide) ?_
  refine lv_istore_n (lv' := [(2, .int (nI 0)), (0, .ref a.1), (1, .int (nI t))]) hx hb dX0_vanishes_1 rfl hl (by decide) rfl (fun ls hl => ?_)
  refine bw_loop (pc := 2) (fun (qq : Nat) ls H locs => qq ≤ bc ∧ bb_van ba t qq = true ∧ lv_has ls 3 [(2, .int (nI qq)), (0, .ref a.1), (1, .int (nI t))] ∧ bw_H D bw_Cl A s.heap (bw_W0 a pr gv kn sz po hd bc ba bs zs) H locs) (fun qq => bc - qq) ?_ 0 ⟨Nat.zero_le _, rfl, lv_sub hl [0, 1, 2] rfl, hw⟩
  rintro k ls H locs ⟨k2_0, k2_1, hl, hw⟩ ih2
  have k2_0 : k ≤ bc := k2_0
  have k2_1 : bb_van ba t k = true := k2_1
  have hl : lv_has ls 3 [(2, .int (nI k)), (0, .ref a.1), (1, .int (nI t))] := hl
  have hw : bw_H D bw_Cl A s.heap (bw_W0 a pr gv kn sz po hd bc ba bs zs) H locs := hw
  refine lv_iload_n hx hb dX0_vanishes_2 rfl (lv_at hl 0 rfl) ?_
  refine lv_aload_n hx hb dX0_vanishes_3 rfl (lv_at hl 1 rfl) ?_
  refine bw_g0_bc hx hb hts hown hK hw dX0_vanishes_4 ?_
  refine bw_cge (tgt := 31) hx hb dX0_vanishes_7 (by decide) (by omega) (by omega) (fun c7 => ?_) (fun c7 => ?_)
  · refine lv_iconst (v := nI 1) hx hb dX0_vanishes_31 (by decide) ?_
    refine bw_top (y := bw_bI (bb_van ba t bc)) (by rw [← show k = bc by omega, k2_1]; rfl) ?_
    exact hret _ _ _ _ hw dX0_vanishes_32
  · refine lv_aload_n hx hb dX0_vanishes_10 rfl (lv_at hl 1 rfl) ?_
    refine bw_g0_ba hx hb hts hown hK hw dX0_vanishes_11 ?_
    refine lv_iload_n hx hb dX0_vanishes_14 rfl (lv_at hl 0 rfl) ?_
    refine bw_l0_ba hx hb hK hw (by omega) dX0_vanishes_15 ?_
    refine lv_iload_n hx hb dX0_vanishes_16 rfl (lv_at hl 2 rfl) ?_
    refine bw_stat ⟨hx, hb, hml, hown, hts⟩ [.int (nI (ba k)), .int (nI t)] [] (mt_valueAt l D (ba k) t (hba k c7) ht) (va_cwS 2 hts (lw_S q91 q92 q17 q93) rfl rfl rfl (by decide +kernel) ⟨Nat.le_of_ble_eq_true rfl, Nat.le_of_ble_eq_true rfl⟩) hK hA hw rfl hl.1 rfl (Nat.le_of_ble_eq_true rfl) dX0_vanishes_17 ⟨Nat.zero_le _, Nat.zero_le _⟩ (fun H locs hw => ?_)
    have hv9 := bb_val_lt (ba k) t
    refine bw_eq0 (tgt := 25) hx hb dX0_vanishes_20 (by decide) (by omega) (fun c20 => ?_) (fun c20 => ?_)
    · refine lv_iinc (v := nI (k + 1)) (lv' := [(2, .int (nI (k + 1))), (0, .ref a.1), (1, .int (nI t))]) hx hb dX0_vanishes_25 hl (k := 0) rfl (bw_inc k) (by decide) rfl (fun ls hl => ?_)
      refine lv_goto (tgt := 2) hx hb dX0_vanishes_28 (by decide) ?_
      exact ih2 (k + 1) _ _ _ (by show bc - (k + 1) < bc - k; omega) ⟨by show (k + 1) ≤ bc; omega, bb_van_y k2_1 c20, lv_sub hl [0, 1, 2] rfl, hw⟩
    · refine lv_iconst (v := nI 0) hx hb dX0_vanishes_23 (by decide) ?_
      refine bw_top (y := bw_bI (bb_van ba t bc)) (by rw [bb_van_mono bc (show k + 1 ≤ bc by omega) (bb_van_no c20)]; rfl) ?_
      exact hret _ _ _ _ hw dX0_vanishes_24
end
section
/-! WALKS 23: learn and the answers of the class -/
set_option maxHeartbeats 4000000 in
set_option maxRecDepth 100000 in
/-- learn, known already -/
theorem mt_learn1 (l : Launch) (D : va_G) (a : bw_A0) (pr : Nat) (gv : Nat → Nat) (q : bb_LS) : bw_MV l yX0_learn (ws_ yX0_learn cX0_learn 2 none) ({ frames := 5, cells := 0, slots := 0, locals := 117 }) D bw_Cl (bw_T0 a) [.ref a.1] (bw_W0 a pr gv 1 q.1.1 q.1.2.1 q.1.2.2 q.2.1 q.2.2.1 q.2.2.2.1 q.2.2.2.2) (bw_W0 a pr gv 1 q.1.1 q.1.2.1 q.1.2.2 q.2.1 q.2.2.1 q.2.2.2.1 q.2.2.2.2) := by
  refine bw_startV (by decide) (Nat.le_of_ble_eq_true rfl) ?_
  intro p e s m below meth c A Q ls hx hb hml hown hts hA hK hw hl hret
  have hown : s.vm.findClass RX0 = some m.cls := hown
  have hl : lv_has ls 2 [(0, .ref a.1)] := hl
  refine lv_aload_n hx hb dX0_learn_0 rfl (lv_at hl 0 rfl) ?_
  refine bw_g0_kn hx hb hts hown hK hw dX0_learn_1 ?_
  refine bw_eq0n (tgt := 8) hx hb dX0_learn_4 (by decide) (by decide) ?_
  exact hret _ _ _ _ hw dX0_learn_7
set_option maxHeartbeats 4000000 in
set_option maxRecDepth 100000 in
/-- learn -/
theorem mt_learn0 (l : Launch) (D : va_G) (a : bw_A0) (pr : Nat) (gv : Nat → Nat) (q : bb_LS) (hpr : pr < 64) (hgv : ∀ i, i < 6 → gv i < 65536) : bw_MV l yX0_learn (ws_ yX0_learn cX0_learn 2 none) ({ frames := 5, cells := 0, slots := 0, locals := 117 }) D bw_Cl (bw_T0 a) [.ref a.1] (bw_W0 a pr gv 0 q.1.1 q.1.2.1 q.1.2.2 q.2.1 q.2.2.1 q.2.2.2.1 q.2.2.2.2) (bw_W0 a pr gv 1 ((bb_ln0 pr gv q).1.1) ((bb_ln0 pr gv q).1.2.1) ((bb_ln0 pr gv q).1.2.2) ((bb_ln0 pr gv q).2.1) ((bb_ln0 pr gv q).2.2.1) ((bb_ln0 pr gv q).2.2.2.1) ((bb_ln0 pr gv q).2.2.2.2)) := by
  refine bw_startV (by decide) (Nat.le_of_ble_eq_true rfl) ?_
  intro p e s m below meth c A Q ls hx hb hml hown hts hA hK hw hl hret
  have hown : s.vm.findClass RX0 = some m.cls := hown
  have hl : lv_has ls 2 [(0, .ref a.1)] := hl
  obtain ⟨t, ht⟩ : ∃ t, t = bb_cmp pr gv q.1.2.1 q.1.2.2 := ⟨_, rfl⟩
  have htok : bb_ok t := by rw [ht]; exact bb_ok_cmp hgv _ _
  have hz := htok.1
  refine lv_aload_n hx hb dX0_learn_0 rfl (lv_at hl 0 rfl) ?_
  refine bw_g0_kn hx hb hts hown hK hw dX0_learn_1 ?_
  refine bw_eq0y (tgt := 8) hx hb dX0_learn_4 (by decide) (by decide) ?_
  refine lv_aload_n hx hb dX0_learn_8 rfl (lv_at hl 0 rfl) ?_
  refine lv_iconst (v := nI 1) hx hb dX0_learn_9 (by decide) ?_
  refine bw_p0_kn hx hb hts hown hK hw (by decide) dX0_learn_10 (fun H locs hw => ?_)
  refine lv_aload_n hx hb dX0_learn_13 rfl (lv_at hl 0 rfl) ?_
  refine lv_aload_n hx hb dX0_learn_14 rfl (lv_at hl 0 rfl) ?_
  refine bw_g0_pr hx hb hts hown hK hw dX0_learn_15 ?_
  refine bw_ownV ⟨hx, hb, hml, hown, hts⟩ [.int (nI pr)] [] (mt_complete l D a pr gv 1 q.1 q.2.1 q.2.2.1 q.2.2.2.1 q.2.2.2.2 pr hpr hgv) (cwV 1 hts (lw_V q102 q104 qs2 q17 q105) rfl rfl rfl (by decide +kernel) ⟨Nat.le_of_ble_eq_true rfl, Nat.le_of_ble_eq_true rfl⟩) 0 0 rfl rfl hK hA hw rfl hl.1 rfl (Nat.le_of_ble_eq_true rfl) dX0_learn_18 ⟨Nat.zero_le _, Nat.zero_le _⟩ (fun H locs hw => ?_)
  rw [← ht] at hw
  refine lv_aload_n hx hb dX0_learn_21 rfl (lv_at hl 0 rfl) ?_
  refine lv_iconst (v := nI 0) hx hb dX0_learn_22 (by decide) ?_
  refine bw_p0_bs hx hb hts hown hK hw dX0_learn_23 (fun H locs hw => ?_)
  refine lv_aload_n hx hb dX0_learn_26 rfl (lv_at hl 0 rfl) ?_
  refine lv_iconst (v := nI 0) hx hb dX0_learn_27 (by decide) ?_
  refine bw_p0_bc hx hb hts hown hK hw dX0_learn_28 (fun H locs hw => ?_)
  refine lv_iconst (v := nI 0) hx hb dX0_learn_31 (by decide) ?_
  refine lv_istore_n (lv' := [(1, .int (nI 0)), (0, .ref a.1)]) hx hb dX0_learn_32 rfl hl (by decide) rfl (fun ls hl => ?_)
  refine bw_loop (pc := 33) (fun (qq : Nat × (Nat → Nat) × Nat × Nat) ls H locs => qq.2.2.2 ≤ 16 ∧ qq.2.2.1 = bb_bs (bb_bd t) qq.2.2.2 ∧ bb_bl (bb_least t) (bb_bq t) q.2.2.1 qq.2.2.2 = (qq.1, qq.2.1) ∧ qq.1 ≤ qq.2.2.2 ∧ (∀ k, k < qq.1 → qq.2.1 k < 65536) ∧ lv_has ls 2 [(1, .int (nI qq.2.2.2)), (0, .ref a.1)] ∧ bw_H D bw_Cl A s.heap (bw_W0 a pr gv 1 t.1 t.2.1 t.2.2 qq.1 qq.2.1 qq.2.2.1 q.2.2.2.2) H locs) (fun qq => 16 - qq.2.2.2) ?_ (0, q.2.2.1, 0, 0) ⟨Nat.zero_le _, rfl, rfl, Nat.le_refl _, fun k hk => absurd hk (Nat.not_lt_zero k), lv_sub hl [0, 1] rfl, hw⟩
  rintro ⟨n, z, b, u⟩ ls H locs ⟨k33_0, k33_1, k33_2, k33_3, k33_4, hl, hw⟩ ih33
  have k33_0 : u ≤ 16 := k33_0
  have k33_1 : b = bb_bs (bb_bd t) u := k33_1
  have k33_2 : bb_bl (bb_least t) (bb_bq t) q.2.2.1 u = (n, z) := k33_2
  have k33_3 : n ≤ u := k33_3
  have k33_4 : ∀ k, k < n → z k < 65536 := k33_4
  have hl : lv_has ls 2 [(1, .int (nI u)), (0, .ref a.1)] := hl
  have hw : bw_H D bw_Cl A s.heap (bw_W0 a pr gv 1 t.1 t.2.1 t.2.2 n z b q.2.2.2.2) H locs := hw
  refine lv_iload_n hx hb dX0_learn_33 rfl (lv_at hl 0 rfl) ?_
  refine lv_bipush (v := nI 16) hx hb dX0_learn_34 (by decide) ?_
  refine bw_cge (tgt := 107) hx hb dX0_learn_36 (by decide) (by omega) (by omega) (fun c36 => ?_) (fun c36 => ?_)
  · refine lv_aload_n hx hb dX0_learn_107 rfl (lv_at hl 1 rfl) ?_
    refine lv_iconst (v := nI 0) hx hb dX0_learn_108 (by decide) ?_
    refine bw_p0_zs hx hb hts hown hK hw dX0_learn_109 (fun H locs hw => ?_)
    refine lv_iconst (v := nI 0) hx hb dX0_learn_112 (by decide) ?_
    refine lv_istore_n (lv' := [(1, .int (nI 0)), (0, .ref a.1)]) hx hb dX0_learn_113 rfl hl (by decide) rfl (fun ls hl => ?_)
    refine bw_loop (pc := 114) (fun (qq : Nat × Nat) ls H locs => qq.2 ≤ 16 ∧ qq.1 = bb_bs (fun p => bb_van z p n) qq.2 ∧ lv_has ls 2 [(1, .int (nI qq.2)), (0, .ref a.1)] ∧ bw_H D bw_Cl A s.heap (bw_W0 a pr gv 1 t.1 t.2.1 t.2.2 n z b qq.1) H locs) (fun qq => 16 - qq.2) ?_ (0, 0) ⟨Nat.zero_le _, rfl, lv_sub hl [0, 1] rfl, hw⟩
    rintro ⟨y, v⟩ ls H locs ⟨k114_0, k114_1, hl, hw⟩ ih114
    have k114_0 : v ≤ 16 := k114_0
    have k114_1 : y = bb_bs (fun p => bb_van z p n) v := k114_1
    have hl : lv_has ls 2 [(1, .int (nI v)), (0, .ref a.1)] := hl
    have hw : bw_H D bw_Cl A s.heap (bw_W0 a pr gv 1 t.1 t.2.1 t.2.2 n z b y) H locs := hw
    refine lv_iload_n hx hb dX0_learn_114 rfl (lv_at hl 0 rfl) ?_
    refine lv_bipush (v := nI 16) hx hb dX0_learn_115 (by decide) ?_
    refine bw_cge (tgt := 150) hx hb dX0_learn_117 (by decide) (by omega) (by omega) (fun c117 => ?_) (fun c117 => ?_)
    · have hu16 : u = 16 := by omega
      have hv16 : v = 16 := by omega
      subst hu16
      subst hv16
      have hq : bb_ln0 pr gv q = (t, n, z, b, y) := by
        unfold bb_ln0
        rw [← ht, k33_2, ← k33_1]
        rw [k114_1]
      rw [hq] at hret
      exact hret _ _ _ _ hw dX0_learn_150
    · refine lv_aload_n hx hb dX0_learn_120 rfl (lv_at hl 1 rfl) ?_
      refine lv_dup hx hb dX0_learn_121 rfl ?_
      refine bw_g0_zs hx hb hts hown hK hw dX0_learn_122 ?_
      refine lv_aload_n hx hb dX0_learn_125 rfl (lv_at hl 1 rfl) ?_
      refine lv_iload_n hx hb dX0_learn_126 rfl (lv_at hl 0 rfl) ?_
      refine bw_ownI ⟨hx, hb, hml, hown, hts⟩ [.int (nI v)] [.int (nI y), .ref a.1] (mt_vanishes l D a pr gv 1 t.1 t.2.1 t.2.2 n z b y v (by omega) (by omega) k33_4) (cwV 1 hts (lw_V q133 q135 qs9 q17 q136) rfl rfl rfl (by decide +kernel) ⟨Nat.le_of_ble_eq_true rfl, Nat.le_of_ble_eq_true rfl⟩) 0 0 rfl rfl hK hA hw rfl hl.1 rfl (Nat.le_of_ble_eq_true rfl) dX0_learn_127 ⟨Nat.zero_le _, Nat.zero_le _⟩ (fun H locs hw => ?_)
      refine bw_fz (tgt := 139) hx hb dX0_learn_130 (by decide) (fun c130 => ?_) (fun c130 => ?_)
      · refine lv_iconst (v := nI 0) hx hb dX0_learn_139 (by decide) ?_
        refine bw_ior hx hb dX0_learn_140 ?_
        refine bw_p0_zs hx hb hts hown hK hw dX0_learn_141 (fun H locs hw => ?_)
        refine lv_iinc (v := nI (v + 1)) (lv' := [(1, .int (nI (v + 1))), (0, .ref a.1)]) hx hb dX0_learn_144 hl (k := 0) rfl (bw_inc v) (by decide) rfl (fun ls hl => ?_)
        refine lv_goto (tgt := 114) hx hb dX0_learn_147 (by decide) ?_
        exact ih114 (y ||| 0, v + 1) _ _ _ (by show 16 - (v + 1) < 16 - v; omega) ⟨by show (v + 1) ≤ 16; omega, by rw [k114_1]; first | exact (bb_bs_t (P := fun p => bb_van z p n) c130).symm | exact (bb_bs_f (P := fun p => bb_van z p n) c130).symm, lv_sub hl [0, 1] rfl, hw⟩
      · refine lv_iconst (v := nI 1) hx hb dX0_learn_133 (by decide) ?_
        refine lv_iload_n hx hb dX0_learn_134 rfl (lv_at hl 0 rfl) ?_
        refine bw_ishl hx hb dX0_learn_135 (by omega) ?_
        refine lv_goto (tgt := 140) hx hb dX0_learn_136 (by decide) ?_
        refine bw_ior hx hb dX0_learn_140 ?_
        refine bw_p0_zs hx hb hts hown hK hw dX0_learn_141 (fun H locs hw => ?_)
        refine lv_iinc (v := nI (v + 1)) (lv' := [(1, .int (nI (v + 1))), (0, .ref a.1)]) hx hb dX0_learn_144 hl (k := 0) rfl (bw_inc v) (by decide) rfl (fun ls hl => ?_)
        refine lv_goto (tgt := 114) hx hb dX0_learn_147 (by decide) ?_
        exact ih114 (y ||| (2 ^ v), v + 1) _ _ _ (by show 16 - (v + 1) < 16 - v; omega) ⟨by show (v + 1) ≤ 16; omega, by rw [k114_1]; first | exact (bb_bs_t (P := fun p => bb_van z p n) c130).symm | exact (bb_bs_f (P := fun p => bb_van z p n) c130).symm, lv_sub hl [0, 1] rfl, hw⟩
  · refine lv_aload_n hx hb dX0_learn_39 rfl (lv_at hl 1 rfl) ?_
    refine lv_dup hx hb dX0_learn_40 rfl ?_
    refine bw_g0_bs hx hb hts hown hK hw dX0_learn_41 ?_
    refine lv_aload_n hx hb dX0_learn_44 rfl (lv_at hl 1 rfl) ?_
    refine lv_iload_n hx hb dX0_learn_45 rfl (lv_at hl 0 rfl) ?_
    refine bw_ownI ⟨hx, hb, hml, hown, hts⟩ [.int (nI u)] [.int (nI b), .ref a.1] (mt_divisor l D a pr gv 1 t n z b q.2.2.2.2 u htok (by omega)) (cwV 1 hts (lw_V q114 q116 qs5 q17 q117) rfl rfl rfl (by decide +kernel) ⟨Nat.le_of_ble_eq_true rfl, Nat.le_of_ble_eq_true rfl⟩) 0 0 rfl rfl hK hA hw rfl hl.1 rfl (Nat.le_of_ble_eq_true rfl) dX0_learn_46 ⟨Nat.zero_le _, Nat.zero_le _⟩ (fun H locs hw => ?_)
    rcases ho49 : bb_dv t.2.2 u t.1 0 with _ | g
    · refine bw_top (y := -1) rfl ?_
      refine bw_lt0y (tgt := 58) hx hb dX0_learn_49 (by decide) (by decide) ?_
      refine lv_iconst (v := nI 0) hx hb dX0_learn_58 (by decide) ?_
      refine bw_ior hx hb dX0_learn_59 ?_
      refine bw_p0_bs hx hb hts hown hK hw dX0_learn_60 (fun H locs hw => ?_)
      refine lv_aload_n hx hb dX0_learn_63 rfl (lv_at hl 1 rfl) ?_
      refine lv_iload_n hx hb dX0_learn_64 rfl (lv_at hl 0 rfl) ?_
      refine bw_ownI ⟨hx, hb, hml, hown, hts⟩ [.int (nI u)] [] (mt_leastBound l D a pr gv 1 t n z (b ||| 0) q.2.2.2.2 u htok (by omega)) (cwV 1 hts (lw_V q129 q131 qs8 q17 q132) rfl rfl rfl (by decide +kernel) ⟨Nat.le_of_ble_eq_true rfl, Nat.le_of_ble_eq_true rfl⟩) 0 0 rfl rfl hK hA hw rfl hl.1 rfl (Nat.le_of_ble_eq_true rfl) dX0_learn_65 ⟨Nat.zero_le _, Nat.zero_le _⟩ (fun H locs hw => ?_)
      refine bw_fz (tgt := 101) hx hb dX0_learn_68 (by decide) (fun c68 => ?_) (fun c68 => ?_)
      · refine lv_iinc (v := nI (u + 1)) (lv' := [(1, .int (nI (u + 1))), (0, .ref a.1)]) hx hb dX0_learn_101 hl (k := 0) rfl (bw_inc u) (by decide) rfl (fun ls hl => ?_)
        refine lv_goto (tgt := 33) hx hb dX0_learn_104 (by decide) ?_
        exact ih33 (n, z, b ||| 0, u + 1) _ _ _ (by show 16 - (u + 1) < 16 - u; omega) ⟨by show (u + 1) ≤ 16; omega, by rw [k33_1]; first | exact (bb_bs_t (bb_bd_s ho49)).symm | exact (bb_bs_f (bb_bd_n ho49)).symm, by first | exact (bb_bl_f c68).trans k33_2 | (rw [bb_bl_t c68, k33_2]; done), by show n ≤ (u + 1); omega, by first | exact k33_4 | exact bb_upb k33_4 (bb_x16 (bb_p16 (by omega)) (bb_red_ok htok (bb_p16 (by omega)))), lv_sub hl [0, 1] rfl, hw⟩
      · refine lv_aload_n hx hb dX0_learn_71 rfl (lv_at hl 1 rfl) ?_
        refine bw_g0_ba hx hb hts hown hK hw dX0_learn_72 ?_
        refine lv_aload_n hx hb dX0_learn_75 rfl (lv_at hl 1 rfl) ?_
        refine bw_g0_bc hx hb hts hown hK hw dX0_learn_76 ?_
        refine lv_iconst (v := nI 1) hx hb dX0_learn_79 (by decide) ?_
        refine lv_iload_n hx hb dX0_learn_80 rfl (lv_at hl 0 rfl) ?_
        refine bw_ishl hx hb dX0_learn_81 (by omega) ?_
        refine lv_aload_n hx hb dX0_learn_82 rfl (lv_at hl 1 rfl) ?_
        refine lv_iconst (v := nI 1) hx hb dX0_learn_83 (by decide) ?_
        refine lv_iload_n hx hb dX0_learn_84 rfl (lv_at hl 0 rfl) ?_
        refine bw_ishl hx hb dX0_learn_85 (by omega) ?_
        refine bw_ownI ⟨hx, hb, hml, hown, hts⟩ [.int (nI (2 ^ u))] [.int (nI (2 ^ u)), .int (nI n), .ref a.2.2.2.2.1] (mt_reduce l D a pr gv 1 t n z (b ||| 0) q.2.2.2.2 (2 ^ u) htok (bb_p16 (by omega))) (cwV 1 hts (lw_V q110 q112 qs4 q17 q113) rfl rfl rfl (by decide +kernel) ⟨Nat.le_of_ble_eq_true rfl, Nat.le_of_ble_eq_true rfl⟩) 0 0 rfl rfl hK hA hw rfl hl.1 rfl (Nat.le_of_ble_eq_true rfl) dX0_learn_86 ⟨Nat.zero_le _, Nat.zero_le _⟩ (fun H locs hw => ?_)
        refine bw_ixor hx hb dX0_learn_89 ?_
        refine bw_s0_ba hx hb hK hw (by omega) dX0_learn_90 (fun H locs hw => ?_)
        refine lv_aload_n hx hb dX0_learn_91 rfl (lv_at hl 1 rfl) ?_
        refine lv_dup hx hb dX0_learn_92 rfl ?_
        refine bw_g0_bc hx hb hts hown hK hw dX0_learn_93 ?_
        refine lv_iconst (v := nI 1) hx hb dX0_learn_96 (by decide) ?_
        refine bw_iadd hx hb dX0_learn_97 ?_
        refine bw_p0_bc hx hb hts hown hK hw dX0_learn_98 (fun H locs hw => ?_)
        refine lv_iinc (v := nI (u + 1)) (lv' := [(1, .int (nI (u + 1))), (0, .ref a.1)]) hx hb dX0_learn_101 hl (k := 0) rfl (bw_inc u) (by decide) rfl (fun ls hl => ?_)
        refine lv_goto (tgt := 33) hx hb dX0_learn_104 (by decide) ?_
        exact ih33 (n + 1, va_up z n ((2 ^ u) ^^^ (bb_red (bb_bq t) (2 ^ u))), b ||| 0, u + 1) _ _ _ (by show 16 - (u + 1) < 16 - u; omega) ⟨by show (u + 1) ≤ 16; omega, by rw [k33_1]; first | exact (bb_bs_t (bb_bd_s ho49)).symm | exact (bb_bs_f (bb_bd_n ho49)).symm, by first | exact (bb_bl_f c68).trans k33_2 | (rw [bb_bl_t c68, k33_2]; done), by show (n + 1) ≤ (u + 1); omega, by first | exact k33_4 | exact bb_upb k33_4 (bb_x16 (bb_p16 (by omega)) (bb_red_ok htok (bb_p16 (by omega)))), lv_sub hl [0, 1] rfl, hw⟩
    · refine bw_top (y := nI g) rfl ?_
      have hg49 := (bb_dv_some ho49).2.1
      refine bw_lt0n (tgt := 58) hx hb dX0_learn_49 (by decide) (by omega) ?_
      refine lv_iconst (v := nI 1) hx hb dX0_learn_52 (by decide) ?_
      refine lv_iload_n hx hb dX0_learn_53 rfl (lv_at hl 0 rfl) ?_
      refine bw_ishl hx hb dX0_learn_54 (by omega) ?_
      refine lv_goto (tgt := 59) hx hb dX0_learn_55 (by decide) ?_
      refine bw_ior hx hb dX0_learn_59 ?_
      refine bw_p0_bs hx hb hts hown hK hw dX0_learn_60 (fun H locs hw => ?_)
      refine lv_aload_n hx hb dX0_learn_63 rfl (lv_at hl 1 rfl) ?_
      refine lv_iload_n hx hb dX0_learn_64 rfl (lv_at hl 0 rfl) ?_
      refine bw_ownI ⟨hx, hb, hml, hown, hts⟩ [.int (nI u)] [] (mt_leastBound l D a pr gv 1 t n z (b ||| (2 ^ u)) q.2.2.2.2 u htok (by omega)) (cwV 1 hts (lw_V q129 q131 qs8 q17 q132) rfl rfl rfl (by decide +kernel) ⟨Nat.le_of_ble_eq_true rfl, Nat.le_of_ble_eq_true rfl⟩) 0 0 rfl rfl hK hA hw rfl hl.1 rfl (Nat.le_of_ble_eq_true rfl) dX0_learn_65 ⟨Nat.zero_le _, Nat.zero_le _⟩ (fun H locs hw => ?_)
      refine bw_fz (tgt := 101) hx hb dX0_learn_68 (by decide) (fun c68 => ?_) (fun c68 => ?_)
      · refine lv_iinc (v := nI (u + 1)) (lv' := [(1, .int (nI (u + 1))), (0, .ref a.1)]) hx hb dX0_learn_101 hl (k := 0) rfl (bw_inc u) (by decide) rfl (fun ls hl => ?_)
        refine lv_goto (tgt := 33) hx hb dX0_learn_104 (by decide) ?_
        exact ih33 (n, z, b ||| (2 ^ u), u + 1) _ _ _ (by show 16 - (u + 1) < 16 - u; omega) ⟨by show (u + 1) ≤ 16; omega, by rw [k33_1]; first | exact (bb_bs_t (bb_bd_s ho49)).symm | exact (bb_bs_f (bb_bd_n ho49)).symm, by first | exact (bb_bl_f c68).trans k33_2 | (rw [bb_bl_t c68, k33_2]; done), by show n ≤ (u + 1); omega, by first | exact k33_4 | exact bb_upb k33_4 (bb_x16 (bb_p16 (by omega)) (bb_red_ok htok (bb_p16 (by omega)))), lv_sub hl [0, 1] rfl, hw⟩
      · refine lv_aload_n hx hb dX0_learn_71 rfl (lv_at hl 1 rfl) ?_
        refine bw_g0_ba hx hb hts hown hK hw dX0_learn_72 ?_
        refine lv_aload_n hx hb dX0_learn_75 rfl (lv_at hl 1 rfl) ?_
        refine bw_g0_bc hx hb hts hown hK hw dX0_learn_76 ?_
        refine lv_iconst (v := nI 1) hx hb dX0_learn_79 (by decide) ?_
        refine lv_iload_n hx hb dX0_learn_80 rfl (lv_at hl 0 rfl) ?_
        refine bw_ishl hx hb dX0_learn_81 (by omega) ?_
        refine lv_aload_n hx hb dX0_learn_82 rfl (lv_at hl 1 rfl) ?_
        refine lv_iconst (v := nI 1) hx hb dX0_learn_83 (by decide) ?_
        refine lv_iload_n hx hb dX0_learn_84 rfl (lv_at hl 0 rfl) ?_
        refine bw_ishl hx hb dX0_learn_85 (by omega) ?_
        refine bw_ownI ⟨hx, hb, hml, hown, hts⟩ [.int (nI (2 ^ u))] [.int (nI (2 ^ u)), .int (nI n), .ref a.2.2.2.2.1] (mt_reduce l D a pr gv 1 t n z (b ||| (2 ^ u)) q.2.2.2.2 (2 ^ u) htok (bb_p16 (by omega))) (cwV 1 hts (lw_V q110 q112 qs4 q17 q113) rfl rfl rfl (by decide +kernel) ⟨Nat.le_of_ble_eq_true rfl, Nat.le_of_ble_eq_true rfl⟩) 0 0 rfl rfl hK hA hw rfl hl.1 rfl (Nat.le_of_ble_eq_true rfl) dX0_learn_86 ⟨Nat.zero_le _, Nat.zero_le _⟩ (fun H locs hw => ?_)
        refine bw_ixor hx hb dX0_learn_89 ?_
        refine bw_s0_ba hx hb hK hw (by omega) dX0_learn_90 (fun H locs hw => ?_)
        refine lv_aload_n hx hb dX0_learn_91 rfl (lv_at hl 1 rfl) ?_
        refine lv_dup hx hb dX0_learn_92 rfl ?_
        refine bw_g0_bc hx hb hts hown hK hw dX0_learn_93 ?_
        refine lv_iconst (v := nI 1) hx hb dX0_learn_96 (by decide) ?_
        refine bw_iadd hx hb dX0_learn_97 ?_
        refine bw_p0_bc hx hb hts hown hK hw dX0_learn_98 (fun H locs hw => ?_)
        refine lv_iinc (v := nI (u + 1)) (lv' := [(1, .int (nI (u + 1))), (0, .ref a.1)]) hx hb dX0_learn_101 hl (k := 0) rfl (bw_inc u) (by decide) rfl (fun ls hl => ?_)
        refine lv_goto (tgt := 33) hx hb dX0_learn_104 (by decide) ?_
        exact ih33 (n + 1, va_up z n ((2 ^ u) ^^^ (bb_red (bb_bq t) (2 ^ u))), b ||| (2 ^ u), u + 1) _ _ _ (by show 16 - (u + 1) < 16 - u; omega) ⟨by show (u + 1) ≤ 16; omega, by rw [k33_1]; first | exact (bb_bs_t (bb_bd_s ho49)).symm | exact (bb_bs_f (bb_bd_n ho49)).symm, by first | exact (bb_bl_f c68).trans k33_2 | (rw [bb_bl_t c68, k33_2]; done), by show (n + 1) ≤ (u + 1); omega, by first | exact k33_4 | exact bb_upb k33_4 (bb_x16 (bb_p16 (by omega)) (bb_red_ok htok (bb_p16 (by omega)))), lv_sub hl [0, 1] rfl, hw⟩
/-- learn -/
theorem mt_learn (l : Launch) (D : va_G) (a : bw_A0) (pr : Nat) (gv : Nat → Nat) (kn : Nat) (q : bb_LS) (q9 : bb_LS) (hq9 : bb_ln kn pr gv q = q9) (hkn : kn = 0 ∨ kn = 1) (hpr : pr < 64) (hgv : ∀ i, i < 6 → gv i < 65536) : bw_MV l yX0_learn (ws_ yX0_learn cX0_learn 2 none) ({ frames := 5, cells := 0, slots := 0, locals := 117 }) D bw_Cl (bw_T0 a) [.ref a.1] (bw_W0 a pr gv kn q.1.1 q.1.2.1 q.1.2.2 q.2.1 q.2.2.1 q.2.2.2.1 q.2.2.2.2) (bw_W0 a pr gv 1 q9.1.1 q9.1.2.1 q9.1.2.2 q9.2.1 q9.2.2.1 q9.2.2.2.1 q9.2.2.2.2) := by
  subst hq9
  rcases hkn with rfl | rfl
  · rw [bb_ln_0]; exact mt_learn0 l D a pr gv q hpr hgv
  · rw [bb_ln_1]; exact mt_learn1 l D a pr gv q
set_option maxHeartbeats 4000000 in
set_option maxRecDepth 100000 in
/-- contains -/
theorem mt_contains (l : Launch) (D : va_G) (a : bw_A0) (pr : Nat) (gv : Nat → Nat) (kn : Nat) (q : bb_LS) (q9 : bb_LS) (hq9 : bb_ln kn pr gv q = q9) (hkn : kn = 0 ∨ kn = 1) (hpr : pr < 64) (hgv : ∀ i, i < 6 → gv i < 65536) (hok : bb_ok q9.1) (f : Nat) (hf : f < 65536) : bw_MI l yX0_contains (ws_ yX0_contains cX0_contains 2 (some .boolean)) ({ frames := 6, cells := 0, slots := 0, locals := 138 }) D bw_Cl (bw_T0 a) [.ref a.1, .int (nI f)] (bw_W0 a pr gv kn q.1.1 q.1.2.1 q.1.2.2 q.2.1 q.2.2.1 q.2.2.2.1 q.2.2.2.2) (bw_W0 a pr gv 1 q9.1.1 q9.1.2.1 q9.1.2.2 q9.2.1 q9.2.2.1 q9.2.2.2.1 q9.2.2.2.2) (bw_bI (decide (bb_red (bb_bq q9.1) f = 0))) := by
  refine bw_startI (by decide) (Nat.le_of_ble_eq_true rfl) (bw_bI_n _) ?_
  intro p e s m below meth c A Q ls hx hb hml hown hts hA hK hw hl hret
  have hown : s.vm.findClass RX0 = some m.cls := hown
  have hl : lv_has ls 2 [(0, .ref a.1), (1, .int (nI f))] := hl
  have hR : bb_red (bb_bq q9.1) f < 65536 := bb_red_ok hok hf
  refine lv_iload_n hx hb dX0_contains_0 rfl (lv_at hl 1 rfl) ?_
  refine bw_stat ⟨hx, hb, hml, hown, hts⟩ [.int (nI f)] [] (mt_ip1 l D f hf) (va_cwS 1 hts (lw_S q64 q65 q17 q66) rfl rfl rfl (by decide +kernel) ⟨Nat.le_of_ble_eq_true rfl, Nat.le_of_ble_eq_true rfl⟩) hK hA hw rfl hl.1 rfl (Nat.le_of_ble_eq_true rfl) dX0_contains_1 ⟨Nat.zero_le _, Nat.zero_le _⟩ (fun H locs hw => ?_)
  refine bw_ne0y (tgt := 9) hx hb dX0_contains_4 (by decide) (by decide) ?_
  refine lv_aload_n hx hb dX0_contains_9 rfl (lv_at hl 0 rfl) ?_
  refine bw_ownV ⟨hx, hb, hml, hown, hts⟩ [] [] (mt_learn l D a pr gv kn q q9 hq9 hkn hpr hgv) (cwV 0 hts (lw_V q98 q100 qs1 q17 q101) rfl rfl rfl (by decide +kernel) ⟨Nat.le_of_ble_eq_true rfl, Nat.le_of_ble_eq_true rfl⟩) 0 0 rfl rfl hK hA hw rfl hl.1 rfl (Nat.le_of_ble_eq_true rfl) dX0_contains_10 ⟨Nat.zero_le _, Nat.zero_le _⟩ (fun H locs hw => ?_)
  refine lv_aload_n hx hb dX0_contains_13 rfl (lv_at hl 0 rfl) ?_
  refine lv_iload_n hx hb dX0_contains_14 rfl (lv_at hl 1 rfl) ?_
  refine bw_ownI ⟨hx, hb, hml, hown, hts⟩ [.int (nI f)] [] (mt_reduce l D a pr gv 1 q9.1 q9.2.1 q9.2.2.1 q9.2.2.2.1 q9.2.2.2.2 f hok hf) (cwV 1 hts (lw_V q110 q112 qs4 q17 q113) rfl rfl rfl (by decide +kernel) ⟨Nat.le_of_ble_eq_true rfl, Nat.le_of_ble_eq_true rfl⟩) 0 0 rfl rfl hK hA hw rfl hl.1 rfl (Nat.le_of_ble_eq_true rfl) dX0_contains_15 ⟨Nat.zero_le _, Nat.zero_le _⟩ (fun H locs hw => ?_)
  refine bw_ne0 (tgt := 25) hx hb dX0_contains_18 (by decide) (by omega) (fun c18 => ?_) (fun c18 => ?_)
  · refine lv_iconst (v := nI 0) hx hb dX0_contains_25 (by decide) ?_
    refine bw_top (y := bw_bI (decide (bb_red (bb_bq q9.1) f = 0))) (by first | (rw [decide_eq_true c18]; rfl) | (rw [decide_eq_false c18]; rfl)) ?_
    exact hret _ _ _ _ hw dX0_contains_26
  · refine lv_iconst (v := nI 1) hx hb dX0_contains_21 (by decide) ?_
    refine lv_goto (tgt := 26) hx hb dX0_contains_22 (by decide) ?_
    refine bw_top (y := bw_bI (decide (bb_red (bb_bq q9.1) f = 0))) (by first | (rw [decide_eq_true c18]; rfl) | (rw [decide_eq_false c18]; rfl)) ?_
    exact hret _ _ _ _ hw dX0_contains_26
set_option maxHeartbeats 4000000 in
set_option maxRecDepth 100000 in
/-- contains, no polynomial -/
theorem mt_containsX (l : Launch) (D : va_G) (a : bw_A0) (pr : Nat) (gv : Nat → Nat) (kn : Nat) (q : bb_LS) (x : Int32) (hbad : ∀ j : Nat, j < 65536 → x ≠ nI j) : bw_MI l yX0_contains (ws_ yX0_contains cX0_contains 2 (some .boolean)) ({ frames := 6, cells := 0, slots := 0, locals := 138 }) D bw_Cl (bw_T0 a) [.ref a.1, .int x] (bw_W0 a pr gv kn q.1.1 q.1.2.1 q.1.2.2 q.2.1 q.2.2.1 q.2.2.2.1 q.2.2.2.2) (bw_W0 a pr gv kn q.1.1 q.1.2.1 q.1.2.2 q.2.1 q.2.2.1 q.2.2.2.1 q.2.2.2.2) (nI 0) := by
  refine bw_startI (by decide) (Nat.le_of_ble_eq_true rfl) (by decide +kernel) ?_
  intro p e s m below meth c A Q ls hx hb hml hown hts hA hK hw hl hret
  have hown : s.vm.findClass RX0 = some m.cls := hown
  have hl : lv_has ls 2 [(0, .ref a.1), (1, .int x)] := hl
  refine lv_iload_n hx hb dX0_contains_0 rfl (lv_at hl 1 rfl) ?_
  refine bw_stat ⟨hx, hb, hml, hown, hts⟩ [.int x] [] (mt_ip0 l D x hbad) (va_cwS 1 hts (lw_S q64 q65 q17 q66) rfl rfl rfl (by decide +kernel) ⟨Nat.le_of_ble_eq_true rfl, Nat.le_of_ble_eq_true rfl⟩) hK hA hw rfl hl.1 rfl (Nat.le_of_ble_eq_true rfl) dX0_contains_1 ⟨Nat.zero_le _, Nat.zero_le _⟩ (fun H locs hw => ?_)
  refine bw_ne0n (tgt := 9) hx hb dX0_contains_4 (by decide) (by decide) ?_
  refine lv_iconst (v := nI 0) hx hb dX0_contains_7 (by decide) ?_
  exact hret _ _ _ _ hw dX0_contains_8
set_option maxHeartbeats 4000000 in
set_option maxRecDepth 100000 in
/-- rest -/
theorem mt_rest (l : Launch) (D : va_G) (a : bw_A0) (pr : Nat) (gv : Nat → Nat) (kn : Nat) (q : bb_LS) (q9 : bb_LS) (hq9 : bb_ln kn pr gv q = q9) (hkn : kn = 0 ∨ kn = 1) (hpr : pr < 64) (hgv : ∀ i, i < 6 → gv i < 65536) (hok : bb_ok q9.1) (f : Nat) (hf : f < 65536) : bw_MI l yX0_rest (ws_ yX0_rest cX0_rest 2 (some .int)) ({ frames := 6, cells := 0, slots := 0, locals := 138 }) D bw_Cl (bw_T0 a) [.ref a.1, .int (nI f)] (bw_W0 a pr gv kn q.1.1 q.1.2.1 q.1.2.2 q.2.1 q.2.2.1 q.2.2.2.1 q.2.2.2.2) (bw_W0 a pr gv 1 q9.1.1 q9.1.2.1 q9.1.2.2 q9.2.1 q9.2.2.1 q9.2.2.2.1 q9.2.2.2.2) (nI (bb_red (bb_bq q9.1) f)) := by
  refine bw_startI (by decide) (Nat.le_of_ble_eq_true rfl) rfl ?_
  intro p e s m below meth c A Q ls hx hb hml hown hts hA hK hw hl hret
  have hown : s.vm.findClass RX0 = some m.cls := hown
  have hl : lv_has ls 2 [(0, .ref a.1), (1, .int (nI f))] := hl
  refine lv_iload_n hx hb dX0_rest_0 rfl (lv_at hl 1 rfl) ?_
  refine bw_stat ⟨hx, hb, hml, hown, hts⟩ [.int (nI f)] [] (mt_ip1 l D f hf) (va_cwS 1 hts (lw_S q64 q65 q17 q66) rfl rfl rfl (by decide +kernel) ⟨Nat.le_of_ble_eq_true rfl, Nat.le_of_ble_eq_true rfl⟩) hK hA hw rfl hl.1 rfl (Nat.le_of_ble_eq_true rfl) dX0_rest_1 ⟨Nat.zero_le _, Nat.zero_le _⟩ (fun H locs hw => ?_)
  refine bw_ne0y (tgt := 9) hx hb dX0_rest_4 (by decide) (by decide) ?_
  refine lv_aload_n hx hb dX0_rest_9 rfl (lv_at hl 0 rfl) ?_
  refine bw_ownV ⟨hx, hb, hml, hown, hts⟩ [] [] (mt_learn l D a pr gv kn q q9 hq9 hkn hpr hgv) (cwV 0 hts (lw_V q98 q100 qs1 q17 q101) rfl rfl rfl (by decide +kernel) ⟨Nat.le_of_ble_eq_true rfl, Nat.le_of_ble_eq_true rfl⟩) 0 0 rfl rfl hK hA hw rfl hl.1 rfl (Nat.le_of_ble_eq_true rfl) dX0_rest_10 ⟨Nat.zero_le _, Nat.zero_le _⟩ (fun H locs hw => ?_)
  refine lv_aload_n hx hb dX0_rest_13 rfl (lv_at hl 0 rfl) ?_
  refine lv_iload_n hx hb dX0_rest_14 rfl (lv_at hl 1 rfl) ?_
  refine bw_ownI ⟨hx, hb, hml, hown, hts⟩ [.int (nI f)] [] (mt_reduce l D a pr gv 1 q9.1 q9.2.1 q9.2.2.1 q9.2.2.2.1 q9.2.2.2.2 f hok hf) (cwV 1 hts (lw_V q110 q112 qs4 q17 q113) rfl rfl rfl (by decide +kernel) ⟨Nat.le_of_ble_eq_true rfl, Nat.le_of_ble_eq_true rfl⟩) 0 0 rfl rfl hK hA hw rfl hl.1 rfl (Nat.le_of_ble_eq_true rfl) dX0_rest_15 ⟨Nat.zero_le _, Nat.zero_le _⟩ (fun H locs hw => ?_)
  exact hret _ _ _ _ hw dX0_rest_18
set_option maxHeartbeats 4000000 in
set_option maxRecDepth 100000 in
/-- rest, no polynomial -/
theorem mt_restX (l : Launch) (D : va_G) (a : bw_A0) (pr : Nat) (gv : Nat → Nat) (kn : Nat) (q : bb_LS) (x : Int32) (hbad : ∀ j : Nat, j < 65536 → x ≠ nI j) : bw_MI l yX0_rest (ws_ yX0_rest cX0_rest 2 (some .int)) ({ frames := 6, cells := 0, slots := 0, locals := 138 }) D bw_Cl (bw_T0 a) [.ref a.1, .int x] (bw_W0 a pr gv kn q.1.1 q.1.2.1 q.1.2.2 q.2.1 q.2.2.1 q.2.2.2.1 q.2.2.2.2) (bw_W0 a pr gv kn q.1.1 q.1.2.1 q.1.2.2 q.2.1 q.2.2.1 q.2.2.2.1 q.2.2.2.2) (-1) := by
  refine bw_startI (by decide) (Nat.le_of_ble_eq_true rfl) rfl ?_
  intro p e s m below meth c A Q ls hx hb hml hown hts hA hK hw hl hret
  have hown : s.vm.findClass RX0 = some m.cls := hown
  have hl : lv_has ls 2 [(0, .ref a.1), (1, .int x)] := hl
  refine lv_iload_n hx hb dX0_rest_0 rfl (lv_at hl 1 rfl) ?_
  refine bw_stat ⟨hx, hb, hml, hown, hts⟩ [.int x] [] (mt_ip0 l D x hbad) (va_cwS 1 hts (lw_S q64 q65 q17 q66) rfl rfl rfl (by decide +kernel) ⟨Nat.le_of_ble_eq_true rfl, Nat.le_of_ble_eq_true rfl⟩) hK hA hw rfl hl.1 rfl (Nat.le_of_ble_eq_true rfl) dX0_rest_1 ⟨Nat.zero_le _, Nat.zero_le _⟩ (fun H locs hw => ?_)
  refine bw_ne0n (tgt := 9) hx hb dX0_rest_4 (by decide) (by decide) ?_
  refine lv_iconst (v := -1) hx hb dX0_rest_7 (by decide) ?_
  exact hret _ _ _ _ hw dX0_rest_8
set_option maxHeartbeats 4000000 in
set_option maxRecDepth 100000 in
/-- basisSize -/
theorem mt_basisSize (l : Launch) (D : va_G) (a : bw_A0) (pr : Nat) (gv : Nat → Nat) (kn : Nat) (q : bb_LS) (q9 : bb_LS) (hq9 : bb_ln kn pr gv q = q9) (hkn : kn = 0 ∨ kn = 1) (hpr : pr < 64) (hgv : ∀ i, i < 6 → gv i < 65536) : bw_MI l yX0_basisSize (ws_ yX0_basisSize cX0_basisSize 1 (some .int)) ({ frames := 6, cells := 0, slots := 0, locals := 138 }) D bw_Cl (bw_T0 a) [.ref a.1] (bw_W0 a pr gv kn q.1.1 q.1.2.1 q.1.2.2 q.2.1 q.2.2.1 q.2.2.2.1 q.2.2.2.2) (bw_W0 a pr gv 1 q9.1.1 q9.1.2.1 q9.1.2.2 q9.2.1 q9.2.2.1 q9.2.2.2.1 q9.2.2.2.2) (nI q9.2.1) := by
  refine bw_startI (by decide) (Nat.le_of_ble_eq_true rfl) rfl ?_
  intro p e s m below meth c A Q ls hx hb hml hown hts hA hK hw hl hret
  have hown : s.vm.findClass RX0 = some m.cls := hown
  have hl : lv_has ls 1 [(0, .ref a.1)] := hl
  refine lv_aload_n hx hb dX0_basisSize_0 rfl (lv_at hl 0 rfl) ?_
  refine bw_ownV ⟨hx, hb, hml, hown, hts⟩ [] [] (mt_learn l D a pr gv kn q q9 hq9 hkn hpr hgv) (cwV 0 hts (lw_V q98 q100 qs1 q17 q101) rfl rfl rfl (by decide +kernel) ⟨Nat.le_of_ble_eq_true rfl, Nat.le_of_ble_eq_true rfl⟩) 0 0 rfl rfl hK hA hw rfl hl.1 rfl (Nat.le_of_ble_eq_true rfl) dX0_basisSize_1 ⟨Nat.zero_le _, Nat.zero_le _⟩ (fun H locs hw => ?_)
  refine lv_aload_n hx hb dX0_basisSize_4 rfl (lv_at hl 0 rfl) ?_
  refine bw_g0_bc hx hb hts hown hK hw dX0_basisSize_5 ?_
  exact hret _ _ _ _ hw dX0_basisSize_8
set_option maxHeartbeats 4000000 in
set_option maxRecDepth 100000 in
/-- basisAt in range -/
theorem mt_basisAt (l : Launch) (D : va_G) (a : bw_A0) (pr : Nat) (gv : Nat → Nat) (kn : Nat) (q : bb_LS) (q9 : bb_LS) (hq9 : bb_ln kn pr gv q = q9) (hkn : kn = 0 ∨ kn = 1) (hpr : pr < 64) (hgv : ∀ i, i < 6 → gv i < 65536) (i : Nat) (hbc : q9.2.1 ≤ 16) (hi : i < q9.2.1) : bw_MI l yX0_basisAt (ws_ yX0_basisAt cX0_basisAt 2 (some .int)) ({ frames := 6, cells := 0, slots := 0, locals := 138 }) D bw_Cl (bw_T0 a) [.ref a.1, .int (nI i)] (bw_W0 a pr gv kn q.1.1 q.1.2.1 q.1.2.2 q.2.1 q.2.2.1 q.2.2.2.1 q.2.2.2.2) (bw_W0 a pr gv 1 q9.1.1 q9.1.2.1 q9.1.2.2 q9.2.1 q9.2.2.1 q9.2.2.2.1 q9.2.2.2.2) (nI (q9.2.2.1 i)) := by
  refine bw_startI (by decide) (Nat.le_of_ble_eq_true rfl) rfl ?_
  intro p e s m below meth c A Q ls hx hb hml hown hts hA hK hw hl hret
  have hown : s.vm.findClass RX0 = some m.cls := hown
  have hl : lv_has ls 2 [(0, .ref a.1), (1, .int (nI i))] := hl
  refine lv_aload_n hx hb dX0_basisAt_0 rfl (lv_at hl 0 rfl) ?_
  refine bw_ownV ⟨hx, hb, hml, hown, hts⟩ [] [] (mt_learn l D a pr gv kn q q9 hq9 hkn hpr hgv) (cwV 0 hts (lw_V q98 q100 qs1 q17 q101) rfl rfl rfl (by decide +kernel) ⟨Nat.le_of_ble_eq_true rfl, Nat.le_of_ble_eq_true rfl⟩) 0 0 rfl rfl hK hA hw rfl hl.1 rfl (Nat.le_of_ble_eq_true rfl) dX0_basisAt_1 ⟨Nat.zero_le _, Nat.zero_le _⟩ (fun H locs hw => ?_)
  refine lv_iload_n hx hb dX0_basisAt_4 rfl (lv_at hl 1 rfl) ?_
  refine bw_lt0n (tgt := 16) hx hb dX0_basisAt_5 (by decide) (by omega) ?_
  refine lv_iload_n hx hb dX0_basisAt_8 rfl (lv_at hl 1 rfl) ?_
  refine lv_aload_n hx hb dX0_basisAt_9 rfl (lv_at hl 0 rfl) ?_
  refine bw_g0_bc hx hb hts hown hK hw dX0_basisAt_10 ?_
  refine bw_clt (tgt := 20) hx hb dX0_basisAt_13 (by decide) (by omega) (by omega) (fun c13 => ?_) (fun c13 => ?_)
  · refine lv_aload_n hx hb dX0_basisAt_20 rfl (lv_at hl 0 rfl) ?_
    refine bw_g0_ba hx hb hts hown hK hw dX0_basisAt_21 ?_
    refine lv_iload_n hx hb dX0_basisAt_24 rfl (lv_at hl 1 rfl) ?_
    refine bw_l0_ba hx hb hK hw (by omega) dX0_basisAt_25 ?_
    exact hret _ _ _ _ hw dX0_basisAt_26
  · exact absurd hi (by omega)
set_option maxHeartbeats 4000000 in
set_option maxRecDepth 100000 in
/-- basisAt out of range -/
theorem mt_basisAtX (l : Launch) (D : va_G) (a : bw_A0) (pr : Nat) (gv : Nat → Nat) (kn : Nat) (q : bb_LS) (q9 : bb_LS) (hq9 : bb_ln kn pr gv q = q9) (hkn : kn = 0 ∨ kn = 1) (hpr : pr < 64) (hgv : ∀ i, i < 6 → gv i < 65536) (x : Int32) (hbc : q9.2.1 ≤ 16) (hbad : ∀ j : Nat, j < q9.2.1 → x ≠ nI j) : bw_MI l yX0_basisAt (ws_ yX0_basisAt cX0_basisAt 2 (some .int)) ({ frames := 6, cells := 0, slots := 0, locals := 138 }) D bw_Cl (bw_T0 a) [.ref a.1, .int x] (bw_W0 a pr gv kn q.1.1 q.1.2.1 q.1.2.2 q.2.1 q.2.2.1 q.2.2.2.1 q.2.2.2.2) (bw_W0 a pr gv 1 q9.1.1 q9.1.2.1 q9.1.2.2 q9.2.1 q9.2.2.1 q9.2.2.2.1 q9.2.2.2.2) (-1) := by
  refine bw_startI (by decide) (Nat.le_of_ble_eq_true rfl) rfl ?_
  intro p e s m below meth c A Q ls hx hb hml hown hts hA hK hw hl hret
  have hown : s.vm.findClass RX0 = some m.cls := hown
  have hl : lv_has ls 2 [(0, .ref a.1), (1, .int x)] := hl
  refine lv_aload_n hx hb dX0_basisAt_0 rfl (lv_at hl 0 rfl) ?_
  refine bw_ownV ⟨hx, hb, hml, hown, hts⟩ [] [] (mt_learn l D a pr gv kn q q9 hq9 hkn hpr hgv) (cwV 0 hts (lw_V q98 q100 qs1 q17 q101) rfl rfl rfl (by decide +kernel) ⟨Nat.le_of_ble_eq_true rfl, Nat.le_of_ble_eq_true rfl⟩) 0 0 rfl rfl hK hA hw rfl hl.1 rfl (Nat.le_of_ble_eq_true rfl) dX0_basisAt_1 ⟨Nat.zero_le _, Nat.zero_le _⟩ (fun H locs hw => ?_)
  refine lv_iload_n hx hb dX0_basisAt_4 rfl (lv_at hl 1 rfl) ?_
  refine lv_if_lt (tgt := 16) hx hb dX0_basisAt_5 (by decide) (fun c5 => ?_) (fun c5 => ?_)
  · refine lv_iconst (v := -1) hx hb dX0_basisAt_16 (by decide) ?_
    refine lv_goto (tgt := 26) hx hb dX0_basisAt_17 (by decide) ?_
    exact hret _ _ _ _ hw dX0_basisAt_26
  · obtain ⟨j, hj, rfl⟩ := nI_of c5
    refine lv_iload_n hx hb dX0_basisAt_8 rfl (lv_at hl 1 rfl) ?_
    refine lv_aload_n hx hb dX0_basisAt_9 rfl (lv_at hl 0 rfl) ?_
    refine bw_g0_bc hx hb hts hown hK hw dX0_basisAt_10 ?_
    refine bw_clt (tgt := 20) hx hb dX0_basisAt_13 (by decide) (by omega) (by omega) (fun c13 => ?_) (fun c13 => ?_)
    · exact absurd rfl (hbad j (by omega))
    · refine lv_iconst (v := -1) hx hb dX0_basisAt_16 (by decide) ?_
      refine lv_goto (tgt := 26) hx hb dX0_basisAt_17 (by decide) ?_
      exact hret _ _ _ _ hw dX0_basisAt_26
set_option maxHeartbeats 4000000 in
set_option maxRecDepth 100000 in
/-- bound -/
theorem mt_bound (l : Launch) (D : va_G) (a : bw_A0) (pr : Nat) (gv : Nat → Nat) (kn : Nat) (q : bb_LS) (q9 : bb_LS) (hq9 : bb_ln kn pr gv q = q9) (hkn : kn = 0 ∨ kn = 1) (hpr : pr < 64) (hgv : ∀ i, i < 6 → gv i < 65536) : bw_MI l yX0_bound (ws_ yX0_bound cX0_bound 1 (some .int)) ({ frames := 6, cells := 0, slots := 0, locals := 138 }) D bw_Cl (bw_T0 a) [.ref a.1] (bw_W0 a pr gv kn q.1.1 q.1.2.1 q.1.2.2 q.2.1 q.2.2.1 q.2.2.2.1 q.2.2.2.2) (bw_W0 a pr gv 1 q9.1.1 q9.1.2.1 q9.1.2.2 q9.2.1 q9.2.2.1 q9.2.2.2.1 q9.2.2.2.2) (nI q9.2.2.2.1) := by
  refine bw_startI (by decide) (Nat.le_of_ble_eq_true rfl) rfl ?_
  intro p e s m below meth c A Q ls hx hb hml hown hts hA hK hw hl hret
  have hown : s.vm.findClass RX0 = some m.cls := hown
  have hl : lv_has ls 1 [(0, .ref a.1)] := hl
  refine lv_aload_n hx hb dX0_bound_0 rfl (lv_at hl 0 rfl) ?_
  refine bw_ownV ⟨hx, hb, hml, hown, hts⟩ [] [] (mt_learn l D a pr gv kn q q9 hq9 hkn hpr hgv) (cwV 0 hts (lw_V q98 q100 qs1 q17 q101) rfl rfl rfl (by decide +kernel) ⟨Nat.le_of_ble_eq_true rfl, Nat.le_of_ble_eq_true rfl⟩) 0 0 rfl rfl hK hA hw rfl hl.1 rfl (Nat.le_of_ble_eq_true rfl) dX0_bound_1 ⟨Nat.zero_le _, Nat.zero_le _⟩ (fun H locs hw => ?_)
  refine lv_aload_n hx hb dX0_bound_4 rfl (lv_at hl 0 rfl) ?_
  refine bw_g0_bs hx hb hts hown hK hw dX0_bound_5 ?_
  exact hret _ _ _ _ hw dX0_bound_8
set_option maxHeartbeats 4000000 in
set_option maxRecDepth 100000 in
/-- zeros -/
theorem mt_zeros (l : Launch) (D : va_G) (a : bw_A0) (pr : Nat) (gv : Nat → Nat) (kn : Nat) (q : bb_LS) (q9 : bb_LS) (hq9 : bb_ln kn pr gv q = q9) (hkn : kn = 0 ∨ kn = 1) (hpr : pr < 64) (hgv : ∀ i, i < 6 → gv i < 65536) : bw_MI l yX0_zeros (ws_ yX0_zeros cX0_zeros 1 (some .int)) ({ frames := 6, cells := 0, slots := 0, locals := 138 }) D bw_Cl (bw_T0 a) [.ref a.1] (bw_W0 a pr gv kn q.1.1 q.1.2.1 q.1.2.2 q.2.1 q.2.2.1 q.2.2.2.1 q.2.2.2.2) (bw_W0 a pr gv 1 q9.1.1 q9.1.2.1 q9.1.2.2 q9.2.1 q9.2.2.1 q9.2.2.2.1 q9.2.2.2.2) (nI q9.2.2.2.2) := by
  refine bw_startI (by decide) (Nat.le_of_ble_eq_true rfl) rfl ?_
  intro p e s m below meth c A Q ls hx hb hml hown hts hA hK hw hl hret
  have hown : s.vm.findClass RX0 = some m.cls := hown
  have hl : lv_has ls 1 [(0, .ref a.1)] := hl
  refine lv_aload_n hx hb dX0_zeros_0 rfl (lv_at hl 0 rfl) ?_
  refine bw_ownV ⟨hx, hb, hml, hown, hts⟩ [] [] (mt_learn l D a pr gv kn q q9 hq9 hkn hpr hgv) (cwV 0 hts (lw_V q98 q100 qs1 q17 q101) rfl rfl rfl (by decide +kernel) ⟨Nat.le_of_ble_eq_true rfl, Nat.le_of_ble_eq_true rfl⟩) 0 0 rfl rfl hK hA hw rfl hl.1 rfl (Nat.le_of_ble_eq_true rfl) dX0_zeros_1 ⟨Nat.zero_le _, Nat.zero_le _⟩ (fun H locs hw => ?_)
  refine lv_aload_n hx hb dX0_zeros_4 rfl (lv_at hl 0 rfl) ?_
  refine bw_g0_zs hx hb hts hown hK hw dX0_zeros_5 ?_
  exact hret _ _ _ _ hw dX0_zeros_8
set_option maxHeartbeats 4000000 in
set_option maxRecDepth 100000 in
/-- zeroCount -/
theorem mt_zeroCount (l : Launch) (D : va_G) (a : bw_A0) (pr : Nat) (gv : Nat → Nat) (kn : Nat) (q : bb_LS) (q9 : bb_LS) (hq9 : bb_ln kn pr gv q = q9) (hkn : kn = 0 ∨ kn = 1) (hpr : pr < 64) (hgv : ∀ i, i < 6 → gv i < 65536) (hzs : q9.2.2.2.2 < 65536) : bw_MI l yX0_zeroCount (ws_ yX0_zeroCount cX0_zeroCount 3 (some .int)) ({ frames := 6, cells := 0, slots := 0, locals := 138 }) D bw_Cl (bw_T0 a) [.ref a.1] (bw_W0 a pr gv kn q.1.1 q.1.2.1 q.1.2.2 q.2.1 q.2.2.1 q.2.2.2.1 q.2.2.2.2) (bw_W0 a pr gv 1 q9.1.1 q9.1.2.1 q9.1.2.2 q9.2.1 q9.2.2.1 q9.2.2.2.1 q9.2.2.2.2) (nI (bb_cnt q9.2.2.2.2 16)) := by
  refine bw_startI (by decide) (Nat.le_of_ble_eq_true rfl) rfl ?_
  intro p e s m below meth c A Q ls hx hb hml hown hts hA hK hw hl hret
  have hown : s.vm.findClass RX0 = some m.cls := hown
  have hl : lv_has ls 3 [(0, .ref a.1)] := hl
  refine lv_aload_n hx hb dX0_zeroCount_0 rfl (lv_at hl 0 rfl) ?_
  refine bw_ownV ⟨hx, hb, hml, hown, hts⟩ [] [] (mt_learn l D a pr gv kn q q9 hq9 hkn hpr hgv) (cwV 0 hts (lw_V q98 q100 qs1 q17 q101) rfl rfl rfl (by decide +kernel) ⟨Nat.le_of_ble_eq_true rfl, Nat.le_of_ble_eq_true rfl⟩) 0 0 rfl rfl hK hA hw rfl hl.1 rfl (Nat.le_of_ble_eq_true rfl) dX0_zeroCount_1 ⟨Nat.zero_le _, Nat.zero_le _⟩ (fun H locs hw => ?_)
  refine lv_iconst (v := nI 0) hx hb dX0_zeroCount_4 (by decide) ?_
  refine lv_istore_n (lv' := [(1, .int (nI 0)), (0, .ref a.1)]) hx hb dX0_zeroCount_5 rfl hl (by decide) rfl (fun ls hl => ?_)
  refine lv_iconst (v := nI 0) hx hb dX0_zeroCount_6 (by decide) ?_
  refine lv_istore_n (lv' := [(2, .int (nI 0)), (1, .int (nI 0)), (0, .ref a.1)]) hx hb dX0_zeroCount_7 rfl hl (by decide) rfl (fun ls hl => ?_)
  refine bw_loop (pc := 8) (fun (qq : Nat × Nat) ls H locs => qq.2 ≤ 16 ∧ qq.1 = bb_cnt q9.2.2.2.2 qq.2 ∧ lv_has ls 3 [(2, .int (nI qq.2)), (1, .int (nI qq.1)), (0, .ref a.1)] ∧ bw_H D bw_Cl A s.heap (bw_W0 a pr gv 1 q9.1.1 q9.1.2.1 q9.1.2.2 q9.2.1 q9.2.2.1 q9.2.2.2.1 q9.2.2.2.2) H locs) (fun qq => 16 - qq.2) ?_ (0, 0) ⟨Nat.zero_le _, rfl, lv_sub hl [0, 1, 2] rfl, hw⟩
  rintro ⟨n, t⟩ ls H locs ⟨k8_0, k8_1, hl, hw⟩ ih8
  have k8_0 : t ≤ 16 := k8_0
  have k8_1 : n = bb_cnt q9.2.2.2.2 t := k8_1
  have hl : lv_has ls 3 [(2, .int (nI t)), (1, .int (nI n)), (0, .ref a.1)] := hl
  have hw : bw_H D bw_Cl A s.heap (bw_W0 a pr gv 1 q9.1.1 q9.1.2.1 q9.1.2.2 q9.2.1 q9.2.2.1 q9.2.2.2.1 q9.2.2.2.2) H locs := hw
  refine lv_iload_n hx hb dX0_zeroCount_8 rfl (lv_at hl 0 rfl) ?_
  refine lv_bipush (v := nI 16) hx hb dX0_zeroCount_9 (by decide) ?_
  refine bw_cge (tgt := 31) hx hb dX0_zeroCount_11 (by decide) (by omega) (by omega) (fun c11 => ?_) (fun c11 => ?_)
  · refine lv_iload_n hx hb dX0_zeroCount_31 rfl (lv_at hl 1 rfl) ?_
    refine bw_top (y := nI (bb_cnt q9.2.2.2.2 16)) (by rw [k8_1, show t = 16 by omega]) ?_
    exact hret _ _ _ _ hw dX0_zeroCount_32
  · refine lv_iload_n hx hb dX0_zeroCount_14 rfl (lv_at hl 1 rfl) ?_
    refine lv_aload_n hx hb dX0_zeroCount_15 rfl (lv_at hl 2 rfl) ?_
    refine bw_g0_zs hx hb hts hown hK hw dX0_zeroCount_16 ?_
    refine lv_iload_n hx hb dX0_zeroCount_19 rfl (lv_at hl 0 rfl) ?_
    refine bw_ishr hx hb dX0_zeroCount_20 (by omega) (by omega) ?_
    refine lv_iconst (v := nI 1) hx hb dX0_zeroCount_21 (by decide) ?_
    refine bw_iand hx hb dX0_zeroCount_22 ?_
    refine bw_iadd hx hb dX0_zeroCount_23 ?_
    refine lv_istore_n (lv' := [(1, .int (nI (n + ((q9.2.2.2.2 >>> t) &&& 1)))), (2, .int (nI t)), (0, .ref a.1)]) hx hb dX0_zeroCount_24 rfl hl (by decide) rfl (fun ls hl => ?_)
    refine lv_iinc (v := nI (t + 1)) (lv' := [(2, .int (nI (t + 1))), (1, .int (nI (n + ((q9.2.2.2.2 >>> t) &&& 1)))), (0, .ref a.1)]) hx hb dX0_zeroCount_25 hl (k := 1) rfl (bw_inc t) (by decide) rfl (fun ls hl => ?_)
    refine lv_goto (tgt := 8) hx hb dX0_zeroCount_28 (by decide) ?_
    exact ih8 (n + ((q9.2.2.2.2 >>> t) &&& 1), t + 1) _ _ _ (by show 16 - (t + 1) < 16 - t; omega) ⟨by show (t + 1) ≤ 16; omega, by rw [k8_1]; rfl, lv_sub hl [0, 1, 2] rfl, hw⟩
set_option maxHeartbeats 4000000 in
set_option maxRecDepth 100000 in
/-- values of a variable -/
theorem mt_values (l : Launch) (D : va_G) (a : bw_A0) (pr : Nat) (gv : Nat → Nat) (kn : Nat) (q : bb_LS) (q9 : bb_LS) (hq9 : bb_ln kn pr gv q = q9) (hkn : kn = 0 ∨ kn = 1) (hpr : pr < 64) (hgv : ∀ i, i < 6 → gv i < 65536) (hzs : q9.2.2.2.2 < 65536) (i : Nat) (hi : i < 4) : bw_MI l yX0_values (ws_ yX0_values cX0_values 4 (some .int)) ({ frames := 6, cells := 0, slots := 0, locals := 138 }) D bw_Cl (bw_T0 a) [.ref a.1, .int (nI i)] (bw_W0 a pr gv kn q.1.1 q.1.2.1 q.1.2.2 q.2.1 q.2.2.1 q.2.2.2.1 q.2.2.2.2) (bw_W0 a pr gv 1 q9.1.1 q9.1.2.1 q9.1.2.2 q9.2.1 q9.2.2.1 q9.2.2.2.1 q9.2.2.2.2) (nI (bb_vals q9.2.2.2.2 i 16)) := by
  refine bw_startI (by decide) (Nat.le_of_ble_eq_true rfl) rfl ?_
  intro p e s m below meth c A Q ls hx hb hml hown hts hA hK hw hl hret
  have hown : s.vm.findClass RX0 = some m.cls := hown
  have hl : lv_has ls 4 [(0, .ref a.1), (1, .int (nI i))] := hl
  refine lv_iload_n hx hb dX0_values_0 rfl (lv_at hl 1 rfl) ?_
  refine bw_lt0n (tgt := 9) hx hb dX0_values_1 (by decide) (by omega) ?_
  refine lv_iload_n hx hb dX0_values_4 rfl (lv_at hl 1 rfl) ?_
  refine lv_iconst (v := nI 3) hx hb dX0_values_5 (by decide) ?_
  refine bw_cle (tgt := 11) hx hb dX0_values_6 (by decide) (by omega) (by omega) (fun c6 => ?_) (fun c6 => ?_)
  · refine lv_aload_n hx hb dX0_values_11 rfl (lv_at hl 0 rfl) ?_
    refine bw_ownV ⟨hx, hb, hml, hown, hts⟩ [] [] (mt_learn l D a pr gv kn q q9 hq9 hkn hpr hgv) (cwV 0 hts (lw_V q98 q100 qs1 q17 q101) rfl rfl rfl (by decide +kernel) ⟨Nat.le_of_ble_eq_true rfl, Nat.le_of_ble_eq_true rfl⟩) 0 0 rfl rfl hK hA hw rfl hl.1 rfl (Nat.le_of_ble_eq_true rfl) dX0_values_12 ⟨Nat.zero_le _, Nat.zero_le _⟩ (fun H locs hw => ?_)
    refine lv_iconst (v := nI 0) hx hb dX0_values_15 (by decide) ?_
    refine lv_istore_n (lv' := [(2, .int (nI 0)), (0, .ref a.1), (1, .int (nI i))]) hx hb dX0_values_16 rfl hl (by decide) rfl (fun ls hl => ?_)
    refine lv_iconst (v := nI 0) hx hb dX0_values_17 (by decide) ?_
    refine lv_istore_n (lv' := [(3, .int (nI 0)), (2, .int (nI 0)), (0, .ref a.1), (1, .int (nI i))]) hx hb dX0_values_18 rfl hl (by decide) rfl (fun ls hl => ?_)
    refine bw_loop (pc := 19) (fun (qq : Nat × Nat) ls H locs => qq.2 ≤ 16 ∧ qq.1 = bb_vals q9.2.2.2.2 i qq.2 ∧ lv_has ls 4 [(3, .int (nI qq.2)), (2, .int (nI qq.1)), (0, .ref a.1), (1, .int (nI i))] ∧ bw_H D bw_Cl A s.heap (bw_W0 a pr gv 1 q9.1.1 q9.1.2.1 q9.1.2.2 q9.2.1 q9.2.2.1 q9.2.2.2.1 q9.2.2.2.2) H locs) (fun qq => 16 - qq.2) ?_ (0, 0) ⟨Nat.zero_le _, rfl, lv_sub hl [0, 1, 2, 3] rfl, hw⟩
    rintro ⟨n, t⟩ ls H locs ⟨k19_0, k19_1, hl, hw⟩ ih19
    have k19_0 : t ≤ 16 := k19_0
    have k19_1 : n = bb_vals q9.2.2.2.2 i t := k19_1
    have hl : lv_has ls 4 [(3, .int (nI t)), (2, .int (nI n)), (0, .ref a.1), (1, .int (nI i))] := hl
    have hw : bw_H D bw_Cl A s.heap (bw_W0 a pr gv 1 q9.1.1 q9.1.2.1 q9.1.2.2 q9.2.1 q9.2.2.1 q9.2.2.2.1 q9.2.2.2.2) H locs := hw
    refine lv_iload_n hx hb dX0_values_19 rfl (lv_at hl 0 rfl) ?_
    refine lv_bipush (v := nI 16) hx hb dX0_values_20 (by decide) ?_
    refine bw_cge (tgt := 52) hx hb dX0_values_22 (by decide) (by omega) (by omega) (fun c22 => ?_) (fun c22 => ?_)
    · refine lv_iload_n hx hb dX0_values_52 rfl (lv_at hl 1 rfl) ?_
      refine bw_top (y := nI (bb_vals q9.2.2.2.2 i 16)) (by rw [k19_1, show t = 16 by omega]) ?_
      exact hret _ _ _ _ hw dX0_values_53
    · refine lv_aload_n hx hb dX0_values_25 rfl (lv_at hl 2 rfl) ?_
      refine bw_g0_zs hx hb hts hown hK hw dX0_values_26 ?_
      refine lv_iload_n hx hb dX0_values_29 rfl (lv_at hl 0 rfl) ?_
      refine bw_ishr hx hb dX0_values_30 (by omega) (by omega) ?_
      refine lv_iconst (v := nI 1) hx hb dX0_values_31 (by decide) ?_
      refine bw_iand hx hb dX0_values_32 ?_
      refine bw_bz (tgt := 46) hx hb dX0_values_33 (by decide) (fun c33 => ?_) (fun c33 => ?_)
      · refine lv_iinc (v := nI (t + 1)) (lv' := [(3, .int (nI (t + 1))), (2, .int (nI n)), (0, .ref a.1), (1, .int (nI i))]) hx hb dX0_values_46 hl (k := 0) rfl (bw_inc t) (by decide) rfl (fun ls hl => ?_)
        refine lv_goto (tgt := 19) hx hb dX0_values_49 (by decide) ?_
        exact ih19 (n, t + 1) _ _ _ (by show 16 - (t + 1) < 16 - t; omega) ⟨by show (t + 1) ≤ 16; omega, by rw [k19_1]; first | exact (bb_vals_f c33).symm | exact (bb_vals_t c33).symm, lv_sub hl [0, 1, 2, 3] rfl, hw⟩
      · refine lv_iload_n hx hb dX0_values_36 rfl (lv_at hl 1 rfl) ?_
        refine lv_iconst (v := nI 1) hx hb dX0_values_37 (by decide) ?_
        refine lv_iload_n hx hb dX0_values_38 rfl (lv_at hl 0 rfl) ?_
        refine lv_iload_n hx hb dX0_values_39 rfl (lv_at hl 3 rfl) ?_
        refine bw_ishr hx hb dX0_values_40 (by omega) (by omega) ?_
        refine lv_iconst (v := nI 1) hx hb dX0_values_41 (by decide) ?_
        refine bw_iand hx hb dX0_values_42 ?_
        refine bw_ishl hx hb dX0_values_43 (Nat.lt_of_le_of_lt Nat.and_le_right (by omega)) ?_
        refine bw_ior hx hb dX0_values_44 ?_
        refine lv_istore_n (lv' := [(2, .int (nI (n ||| (2 ^ ((t >>> i) &&& 1))))), (3, .int (nI t)), (0, .ref a.1), (1, .int (nI i))]) hx hb dX0_values_45 rfl hl (by decide) rfl (fun ls hl => ?_)
        refine lv_iinc (v := nI (t + 1)) (lv' := [(3, .int (nI (t + 1))), (2, .int (nI (n ||| (2 ^ ((t >>> i) &&& 1))))), (0, .ref a.1), (1, .int (nI i))]) hx hb dX0_values_46 hl (k := 1) rfl (bw_inc t) (by decide) rfl (fun ls hl => ?_)
        refine lv_goto (tgt := 19) hx hb dX0_values_49 (by decide) ?_
        exact ih19 (n ||| (2 ^ ((t >>> i) &&& 1)), t + 1) _ _ _ (by show 16 - (t + 1) < 16 - t; omega) ⟨by show (t + 1) ≤ 16; omega, by rw [k19_1]; first | exact (bb_vals_f c33).symm | exact (bb_vals_t c33).symm, lv_sub hl [0, 1, 2, 3] rfl, hw⟩
  · exact absurd c6 (by omega)
set_option maxHeartbeats 4000000 in
set_option maxRecDepth 100000 in
/-- values, no variable -/
theorem mt_valuesX (l : Launch) (D : va_G) (a : bw_A0) (pr : Nat) (gv : Nat → Nat) (kn : Nat) (q : bb_LS) (x : Int32) (hbad : ∀ j : Nat, j < 4 → x ≠ nI j) : bw_MI l yX0_values (ws_ yX0_values cX0_values 4 (some .int)) ({ frames := 6, cells := 0, slots := 0, locals := 138 }) D bw_Cl (bw_T0 a) [.ref a.1, .int x] (bw_W0 a pr gv kn q.1.1 q.1.2.1 q.1.2.2 q.2.1 q.2.2.1 q.2.2.2.1 q.2.2.2.2) (bw_W0 a pr gv kn q.1.1 q.1.2.1 q.1.2.2 q.2.1 q.2.2.1 q.2.2.2.1 q.2.2.2.2) (nI 0) := by
  refine bw_startI (by decide) (Nat.le_of_ble_eq_true rfl) rfl ?_
  intro p e s m below meth c A Q ls hx hb hml hown hts hA hK hw hl hret
  have hown : s.vm.findClass RX0 = some m.cls := hown
  have hl : lv_has ls 4 [(0, .ref a.1), (1, .int x)] := hl
  refine lv_iload_n hx hb dX0_values_0 rfl (lv_at hl 1 rfl) ?_
  refine lv_if_lt (tgt := 9) hx hb dX0_values_1 (by decide) (fun c1 => ?_) (fun c1 => ?_)
  · refine lv_iconst (v := nI 0) hx hb dX0_values_9 (by decide) ?_
    exact hret _ _ _ _ hw dX0_values_10
  · obtain ⟨j, hj, rfl⟩ := nI_of c1
    refine lv_iload_n hx hb dX0_values_4 rfl (lv_at hl 1 rfl) ?_
    refine lv_iconst (v := nI 3) hx hb dX0_values_5 (by decide) ?_
    refine bw_cle (tgt := 11) hx hb dX0_values_6 (by decide) (by omega) (by omega) (fun c6 => ?_) (fun c6 => ?_)
    · exact absurd rfl (hbad j (by omega))
    · refine lv_iconst (v := nI 0) hx hb dX0_values_9 (by decide) ?_
      exact hret _ _ _ _ hw dX0_values_10
set_option maxHeartbeats 4000000 in
set_option maxRecDepth 100000 in
/-- redundant of one that is there -/
theorem mt_redundant (l : Launch) (D : va_G) (a : bw_A0) (pr : Nat) (gv : Nat → Nat) (kn : Nat) (q : bb_LS) (hpr : pr < 64) (hgv : ∀ i, i < 6 → gv i < 65536) (i : Nat) (hi : i < 6) (hbit : pr.testBit i = true) : bw_MI l yX0_redundant (ws_ yX0_redundant cX0_redundant 2 (some .boolean)) ({ frames := 5, cells := 0, slots := 0, locals := 117 }) D bw_Cl (bw_T0 a) [.ref a.1, .int (nI i)] (bw_W0 a pr gv kn q.1.1 q.1.2.1 q.1.2.2 q.2.1 q.2.2.1 q.2.2.2.1 q.2.2.2.2) (bw_W0 a pr gv 0 ((bb_cmp (bb_rmv pr i) gv q.1.2.1 q.1.2.2).1) ((bb_cmp (bb_rmv pr i) gv q.1.2.1 q.1.2.2).2.1) ((bb_cmp (bb_rmv pr i) gv q.1.2.1 q.1.2.2).2.2) q.2.1 q.2.2.1 q.2.2.2.1 q.2.2.2.2) (bw_bI (decide (bb_red (bb_bq (bb_cmp (bb_rmv pr i) gv q.1.2.1 q.1.2.2)) (gv i) = 0))) := by
  refine bw_startI (by decide) (Nat.le_of_ble_eq_true rfl) (bw_bI_n _) ?_
  intro p e s m below meth c A Q ls hx hb hml hown hts hA hK hw hl hret
  have hown : s.vm.findClass RX0 = some m.cls := hown
  have hl : lv_has ls 2 [(0, .ref a.1), (1, .int (nI i))] := hl
  obtain ⟨t, ht⟩ : ∃ t, t = bb_cmp (bb_rmv pr i) gv q.1.2.1 q.1.2.2 := ⟨_, rfl⟩
  have htok : bb_ok t := by rw [ht]; exact bb_ok_cmp hgv _ _
  have hR : bb_red (bb_bq t) (gv i) < 65536 := bb_red_ok htok (hgv i hi)
  rw [← ht] at hret
  refine lv_aload_n hx hb dX0_redundant_0 rfl (lv_at hl 0 rfl) ?_
  refine lv_iload_n hx hb dX0_redundant_1 rfl (lv_at hl 1 rfl) ?_
  refine bw_ownI ⟨hx, hb, hml, hown, hts⟩ [.int (nI i)] [] (mt_has l D a pr gv kn q.1.1 q.1.2.1 q.1.2.2 q.2.1 q.2.2.1 q.2.2.2.1 q.2.2.2.2 i hpr hi) (cwV 1 hts (lw_V q68 q70 qs0 q17 q71) rfl rfl rfl (by decide +kernel) ⟨Nat.le_of_ble_eq_true rfl, Nat.le_of_ble_eq_true rfl⟩) 0 0 rfl rfl hK hA hw rfl hl.1 rfl (Nat.le_of_ble_eq_true rfl) dX0_redundant_2 ⟨Nat.zero_le _, Nat.zero_le _⟩ (fun H locs hw => ?_)
  refine bw_fnz (tgt := 10) hx hb dX0_redundant_5 (by decide) (fun c5 => ?_) (fun c5 => ?_)
  · refine lv_aload_n hx hb dX0_redundant_10 rfl (lv_at hl 0 rfl) ?_
    refine lv_iconst (v := nI 0) hx hb dX0_redundant_11 (by decide) ?_
    refine bw_p0_kn hx hb hts hown hK hw (by decide) dX0_redundant_12 (fun H locs hw => ?_)
    refine lv_aload_n hx hb dX0_redundant_15 rfl (lv_at hl 0 rfl) ?_
    refine lv_aload_n hx hb dX0_redundant_16 rfl (lv_at hl 0 rfl) ?_
    refine bw_g0_pr hx hb hts hown hK hw dX0_redundant_17 ?_
    refine lv_iconst (v := nI 1) hx hb dX0_redundant_20 (by decide) ?_
    refine lv_iload_n hx hb dX0_redundant_21 rfl (lv_at hl 1 rfl) ?_
    refine bw_ishl hx hb dX0_redundant_22 (by omega) ?_
    refine lv_iconst (v := nI 4294967295) hx hb dX0_redundant_23 (by decide) ?_
    refine bw_ixor hx hb dX0_redundant_24 ?_
    refine bw_iand hx hb dX0_redundant_25 ?_
    refine bw_topn (y := bb_rmv pr i) rfl ?_
    refine bw_ownV ⟨hx, hb, hml, hown, hts⟩ [.int (nI (bb_rmv pr i))] [] (mt_complete l D a pr gv 0 q.1 q.2.1 q.2.2.1 q.2.2.2.1 q.2.2.2.2 (bb_rmv pr i) (bb_rmv_lt hpr) hgv) (cwV 1 hts (lw_V q102 q104 qs2 q17 q105) rfl rfl rfl (by decide +kernel) ⟨Nat.le_of_ble_eq_true rfl, Nat.le_of_ble_eq_true rfl⟩) 0 0 rfl rfl hK hA hw rfl hl.1 rfl (Nat.le_of_ble_eq_true rfl) dX0_redundant_26 ⟨Nat.zero_le _, Nat.zero_le _⟩ (fun H locs hw => ?_)
    rw [← ht] at hw
    refine lv_aload_n hx hb dX0_redundant_29 rfl (lv_at hl 0 rfl) ?_
    refine lv_aload_n hx hb dX0_redundant_30 rfl (lv_at hl 0 rfl) ?_
    refine bw_g0_gv hx hb hts hown hK hw dX0_redundant_31 ?_
    refine lv_iload_n hx hb dX0_redundant_34 rfl (lv_at hl 1 rfl) ?_
    refine bw_l0_gv hx hb hK hw (by omega) dX0_redundant_35 ?_
    refine bw_ownI ⟨hx, hb, hml, hown, hts⟩ [.int (nI (gv i))] [] (mt_reduce l D a pr gv 0 t q.2.1 q.2.2.1 q.2.2.2.1 q.2.2.2.2 (gv i) htok (hgv i hi)) (cwV 1 hts (lw_V q110 q112 qs4 q17 q113) rfl rfl rfl (by decide +kernel) ⟨Nat.le_of_ble_eq_true rfl, Nat.le_of_ble_eq_true rfl⟩) 0 0 rfl rfl hK hA hw rfl hl.1 rfl (Nat.le_of_ble_eq_true rfl) dX0_redundant_36 ⟨Nat.zero_le _, Nat.zero_le _⟩ (fun H locs hw => ?_)
    refine bw_ne0 (tgt := 46) hx hb dX0_redundant_39 (by decide) (by omega) (fun c39 => ?_) (fun c39 => ?_)
    · refine lv_iconst (v := nI 0) hx hb dX0_redundant_46 (by decide) ?_
      refine bw_top (y := bw_bI (decide (bb_red (bb_bq t) (gv i) = 0))) (by first | (rw [decide_eq_true c39]; rfl) | (rw [decide_eq_false c39]; rfl)) ?_
      exact hret _ _ _ _ hw dX0_redundant_47
    · refine lv_iconst (v := nI 1) hx hb dX0_redundant_42 (by decide) ?_
      refine lv_goto (tgt := 47) hx hb dX0_redundant_43 (by decide) ?_
      refine bw_top (y := bw_bI (decide (bb_red (bb_bq t) (gv i) = 0))) (by first | (rw [decide_eq_true c39]; rfl) | (rw [decide_eq_false c39]; rfl)) ?_
      exact hret _ _ _ _ hw dX0_redundant_47
  · rw [hbit] at c5; cases c5
set_option maxHeartbeats 4000000 in
set_option maxRecDepth 100000 in
/-- redundant of one that is not there -/
theorem mt_redundant0 (l : Launch) (D : va_G) (a : bw_A0) (pr : Nat) (gv : Nat → Nat) (kn : Nat) (q : bb_LS) (hpr : pr < 64) (hgv : ∀ i, i < 6 → gv i < 65536) (i : Nat) (hi : i < 6) (hbit : pr.testBit i = false) : bw_MI l yX0_redundant (ws_ yX0_redundant cX0_redundant 2 (some .boolean)) ({ frames := 5, cells := 0, slots := 0, locals := 117 }) D bw_Cl (bw_T0 a) [.ref a.1, .int (nI i)] (bw_W0 a pr gv kn q.1.1 q.1.2.1 q.1.2.2 q.2.1 q.2.2.1 q.2.2.2.1 q.2.2.2.2) (bw_W0 a pr gv kn q.1.1 q.1.2.1 q.1.2.2 q.2.1 q.2.2.1 q.2.2.2.1 q.2.2.2.2) (nI 0) := by
  refine bw_startI (by decide) (Nat.le_of_ble_eq_true rfl) (by decide +kernel) ?_
  intro p e s m below meth c A Q ls hx hb hml hown hts hA hK hw hl hret
  have hown : s.vm.findClass RX0 = some m.cls := hown
  have hl : lv_has ls 2 [(0, .ref a.1), (1, .int (nI i))] := hl
  refine lv_aload_n hx hb dX0_redundant_0 rfl (lv_at hl 0 rfl) ?_
  refine lv_iload_n hx hb dX0_redundant_1 rfl (lv_at hl 1 rfl) ?_
  refine bw_ownI ⟨hx, hb, hml, hown, hts⟩ [.int (nI i)] [] (mt_has l D a pr gv kn q.1.1 q.1.2.1 q.1.2.2 q.2.1 q.2.2.1 q.2.2.2.1 q.2.2.2.2 i hpr hi) (cwV 1 hts (lw_V q68 q70 qs0 q17 q71) rfl rfl rfl (by decide +kernel) ⟨Nat.le_of_ble_eq_true rfl, Nat.le_of_ble_eq_true rfl⟩) 0 0 rfl rfl hK hA hw rfl hl.1 rfl (Nat.le_of_ble_eq_true rfl) dX0_redundant_2 ⟨Nat.zero_le _, Nat.zero_le _⟩ (fun H locs hw => ?_)
  refine bw_fnz (tgt := 10) hx hb dX0_redundant_5 (by decide) (fun c5 => ?_) (fun c5 => ?_)
  · rw [hbit] at c5; cases c5
  · refine lv_iconst (v := nI 0) hx hb dX0_redundant_8 (by decide) ?_
    exact hret _ _ _ _ hw dX0_redundant_9
set_option maxHeartbeats 4000000 in
set_option maxRecDepth 100000 in
/-- redundant out of range -/
theorem mt_redundantX (l : Launch) (D : va_G) (a : bw_A0) (pr : Nat) (gv : Nat → Nat) (kn : Nat) (q : bb_LS) (x : Int32) (hbad : ∀ j : Nat, j < 6 → x ≠ nI j) : bw_MI l yX0_redundant (ws_ yX0_redundant cX0_redundant 2 (some .boolean)) ({ frames := 5, cells := 0, slots := 0, locals := 117 }) D bw_Cl (bw_T0 a) [.ref a.1, .int x] (bw_W0 a pr gv kn q.1.1 q.1.2.1 q.1.2.2 q.2.1 q.2.2.1 q.2.2.2.1 q.2.2.2.2) (bw_W0 a pr gv kn q.1.1 q.1.2.1 q.1.2.2 q.2.1 q.2.2.1 q.2.2.2.1 q.2.2.2.2) (nI 0) := by
  refine bw_startI (by decide) (Nat.le_of_ble_eq_true rfl) (by decide +kernel) ?_
  intro p e s m below meth c A Q ls hx hb hml hown hts hA hK hw hl hret
  have hown : s.vm.findClass RX0 = some m.cls := hown
  have hl : lv_has ls 2 [(0, .ref a.1), (1, .int x)] := hl
  refine lv_aload_n hx hb dX0_redundant_0 rfl (lv_at hl 0 rfl) ?_
  refine lv_iload_n hx hb dX0_redundant_1 rfl (lv_at hl 1 rfl) ?_
  refine bw_ownI ⟨hx, hb, hml, hown, hts⟩ [.int x] [] (mt_hasX l D a pr gv kn q.1.1 q.1.2.1 q.1.2.2 q.2.1 q.2.2.1 q.2.2.2.1 q.2.2.2.2 x hbad) (cwV 1 hts (lw_V q68 q70 qs0 q17 q71) rfl rfl rfl (by decide +kernel) ⟨Nat.le_of_ble_eq_true rfl, Nat.le_of_ble_eq_true rfl⟩) 0 0 rfl rfl hK hA hw rfl hl.1 rfl (Nat.le_of_ble_eq_true rfl) dX0_redundant_2 ⟨Nat.zero_le _, Nat.zero_le _⟩ (fun H locs hw => ?_)
  refine bw_ne0n (tgt := 10) hx hb dX0_redundant_5 (by decide) (by decide) ?_
  refine lv_iconst (v := nI 0) hx hb dX0_redundant_8 (by decide) ?_
  exact hret _ _ _ _ hw dX0_redundant_9
set_option maxHeartbeats 4000000 in
set_option maxRecDepth 100000 in
/-- relates of a set of variables -/
theorem mt_relates (l : Launch) (D : va_G) (a : bw_A0) (pr : Nat) (gv : Nat → Nat) (kn : Nat) (q : bb_LS) (q9 : bb_LS) (hq9 : bb_ln kn pr gv q = q9) (hkn : kn = 0 ∨ kn = 1) (hpr : pr < 64) (hgv : ∀ i, i < 6 → gv i < 65536) (hzs : q9.2.2.2.2 < 65536) (u : Nat) (hu : u < 16) : bw_MI l yX0_relates (ws_ yX0_relates cX0_relates 4 (some .boolean)) ({ frames := 6, cells := 0, slots := 0, locals := 138 }) D bw_Cl (bw_T0 a) [.ref a.1, .int (nI u)] (bw_W0 a pr gv kn q.1.1 q.1.2.1 q.1.2.2 q.2.1 q.2.2.1 q.2.2.2.1 q.2.2.2.2) (bw_W0 a pr gv 1 q9.1.1 q9.1.2.1 q9.1.2.2 q9.2.1 q9.2.2.1 q9.2.2.2.1 q9.2.2.2.2) (bw_bI (bb_uns (bb_seen q9.2.2.2.2 u 16) u 16)) := by
  refine bw_startI (by decide) (Nat.le_of_ble_eq_true rfl) (bw_bI_n _) ?_
  intro p e s m below meth c A Q ls hx hb hml hown hts hA hK hw hl hret
  have hown : s.vm.findClass RX0 = some m.cls := hown
  have hl : lv_has ls 4 [(0, .ref a.1), (1, .int (nI u))] := hl
  refine lv_iload_n hx hb dX0_relates_0 rfl (lv_at hl 1 rfl) ?_
  refine bw_lt0n (tgt := 10) hx hb dX0_relates_1 (by decide) (by omega) ?_
  refine lv_iload_n hx hb dX0_relates_4 rfl (lv_at hl 1 rfl) ?_
  refine lv_bipush (v := nI 16) hx hb dX0_relates_5 (by decide) ?_
  refine bw_clt (tgt := 12) hx hb dX0_relates_7 (by decide) (by omega) (by omega) (fun c7 => ?_) (fun c7 => ?_)
  · refine lv_aload_n hx hb dX0_relates_12 rfl (lv_at hl 0 rfl) ?_
    refine bw_ownV ⟨hx, hb, hml, hown, hts⟩ [] [] (mt_learn l D a pr gv kn q q9 hq9 hkn hpr hgv) (cwV 0 hts (lw_V q98 q100 qs1 q17 q101) rfl rfl rfl (by decide +kernel) ⟨Nat.le_of_ble_eq_true rfl, Nat.le_of_ble_eq_true rfl⟩) 0 0 rfl rfl hK hA hw rfl hl.1 rfl (Nat.le_of_ble_eq_true rfl) dX0_relates_13 ⟨Nat.zero_le _, Nat.zero_le _⟩ (fun H locs hw => ?_)
    refine lv_iconst (v := nI 0) hx hb dX0_relates_16 (by decide) ?_
    refine lv_istore_n (lv' := [(2, .int (nI 0)), (0, .ref a.1), (1, .int (nI u))]) hx hb dX0_relates_17 rfl hl (by decide) rfl (fun ls hl => ?_)
    refine lv_iconst (v := nI 0) hx hb dX0_relates_18 (by decide) ?_
    refine lv_istore_n (lv' := [(3, .int (nI 0)), (2, .int (nI 0)), (0, .ref a.1), (1, .int (nI u))]) hx hb dX0_relates_19 rfl hl (by decide) rfl (fun ls hl => ?_)
    refine bw_loop (pc := 20) (fun (qq : Nat × Nat) ls H locs => qq.2 ≤ 16 ∧ qq.1 = bb_seen q9.2.2.2.2 u qq.2 ∧ lv_has ls 4 [(3, .int (nI qq.2)), (2, .int (nI qq.1)), (0, .ref a.1), (1, .int (nI u))] ∧ bw_H D bw_Cl A s.heap (bw_W0 a pr gv 1 q9.1.1 q9.1.2.1 q9.1.2.2 q9.2.1 q9.2.2.1 q9.2.2.2.1 q9.2.2.2.2) H locs) (fun qq => 16 - qq.2) ?_ (0, 0) ⟨Nat.zero_le _, rfl, lv_sub hl [0, 1, 2, 3] rfl, hw⟩
    rintro ⟨n, t⟩ ls H locs ⟨k20_0, k20_1, hl, hw⟩ ih20
    have k20_0 : t ≤ 16 := k20_0
    have k20_1 : n = bb_seen q9.2.2.2.2 u t := k20_1
    have hl : lv_has ls 4 [(3, .int (nI t)), (2, .int (nI n)), (0, .ref a.1), (1, .int (nI u))] := hl
    have hw : bw_H D bw_Cl A s.heap (bw_W0 a pr gv 1 q9.1.1 q9.1.2.1 q9.1.2.2 q9.2.1 q9.2.2.1 q9.2.2.2.1 q9.2.2.2.2) H locs := hw
    refine lv_iload_n hx hb dX0_relates_20 rfl (lv_at hl 0 rfl) ?_
    refine lv_bipush (v := nI 16) hx hb dX0_relates_21 (by decide) ?_
    refine bw_cge (tgt := 51) hx hb dX0_relates_23 (by decide) (by omega) (by omega) (fun c23 => ?_) (fun c23 => ?_)
    · refine lv_iconst (v := nI 0) hx hb dX0_relates_51 (by decide) ?_
      refine lv_istore_n (lv' := [(3, .int (nI 0)), (2, .int (nI n)), (0, .ref a.1), (1, .int (nI u))]) hx hb dX0_relates_52 rfl hl (by decide) rfl (fun ls hl => ?_)
      refine bw_loop (pc := 53) (fun (qq : Nat) ls H locs => qq ≤ 16 ∧ bb_uns n u qq = false ∧ lv_has ls 4 [(3, .int (nI qq)), (2, .int (nI n)), (0, .ref a.1), (1, .int (nI u))] ∧ bw_H D bw_Cl A s.heap (bw_W0 a pr gv 1 q9.1.1 q9.1.2.1 q9.1.2.2 q9.2.1 q9.2.2.1 q9.2.2.2.1 q9.2.2.2.2) H locs) (fun qq => 16 - qq) ?_ 0 ⟨Nat.zero_le _, rfl, lv_sub hl [0, 1, 2, 3] rfl, hw⟩
      rintro v ls H locs ⟨k53_0, k53_1, hl, hw⟩ ih53
      have k53_0 : v ≤ 16 := k53_0
      have k53_1 : bb_uns n u v = false := k53_1
      have hl : lv_has ls 4 [(3, .int (nI v)), (2, .int (nI n)), (0, .ref a.1), (1, .int (nI u))] := hl
      have hw : bw_H D bw_Cl A s.heap (bw_W0 a pr gv 1 q9.1.1 q9.1.2.1 q9.1.2.2 q9.2.1 q9.2.2.1 q9.2.2.2.1 q9.2.2.2.2) H locs := hw
      have hn9 : n < 65536 := by rw [k20_1]; exact bb_seen_lt _ _ _ k20_0
      refine lv_iload_n hx hb dX0_relates_53 rfl (lv_at hl 0 rfl) ?_
      refine lv_bipush (v := nI 16) hx hb dX0_relates_54 (by decide) ?_
      refine bw_cge (tgt := 83) hx hb dX0_relates_56 (by decide) (by omega) (by omega) (fun c56 => ?_) (fun c56 => ?_)
      · refine lv_iconst (v := nI 0) hx hb dX0_relates_83 (by decide) ?_
        refine bw_top (y := bw_bI (bb_uns (bb_seen q9.2.2.2.2 u 16) u 16)) (by rw [show bb_seen q9.2.2.2.2 u 16 = n by rw [k20_1, show t = 16 by omega], ← show v = 16 by omega, k53_1]; rfl) ?_
        exact hret _ _ _ _ hw dX0_relates_84
      · refine lv_iload_n hx hb dX0_relates_59 rfl (lv_at hl 0 rfl) ?_
        refine lv_iload_n hx hb dX0_relates_60 rfl (lv_at hl 3 rfl) ?_
        refine lv_iconst (v := nI 4294967295) hx hb dX0_relates_61 (by decide) ?_
        refine bw_ixor hx hb dX0_relates_62 ?_
        refine bw_iand hx hb dX0_relates_63 ?_
        refine bw_sne (tgt := 77) hx hb dX0_relates_64 (by decide) (by omega) (by omega) (fun c64 => ?_) (fun c64 => ?_)
        · refine lv_iinc (v := nI (v + 1)) (lv' := [(3, .int (nI (v + 1))), (2, .int (nI n)), (0, .ref a.1), (1, .int (nI u))]) hx hb dX0_relates_77 hl (k := 0) rfl (bw_inc v) (by decide) rfl (fun ls hl => ?_)
          refine lv_goto (tgt := 53) hx hb dX0_relates_80 (by decide) ?_
          exact ih53 (v + 1) _ _ _ (by show 16 - (v + 1) < 16 - v; omega) ⟨by show (v + 1) ≤ 16; omega, by first | exact bb_uns_n1 k53_1 c64 | exact bb_uns_n2 k53_1 c72, lv_sub hl [0, 1, 2, 3] rfl, hw⟩
        · refine lv_iload_n hx hb dX0_relates_67 rfl (lv_at hl 1 rfl) ?_
          refine lv_iload_n hx hb dX0_relates_68 rfl (lv_at hl 0 rfl) ?_
          refine bw_ishr hx hb dX0_relates_69 (by omega) (by omega) ?_
          refine lv_iconst (v := nI 1) hx hb dX0_relates_70 (by decide) ?_
          refine bw_iand hx hb dX0_relates_71 ?_
          refine bw_bnz (tgt := 77) hx hb dX0_relates_72 (by decide) (fun c72 => ?_) (fun c72 => ?_)
          · refine lv_iinc (v := nI (v + 1)) (lv' := [(3, .int (nI (v + 1))), (2, .int (nI n)), (0, .ref a.1), (1, .int (nI u))]) hx hb dX0_relates_77 hl (k := 0) rfl (bw_inc v) (by decide) rfl (fun ls hl => ?_)
            refine lv_goto (tgt := 53) hx hb dX0_relates_80 (by decide) ?_
            exact ih53 (v + 1) _ _ _ (by show 16 - (v + 1) < 16 - v; omega) ⟨by show (v + 1) ≤ 16; omega, by first | exact bb_uns_n1 k53_1 c64 | exact bb_uns_n2 k53_1 c72, lv_sub hl [0, 1, 2, 3] rfl, hw⟩
          · refine lv_iconst (v := nI 1) hx hb dX0_relates_75 (by decide) ?_
            refine bw_top (y := bw_bI (bb_uns (bb_seen q9.2.2.2.2 u 16) u 16)) (by rw [show bb_seen q9.2.2.2.2 u 16 = n by rw [k20_1, show t = 16 by omega], bb_uns_mono 16 (show v + 1 ≤ 16 by omega) (bb_uns_y c64 c72)]; rfl) ?_
            exact hret _ _ _ _ hw dX0_relates_76
    · refine lv_aload_n hx hb dX0_relates_26 rfl (lv_at hl 2 rfl) ?_
      refine bw_g0_zs hx hb hts hown hK hw dX0_relates_27 ?_
      refine lv_iload_n hx hb dX0_relates_30 rfl (lv_at hl 0 rfl) ?_
      refine bw_ishr hx hb dX0_relates_31 (by omega) (by omega) ?_
      refine lv_iconst (v := nI 1) hx hb dX0_relates_32 (by decide) ?_
      refine bw_iand hx hb dX0_relates_33 ?_
      refine bw_bz (tgt := 45) hx hb dX0_relates_34 (by decide) (fun c34 => ?_) (fun c34 => ?_)
      · refine lv_iinc (v := nI (t + 1)) (lv' := [(3, .int (nI (t + 1))), (2, .int (nI n)), (0, .ref a.1), (1, .int (nI u))]) hx hb dX0_relates_45 hl (k := 0) rfl (bw_inc t) (by decide) rfl (fun ls hl => ?_)
        refine lv_goto (tgt := 20) hx hb dX0_relates_48 (by decide) ?_
        exact ih20 (n, t + 1) _ _ _ (by show 16 - (t + 1) < 16 - t; omega) ⟨by show (t + 1) ≤ 16; omega, by rw [k20_1]; first | exact (bb_seen_f c34).symm | exact (bb_seen_t c34).symm, lv_sub hl [0, 1, 2, 3] rfl, hw⟩
      · refine lv_iload_n hx hb dX0_relates_37 rfl (lv_at hl 1 rfl) ?_
        refine lv_iconst (v := nI 1) hx hb dX0_relates_38 (by decide) ?_
        refine lv_iload_n hx hb dX0_relates_39 rfl (lv_at hl 0 rfl) ?_
        refine lv_iload_n hx hb dX0_relates_40 rfl (lv_at hl 3 rfl) ?_
        refine bw_iand hx hb dX0_relates_41 ?_
        refine bw_ishl hx hb dX0_relates_42 (Nat.lt_of_le_of_lt Nat.and_le_left (by omega)) ?_
        refine bw_ior hx hb dX0_relates_43 ?_
        refine lv_istore_n (lv' := [(2, .int (nI (n ||| (2 ^ (t &&& u))))), (3, .int (nI t)), (0, .ref a.1), (1, .int (nI u))]) hx hb dX0_relates_44 rfl hl (by decide) rfl (fun ls hl => ?_)
        refine lv_iinc (v := nI (t + 1)) (lv' := [(3, .int (nI (t + 1))), (2, .int (nI (n ||| (2 ^ (t &&& u))))), (0, .ref a.1), (1, .int (nI u))]) hx hb dX0_relates_45 hl (k := 1) rfl (bw_inc t) (by decide) rfl (fun ls hl => ?_)
        refine lv_goto (tgt := 20) hx hb dX0_relates_48 (by decide) ?_
        exact ih20 (n ||| (2 ^ (t &&& u)), t + 1) _ _ _ (by show 16 - (t + 1) < 16 - t; omega) ⟨by show (t + 1) ≤ 16; omega, by rw [k20_1]; first | exact (bb_seen_f c34).symm | exact (bb_seen_t c34).symm, lv_sub hl [0, 1, 2, 3] rfl, hw⟩
  · exact absurd c7 (by omega)
set_option maxHeartbeats 4000000 in
set_option maxRecDepth 100000 in
/-- relates, no set of variables -/
theorem mt_relatesX (l : Launch) (D : va_G) (a : bw_A0) (pr : Nat) (gv : Nat → Nat) (kn : Nat) (q : bb_LS) (x : Int32) (hbad : ∀ j : Nat, j < 16 → x ≠ nI j) : bw_MI l yX0_relates (ws_ yX0_relates cX0_relates 4 (some .boolean)) ({ frames := 6, cells := 0, slots := 0, locals := 138 }) D bw_Cl (bw_T0 a) [.ref a.1, .int x] (bw_W0 a pr gv kn q.1.1 q.1.2.1 q.1.2.2 q.2.1 q.2.2.1 q.2.2.2.1 q.2.2.2.2) (bw_W0 a pr gv kn q.1.1 q.1.2.1 q.1.2.2 q.2.1 q.2.2.1 q.2.2.2.1 q.2.2.2.2) (nI 0) := by
  refine bw_startI (by decide) (Nat.le_of_ble_eq_true rfl) (by decide +kernel) ?_
  intro p e s m below meth c A Q ls hx hb hml hown hts hA hK hw hl hret
  have hown : s.vm.findClass RX0 = some m.cls := hown
  have hl : lv_has ls 4 [(0, .ref a.1), (1, .int x)] := hl
  refine lv_iload_n hx hb dX0_relates_0 rfl (lv_at hl 1 rfl) ?_
  refine lv_if_lt (tgt := 10) hx hb dX0_relates_1 (by decide) (fun c1 => ?_) (fun c1 => ?_)
  · refine lv_iconst (v := nI 0) hx hb dX0_relates_10 (by decide) ?_
    exact hret _ _ _ _ hw dX0_relates_11
  · obtain ⟨j, hj, rfl⟩ := nI_of c1
    refine lv_iload_n hx hb dX0_relates_4 rfl (lv_at hl 1 rfl) ?_
    refine lv_bipush (v := nI 16) hx hb dX0_relates_5 (by decide) ?_
    refine bw_clt (tgt := 12) hx hb dX0_relates_7 (by decide) (by omega) (by omega) (fun c7 => ?_) (fun c7 => ?_)
    · exact absurd rfl (hbad j (by omega))
    · refine lv_iconst (v := nI 0) hx hb dX0_relates_10 (by decide) ?_
      exact hret _ _ _ _ hw dX0_relates_11
end
section
/-! WALKS 30: the reference: its generators and its work -/
set_option maxHeartbeats 4000000 in
set_option maxRecDepth 100000 in
/-- polynomial of one -/
theorem mu_pol1 (l : Launch) (D : va_G) (a : bw_A0) (th gn hs ot : Nat → Nat) (f : Nat) (hf : f < 65536) : bw_MI l yX1_polynomial (ws_ yX1_polynomial cX1_polynomial 2 (some .boolean)) ({ frames := 0, cells := 0, slots := 0, locals := 0 }) D bw_Cl (bw_T1 a) [.ref a.1, .int (nI f)] (bw_W1 a th gn hs ot) (bw_W1 a th gn hs ot) (nI 1) := by
  refine bw_startI (by decide) (Nat.le_of_ble_eq_true rfl) (by decide +kernel) ?_
  intro p e s m below meth c A Q ls hx hb hml hown hts hA hK hw hl hret
  have hown : s.vm.findClass RX1 = some m.cls := hown
  have hl : lv_has ls 2 [(0, .ref a.1), (1, .int (nI f))] := hl
  refine lv_iload_n hx hb dX1_polynomial_0 rfl (lv_at hl 1 rfl) ?_
  refine bw_lt0n (tgt := 14) hx hb dX1_polynomial_1 (by decide) (by omega) ?_
  refine lv_iload_n hx hb dX1_polynomial_4 rfl (lv_at hl 1 rfl) ?_
  refine lv_ldc (v := nI 65535) hx hb hown (hts _ q201) dX1_polynomial_5 ?_
  refine bw_cgt (tgt := 14) hx hb dX1_polynomial_7 (by decide) (by omega) (by omega) (fun c7 => ?_) (fun c7 => ?_)
  · exact absurd c7 (by omega)
  · refine lv_iconst (v := nI 1) hx hb dX1_polynomial_10 (by decide) ?_
    refine lv_goto (tgt := 15) hx hb dX1_polynomial_11 (by decide) ?_
    exact hret _ _ _ _ hw dX1_polynomial_15
set_option maxHeartbeats 4000000 in
set_option maxRecDepth 100000 in
/-- polynomial of none -/
theorem mu_pol0 (l : Launch) (D : va_G) (a : bw_A0) (th gn hs ot : Nat → Nat) (x : Int32) (hbad : ∀ j : Nat, j < 65536 → x ≠ nI j) : bw_MI l yX1_polynomial (ws_ yX1_polynomial cX1_polynomial 2 (some .boolean)) ({ frames := 0, cells := 0, slots := 0, locals := 0 }) D bw_Cl (bw_T1 a) [.ref a.1, .int x] (bw_W1 a th gn hs ot) (bw_W1 a th gn hs ot) (nI 0) := by
  refine bw_startI (by decide) (Nat.le_of_ble_eq_true rfl) (by decide +kernel) ?_
  intro p e s m below meth c A Q ls hx hb hml hown hts hA hK hw hl hret
  have hown : s.vm.findClass RX1 = some m.cls := hown
  have hl : lv_has ls 2 [(0, .ref a.1), (1, .int x)] := hl
  refine lv_iload_n hx hb dX1_polynomial_0 rfl (lv_at hl 1 rfl) ?_
  refine lv_if_lt (tgt := 14) hx hb dX1_polynomial_1 (by decide) (fun c1 => ?_) (fun c1 => ?_)
  · refine lv_iconst (v := nI 0) hx hb dX1_polynomial_14 (by decide) ?_
    exact hret _ _ _ _ hw dX1_polynomial_15
  · obtain ⟨j, hj, rfl⟩ := nI_of c1
    refine lv_iload_n hx hb dX1_polynomial_4 rfl (lv_at hl 1 rfl) ?_
    refine lv_ldc (v := nI 65535) hx hb hown (hts _ q201) dX1_polynomial_5 ?_
    refine bw_cgt (tgt := 14) hx hb dX1_polynomial_7 (by decide) (by omega) (by omega) (fun c7 => ?_) (fun c7 => ?_)
    · refine lv_iconst (v := nI 0) hx hb dX1_polynomial_14 (by decide) ?_
      exact hret _ _ _ _ hw dX1_polynomial_15
    · exact absurd rfl (hbad j (by omega))
set_option maxHeartbeats 4000000 in
set_option maxRecDepth 100000 in
/-- add -/
theorem mu_add (l : Launch) (D : va_G) (a : bw_A0) (th gn hs ot : Nat → Nat) (pr : Nat) (hth : bb_TH pr th) (f : Nat) (hf : f < 65536) : bw_MI l yX1_add (ws_ yX1_add cX1_add 3 (some .int)) ({ frames := 1, cells := 0, slots := 0, locals := 21 }) D bw_Cl (bw_T1 a) [.ref a.1, .int (nI f)] (bw_W1 a th gn hs ot) (bw_W1 a (bb_ath th (bb_free pr 6 0)) (bb_agv gn (bb_free pr 6 0) f) hs ot) (bb_oJ (bb_free pr 6 0)) := by
  refine bw_startI (by decide) (Nat.le_of_ble_eq_true rfl) rfl ?_
  intro p e s m below meth c A Q ls hx hb hml hown hts hA hK hw hl hret
  have hown : s.vm.findClass RX1 = some m.cls := hown
  have hl : lv_has ls 3 [(0, .ref a.1), (1, .int (nI f))] := hl
  refine lv_aload_n hx hb dX1_add_0 rfl (lv_at hl 0 rfl) ?_
  refine lv_iload_n hx hb dX1_add_1 rfl (lv_at hl 1 rfl) ?_
  refine bw_ownI ⟨hx, hb, hml, hown, hts⟩ [.int (nI f)] [] (mu_pol1 l D a th gn hs ot f hf) (cwV 1 hts (lw_V q197 q199 qs10 q18 q200) rfl rfl rfl (by decide +kernel) ⟨Nat.le_of_ble_eq_true rfl, Nat.le_of_ble_eq_true rfl⟩) 1 0 rfl rfl hK hA hw rfl hl.1 rfl (Nat.le_of_ble_eq_true rfl) dX1_add_2 ⟨Nat.zero_le _, Nat.zero_le _⟩ (fun H locs hw => ?_)
  refine bw_ne0y (tgt := 10) hx hb dX1_add_5 (by decide) (by decide) ?_
  refine lv_iconst (v := nI 0) hx hb dX1_add_10 (by decide) ?_
  refine lv_istore_n (lv' := [(2, .int (nI 0)), (0, .ref a.1), (1, .int (nI f))]) hx hb dX1_add_11 rfl hl (by decide) rfl (fun ls hl => ?_)
  refine bw_loop (pc := 12) (fun (qq : Nat) ls H locs => qq ≤ 6 ∧ bb_free pr (6 - qq) qq = bb_free pr 6 0 ∧ lv_has ls 3 [(2, .int (nI qq)), (0, .ref a.1), (1, .int (nI f))] ∧ bw_H D bw_Cl A s.heap (bw_W1 a th gn hs ot) H locs) (fun qq => 6 - qq) ?_ 0 ⟨Nat.zero_le _, rfl, lv_sub hl [0, 1, 2] rfl, hw⟩
  rintro i ls H locs ⟨k12_0, k12_1, hl, hw⟩ ih12
  have k12_0 : i ≤ 6 := k12_0
  have k12_1 : bb_free pr (6 - i) i = bb_free pr 6 0 := k12_1
  have hl : lv_has ls 3 [(2, .int (nI i)), (0, .ref a.1), (1, .int (nI f))] := hl
  have hw : bw_H D bw_Cl A s.heap (bw_W1 a th gn hs ot) H locs := hw
  refine lv_iload_n hx hb dX1_add_12 rfl (lv_at hl 0 rfl) ?_
  refine lv_bipush (v := nI 6) hx hb dX1_add_13 (by decide) ?_
  refine bw_cge (tgt := 49) hx hb dX1_add_15 (by decide) (by omega) (by omega) (fun c15 => ?_) (fun c15 => ?_)
  · refine lv_bipush (v := -2) hx hb dX1_add_49 (by decide) ?_
    rw [← k12_1, bb_free_e c15] at hret
    exact hret _ _ _ _ hw dX1_add_51
  · have hti := bb_TH_lt hth (show i < 6 by omega)
    refine lv_aload_n hx hb dX1_add_18 rfl (lv_at hl 1 rfl) ?_
    refine bw_g1_th hx hb hts hown hK hw dX1_add_19 ?_
    refine lv_iload_n hx hb dX1_add_22 rfl (lv_at hl 0 rfl) ?_
    refine bw_l1_th hx hb hK hw (by omega) dX1_add_23 ?_
    refine bw_ne0 (tgt := 43) hx hb dX1_add_24 (by decide) (by omega) (fun c24 => ?_) (fun c24 => ?_)
    · refine lv_iinc (v := nI (i + 1)) (lv' := [(2, .int (nI (i + 1))), (0, .ref a.1), (1, .int (nI f))]) hx hb dX1_add_43 hl (k := 0) rfl (bw_inc i) (by decide) rfl (fun ls hl => ?_)
      refine lv_goto (tgt := 12) hx hb dX1_add_46 (by decide) ?_
      exact ih12 (i + 1) _ _ _ (by show 6 - (i + 1) < 6 - i; omega) ⟨by show (i + 1) ≤ 6; omega, by rw [← k12_1]; exact (bb_free_t (by omega) (bb_TH_1 hth (by omega) c24)).symm, lv_sub hl [0, 1, 2] rfl, hw⟩
    · refine lv_aload_n hx hb dX1_add_27 rfl (lv_at hl 1 rfl) ?_
      refine bw_g1_th hx hb hts hown hK hw dX1_add_28 ?_
      refine lv_iload_n hx hb dX1_add_31 rfl (lv_at hl 0 rfl) ?_
      refine lv_iconst (v := nI 1) hx hb dX1_add_32 (by decide) ?_
      refine bw_s1_th hx hb hK hw (by omega) (by omega) dX1_add_33 (fun H locs hw => ?_)
      refine lv_aload_n hx hb dX1_add_34 rfl (lv_at hl 1 rfl) ?_
      refine bw_g1_gn hx hb hts hown hK hw dX1_add_35 ?_
      refine lv_iload_n hx hb dX1_add_38 rfl (lv_at hl 0 rfl) ?_
      refine lv_iload_n hx hb dX1_add_39 rfl (lv_at hl 2 rfl) ?_
      refine bw_s1_gn hx hb hK hw (by omega) dX1_add_40 (fun H locs hw => ?_)
      refine lv_iload_n hx hb dX1_add_41 rfl (lv_at hl 0 rfl) ?_
      rw [← k12_1, bb_free_f (by omega) (bb_TH_0 hth (by omega) c24)] at hret
      exact hret _ _ _ _ hw dX1_add_42
set_option maxHeartbeats 4000000 in
set_option maxRecDepth 100000 in
/-- add of no polynomial -/
theorem mu_addX (l : Launch) (D : va_G) (a : bw_A0) (th gn hs ot : Nat → Nat) (x : Int32) (hbad : ∀ j : Nat, j < 65536 → x ≠ nI j) : bw_MI l yX1_add (ws_ yX1_add cX1_add 3 (some .int)) ({ frames := 1, cells := 0, slots := 0, locals := 21 }) D bw_Cl (bw_T1 a) [.ref a.1, .int x] (bw_W1 a th gn hs ot) (bw_W1 a th gn hs ot) (-1) := by
  refine bw_startI (by decide) (Nat.le_of_ble_eq_true rfl) rfl ?_
  intro p e s m below meth c A Q ls hx hb hml hown hts hA hK hw hl hret
  have hown : s.vm.findClass RX1 = some m.cls := hown
  have hl : lv_has ls 3 [(0, .ref a.1), (1, .int x)] := hl
  refine lv_aload_n hx hb dX1_add_0 rfl (lv_at hl 0 rfl) ?_
  refine lv_iload_n hx hb dX1_add_1 rfl (lv_at hl 1 rfl) ?_
  refine bw_ownI ⟨hx, hb, hml, hown, hts⟩ [.int x] [] (mu_pol0 l D a th gn hs ot x hbad) (cwV 1 hts (lw_V q197 q199 qs10 q18 q200) rfl rfl rfl (by decide +kernel) ⟨Nat.le_of_ble_eq_true rfl, Nat.le_of_ble_eq_true rfl⟩) 1 0 rfl rfl hK hA hw rfl hl.1 rfl (Nat.le_of_ble_eq_true rfl) dX1_add_2 ⟨Nat.zero_le _, Nat.zero_le _⟩ (fun H locs hw => ?_)
  refine bw_ne0n (tgt := 10) hx hb dX1_add_5 (by decide) (by decide) ?_
  refine lv_iconst (v := -1) hx hb dX1_add_8 (by decide) ?_
  exact hret _ _ _ _ hw dX1_add_9
set_option maxHeartbeats 4000000 in
set_option maxRecDepth 100000 in
/-- remove of one that is there -/
theorem mu_remove1 (l : Launch) (D : va_G) (a : bw_A0) (th gn hs ot : Nat → Nat) (pr : Nat) (hth : bb_TH pr th) (i : Nat) (hi : i < 6) (hbit : pr.testBit i = true) : bw_MI l yX1_remove (ws_ yX1_remove cX1_remove 2 (some .boolean)) ({ frames := 0, cells := 0, slots := 0, locals := 0 }) D bw_Cl (bw_T1 a) [.ref a.1, .int (nI i)] (bw_W1 a th gn hs ot) (bw_W1 a (va_up th i 0) gn hs ot) (nI 1) := by
  refine bw_startI (by decide) (Nat.le_of_ble_eq_true rfl) (by decide +kernel) ?_
  intro p e s m below meth c A Q ls hx hb hml hown hts hA hK hw hl hret
  have hown : s.vm.findClass RX1 = some m.cls := hown
  have hl : lv_has ls 2 [(0, .ref a.1), (1, .int (nI i))] := hl
  have hti := bb_TH_lt hth hi
  refine lv_iload_n hx hb dX1_remove_0 rfl (lv_at hl 1 rfl) ?_
  refine bw_lt0n (tgt := 18) hx hb dX1_remove_1 (by decide) (by omega) ?_
  refine lv_iload_n hx hb dX1_remove_4 rfl (lv_at hl 1 rfl) ?_
  refine lv_iconst (v := nI 5) hx hb dX1_remove_5 (by decide) ?_
  refine bw_cgt (tgt := 18) hx hb dX1_remove_6 (by decide) (by omega) (by omega) (fun c6 => ?_) (fun c6 => ?_)
  · exact absurd c6 (by omega)
  · refine lv_aload_n hx hb dX1_remove_9 rfl (lv_at hl 0 rfl) ?_
    refine bw_g1_th hx hb hts hown hK hw dX1_remove_10 ?_
    refine lv_iload_n hx hb dX1_remove_13 rfl (lv_at hl 1 rfl) ?_
    refine bw_l1_th hx hb hK hw (by omega) dX1_remove_14 ?_
    refine bw_ne0 (tgt := 20) hx hb dX1_remove_15 (by decide) (by omega) (fun c15 => ?_) (fun c15 => ?_)
    · refine lv_aload_n hx hb dX1_remove_20 rfl (lv_at hl 0 rfl) ?_
      refine bw_g1_th hx hb hts hown hK hw dX1_remove_21 ?_
      refine lv_iload_n hx hb dX1_remove_24 rfl (lv_at hl 1 rfl) ?_
      refine lv_iconst (v := nI 0) hx hb dX1_remove_25 (by decide) ?_
      refine bw_s1_th hx hb hK hw (by omega) (by omega) dX1_remove_26 (fun H locs hw => ?_)
      refine lv_iconst (v := nI 1) hx hb dX1_remove_27 (by decide) ?_
      exact hret _ _ _ _ hw dX1_remove_28
    · rw [bb_TH_0 hth hi c15] at hbit; cases hbit
set_option maxHeartbeats 4000000 in
set_option maxRecDepth 100000 in
/-- remove of one that is not there -/
theorem mu_remove0 (l : Launch) (D : va_G) (a : bw_A0) (th gn hs ot : Nat → Nat) (pr : Nat) (hth : bb_TH pr th) (i : Nat) (hi : i < 6) (hbit : pr.testBit i = false) : bw_MI l yX1_remove (ws_ yX1_remove cX1_remove 2 (some .boolean)) ({ frames := 0, cells := 0, slots := 0, locals := 0 }) D bw_Cl (bw_T1 a) [.ref a.1, .int (nI i)] (bw_W1 a th gn hs ot) (bw_W1 a th gn hs ot) (nI 0) := by
  refine bw_startI (by decide) (Nat.le_of_ble_eq_true rfl) (by decide +kernel) ?_
  intro p e s m below meth c A Q ls hx hb hml hown hts hA hK hw hl hret
  have hown : s.vm.findClass RX1 = some m.cls := hown
  have hl : lv_has ls 2 [(0, .ref a.1), (1, .int (nI i))] := hl
  have hti := bb_TH_lt hth hi
  refine lv_iload_n hx hb dX1_remove_0 rfl (lv_at hl 1 rfl) ?_
  refine bw_lt0n (tgt := 18) hx hb dX1_remove_1 (by decide) (by omega) ?_
  refine lv_iload_n hx hb dX1_remove_4 rfl (lv_at hl 1 rfl) ?_
  refine lv_iconst (v := nI 5) hx hb dX1_remove_5 (by decide) ?_
  refine bw_cgt (tgt := 18) hx hb dX1_remove_6 (by decide) (by omega) (by omega) (fun c6 => ?_) (fun c6 => ?_)
  · exact absurd c6 (by omega)
  · refine lv_aload_n hx hb dX1_remove_9 rfl (lv_at hl 0 rfl) ?_
    refine bw_g1_th hx hb hts hown hK hw dX1_remove_10 ?_
    refine lv_iload_n hx hb dX1_remove_13 rfl (lv_at hl 1 rfl) ?_
    refine bw_l1_th hx hb hK hw (by omega) dX1_remove_14 ?_
    refine bw_ne0 (tgt := 20) hx hb dX1_remove_15 (by decide) (by omega) (fun c15 => ?_) (fun c15 => ?_)
    · rw [bb_TH_1 hth hi c15] at hbit; cases hbit
    · refine lv_iconst (v := nI 0) hx hb dX1_remove_18 (by decide) ?_
      exact hret _ _ _ _ hw dX1_remove_19
set_option maxHeartbeats 4000000 in
set_option maxRecDepth 100000 in
/-- remove out of range -/
theorem mu_removeX (l : Launch) (D : va_G) (a : bw_A0) (th gn hs ot : Nat → Nat) (x : Int32) (hbad : ∀ j : Nat, j < 6 → x ≠ nI j) : bw_MI l yX1_remove (ws_ yX1_remove cX1_remove 2 (some .boolean)) ({ frames := 0, cells := 0, slots := 0, locals := 0 }) D bw_Cl (bw_T1 a) [.ref a.1, .int x] (bw_W1 a th gn hs ot) (bw_W1 a th gn hs ot) (nI 0) := by
  refine bw_startI (by decide) (Nat.le_of_ble_eq_true rfl) (by decide +kernel) ?_
  intro p e s m below meth c A Q ls hx hb hml hown hts hA hK hw hl hret
  have hown : s.vm.findClass RX1 = some m.cls := hown
  have hl : lv_has ls 2 [(0, .ref a.1), (1, .int x)] := hl
  refine lv_iload_n hx hb dX1_remove_0 rfl (lv_at hl 1 rfl) ?_
  refine lv_if_lt (tgt := 18) hx hb dX1_remove_1 (by decide) (fun c1 => ?_) (fun c1 => ?_)
  · refine lv_iconst (v := nI 0) hx hb dX1_remove_18 (by decide) ?_
    exact hret _ _ _ _ hw dX1_remove_19
  · obtain ⟨j, hj, rfl⟩ := nI_of c1
    refine lv_iload_n hx hb dX1_remove_4 rfl (lv_at hl 1 rfl) ?_
    refine lv_iconst (v := nI 5) hx hb dX1_remove_5 (by decide) ?_
    refine bw_cgt (tgt := 18) hx hb dX1_remove_6 (by decide) (by omega) (by omega) (fun c6 => ?_) (fun c6 => ?_)
    · refine lv_iconst (v := nI 0) hx hb dX1_remove_18 (by decide) ?_
      exact hret _ _ _ _ hw dX1_remove_19
    · exact absurd rfl (hbad j (by omega))
set_option maxHeartbeats 4000000 in
set_option maxRecDepth 100000 in
/-- generators -/
theorem mu_generators (l : Launch) (D : va_G) (a : bw_A0) (th gn hs ot : Nat → Nat) (pr : Nat) (hth : bb_TH pr th) (hpr : pr < 64) : bw_MI l yX1_generators (ws_ yX1_generators cX1_generators 3 (some .int)) ({ frames := 0, cells := 0, slots := 0, locals := 0 }) D bw_Cl (bw_T1 a) [.ref a.1] (bw_W1 a th gn hs ot) (bw_W1 a th gn hs ot) (nI pr) := by
  refine bw_startI (by decide) (Nat.le_of_ble_eq_true rfl) rfl ?_
  intro p e s m below meth c A Q ls hx hb hml hown hts hA hK hw hl hret
  have hown : s.vm.findClass RX1 = some m.cls := hown
  have hl : lv_has ls 3 [(0, .ref a.1)] := hl
  refine lv_iconst (v := nI 0) hx hb dX1_generators_0 (by decide) ?_
  refine lv_istore_n (lv' := [(1, .int (nI 0)), (0, .ref a.1)]) hx hb dX1_generators_1 rfl hl (by decide) rfl (fun ls hl => ?_)
  refine lv_iconst (v := nI 0) hx hb dX1_generators_2 (by decide) ?_
  refine lv_istore_n (lv' := [(2, .int (nI 0)), (1, .int (nI 0)), (0, .ref a.1)]) hx hb dX1_generators_3 rfl hl (by decide) rfl (fun ls hl => ?_)
  refine bw_loop (pc := 4) (fun (qq : Nat × Nat) ls H locs => qq.2 ≤ 6 ∧ qq.1 = bb_bs (fun i => pr.testBit i) qq.2 ∧ lv_has ls 3 [(2, .int (nI qq.2)), (1, .int (nI qq.1)), (0, .ref a.1)] ∧ bw_H D bw_Cl A s.heap (bw_W1 a th gn hs ot) H locs) (fun qq => 6 - qq.2) ?_ (0, 0) ⟨Nat.zero_le _, rfl, lv_sub hl [0, 1, 2] rfl, hw⟩
  rintro ⟨r, i⟩ ls H locs ⟨k4_0, k4_1, hl, hw⟩ ih4
  have k4_0 : i ≤ 6 := k4_0
  have k4_1 : r = bb_bs (fun i => pr.testBit i) i := k4_1
  have hl : lv_has ls 3 [(2, .int (nI i)), (1, .int (nI r)), (0, .ref a.1)] := hl
  have hw : bw_H D bw_Cl A s.heap (bw_W1 a th gn hs ot) H locs := hw
  refine lv_iload_n hx hb dX1_generators_4 rfl (lv_at hl 0 rfl) ?_
  refine lv_bipush (v := nI 6) hx hb dX1_generators_5 (by decide) ?_
  refine bw_cge (tgt := 35) hx hb dX1_generators_7 (by decide) (by omega) (by omega) (fun c7 => ?_) (fun c7 => ?_)
  · refine lv_iload_n hx hb dX1_generators_35 rfl (lv_at hl 1 rfl) ?_
    refine bw_top (y := nI pr) (by rw [k4_1, show i = 6 by omega, bb_bs_id (n := 6) hpr]) ?_
    exact hret _ _ _ _ hw dX1_generators_36
  · have hti := bb_TH_lt hth (show i < 6 by omega)
    refine lv_aload_n hx hb dX1_generators_10 rfl (lv_at hl 2 rfl) ?_
    refine bw_g1_th hx hb hts hown hK hw dX1_generators_11 ?_
    refine lv_iload_n hx hb dX1_generators_14 rfl (lv_at hl 0 rfl) ?_
    refine bw_l1_th hx hb hK hw (by omega) dX1_generators_15 ?_
    refine bw_eq0 (tgt := 27) hx hb dX1_generators_16 (by decide) (by omega) (fun c16 => ?_) (fun c16 => ?_)
    · refine lv_iload_n hx hb dX1_generators_27 rfl (lv_at hl 1 rfl) ?_
      refine lv_istore_n (lv' := [(1, .int (nI r)), (2, .int (nI i)), (0, .ref a.1)]) hx hb dX1_generators_28 rfl hl (by decide) rfl (fun ls hl => ?_)
      refine lv_iinc (v := nI (i + 1)) (lv' := [(2, .int (nI (i + 1))), (1, .int (nI r)), (0, .ref a.1)]) hx hb dX1_generators_29 hl (k := 1) rfl (bw_inc i) (by decide) rfl (fun ls hl => ?_)
      refine lv_goto (tgt := 4) hx hb dX1_generators_32 (by decide) ?_
      exact ih4 (r, i + 1) _ _ _ (by show 6 - (i + 1) < 6 - i; omega) ⟨by show (i + 1) ≤ 6; omega, by rw [k4_1]; first | exact (bb_bs_f' (P := fun i => pr.testBit i) (bb_TH_0 hth (by omega) c16)).symm | exact (bb_bs_t (P := fun i => pr.testBit i) (bb_TH_1 hth (by omega) c16)).symm, lv_sub hl [0, 1, 2] rfl, hw⟩
    · refine lv_iload_n hx hb dX1_generators_19 rfl (lv_at hl 1 rfl) ?_
      refine lv_iconst (v := nI 1) hx hb dX1_generators_20 (by decide) ?_
      refine lv_iload_n hx hb dX1_generators_21 rfl (lv_at hl 0 rfl) ?_
      refine bw_ishl hx hb dX1_generators_22 (by omega) ?_
      refine bw_ior hx hb dX1_generators_23 ?_
      refine lv_goto (tgt := 28) hx hb dX1_generators_24 (by decide) ?_
      refine lv_istore_n (lv' := [(1, .int (nI (r ||| (2 ^ i)))), (2, .int (nI i)), (0, .ref a.1)]) hx hb dX1_generators_28 rfl hl (by decide) rfl (fun ls hl => ?_)
      refine lv_iinc (v := nI (i + 1)) (lv' := [(2, .int (nI (i + 1))), (1, .int (nI (r ||| (2 ^ i)))), (0, .ref a.1)]) hx hb dX1_generators_29 hl (k := 1) rfl (bw_inc i) (by decide) rfl (fun ls hl => ?_)
      refine lv_goto (tgt := 4) hx hb dX1_generators_32 (by decide) ?_
      exact ih4 (r ||| (2 ^ i), i + 1) _ _ _ (by show 6 - (i + 1) < 6 - i; omega) ⟨by show (i + 1) ≤ 6; omega, by rw [k4_1]; first | exact (bb_bs_f' (P := fun i => pr.testBit i) (bb_TH_0 hth (by omega) c16)).symm | exact (bb_bs_t (P := fun i => pr.testBit i) (bb_TH_1 hth (by omega) c16)).symm, lv_sub hl [0, 1, 2] rfl, hw⟩
set_option maxHeartbeats 4000000 in
set_option maxRecDepth 100000 in
/-- product -/
theorem mu_product (l : Launch) (D : va_G) (a : bw_A0) (th gn hs ot : Nat → Nat) (f g : Nat) (hf : f < 65536) (hg : g < 65536) : bw_MI l yX1_product (ws_ yX1_product cX1_product 7 (some .int)) ({ frames := 1, cells := 0, slots := 0, locals := 21 }) D bw_Cl (bw_T1 a) [.ref a.1, .int (nI f), .int (nI g)] (bw_W1 a th gn hs ot) (bw_W1 a th gn hs ot) (nI (bb_prod f g)) := by
  refine bw_startI (by decide) (Nat.le_of_ble_eq_true rfl) rfl ?_
  intro p e s m below meth c A Q ls hx hb hml hown hts hA hK hw hl hret
  have hown : s.vm.findClass RX1 = some m.cls := hown
  have hl : lv_has ls 7 [(0, .ref a.1), (1, .int (nI f)), (2, .int (nI g))] := hl
  refine lv_aload_n hx hb dX1_product_0 rfl (lv_at hl 0 rfl) ?_
  refine lv_iload_n hx hb dX1_product_1 rfl (lv_at hl 1 rfl) ?_
  refine bw_ownI ⟨hx, hb, hml, hown, hts⟩ [.int (nI f)] [] (mu_pol1 l D a th gn hs ot f hf) (cwV 1 hts (lw_V q197 q199 qs10 q18 q200) rfl rfl rfl (by decide +kernel) ⟨Nat.le_of_ble_eq_true rfl, Nat.le_of_ble_eq_true rfl⟩) 1 0 rfl rfl hK hA hw rfl hl.1 rfl (Nat.le_of_ble_eq_true rfl) dX1_product_2 ⟨Nat.zero_le _, Nat.zero_le _⟩ (fun H locs hw => ?_)
  refine bw_eq0n (tgt := 16) hx hb dX1_product_5 (by decide) (by decide) ?_
  refine lv_aload_n hx hb dX1_product_8 rfl (lv_at hl 0 rfl) ?_
  refine lv_iload_n hx hb dX1_product_9 rfl (lv_at hl 2 rfl) ?_
  refine bw_ownI ⟨hx, hb, hml, hown, hts⟩ [.int (nI g)] [] (mu_pol1 l D a th gn hs ot g hg) (cwV 1 hts (lw_V q197 q199 qs10 q18 q200) rfl rfl rfl (by decide +kernel) ⟨Nat.le_of_ble_eq_true rfl, Nat.le_of_ble_eq_true rfl⟩) 1 0 rfl rfl hK hA hw rfl hl.1 rfl (Nat.le_of_ble_eq_true rfl) dX1_product_10 ⟨Nat.zero_le _, Nat.zero_le _⟩ (fun H locs hw => ?_)
  refine bw_ne0y (tgt := 18) hx hb dX1_product_13 (by decide) (by decide) ?_
  refine lv_iconst (v := nI 0) hx hb dX1_product_18 (by decide) ?_
  refine lv_istore_n (lv' := [(3, .int (nI 0)), (0, .ref a.1), (1, .int (nI f)), (2, .int (nI g))]) hx hb dX1_product_19 rfl hl (by decide) rfl (fun ls hl => ?_)
  refine lv_iconst (v := nI 0) hx hb dX1_product_20 (by decide) ?_
  refine lv_istore (lv' := [(4, .int (nI 0)), (3, .int (nI 0)), (0, .ref a.1), (1, .int (nI f)), (2, .int (nI g))]) hx hb dX1_product_21 hl (by decide) rfl (fun ls hl => ?_)
  refine bw_loop (pc := 23) (fun (qq : Nat × Nat) ls H locs => qq.2 ≤ 16 ∧ qq.1 = bb_pM f g qq.2 ∧ lv_has ls 7 [(4, .int (nI qq.2)), (3, .int (nI qq.1)), (0, .ref a.1), (1, .int (nI f)), (2, .int (nI g))] ∧ bw_H D bw_Cl A s.heap (bw_W1 a th gn hs ot) H locs) (fun qq => 16 - qq.2) ?_ (0, 0) ⟨Nat.zero_le _, rfl, lv_sub hl [0, 1, 2, 3, 4] rfl, hw⟩
  rintro ⟨r, i⟩ ls H locs ⟨k23_0, k23_1, hl, hw⟩ ih23
  have k23_0 : i ≤ 16 := k23_0
  have k23_1 : r = bb_pM f g i := k23_1
  have hl : lv_has ls 7 [(4, .int (nI i)), (3, .int (nI r)), (0, .ref a.1), (1, .int (nI f)), (2, .int (nI g))] := hl
  have hw : bw_H D bw_Cl A s.heap (bw_W1 a th gn hs ot) H locs := hw
  refine lv_iload hx hb dX1_product_23 (lv_at hl 0 rfl) ?_
  refine lv_bipush (v := nI 16) hx hb dX1_product_25 (by decide) ?_
  refine bw_cge (tgt := 98) hx hb dX1_product_27 (by decide) (by omega) (by omega) (fun c27 => ?_) (fun c27 => ?_)
  · refine lv_iload_n hx hb dX1_product_98 rfl (lv_at hl 1 rfl) ?_
    refine bw_top (y := nI (bb_prod f g)) (by rw [k23_1, show i = 16 by omega, bb_pM_eq]) ?_
    exact hret _ _ _ _ hw dX1_product_99
  · refine lv_iconst (v := nI 0) hx hb dX1_product_30 (by decide) ?_
    refine lv_istore (lv' := [(5, .int (nI 0)), (4, .int (nI i)), (3, .int (nI r)), (0, .ref a.1), (1, .int (nI f)), (2, .int (nI g))]) hx hb dX1_product_31 hl (by decide) rfl (fun ls hl => ?_)
    refine bw_loop (pc := 33) (fun (qq : Nat × Nat) ls H locs => qq.2 ≤ 16 ∧ qq.1 = bb_pM f g i ^^^ bb_pi f g i qq.2 ∧ lv_has ls 7 [(5, .int (nI qq.2)), (4, .int (nI i)), (3, .int (nI qq.1)), (0, .ref a.1), (1, .int (nI f)), (2, .int (nI g))] ∧ bw_H D bw_Cl A s.heap (bw_W1 a th gn hs ot) H locs) (fun qq => 16 - qq.2) ?_ (r, 0) ⟨Nat.zero_le _, by rw [k23_1]; exact (Nat.xor_zero _).symm, lv_sub hl [0, 1, 2, 3, 4, 5] rfl, hw⟩
    rintro ⟨t, j⟩ ls H locs ⟨k33_0, k33_1, hl, hw⟩ ih33
    have k33_0 : j ≤ 16 := k33_0
    have k33_1 : t = bb_pM f g i ^^^ bb_pi f g i j := k33_1
    have hl : lv_has ls 7 [(5, .int (nI j)), (4, .int (nI i)), (3, .int (nI t)), (0, .ref a.1), (1, .int (nI f)), (2, .int (nI g))] := hl
    have hw : bw_H D bw_Cl A s.heap (bw_W1 a th gn hs ot) H locs := hw
    refine lv_iload hx hb dX1_product_33 (lv_at hl 0 rfl) ?_
    refine lv_bipush (v := nI 16) hx hb dX1_product_35 (by decide) ?_
    refine bw_cge (tgt := 92) hx hb dX1_product_37 (by decide) (by omega) (by omega) (fun c37 => ?_) (fun c37 => ?_)
    · refine lv_iinc (v := nI (i + 1)) (lv' := [(4, .int (nI (i + 1))), (5, .int (nI j)), (3, .int (nI t)), (0, .ref a.1), (1, .int (nI f)), (2, .int (nI g))]) hx hb dX1_product_92 hl (k := 1) rfl (bw_inc i) (by decide) rfl (fun ls hl => ?_)
      refine lv_goto (tgt := 23) hx hb dX1_product_95 (by decide) ?_
      exact ih23 (t, i + 1) _ _ _ (by show 16 - (i + 1) < 16 - i; omega) ⟨by show (i + 1) ≤ 16; omega, by rw [k33_1, show j = 16 by omega]; rfl, lv_sub hl [0, 2, 3, 4, 5] rfl, hw⟩
    · refine lv_iload_n hx hb dX1_product_40 rfl (lv_at hl 4 rfl) ?_
      refine lv_iload hx hb dX1_product_41 (lv_at hl 1 rfl) ?_
      refine bw_ishr hx hb dX1_product_43 (by omega) (by omega) ?_
      refine lv_iconst (v := nI 1) hx hb dX1_product_44 (by decide) ?_
      refine bw_iand hx hb dX1_product_45 ?_
      refine lv_iconst (v := nI 1) hx hb dX1_product_46 (by decide) ?_
      refine bw_b1ne (tgt := 64) hx hb dX1_product_47 (by decide) (fun c47 => ?_) (fun c47 => ?_)
      · refine lv_iconst (v := nI 0) hx hb dX1_product_64 (by decide) ?_
        refine lv_istore (lv' := [(6, .int (nI 0)), (5, .int (nI j)), (4, .int (nI i)), (3, .int (nI t)), (0, .ref a.1), (1, .int (nI f)), (2, .int (nI g))]) hx hb dX1_product_65 hl (by decide) rfl (fun ls hl => ?_)
        refine lv_iload hx hb dX1_product_67 (lv_at hl 0 rfl) ?_
        refine bw_eq0y (tgt := 84) hx hb dX1_product_69 (by decide) (by decide) ?_
        refine lv_iload_n hx hb dX1_product_84 rfl (lv_at hl 3 rfl) ?_
        refine lv_istore_n (lv' := [(3, .int (nI t)), (6, .int (nI 0)), (5, .int (nI j)), (4, .int (nI i)), (0, .ref a.1), (1, .int (nI f)), (2, .int (nI g))]) hx hb dX1_product_85 rfl hl (by decide) rfl (fun ls hl => ?_)
        refine lv_iinc (v := nI (j + 1)) (lv' := [(5, .int (nI (j + 1))), (3, .int (nI t)), (6, .int (nI 0)), (4, .int (nI i)), (0, .ref a.1), (1, .int (nI f)), (2, .int (nI g))]) hx hb dX1_product_86 hl (k := 2) rfl (bw_inc j) (by decide) rfl (fun ls hl => ?_)
        refine lv_goto (tgt := 33) hx hb dX1_product_89 (by decide) ?_
        exact ih33 (t, j + 1) _ _ _ (by show 16 - (j + 1) < 16 - j; omega) ⟨by show (j + 1) ≤ 16; omega, by rw [k33_1]; first | (rw [bb_pi_f1 c47]; done) | (rw [bb_pi_f2 c57]; done) | (rw [bb_pi_t c47 c57, Nat.xor_assoc]; done), lv_sub hl [0, 3, 1, 4, 5, 6] rfl, hw⟩
      · refine lv_iload_n hx hb dX1_product_50 rfl (lv_at hl 5 rfl) ?_
        refine lv_iload hx hb dX1_product_51 (lv_at hl 0 rfl) ?_
        refine bw_ishr hx hb dX1_product_53 (by omega) (by omega) ?_
        refine lv_iconst (v := nI 1) hx hb dX1_product_54 (by decide) ?_
        refine bw_iand hx hb dX1_product_55 ?_
        refine lv_iconst (v := nI 1) hx hb dX1_product_56 (by decide) ?_
        refine bw_b1ne (tgt := 64) hx hb dX1_product_57 (by decide) (fun c57 => ?_) (fun c57 => ?_)
        · refine lv_iconst (v := nI 0) hx hb dX1_product_64 (by decide) ?_
          refine lv_istore (lv' := [(6, .int (nI 0)), (5, .int (nI j)), (4, .int (nI i)), (3, .int (nI t)), (0, .ref a.1), (1, .int (nI f)), (2, .int (nI g))]) hx hb dX1_product_65 hl (by decide) rfl (fun ls hl => ?_)
          refine lv_iload hx hb dX1_product_67 (lv_at hl 0 rfl) ?_
          refine bw_eq0y (tgt := 84) hx hb dX1_product_69 (by decide) (by decide) ?_
          refine lv_iload_n hx hb dX1_product_84 rfl (lv_at hl 3 rfl) ?_
          refine lv_istore_n (lv' := [(3, .int (nI t)), (6, .int (nI 0)), (5, .int (nI j)), (4, .int (nI i)), (0, .ref a.1), (1, .int (nI f)), (2, .int (nI g))]) hx hb dX1_product_85 rfl hl (by decide) rfl (fun ls hl => ?_)
          refine lv_iinc (v := nI (j + 1)) (lv' := [(5, .int (nI (j + 1))), (3, .int (nI t)), (6, .int (nI 0)), (4, .int (nI i)), (0, .ref a.1), (1, .int (nI f)), (2, .int (nI g))]) hx hb dX1_product_86 hl (k := 2) rfl (bw_inc j) (by decide) rfl (fun ls hl => ?_)
          refine lv_goto (tgt := 33) hx hb dX1_product_89 (by decide) ?_
          exact ih33 (t, j + 1) _ _ _ (by show 16 - (j + 1) < 16 - j; omega) ⟨by show (j + 1) ≤ 16; omega, by rw [k33_1]; first | (rw [bb_pi_f1 c47]; done) | (rw [bb_pi_f2 c57]; done) | (rw [bb_pi_t c47 c57, Nat.xor_assoc]; done), lv_sub hl [0, 3, 1, 4, 5, 6] rfl, hw⟩
        · refine lv_iconst (v := nI 1) hx hb dX1_product_60 (by decide) ?_
          refine lv_goto (tgt := 65) hx hb dX1_product_61 (by decide) ?_
          refine lv_istore (lv' := [(6, .int (nI 1)), (5, .int (nI j)), (4, .int (nI i)), (3, .int (nI t)), (0, .ref a.1), (1, .int (nI f)), (2, .int (nI g))]) hx hb dX1_product_65 hl (by decide) rfl (fun ls hl => ?_)
          refine lv_iload hx hb dX1_product_67 (lv_at hl 0 rfl) ?_
          refine bw_eq0n (tgt := 84) hx hb dX1_product_69 (by decide) (by decide) ?_
          refine lv_iload_n hx hb dX1_product_72 rfl (lv_at hl 3 rfl) ?_
          refine lv_iconst (v := nI 1) hx hb dX1_product_73 (by decide) ?_
          refine lv_iload hx hb dX1_product_74 (lv_at hl 2 rfl) ?_
          refine lv_iload hx hb dX1_product_76 (lv_at hl 1 rfl) ?_
          refine bw_ior hx hb dX1_product_78 ?_
          refine bw_ishl hx hb dX1_product_79 (Nat.lt_of_lt_of_le (bb_or16 _ (by omega) _ (by omega)) (by decide)) ?_
          refine bw_ixor hx hb dX1_product_80 ?_
          refine lv_goto (tgt := 85) hx hb dX1_product_81 (by decide) ?_
          refine lv_istore_n (lv' := [(3, .int (nI (t ^^^ (2 ^ (i ||| j))))), (6, .int (nI 1)), (5, .int (nI j)), (4, .int (nI i)), (0, .ref a.1), (1, .int (nI f)), (2, .int (nI g))]) hx hb dX1_product_85 rfl hl (by decide) rfl (fun ls hl => ?_)
          refine lv_iinc (v := nI (j + 1)) (lv' := [(5, .int (nI (j + 1))), (3, .int (nI (t ^^^ (2 ^ (i ||| j))))), (6, .int (nI 1)), (4, .int (nI i)), (0, .ref a.1), (1, .int (nI f)), (2, .int (nI g))]) hx hb dX1_product_86 hl (k := 2) rfl (bw_inc j) (by decide) rfl (fun ls hl => ?_)
          refine lv_goto (tgt := 33) hx hb dX1_product_89 (by decide) ?_
          exact ih33 (t ^^^ (2 ^ (i ||| j)), j + 1) _ _ _ (by show 16 - (j + 1) < 16 - j; omega) ⟨by show (j + 1) ≤ 16; omega, by rw [k33_1]; first | (rw [bb_pi_f1 c47]; done) | (rw [bb_pi_f2 c57]; done) | (rw [bb_pi_t c47 c57, Nat.xor_assoc]; done), lv_sub hl [0, 3, 1, 4, 5, 6] rfl, hw⟩
set_option maxHeartbeats 4000000 in
set_option maxRecDepth 100000 in
/-- product, the first is none -/
theorem mu_productX1 (l : Launch) (D : va_G) (a : bw_A0) (th gn hs ot : Nat → Nat) (x y : Int32) (hbad : ∀ j : Nat, j < 65536 → x ≠ nI j) : bw_MI l yX1_product (ws_ yX1_product cX1_product 7 (some .int)) ({ frames := 1, cells := 0, slots := 0, locals := 21 }) D bw_Cl (bw_T1 a) [.ref a.1, .int x, .int y] (bw_W1 a th gn hs ot) (bw_W1 a th gn hs ot) (-1) := by
  refine bw_startI (by decide) (Nat.le_of_ble_eq_true rfl) rfl ?_
  intro p e s m below meth c A Q ls hx hb hml hown hts hA hK hw hl hret
  have hown : s.vm.findClass RX1 = some m.cls := hown
  have hl : lv_has ls 7 [(0, .ref a.1), (1, .int x), (2, .int y)] := hl
  refine lv_aload_n hx hb dX1_product_0 rfl (lv_at hl 0 rfl) ?_
  refine lv_iload_n hx hb dX1_product_1 rfl (lv_at hl 1 rfl) ?_
  refine bw_ownI ⟨hx, hb, hml, hown, hts⟩ [.int x] [] (mu_pol0 l D a th gn hs ot x hbad) (cwV 1 hts (lw_V q197 q199 qs10 q18 q200) rfl rfl rfl (by decide +kernel) ⟨Nat.le_of_ble_eq_true rfl, Nat.le_of_ble_eq_true rfl⟩) 1 0 rfl rfl hK hA hw rfl hl.1 rfl (Nat.le_of_ble_eq_true rfl) dX1_product_2 ⟨Nat.zero_le _, Nat.zero_le _⟩ (fun H locs hw => ?_)
  refine bw_eq0y (tgt := 16) hx hb dX1_product_5 (by decide) (by decide) ?_
  refine lv_iconst (v := -1) hx hb dX1_product_16 (by decide) ?_
  exact hret _ _ _ _ hw dX1_product_17
set_option maxHeartbeats 4000000 in
set_option maxRecDepth 100000 in
/-- product, the second is none -/
theorem mu_productX2 (l : Launch) (D : va_G) (a : bw_A0) (th gn hs ot : Nat → Nat) (f : Nat) (y : Int32) (hf : f < 65536) (hbad : ∀ j : Nat, j < 65536 → y ≠ nI j) : bw_MI l yX1_product (ws_ yX1_product cX1_product 7 (some .int)) ({ frames := 1, cells := 0, slots := 0, locals := 21 }) D bw_Cl (bw_T1 a) [.ref a.1, .int (nI f), .int y] (bw_W1 a th gn hs ot) (bw_W1 a th gn hs ot) (-1) := by
  refine bw_startI (by decide) (Nat.le_of_ble_eq_true rfl) rfl ?_
  intro p e s m below meth c A Q ls hx hb hml hown hts hA hK hw hl hret
  have hown : s.vm.findClass RX1 = some m.cls := hown
  have hl : lv_has ls 7 [(0, .ref a.1), (1, .int (nI f)), (2, .int y)] := hl
  refine lv_aload_n hx hb dX1_product_0 rfl (lv_at hl 0 rfl) ?_
  refine lv_iload_n hx hb dX1_product_1 rfl (lv_at hl 1 rfl) ?_
  refine bw_ownI ⟨hx, hb, hml, hown, hts⟩ [.int (nI f)] [] (mu_pol1 l D a th gn hs ot f hf) (cwV 1 hts (lw_V q197 q199 qs10 q18 q200) rfl rfl rfl (by decide +kernel) ⟨Nat.le_of_ble_eq_true rfl, Nat.le_of_ble_eq_true rfl⟩) 1 0 rfl rfl hK hA hw rfl hl.1 rfl (Nat.le_of_ble_eq_true rfl) dX1_product_2 ⟨Nat.zero_le _, Nat.zero_le _⟩ (fun H locs hw => ?_)
  refine bw_eq0n (tgt := 16) hx hb dX1_product_5 (by decide) (by decide) ?_
  refine lv_aload_n hx hb dX1_product_8 rfl (lv_at hl 0 rfl) ?_
  refine lv_iload_n hx hb dX1_product_9 rfl (lv_at hl 2 rfl) ?_
  refine bw_ownI ⟨hx, hb, hml, hown, hts⟩ [.int y] [] (mu_pol0 l D a th gn hs ot y hbad) (cwV 1 hts (lw_V q197 q199 qs10 q18 q200) rfl rfl rfl (by decide +kernel) ⟨Nat.le_of_ble_eq_true rfl, Nat.le_of_ble_eq_true rfl⟩) 1 0 rfl rfl hK hA hw rfl hl.1 rfl (Nat.le_of_ble_eq_true rfl) dX1_product_10 ⟨Nat.zero_le _, Nat.zero_le _⟩ (fun H locs hw => ?_)
  refine bw_ne0n (tgt := 18) hx hb dX1_product_13 (by decide) (by decide) ?_
  refine lv_iconst (v := -1) hx hb dX1_product_16 (by decide) ?_
  exact hret _ _ _ _ hw dX1_product_17
set_option maxHeartbeats 4000000 in
set_option maxRecDepth 100000 in
/-- value -/
theorem mu_value (l : Launch) (D : va_G) (a : bw_A0) (th gn hs ot : Nat → Nat) (f t : Nat) (hf : f < 65536) (ht : t < 16) : bw_MI l yX1_value (ws_ yX1_value cX1_value 5 (some .int)) ({ frames := 1, cells := 0, slots := 0, locals := 21 }) D bw_Cl (bw_T1 a) [.ref a.1, .int (nI f), .int (nI t)] (bw_W1 a th gn hs ot) (bw_W1 a th gn hs ot) (nI (bb_val f t)) := by
  refine bw_startI (by decide) (Nat.le_of_ble_eq_true rfl) rfl ?_
  intro p e s m below meth c A Q ls hx hb hml hown hts hA hK hw hl hret
  have hown : s.vm.findClass RX1 = some m.cls := hown
  have hl : lv_has ls 5 [(0, .ref a.1), (1, .int (nI f)), (2, .int (nI t))] := hl
  refine lv_aload_n hx hb dX1_value_0 rfl (lv_at hl 0 rfl) ?_
  refine lv_iload_n hx hb dX1_value_1 rfl (lv_at hl 1 rfl) ?_
  refine bw_ownI ⟨hx, hb, hml, hown, hts⟩ [.int (nI f)] [] (mu_pol1 l D a th gn hs ot f hf) (cwV 1 hts (lw_V q197 q199 qs10 q18 q200) rfl rfl rfl (by decide +kernel) ⟨Nat.le_of_ble_eq_true rfl, Nat.le_of_ble_eq_true rfl⟩) 1 0 rfl rfl hK hA hw rfl hl.1 rfl (Nat.le_of_ble_eq_true rfl) dX1_value_2 ⟨Nat.zero_le _, Nat.zero_le _⟩ (fun H locs hw => ?_)
  refine bw_eq0n (tgt := 18) hx hb dX1_value_5 (by decide) (by decide) ?_
  refine lv_iload_n hx hb dX1_value_8 rfl (lv_at hl 2 rfl) ?_
  refine bw_lt0n (tgt := 18) hx hb dX1_value_9 (by decide) (by omega) ?_
  refine lv_iload_n hx hb dX1_value_12 rfl (lv_at hl 2 rfl) ?_
  refine lv_bipush (v := nI 15) hx hb dX1_value_13 (by decide) ?_
  refine bw_cle (tgt := 20) hx hb dX1_value_15 (by decide) (by omega) (by omega) (fun c15 => ?_) (fun c15 => ?_)
  · refine lv_iconst (v := nI 0) hx hb dX1_value_20 (by decide) ?_
    refine lv_istore_n (lv' := [(3, .int (nI 0)), (0, .ref a.1), (1, .int (nI f)), (2, .int (nI t))]) hx hb dX1_value_21 rfl hl (by decide) rfl (fun ls hl => ?_)
    refine lv_iconst (v := nI 0) hx hb dX1_value_22 (by decide) ?_
    refine lv_istore (lv' := [(4, .int (nI 0)), (3, .int (nI 0)), (0, .ref a.1), (1, .int (nI f)), (2, .int (nI t))]) hx hb dX1_value_23 hl (by decide) rfl (fun ls hl => ?_)
    refine bw_loop (pc := 25) (fun (qq : Nat × Nat) ls H locs => qq.2 ≤ 16 ∧ qq.1 = bb_lin (fun m => if m &&& t = m then 1 else 0) f qq.2 ∧ lv_has ls 5 [(4, .int (nI qq.2)), (3, .int (nI qq.1)), (0, .ref a.1), (1, .int (nI f)), (2, .int (nI t))] ∧ bw_H D bw_Cl A s.heap (bw_W1 a th gn hs ot) H locs) (fun qq => 16 - qq.2) ?_ (0, 0) ⟨Nat.zero_le _, rfl, lv_sub hl [0, 1, 2, 3, 4] rfl, hw⟩
    rintro ⟨r, i⟩ ls H locs ⟨k25_0, k25_1, hl, hw⟩ ih25
    have k25_0 : i ≤ 16 := k25_0
    have k25_1 : r = bb_lin (fun m => if m &&& t = m then 1 else 0) f i := k25_1
    have hl : lv_has ls 5 [(4, .int (nI i)), (3, .int (nI r)), (0, .ref a.1), (1, .int (nI f)), (2, .int (nI t))] := hl
    have hw : bw_H D bw_Cl A s.heap (bw_W1 a th gn hs ot) H locs := hw
    refine lv_iload hx hb dX1_value_25 (lv_at hl 0 rfl) ?_
    refine lv_bipush (v := nI 16) hx hb dX1_value_27 (by decide) ?_
    refine bw_cge (tgt := 60) hx hb dX1_value_29 (by decide) (by omega) (by omega) (fun c29 => ?_) (fun c29 => ?_)
    · refine lv_iload_n hx hb dX1_value_60 rfl (lv_at hl 1 rfl) ?_
      refine bw_top (y := nI (bb_val f t)) (by rw [k25_1, show i = 16 by omega]; rfl) ?_
      exact hret _ _ _ _ hw dX1_value_61
    · refine lv_iload hx hb dX1_value_32 (lv_at hl 0 rfl) ?_
      refine lv_iload_n hx hb dX1_value_34 rfl (lv_at hl 4 rfl) ?_
      refine lv_iconst (v := nI 4294967295) hx hb dX1_value_35 (by decide) ?_
      refine bw_ixor hx hb dX1_value_36 ?_
      refine bw_iand hx hb dX1_value_37 ?_
      refine bw_sne (tgt := 52) hx hb dX1_value_38 (by decide) (by omega) (by omega) (fun c38 => ?_) (fun c38 => ?_)
      · refine lv_iload_n hx hb dX1_value_52 rfl (lv_at hl 1 rfl) ?_
        refine lv_istore_n (lv' := [(3, .int (nI r)), (4, .int (nI i)), (0, .ref a.1), (1, .int (nI f)), (2, .int (nI t))]) hx hb dX1_value_53 rfl hl (by decide) rfl (fun ls hl => ?_)
        refine lv_iinc (v := nI (i + 1)) (lv' := [(4, .int (nI (i + 1))), (3, .int (nI r)), (0, .ref a.1), (1, .int (nI f)), (2, .int (nI t))]) hx hb dX1_value_54 hl (k := 1) rfl (bw_inc i) (by decide) rfl (fun ls hl => ?_)
        refine lv_goto (tgt := 25) hx hb dX1_value_57 (by decide) ?_
        exact ih25 (r, i + 1) _ _ _ (by show 16 - (i + 1) < 16 - i; omega) ⟨by show (i + 1) ≤ 16; omega, by rw [k25_1]; first | exact (bb_val_out c38).symm | exact (bb_val_in c38).symm, lv_sub hl [0, 1, 2, 3, 4] rfl, hw⟩
      · refine lv_iload_n hx hb dX1_value_41 rfl (lv_at hl 1 rfl) ?_
        refine lv_iload_n hx hb dX1_value_42 rfl (lv_at hl 3 rfl) ?_
        refine lv_iload hx hb dX1_value_43 (lv_at hl 0 rfl) ?_
        refine bw_ishr hx hb dX1_value_45 (by omega) (by omega) ?_
        refine lv_iconst (v := nI 1) hx hb dX1_value_46 (by decide) ?_
        refine bw_iand hx hb dX1_value_47 ?_
        refine bw_ixor hx hb dX1_value_48 ?_
        refine lv_goto (tgt := 53) hx hb dX1_value_49 (by decide) ?_
        refine lv_istore_n (lv' := [(3, .int (nI (r ^^^ ((f >>> i) &&& 1)))), (4, .int (nI i)), (0, .ref a.1), (1, .int (nI f)), (2, .int (nI t))]) hx hb dX1_value_53 rfl hl (by decide) rfl (fun ls hl => ?_)
        refine lv_iinc (v := nI (i + 1)) (lv' := [(4, .int (nI (i + 1))), (3, .int (nI (r ^^^ ((f >>> i) &&& 1)))), (0, .ref a.1), (1, .int (nI f)), (2, .int (nI t))]) hx hb dX1_value_54 hl (k := 1) rfl (bw_inc i) (by decide) rfl (fun ls hl => ?_)
        refine lv_goto (tgt := 25) hx hb dX1_value_57 (by decide) ?_
        exact ih25 (r ^^^ ((f >>> i) &&& 1), i + 1) _ _ _ (by show 16 - (i + 1) < 16 - i; omega) ⟨by show (i + 1) ≤ 16; omega, by rw [k25_1]; first | exact (bb_val_out c38).symm | exact (bb_val_in c38).symm, lv_sub hl [0, 1, 2, 3, 4] rfl, hw⟩
  · exact absurd c15 (by omega)
set_option maxHeartbeats 4000000 in
set_option maxRecDepth 100000 in
/-- value of none -/
theorem mu_valueX1 (l : Launch) (D : va_G) (a : bw_A0) (th gn hs ot : Nat → Nat) (x y : Int32) (hbad : ∀ j : Nat, j < 65536 → x ≠ nI j) : bw_MI l yX1_value (ws_ yX1_value cX1_value 5 (some .int)) ({ frames := 1, cells := 0, slots := 0, locals := 21 }) D bw_Cl (bw_T1 a) [.ref a.1, .int x, .int y] (bw_W1 a th gn hs ot) (bw_W1 a th gn hs ot) (-1) := by
  refine bw_startI (by decide) (Nat.le_of_ble_eq_true rfl) rfl ?_
  intro p e s m below meth c A Q ls hx hb hml hown hts hA hK hw hl hret
  have hown : s.vm.findClass RX1 = some m.cls := hown
  have hl : lv_has ls 5 [(0, .ref a.1), (1, .int x), (2, .int y)] := hl
  refine lv_aload_n hx hb dX1_value_0 rfl (lv_at hl 0 rfl) ?_
  refine lv_iload_n hx hb dX1_value_1 rfl (lv_at hl 1 rfl) ?_
  refine bw_ownI ⟨hx, hb, hml, hown, hts⟩ [.int x] [] (mu_pol0 l D a th gn hs ot x hbad) (cwV 1 hts (lw_V q197 q199 qs10 q18 q200) rfl rfl rfl (by decide +kernel) ⟨Nat.le_of_ble_eq_true rfl, Nat.le_of_ble_eq_true rfl⟩) 1 0 rfl rfl hK hA hw rfl hl.1 rfl (Nat.le_of_ble_eq_true rfl) dX1_value_2 ⟨Nat.zero_le _, Nat.zero_le _⟩ (fun H locs hw => ?_)
  refine bw_eq0y (tgt := 18) hx hb dX1_value_5 (by decide) (by decide) ?_
  refine lv_iconst (v := -1) hx hb dX1_value_18 (by decide) ?_
  exact hret _ _ _ _ hw dX1_value_19
set_option maxHeartbeats 4000000 in
set_option maxRecDepth 100000 in
/-- value at no point -/
theorem mu_valueX2 (l : Launch) (D : va_G) (a : bw_A0) (th gn hs ot : Nat → Nat) (f : Nat) (y : Int32) (hf : f < 65536) (hbad : ∀ j : Nat, j < 16 → y ≠ nI j) : bw_MI l yX1_value (ws_ yX1_value cX1_value 5 (some .int)) ({ frames := 1, cells := 0, slots := 0, locals := 21 }) D bw_Cl (bw_T1 a) [.ref a.1, .int (nI f), .int y] (bw_W1 a th gn hs ot) (bw_W1 a th gn hs ot) (-1) := by
  refine bw_startI (by decide) (Nat.le_of_ble_eq_true rfl) rfl ?_
  intro p e s m below meth c A Q ls hx hb hml hown hts hA hK hw hl hret
  have hown : s.vm.findClass RX1 = some m.cls := hown
  have hl : lv_has ls 5 [(0, .ref a.1), (1, .int (nI f)), (2, .int y)] := hl
  refine lv_aload_n hx hb dX1_value_0 rfl (lv_at hl 0 rfl) ?_
  refine lv_iload_n hx hb dX1_value_1 rfl (lv_at hl 1 rfl) ?_
  refine bw_ownI ⟨hx, hb, hml, hown, hts⟩ [.int (nI f)] [] (mu_pol1 l D a th gn hs ot f hf) (cwV 1 hts (lw_V q197 q199 qs10 q18 q200) rfl rfl rfl (by decide +kernel) ⟨Nat.le_of_ble_eq_true rfl, Nat.le_of_ble_eq_true rfl⟩) 1 0 rfl rfl hK hA hw rfl hl.1 rfl (Nat.le_of_ble_eq_true rfl) dX1_value_2 ⟨Nat.zero_le _, Nat.zero_le _⟩ (fun H locs hw => ?_)
  refine bw_eq0n (tgt := 18) hx hb dX1_value_5 (by decide) (by decide) ?_
  refine lv_iload_n hx hb dX1_value_8 rfl (lv_at hl 2 rfl) ?_
  refine lv_if_lt (tgt := 18) hx hb dX1_value_9 (by decide) (fun c9 => ?_) (fun c9 => ?_)
  · refine lv_iconst (v := -1) hx hb dX1_value_18 (by decide) ?_
    exact hret _ _ _ _ hw dX1_value_19
  · obtain ⟨j, hj, rfl⟩ := nI_of c9
    refine lv_iload_n hx hb dX1_value_12 rfl (lv_at hl 2 rfl) ?_
    refine lv_bipush (v := nI 15) hx hb dX1_value_13 (by decide) ?_
    refine bw_cle (tgt := 20) hx hb dX1_value_15 (by decide) (by omega) (by omega) (fun c15 => ?_) (fun c15 => ?_)
    · exact absurd rfl (hbad j (by omega))
    · refine lv_iconst (v := -1) hx hb dX1_value_18 (by decide) ?_
      exact hret _ _ _ _ hw dX1_value_19
set_option maxHeartbeats 4000000 in
set_option maxRecDepth 100000 in
/-- reduce -/
theorem mu_reduce (l : Launch) (D : va_G) (a : bw_A0) (th gn hs ot : Nat → Nat) (hhs : ∀ m, m < 16 → hs m < 65536) (f : Nat) (hf : f < 65536) : bw_MI l yX1_reduce (ws_ yX1_reduce cX1_reduce 4 (some .int)) ({ frames := 0, cells := 0, slots := 0, locals := 0 }) D bw_Cl (bw_T1 a) [.ref a.1, .int (nI f)] (bw_W1 a th gn hs ot) (bw_W1 a th gn hs ot) (nI (bb_red hs f)) := by
  refine bw_startI (by decide) (Nat.le_of_ble_eq_true rfl) rfl ?_
  intro p e s m below meth c A Q ls hx hb hml hown hts hA hK hw hl hret
  have hown : s.vm.findClass RX1 = some m.cls := hown
  have hl : lv_has ls 4 [(0, .ref a.1), (1, .int (nI f))] := hl
  refine lv_iload_n hx hb dX1_reduce_0 rfl (lv_at hl 1 rfl) ?_
  refine lv_istore_n (lv' := [(2, .int (nI f)), (0, .ref a.1), (1, .int (nI f))]) hx hb dX1_reduce_1 rfl hl (by decide) rfl (fun ls hl => ?_)
  refine lv_bipush (v := nI 15) hx hb dX1_reduce_2 (by decide) ?_
  refine lv_istore_n (lv' := [(3, .int (nI 15)), (2, .int (nI f)), (0, .ref a.1), (1, .int (nI f))]) hx hb dX1_reduce_4 rfl hl (by decide) rfl (fun ls hl => ?_)
  have hl : lv_has ls 4 [(3, .int (bw_dn 16)), (2, .int (nI f)), (0, .ref a.1), (1, .int (nI f))] := by rw [show bw_dn 16 = nI 15 from bw_dn_s 15]; exact hl
  refine bw_loop (pc := 5) (fun (qq : Nat × Nat) ls H locs => qq.2 ≤ 16 ∧ qq.1 < 65536 ∧ bb_rd hs qq.2 qq.1 = bb_red hs f ∧ lv_has ls 4 [(3, .int (bw_dn qq.2)), (2, .int (nI qq.1)), (0, .ref a.1), (1, .int (nI f))] ∧ bw_H D bw_Cl A s.heap (bw_W1 a th gn hs ot) H locs) (fun qq => qq.2) ?_ (f, 16) ⟨Nat.le_refl _, hf, rfl, lv_sub hl [0, 1, 2, 3] rfl, hw⟩
  rintro ⟨r, k⟩ ls H locs ⟨k5_0, k5_1, k5_2, hl, hw⟩ ih5
  have k5_0 : k ≤ 16 := k5_0
  have k5_1 : r < 65536 := k5_1
  have k5_2 : bb_rd hs k r = bb_red hs f := k5_2
  have hl : lv_has ls 4 [(3, .int (bw_dn k)), (2, .int (nI r)), (0, .ref a.1), (1, .int (nI f))] := hl
  have hw : bw_H D bw_Cl A s.heap (bw_W1 a th gn hs ot) H locs := hw
  rcases Nat.eq_zero_or_pos k with z0 | z0
  · subst z0
    refine lv_iload_n hx hb dX1_reduce_5 rfl (lv_at hl 0 rfl) ?_
    refine bw_lt0y (tgt := 46) hx hb dX1_reduce_6 (by decide) bw_dn_0 ?_
    refine lv_iload_n hx hb dX1_reduce_46 rfl (lv_at hl 1 rfl) ?_
    refine bw_top (y := nI (bb_red hs f)) (by rw [← k5_2]; rfl) ?_
    exact hret _ _ _ _ hw dX1_reduce_47
  · obtain ⟨k', rfl⟩ : ∃ z, k = z + 1 := ⟨k - 1, by omega⟩
    rw [bw_dn_s] at hl
    refine lv_iload_n hx hb dX1_reduce_5 rfl (lv_at hl 0 rfl) ?_
    refine bw_lt0n (tgt := 46) hx hb dX1_reduce_6 (by decide) (by omega) ?_
    refine lv_iload_n hx hb dX1_reduce_9 rfl (lv_at hl 1 rfl) ?_
    refine lv_iload_n hx hb dX1_reduce_10 rfl (lv_at hl 0 rfl) ?_
    refine bw_ishr hx hb dX1_reduce_11 (by omega) (by omega) ?_
    refine lv_iconst (v := nI 1) hx hb dX1_reduce_12 (by decide) ?_
    refine bw_iand hx hb dX1_reduce_13 ?_
    refine lv_iconst (v := nI 1) hx hb dX1_reduce_14 (by decide) ?_
    refine bw_b1ne (tgt := 38) hx hb dX1_reduce_15 (by decide) (fun c15 => ?_) (fun c15 => ?_)
    · refine lv_iload_n hx hb dX1_reduce_38 rfl (lv_at hl 1 rfl) ?_
      refine lv_istore_n (lv' := [(2, .int (nI r)), (3, .int (nI k')), (0, .ref a.1), (1, .int (nI f))]) hx hb dX1_reduce_39 rfl hl (by decide) rfl (fun ls hl => ?_)
      refine lv_iinc (v := bw_dn k') (lv' := [(3, .int (bw_dn k')), (2, .int (nI r)), (0, .ref a.1), (1, .int (nI f))]) hx hb dX1_reduce_40 hl (k := 1) rfl (bw_dec k') (by decide) rfl (fun ls hl => ?_)
      refine lv_goto (tgt := 5) hx hb dX1_reduce_43 (by decide) ?_
      exact ih5 (r, k') _ _ _ (by show k' < (k' + 1); omega) ⟨by show k' ≤ 16; omega, by first | exact k5_1 | exact bb_x16 k5_1 hb9, by first | exact (bb_rd_f c15).symm.trans k5_2 | (rw [← k5_2, bb_rd_t c15, c24, Nat.xor_zero]; done) | (rw [← k5_2, bb_rd_t c15]; done), lv_sub hl [0, 1, 2, 3] rfl, hw⟩
    · have hb9 := hhs k' (by omega)
      refine lv_aload_n hx hb dX1_reduce_18 rfl (lv_at hl 2 rfl) ?_
      refine bw_g1_hs hx hb hts hown hK hw dX1_reduce_19 ?_
      refine lv_iload_n hx hb dX1_reduce_22 rfl (lv_at hl 0 rfl) ?_
      refine bw_l1_hs hx hb hK hw (by omega) dX1_reduce_23 ?_
      refine bw_eq0 (tgt := 38) hx hb dX1_reduce_24 (by decide) (by omega) (fun c24 => ?_) (fun c24 => ?_)
      · refine lv_iload_n hx hb dX1_reduce_38 rfl (lv_at hl 1 rfl) ?_
        refine lv_istore_n (lv' := [(2, .int (nI r)), (3, .int (nI k')), (0, .ref a.1), (1, .int (nI f))]) hx hb dX1_reduce_39 rfl hl (by decide) rfl (fun ls hl => ?_)
        refine lv_iinc (v := bw_dn k') (lv' := [(3, .int (bw_dn k')), (2, .int (nI r)), (0, .ref a.1), (1, .int (nI f))]) hx hb dX1_reduce_40 hl (k := 1) rfl (bw_dec k') (by decide) rfl (fun ls hl => ?_)
        refine lv_goto (tgt := 5) hx hb dX1_reduce_43 (by decide) ?_
        exact ih5 (r, k') _ _ _ (by show k' < (k' + 1); omega) ⟨by show k' ≤ 16; omega, by first | exact k5_1 | exact bb_x16 k5_1 hb9, by first | exact (bb_rd_f c15).symm.trans k5_2 | (rw [← k5_2, bb_rd_t c15, c24, Nat.xor_zero]; done) | (rw [← k5_2, bb_rd_t c15]; done), lv_sub hl [0, 1, 2, 3] rfl, hw⟩
      · refine lv_iload_n hx hb dX1_reduce_27 rfl (lv_at hl 1 rfl) ?_
        refine lv_aload_n hx hb dX1_reduce_28 rfl (lv_at hl 2 rfl) ?_
        refine bw_g1_hs hx hb hts hown hK hw dX1_reduce_29 ?_
        refine lv_iload_n hx hb dX1_reduce_32 rfl (lv_at hl 0 rfl) ?_
        refine bw_l1_hs hx hb hK hw (by omega) dX1_reduce_33 ?_
        refine bw_ixor hx hb dX1_reduce_34 ?_
        refine lv_goto (tgt := 39) hx hb dX1_reduce_35 (by decide) ?_
        refine lv_istore_n (lv' := [(2, .int (nI (r ^^^ (hs k')))), (3, .int (nI k')), (0, .ref a.1), (1, .int (nI f))]) hx hb dX1_reduce_39 rfl hl (by decide) rfl (fun ls hl => ?_)
        refine lv_iinc (v := bw_dn k') (lv' := [(3, .int (bw_dn k')), (2, .int (nI (r ^^^ (hs k')))), (0, .ref a.1), (1, .int (nI f))]) hx hb dX1_reduce_40 hl (k := 1) rfl (bw_dec k') (by decide) rfl (fun ls hl => ?_)
        refine lv_goto (tgt := 5) hx hb dX1_reduce_43 (by decide) ?_
        exact ih5 (r ^^^ (hs k'), k') _ _ _ (by show k' < (k' + 1); omega) ⟨by show k' ≤ 16; omega, by first | exact k5_1 | exact bb_x16 k5_1 hb9, by first | exact (bb_rd_f c15).symm.trans k5_2 | (rw [← k5_2, bb_rd_t c15, c24, Nat.xor_zero]; done) | (rw [← k5_2, bb_rd_t c15]; done), lv_sub hl [0, 1, 2, 3] rfl, hw⟩
set_option maxHeartbeats 4000000 in
set_option maxRecDepth 100000 in
/-- keep -/
theorem mu_keep (l : Launch) (D : va_G) (a : bw_A0) (th gn hs ot : Nat → Nat) (hhs : ∀ m, m < 16 → hs m < 65536) (f : Nat) (hf : f < 65536) : bw_MV l yX1_keep (ws_ yX1_keep cX1_keep 4 none) ({ frames := 1, cells := 0, slots := 0, locals := 23 }) D bw_Cl (bw_T1 a) [.ref a.1, .int (nI f)] (bw_W1 a th gn hs ot) (bw_W1 a th gn (bb_kp hs f) ot) := by
  refine bw_startV (by decide) (Nat.le_of_ble_eq_true rfl) ?_
  intro p e s m below meth c A Q ls hx hb hml hown hts hA hK hw hl hret
  have hown : s.vm.findClass RX1 = some m.cls := hown
  have hl : lv_has ls 4 [(0, .ref a.1), (1, .int (nI f))] := hl
  have hR : bb_red hs f < 65536 := bb_rd_lt hhs (Nat.le_refl 16) hf
  refine lv_aload_n hx hb dX1_keep_0 rfl (lv_at hl 0 rfl) ?_
  refine lv_iload_n hx hb dX1_keep_1 rfl (lv_at hl 1 rfl) ?_
  refine bw_ownI ⟨hx, hb, hml, hown, hts⟩ [.int (nI f)] [] (mu_reduce l D a th gn hs ot hhs f hf) (cwV 1 hts (lw_V q235 q237 qs13 q18 q238) rfl rfl rfl (by decide +kernel) ⟨Nat.le_of_ble_eq_true rfl, Nat.le_of_ble_eq_true rfl⟩) 1 0 rfl rfl hK hA hw rfl hl.1 rfl (Nat.le_of_ble_eq_true rfl) dX1_keep_2 ⟨Nat.zero_le _, Nat.zero_le _⟩ (fun H locs hw => ?_)
  refine lv_istore_n (lv' := [(2, .int (nI (bb_red hs f))), (0, .ref a.1), (1, .int (nI f))]) hx hb dX1_keep_5 rfl hl (by decide) rfl (fun ls hl => ?_)
  refine lv_bipush (v := nI 15) hx hb dX1_keep_6 (by decide) ?_
  refine lv_istore_n (lv' := [(3, .int (nI 15)), (2, .int (nI (bb_red hs f))), (0, .ref a.1), (1, .int (nI f))]) hx hb dX1_keep_8 rfl hl (by decide) rfl (fun ls hl => ?_)
  have hl : lv_has ls 4 [(3, .int (bw_dn 16)), (2, .int (nI (bb_red hs f))), (0, .ref a.1), (1, .int (nI f))] := by rw [show bw_dn 16 = nI 15 from bw_dn_s 15]; exact hl
  refine bw_loop (pc := 9) (fun (qq : Nat) ls H locs => qq ≤ 16 ∧ bb_red hs f < 2 ^ qq ∧ lv_has ls 4 [(3, .int (bw_dn qq)), (2, .int (nI (bb_red hs f))), (0, .ref a.1), (1, .int (nI f))] ∧ bw_H D bw_Cl A s.heap (bw_W1 a th gn hs ot) H locs) (fun qq => qq) ?_ 16 ⟨Nat.le_refl _, hR, lv_sub hl [0, 1, 2, 3] rfl, hw⟩
  rintro k ls H locs ⟨k9_0, k9_1, hl, hw⟩ ih9
  have k9_0 : k ≤ 16 := k9_0
  have k9_1 : bb_red hs f < 2 ^ k := k9_1
  have hl : lv_has ls 4 [(3, .int (bw_dn k)), (2, .int (nI (bb_red hs f))), (0, .ref a.1), (1, .int (nI f))] := hl
  have hw : bw_H D bw_Cl A s.heap (bw_W1 a th gn hs ot) H locs := hw
  rcases Nat.eq_zero_or_pos k with z0 | z0
  · subst z0
    refine lv_iload_n hx hb dX1_keep_9 rfl (lv_at hl 0 rfl) ?_
    refine bw_lt0y (tgt := 36) hx hb dX1_keep_10 (by decide) bw_dn_0 ?_
    rw [bb_kp_0 k9_1] at hret
    exact hret _ _ _ _ hw dX1_keep_36
  · obtain ⟨k', rfl⟩ : ∃ z, k = z + 1 := ⟨k - 1, by omega⟩
    rw [bw_dn_s] at hl
    refine lv_iload_n hx hb dX1_keep_9 rfl (lv_at hl 0 rfl) ?_
    refine bw_lt0n (tgt := 36) hx hb dX1_keep_10 (by decide) (by omega) ?_
    refine lv_iload_n hx hb dX1_keep_13 rfl (lv_at hl 1 rfl) ?_
    refine lv_iload_n hx hb dX1_keep_14 rfl (lv_at hl 0 rfl) ?_
    refine bw_ishr hx hb dX1_keep_15 (by omega) (by omega) ?_
    refine lv_iconst (v := nI 1) hx hb dX1_keep_16 (by decide) ?_
    refine bw_iand hx hb dX1_keep_17 ?_
    refine lv_iconst (v := nI 1) hx hb dX1_keep_18 (by decide) ?_
    refine bw_b1ne (tgt := 30) hx hb dX1_keep_19 (by decide) (fun c19 => ?_) (fun c19 => ?_)
    · refine lv_iinc (v := bw_dn k') (lv' := [(3, .int (bw_dn k')), (2, .int (nI (bb_red hs f))), (0, .ref a.1), (1, .int (nI f))]) hx hb dX1_keep_30 hl (k := 0) rfl (bw_dec k') (by decide) rfl (fun ls hl => ?_)
      refine lv_goto (tgt := 9) hx hb dX1_keep_33 (by decide) ?_
      exact ih9 k' _ _ _ (by show k' < (k' + 1); omega) ⟨by show k' ≤ 16; omega, bb_lt_step k9_1 c19, lv_sub hl [0, 1, 2, 3] rfl, hw⟩
    · refine lv_aload_n hx hb dX1_keep_22 rfl (lv_at hl 2 rfl) ?_
      refine bw_g1_hs hx hb hts hown hK hw dX1_keep_23 ?_
      refine lv_iload_n hx hb dX1_keep_26 rfl (lv_at hl 0 rfl) ?_
      refine lv_iload_n hx hb dX1_keep_27 rfl (lv_at hl 1 rfl) ?_
      refine bw_s1_hs hx hb hK hw (by omega) dX1_keep_28 (fun H locs hw => ?_)
      rw [bb_kp_1 hR k9_1 c19] at hret
      exact hret _ _ _ _ hw dX1_keep_29
set_option maxHeartbeats 4000000 in
set_option maxRecDepth 100000 in
/-- work: the ideal of all chosen generators -/
theorem mu_work (l : Launch) (D : va_G) (a : bw_A0) (th gn hs ot : Nat → Nat) (pr : Nat) (hth : bb_TH pr th) (hgn : ∀ i, i < 6 → gn i < 65536) (nv : Int32) (sel : Nat → Bool) (hsel : ∀ i, i < 6 → (sel i = true ↔ pr.testBit i = true ∧ nI i ≠ nv)) : bw_MV l yX1_work (ws_ yX1_work cX1_work 4 none) ({ frames := 2, cells := 0, slots := 0, locals := 47 }) D bw_Cl (bw_T1 a) [.ref a.1, .int nv] (bw_W1 a th gn hs ot) (bw_W1 a th gn (bb_wk sel gn hs) ot) := by
  refine bw_startV (by decide) (Nat.le_of_ble_eq_true rfl) ?_
  intro p e s m below meth c A Q ls hx hb hml hown hts hA hK hw hl hret
  have hown : s.vm.findClass RX1 = some m.cls := hown
  have hl : lv_has ls 4 [(0, .ref a.1), (1, .int nv)] := hl
  refine lv_iconst (v := nI 0) hx hb dX1_work_0 (by decide) ?_
  refine lv_istore_n (lv' := [(2, .int (nI 0)), (0, .ref a.1), (1, .int nv)]) hx hb dX1_work_1 rfl hl (by decide) rfl (fun ls hl => ?_)
  refine bw_loop (pc := 2) (fun (qq : (Nat → Nat) × Nat) ls H locs => qq.2 ≤ 16 ∧ bb_clr hs qq.2 = qq.1 ∧ lv_has ls 4 [(2, .int (nI qq.2)), (0, .ref a.1), (1, .int nv)] ∧ bw_H D bw_Cl A s.heap (bw_W1 a th gn qq.1 ot) H locs) (fun qq => 16 - qq.2) ?_ (hs, 0) ⟨Nat.zero_le _, rfl, lv_sub hl [0, 1, 2] rfl, hw⟩
  rintro ⟨h, i⟩ ls H locs ⟨k2_0, k2_1, hl, hw⟩ ih2
  have k2_0 : i ≤ 16 := k2_0
  have k2_1 : bb_clr hs i = h := k2_1
  have hl : lv_has ls 4 [(2, .int (nI i)), (0, .ref a.1), (1, .int nv)] := hl
  have hw : bw_H D bw_Cl A s.heap (bw_W1 a th gn h ot) H locs := hw
  refine lv_iload_n hx hb dX1_work_2 rfl (lv_at hl 0 rfl) ?_
  refine lv_bipush (v := nI 16) hx hb dX1_work_3 (by decide) ?_
  refine bw_cge (tgt := 21) hx hb dX1_work_5 (by decide) (by omega) (by omega) (fun c5 => ?_) (fun c5 => ?_)
  · refine lv_iconst (v := nI 0) hx hb dX1_work_21 (by decide) ?_
    refine lv_istore_n (lv' := [(2, .int (nI 0)), (0, .ref a.1), (1, .int nv)]) hx hb dX1_work_22 rfl hl (by decide) rfl (fun ls hl => ?_)
    refine bw_loop (pc := 23) (fun (qq : (Nat → Nat) × Nat) ls H locs => qq.2 ≤ 6 ∧ bb_wki sel gn (bb_clr hs 16) qq.2 = qq.1 ∧ (∀ m, m < 16 → qq.1 m < 65536) ∧ lv_has ls 4 [(2, .int (nI qq.2)), (0, .ref a.1), (1, .int nv)] ∧ bw_H D bw_Cl A s.heap (bw_W1 a th gn qq.1 ot) H locs) (fun qq => 6 - qq.2) ?_ (h, 0) ⟨Nat.zero_le _, by rw [← k2_1, show i = 16 by omega]; rfl, by rw [← k2_1, show i = 16 by omega]; exact bb_clr_lt hs, lv_sub hl [0, 1, 2] rfl, hw⟩
    rintro ⟨h, i⟩ ls H locs ⟨k23_0, k23_1, k23_2, hl, hw⟩ ih23
    have k23_0 : i ≤ 6 := k23_0
    have k23_1 : bb_wki sel gn (bb_clr hs 16) i = h := k23_1
    have k23_2 : ∀ m, m < 16 → h m < 65536 := k23_2
    have hl : lv_has ls 4 [(2, .int (nI i)), (0, .ref a.1), (1, .int nv)] := hl
    have hw : bw_H D bw_Cl A s.heap (bw_W1 a th gn h ot) H locs := hw
    refine lv_iload_n hx hb dX1_work_23 rfl (lv_at hl 0 rfl) ?_
    refine lv_bipush (v := nI 6) hx hb dX1_work_24 (by decide) ?_
    refine bw_cge (tgt := 80) hx hb dX1_work_26 (by decide) (by omega) (by omega) (fun c26 => ?_) (fun c26 => ?_)
    · rw [show i = 6 by omega] at k23_1
      rw [← k23_1] at hw
      exact hret _ _ _ _ hw dX1_work_80
    · refine lv_iconst (v := nI 0) hx hb dX1_work_29 (by decide) ?_
      refine lv_istore_n (lv' := [(3, .int (nI 0)), (2, .int (nI i)), (0, .ref a.1), (1, .int nv)]) hx hb dX1_work_30 rfl hl (by decide) rfl (fun ls hl => ?_)
      refine bw_loop (pc := 31) (fun (qq : (Nat → Nat) × Nat) ls H locs => qq.2 ≤ 16 ∧ bb_wkm (sel i) (gn i) h qq.2 = qq.1 ∧ (∀ m, m < 16 → qq.1 m < 65536) ∧ lv_has ls 4 [(3, .int (nI qq.2)), (2, .int (nI i)), (0, .ref a.1), (1, .int nv)] ∧ bw_H D bw_Cl A s.heap (bw_W1 a th gn qq.1 ot) H locs) (fun qq => 16 - qq.2) ?_ (h, 0) ⟨Nat.zero_le _, rfl, k23_2, lv_sub hl [0, 1, 2, 3] rfl, hw⟩
      rintro ⟨g, j⟩ ls H locs ⟨k31_0, k31_1, k31_2, hl, hw⟩ ih31
      have k31_0 : j ≤ 16 := k31_0
      have k31_1 : bb_wkm (sel i) (gn i) h j = g := k31_1
      have k31_2 : ∀ m, m < 16 → g m < 65536 := k31_2
      have hl : lv_has ls 4 [(3, .int (nI j)), (2, .int (nI i)), (0, .ref a.1), (1, .int nv)] := hl
      have hw : bw_H D bw_Cl A s.heap (bw_W1 a th gn g ot) H locs := hw
      refine lv_iload_n hx hb dX1_work_31 rfl (lv_at hl 0 rfl) ?_
      refine lv_bipush (v := nI 16) hx hb dX1_work_32 (by decide) ?_
      refine bw_cge (tgt := 74) hx hb dX1_work_34 (by decide) (by omega) (by omega) (fun c34 => ?_) (fun c34 => ?_)
      · refine lv_iinc (v := nI (i + 1)) (lv' := [(2, .int (nI (i + 1))), (3, .int (nI j)), (0, .ref a.1), (1, .int nv)]) hx hb dX1_work_74 hl (k := 1) rfl (bw_inc i) (by decide) rfl (fun ls hl => ?_)
        refine lv_goto (tgt := 23) hx hb dX1_work_77 (by decide) ?_
        exact ih23 (g, i + 1) _ _ _ (by show 6 - (i + 1) < 6 - i; omega) ⟨by show (i + 1) ≤ 6; omega, by rw [← k31_1, show j = 16 by omega, ← k23_1]; rfl, k31_2, lv_sub hl [0, 2, 3] rfl, hw⟩
      · have hti := bb_TH_lt hth (show i < 6 by omega)
        refine lv_aload_n hx hb dX1_work_37 rfl (lv_at hl 2 rfl) ?_
        refine bw_g1_th hx hb hts hown hK hw dX1_work_38 ?_
        refine lv_iload_n hx hb dX1_work_41 rfl (lv_at hl 1 rfl) ?_
        refine bw_l1_th hx hb hK hw (by omega) dX1_work_42 ?_
        refine bw_eq0 (tgt := 68) hx hb dX1_work_43 (by decide) (by omega) (fun c43 => ?_) (fun c43 => ?_)
        · refine lv_iinc (v := nI (j + 1)) (lv' := [(3, .int (nI (j + 1))), (2, .int (nI i)), (0, .ref a.1), (1, .int nv)]) hx hb dX1_work_68 hl (k := 0) rfl (bw_inc j) (by decide) rfl (fun ls hl => ?_)
          refine lv_goto (tgt := 31) hx hb dX1_work_71 (by decide) ?_
          exact ih31 (g, j + 1) _ _ _ (by show 16 - (j + 1) < 16 - j; omega) ⟨by show (j + 1) ≤ 16; omega, by first | (rw [bb_wkm_f (fun q => ((hsel i (by omega)).mp q).2 c48), k31_1]; done) | (rw [bb_wkm_f (fun q => absurd ((hsel i (by omega)).mp q).1 (by rw [bb_TH_0 hth (by omega) c43]; decide)), k31_1]; done) | (rw [bb_wkm_t ((hsel i (by omega)).mpr ⟨bb_TH_1 hth (by omega) c43, c48⟩), k31_1]; done), by first | exact k31_2 | exact bb_kp_lt k31_2 (bb_tms_lt _ (by omega)), lv_sub hl [0, 1, 2, 3] rfl, hw⟩
        · refine lv_iload_n hx hb dX1_work_46 rfl (lv_at hl 1 rfl) ?_
          refine lv_iload_n hx hb dX1_work_47 rfl (lv_at hl 3 rfl) ?_
          refine lv_icmp_eq (tgt := 68) hx hb dX1_work_48 (by decide) (fun c48 => ?_) (fun c48 => ?_)
          · refine lv_iinc (v := nI (j + 1)) (lv' := [(3, .int (nI (j + 1))), (2, .int (nI i)), (0, .ref a.1), (1, .int nv)]) hx hb dX1_work_68 hl (k := 0) rfl (bw_inc j) (by decide) rfl (fun ls hl => ?_)
            refine lv_goto (tgt := 31) hx hb dX1_work_71 (by decide) ?_
            exact ih31 (g, j + 1) _ _ _ (by show 16 - (j + 1) < 16 - j; omega) ⟨by show (j + 1) ≤ 16; omega, by first | (rw [bb_wkm_f (fun q => ((hsel i (by omega)).mp q).2 c48), k31_1]; done) | (rw [bb_wkm_f (fun q => absurd ((hsel i (by omega)).mp q).1 (by rw [bb_TH_0 hth (by omega) c43]; decide)), k31_1]; done) | (rw [bb_wkm_t ((hsel i (by omega)).mpr ⟨bb_TH_1 hth (by omega) c43, c48⟩), k31_1]; done), by first | exact k31_2 | exact bb_kp_lt k31_2 (bb_tms_lt _ (by omega)), lv_sub hl [0, 1, 2, 3] rfl, hw⟩
          · refine lv_aload_n hx hb dX1_work_51 rfl (lv_at hl 2 rfl) ?_
            refine lv_aload_n hx hb dX1_work_52 rfl (lv_at hl 2 rfl) ?_
            refine lv_aload_n hx hb dX1_work_53 rfl (lv_at hl 2 rfl) ?_
            refine bw_g1_gn hx hb hts hown hK hw dX1_work_54 ?_
            refine lv_iload_n hx hb dX1_work_57 rfl (lv_at hl 1 rfl) ?_
            refine bw_l1_gn hx hb hK hw (by omega) dX1_work_58 ?_
            refine lv_iconst (v := nI 1) hx hb dX1_work_59 (by decide) ?_
            refine lv_iload_n hx hb dX1_work_60 rfl (lv_at hl 0 rfl) ?_
            refine bw_ishl hx hb dX1_work_61 (by omega) ?_
            refine bw_ownI ⟨hx, hb, hml, hown, hts⟩ [.int (nI (gn i)), .int (nI (2 ^ j))] [.ref a.1] (mu_product l D a th gn g ot (gn i) (2 ^ j) (hgn i (by omega)) (bb_p16 (by omega))) (cwV 2 hts (lw_V q230 q211 q212 q18 q213) rfl rfl rfl (by decide +kernel) ⟨Nat.le_of_ble_eq_true rfl, Nat.le_of_ble_eq_true rfl⟩) 1 0 rfl rfl hK hA hw rfl hl.1 rfl (Nat.le_of_ble_eq_true rfl) dX1_work_62 ⟨Nat.zero_le _, Nat.zero_le _⟩ (fun H locs hw => ?_)
            refine bw_topn (bb_prod_pow (gn i) (show j < 16 by omega)) ?_
            refine bw_ownV ⟨hx, hb, hml, hown, hts⟩ [.int (nI (bb_tms (gn i) j))] [] (mu_keep l D a th gn g ot k31_2 (bb_tms (gn i) j) (bb_tms_lt _ (by omega))) (cwV 1 hts (lw_V q231 q233 qs12 q18 q234) rfl rfl rfl (by decide +kernel) ⟨Nat.le_of_ble_eq_true rfl, Nat.le_of_ble_eq_true rfl⟩) 1 0 rfl rfl hK hA hw rfl hl.1 rfl (Nat.le_of_ble_eq_true rfl) dX1_work_65 ⟨Nat.zero_le _, Nat.zero_le _⟩ (fun H locs hw => ?_)
            refine lv_iinc (v := nI (j + 1)) (lv' := [(3, .int (nI (j + 1))), (2, .int (nI i)), (0, .ref a.1), (1, .int nv)]) hx hb dX1_work_68 hl (k := 0) rfl (bw_inc j) (by decide) rfl (fun ls hl => ?_)
            refine lv_goto (tgt := 31) hx hb dX1_work_71 (by decide) ?_
            exact ih31 (bb_kp g (bb_tms (gn i) j), j + 1) _ _ _ (by show 16 - (j + 1) < 16 - j; omega) ⟨by show (j + 1) ≤ 16; omega, by first | (rw [bb_wkm_f (fun q => ((hsel i (by omega)).mp q).2 c48), k31_1]; done) | (rw [bb_wkm_f (fun q => absurd ((hsel i (by omega)).mp q).1 (by rw [bb_TH_0 hth (by omega) c43]; decide)), k31_1]; done) | (rw [bb_wkm_t ((hsel i (by omega)).mpr ⟨bb_TH_1 hth (by omega) c43, c48⟩), k31_1]; done), by first | exact k31_2 | exact bb_kp_lt k31_2 (bb_tms_lt _ (by omega)), lv_sub hl [0, 1, 2, 3] rfl, hw⟩
  · refine lv_aload_n hx hb dX1_work_8 rfl (lv_at hl 1 rfl) ?_
    refine bw_g1_hs hx hb hts hown hK hw dX1_work_9 ?_
    refine lv_iload_n hx hb dX1_work_12 rfl (lv_at hl 0 rfl) ?_
    refine lv_iconst (v := nI 0) hx hb dX1_work_13 (by decide) ?_
    refine bw_s1_hs hx hb hK hw (by omega) dX1_work_14 (fun H locs hw => ?_)
    refine lv_iinc (v := nI (i + 1)) (lv' := [(2, .int (nI (i + 1))), (0, .ref a.1), (1, .int nv)]) hx hb dX1_work_15 hl (k := 0) rfl (bw_inc i) (by decide) rfl (fun ls hl => ?_)
    refine lv_goto (tgt := 2) hx hb dX1_work_18 (by decide) ?_
    exact ih2 (va_up h i 0, i + 1) _ _ _ (by show 16 - (i + 1) < 16 - i; omega) ⟨by show (i + 1) ≤ 16; omega, by show va_up (bb_clr hs i) i 0 = _; rw [k2_1], lv_sub hl [0, 1, 2] rfl, hw⟩
end
section
/-! WALKS 31: the reference's answers -/
/-- work over all generators -/
theorem mu_workA (l : Launch) (D : va_G) (a : bw_A0) (th gn hs ot : Nat → Nat) (pr : Nat) (hth : bb_TH pr th) (hgn : ∀ i, i < 6 → gn i < 65536) (h9 : Nat → Nat) (hh9 : bb_wk (fun i => pr.testBit i) gn hs = h9) : bw_MV l yX1_work (ws_ yX1_work cX1_work 4 none) ({ frames := 2, cells := 0, slots := 0, locals := 47 }) D bw_Cl (bw_T1 a) [.ref a.1, .int (-1)] (bw_W1 a th gn hs ot) (bw_W1 a th gn h9 ot) := by
  subst hh9
  exact mu_work l D a th gn hs ot pr hth hgn (-1) (fun i => pr.testBit i) (bb_sel_m1 pr)
set_option maxHeartbeats 4000000 in
set_option maxRecDepth 100000 in
/-- rest -/
theorem mu_rest (l : Launch) (D : va_G) (a : bw_A0) (th gn hs ot : Nat → Nat) (pr : Nat) (hth : bb_TH pr th) (hgn : ∀ i, i < 6 → gn i < 65536) (h9 : Nat → Nat) (hh9 : bb_wk (fun i => pr.testBit i) gn hs = h9) (f : Nat) (hf : f < 65536) : bw_MI l yX1_rest (ws_ yX1_rest cX1_rest 2 (some .int)) ({ frames := 3, cells := 0, slots := 0, locals := 70 }) D bw_Cl (bw_T1 a) [.ref a.1, .int (nI f)] (bw_W1 a th gn hs ot) (bw_W1 a th gn h9 ot) (nI (bb_red h9 f)) := by
  refine bw_startI (by decide) (Nat.le_of_ble_eq_true rfl) rfl ?_
  intro p e s m below meth c A Q ls hx hb hml hown hts hA hK hw hl hret
  have hown : s.vm.findClass RX1 = some m.cls := hown
  have hl : lv_has ls 2 [(0, .ref a.1), (1, .int (nI f))] := hl
  have hhs : ∀ m, m < 16 → h9 m < 65536 := by rw [← hh9]; exact bb_wk_lt _ _ _
  refine lv_aload_n hx hb dX1_rest_0 rfl (lv_at hl 0 rfl) ?_
  refine lv_iload_n hx hb dX1_rest_1 rfl (lv_at hl 1 rfl) ?_
  refine bw_ownI ⟨hx, hb, hml, hown, hts⟩ [.int (nI f)] [] (mu_pol1 l D a th gn hs ot f hf) (cwV 1 hts (lw_V q197 q199 qs10 q18 q200) rfl rfl rfl (by decide +kernel) ⟨Nat.le_of_ble_eq_true rfl, Nat.le_of_ble_eq_true rfl⟩) 1 0 rfl rfl hK hA hw rfl hl.1 rfl (Nat.le_of_ble_eq_true rfl) dX1_rest_2 ⟨Nat.zero_le _, Nat.zero_le _⟩ (fun H locs hw => ?_)
  refine bw_ne0y (tgt := 10) hx hb dX1_rest_5 (by decide) (by decide) ?_
  refine lv_aload_n hx hb dX1_rest_10 rfl (lv_at hl 0 rfl) ?_
  refine lv_iconst (v := -1) hx hb dX1_rest_11 (by decide) ?_
  refine bw_ownV ⟨hx, hb, hml, hown, hts⟩ [.int ((-1))] [] (mu_workA l D a th gn hs ot pr hth hgn h9 hh9) (cwV 1 hts (lw_V q226 q228 qs11 q18 q229) rfl rfl rfl (by decide +kernel) ⟨Nat.le_of_ble_eq_true rfl, Nat.le_of_ble_eq_true rfl⟩) 1 0 rfl rfl hK hA hw rfl hl.1 rfl (Nat.le_of_ble_eq_true rfl) dX1_rest_12 ⟨Nat.zero_le _, Nat.zero_le _⟩ (fun H locs hw => ?_)
  refine lv_aload_n hx hb dX1_rest_15 rfl (lv_at hl 0 rfl) ?_
  refine lv_iload_n hx hb dX1_rest_16 rfl (lv_at hl 1 rfl) ?_
  refine bw_ownI ⟨hx, hb, hml, hown, hts⟩ [.int (nI f)] [] (mu_reduce l D a th gn h9 ot hhs f hf) (cwV 1 hts (lw_V q235 q237 qs13 q18 q238) rfl rfl rfl (by decide +kernel) ⟨Nat.le_of_ble_eq_true rfl, Nat.le_of_ble_eq_true rfl⟩) 1 0 rfl rfl hK hA hw rfl hl.1 rfl (Nat.le_of_ble_eq_true rfl) dX1_rest_17 ⟨Nat.zero_le _, Nat.zero_le _⟩ (fun H locs hw => ?_)
  exact hret _ _ _ _ hw dX1_rest_20
set_option maxHeartbeats 4000000 in
set_option maxRecDepth 100000 in
/-- rest of none -/
theorem mu_restX (l : Launch) (D : va_G) (a : bw_A0) (th gn hs ot : Nat → Nat) (x : Int32) (hbad : ∀ j : Nat, j < 65536 → x ≠ nI j) : bw_MI l yX1_rest (ws_ yX1_rest cX1_rest 2 (some .int)) ({ frames := 3, cells := 0, slots := 0, locals := 70 }) D bw_Cl (bw_T1 a) [.ref a.1, .int x] (bw_W1 a th gn hs ot) (bw_W1 a th gn hs ot) (-1) := by
  refine bw_startI (by decide) (Nat.le_of_ble_eq_true rfl) rfl ?_
  intro p e s m below meth c A Q ls hx hb hml hown hts hA hK hw hl hret
  have hown : s.vm.findClass RX1 = some m.cls := hown
  have hl : lv_has ls 2 [(0, .ref a.1), (1, .int x)] := hl
  refine lv_aload_n hx hb dX1_rest_0 rfl (lv_at hl 0 rfl) ?_
  refine lv_iload_n hx hb dX1_rest_1 rfl (lv_at hl 1 rfl) ?_
  refine bw_ownI ⟨hx, hb, hml, hown, hts⟩ [.int x] [] (mu_pol0 l D a th gn hs ot x hbad) (cwV 1 hts (lw_V q197 q199 qs10 q18 q200) rfl rfl rfl (by decide +kernel) ⟨Nat.le_of_ble_eq_true rfl, Nat.le_of_ble_eq_true rfl⟩) 1 0 rfl rfl hK hA hw rfl hl.1 rfl (Nat.le_of_ble_eq_true rfl) dX1_rest_2 ⟨Nat.zero_le _, Nat.zero_le _⟩ (fun H locs hw => ?_)
  refine bw_ne0n (tgt := 10) hx hb dX1_rest_5 (by decide) (by decide) ?_
  refine lv_iconst (v := -1) hx hb dX1_rest_8 (by decide) ?_
  exact hret _ _ _ _ hw dX1_rest_9
set_option maxHeartbeats 4000000 in
set_option maxRecDepth 100000 in
/-- contains -/
theorem mu_contains (l : Launch) (D : va_G) (a : bw_A0) (th gn hs ot : Nat → Nat) (pr : Nat) (hth : bb_TH pr th) (hgn : ∀ i, i < 6 → gn i < 65536) (h9 : Nat → Nat) (hh9 : bb_wk (fun i => pr.testBit i) gn hs = h9) (f : Nat) (hf : f < 65536) : bw_MI l yX1_contains (ws_ yX1_contains cX1_contains 2 (some .boolean)) ({ frames := 4, cells := 0, slots := 0, locals := 91 }) D bw_Cl (bw_T1 a) [.ref a.1, .int (nI f)] (bw_W1 a th gn hs ot) (bw_W1 a th gn h9 ot) (bw_bI (decide (bb_red h9 f = 0))) := by
  refine bw_startI (by decide) (Nat.le_of_ble_eq_true rfl) (bw_bI_n _) ?_
  intro p e s m below meth c A Q ls hx hb hml hown hts hA hK hw hl hret
  have hown : s.vm.findClass RX1 = some m.cls := hown
  have hl : lv_has ls 2 [(0, .ref a.1), (1, .int (nI f))] := hl
  have hhs : ∀ m, m < 16 → h9 m < 65536 := by rw [← hh9]; exact bb_wk_lt _ _ _
  have hR : bb_red h9 f < 65536 := bb_rd_lt hhs (Nat.le_refl 16) hf
  refine lv_aload_n hx hb dX1_contains_0 rfl (lv_at hl 0 rfl) ?_
  refine lv_iload_n hx hb dX1_contains_1 rfl (lv_at hl 1 rfl) ?_
  refine bw_ownI ⟨hx, hb, hml, hown, hts⟩ [.int (nI f)] [] (mu_rest l D a th gn hs ot pr hth hgn h9 hh9 f hf) (cwV 1 hts (lw_V q222 q223 q224 q18 q225) rfl rfl rfl (by decide +kernel) ⟨Nat.le_of_ble_eq_true rfl, Nat.le_of_ble_eq_true rfl⟩) 1 0 rfl rfl hK hA hw rfl hl.1 rfl (Nat.le_of_ble_eq_true rfl) dX1_contains_2 ⟨Nat.zero_le _, Nat.zero_le _⟩ (fun H locs hw => ?_)
  refine bw_ne0 (tgt := 12) hx hb dX1_contains_5 (by decide) (by omega) (fun c5 => ?_) (fun c5 => ?_)
  · refine lv_iconst (v := nI 0) hx hb dX1_contains_12 (by decide) ?_
    refine bw_top (y := bw_bI (decide (bb_red h9 f = 0))) (by first | (rw [decide_eq_true c5]; rfl) | (rw [decide_eq_false c5]; rfl)) ?_
    exact hret _ _ _ _ hw dX1_contains_13
  · refine lv_iconst (v := nI 1) hx hb dX1_contains_8 (by decide) ?_
    refine lv_goto (tgt := 13) hx hb dX1_contains_9 (by decide) ?_
    refine bw_top (y := bw_bI (decide (bb_red h9 f = 0))) (by first | (rw [decide_eq_true c5]; rfl) | (rw [decide_eq_false c5]; rfl)) ?_
    exact hret _ _ _ _ hw dX1_contains_13
set_option maxHeartbeats 4000000 in
set_option maxRecDepth 100000 in
/-- contains of none -/
theorem mu_containsX (l : Launch) (D : va_G) (a : bw_A0) (th gn hs ot : Nat → Nat) (x : Int32) (hbad : ∀ j : Nat, j < 65536 → x ≠ nI j) : bw_MI l yX1_contains (ws_ yX1_contains cX1_contains 2 (some .boolean)) ({ frames := 4, cells := 0, slots := 0, locals := 91 }) D bw_Cl (bw_T1 a) [.ref a.1, .int x] (bw_W1 a th gn hs ot) (bw_W1 a th gn hs ot) (nI 0) := by
  refine bw_startI (by decide) (Nat.le_of_ble_eq_true rfl) (by decide +kernel) ?_
  intro p e s m below meth c A Q ls hx hb hml hown hts hA hK hw hl hret
  have hown : s.vm.findClass RX1 = some m.cls := hown
  have hl : lv_has ls 2 [(0, .ref a.1), (1, .int x)] := hl
  refine lv_aload_n hx hb dX1_contains_0 rfl (lv_at hl 0 rfl) ?_
  refine lv_iload_n hx hb dX1_contains_1 rfl (lv_at hl 1 rfl) ?_
  refine bw_ownI ⟨hx, hb, hml, hown, hts⟩ [.int x] [] (mu_restX l D a th gn hs ot x hbad) (cwV 1 hts (lw_V q222 q223 q224 q18 q225) rfl rfl rfl (by decide +kernel) ⟨Nat.le_of_ble_eq_true rfl, Nat.le_of_ble_eq_true rfl⟩) 1 0 rfl rfl hK hA hw rfl hl.1 rfl (Nat.le_of_ble_eq_true rfl) dX1_contains_2 ⟨Nat.zero_le _, Nat.zero_le _⟩ (fun H locs hw => ?_)
  refine bw_ne0y (tgt := 12) hx hb dX1_contains_5 (by decide) (by decide) ?_
  refine lv_iconst (v := nI 0) hx hb dX1_contains_12 (by decide) ?_
  exact hret _ _ _ _ hw dX1_contains_13
set_option maxHeartbeats 4000000 in
set_option maxRecDepth 100000 in
/-- least -/
theorem mu_least (l : Launch) (D : va_G) (a : bw_A0) (th gn hs ot : Nat → Nat) (hhs : ∀ m, m < 16 → hs m < 65536) (u : Nat) (hu : u < 16) : bw_MI l yX1_least (ws_ yX1_least cX1_least 4 (some .boolean)) ({ frames := 0, cells := 0, slots := 0, locals := 0 }) D bw_Cl (bw_T1 a) [.ref a.1, .int (nI u)] (bw_W1 a th gn hs ot) (bw_W1 a th gn hs ot) (bw_bI (bb_ml hs u 16)) := by
  refine bw_startI (by decide) (Nat.le_of_ble_eq_true rfl) (bw_bI_n _) ?_
  intro p e s m below meth c A Q ls hx hb hml hown hts hA hK hw hl hret
  have hown : s.vm.findClass RX1 = some m.cls := hown
  have hl : lv_has ls 4 [(0, .ref a.1), (1, .int (nI u))] := hl
  have hu9 := hhs u hu
  refine lv_aload_n hx hb dX1_least_0 rfl (lv_at hl 0 rfl) ?_
  refine bw_g1_hs hx hb hts hown hK hw dX1_least_1 ?_
  refine lv_iload_n hx hb dX1_least_4 rfl (lv_at hl 1 rfl) ?_
  refine bw_l1_hs hx hb hK hw (by omega) dX1_least_5 ?_
  refine bw_eq0 (tgt := 13) hx hb dX1_least_6 (by decide) (by omega) (fun c6 => ?_) (fun c6 => ?_)
  · refine lv_iconst (v := nI 0) hx hb dX1_least_13 (by decide) ?_
    refine lv_istore_n (lv' := [(2, .int (nI 0)), (0, .ref a.1), (1, .int (nI u))]) hx hb dX1_least_14 rfl hl (by decide) rfl (fun ls hl => ?_)
    refine lv_iconst (v := nI 0) hx hb dX1_least_15 (by decide) ?_
    refine lv_istore_n (lv' := [(3, .int (nI 0)), (2, .int (nI 0)), (0, .ref a.1), (1, .int (nI u))]) hx hb dX1_least_16 rfl hl (by decide) rfl (fun ls hl => ?_)
    refine bw_loop (pc := 17) (fun (qq : Bool × Nat) ls H locs => qq.2 ≤ 16 ∧ qq.1 = bb_ml hs u qq.2 ∧ lv_has ls 4 [(3, .int (nI qq.2)), (2, .int (bw_bI qq.1)), (0, .ref a.1), (1, .int (nI u))] ∧ bw_H D bw_Cl A s.heap (bw_W1 a th gn hs ot) H locs) (fun qq => 16 - qq.2) ?_ (false, 0) ⟨Nat.zero_le _, by show false = !(hs u == 0); simp [c6], lv_sub hl [0, 1, 2, 3] rfl, hw⟩
    rintro ⟨b, n⟩ ls H locs ⟨k17_0, k17_1, hl, hw⟩ ih17
    have k17_0 : n ≤ 16 := k17_0
    have k17_1 : b = bb_ml hs u n := k17_1
    have hl : lv_has ls 4 [(3, .int (nI n)), (2, .int (bw_bI b)), (0, .ref a.1), (1, .int (nI u))] := hl
    have hw : bw_H D bw_Cl A s.heap (bw_W1 a th gn hs ot) H locs := hw
    refine lv_iload_n hx hb dX1_least_17 rfl (lv_at hl 0 rfl) ?_
    refine lv_bipush (v := nI 16) hx hb dX1_least_18 (by decide) ?_
    refine bw_cge (tgt := 61) hx hb dX1_least_20 (by decide) (by omega) (by omega) (fun c20 => ?_) (fun c20 => ?_)
    · refine lv_iload_n hx hb dX1_least_61 rfl (lv_at hl 1 rfl) ?_
      refine bw_top (y := bw_bI (bb_ml hs u 16)) (by rw [k17_1, show n = 16 by omega]) ?_
      exact hret _ _ _ _ hw dX1_least_62
    · have hn9 := hhs n (by omega)
      refine lv_iload_n hx hb dX1_least_23 rfl (lv_at hl 1 rfl) ?_
      refine bw_fz (tgt := 53) hx hb dX1_least_24 (by decide) (fun c24 => ?_) (fun c24 => ?_)
      · refine lv_iconst (v := nI 0) hx hb dX1_least_53 (by decide) ?_
        refine lv_istore_n (lv' := [(2, .int (nI 0)), (3, .int (nI n)), (0, .ref a.1), (1, .int (nI u))]) hx hb dX1_least_54 rfl hl (by decide) rfl (fun ls hl => ?_)
        refine lv_iinc (v := nI (n + 1)) (lv' := [(3, .int (nI (n + 1))), (2, .int (nI 0)), (0, .ref a.1), (1, .int (nI u))]) hx hb dX1_least_55 hl (k := 1) rfl (bw_inc n) (by decide) rfl (fun ls hl => ?_)
        refine lv_goto (tgt := 17) hx hb dX1_least_58 (by decide) ?_
        exact ih17 (false, n + 1) _ _ _ (by show 16 - (n + 1) < 16 - n; omega) ⟨by show (n + 1) ≤ 16; omega, by first | exact (bb_ml_0 (k17_1.symm.trans c24)).symm | exact (bb_ml_eq (k17_1.symm.trans c24) c29).symm | exact (bb_ml_ns (k17_1.symm.trans c24) c37).symm | exact (bb_ml_z (k17_1.symm.trans c24) c46).symm | exact (bb_ml_no c29 c37 c46).symm, lv_sub hl [0, 1, 2, 3] rfl, hw⟩
      · refine lv_iload_n hx hb dX1_least_27 rfl (lv_at hl 0 rfl) ?_
        refine lv_iload_n hx hb dX1_least_28 rfl (lv_at hl 3 rfl) ?_
        refine bw_ceq (tgt := 49) hx hb dX1_least_29 (by decide) (by omega) (by omega) (fun c29 => ?_) (fun c29 => ?_)
        · refine lv_iconst (v := nI 1) hx hb dX1_least_49 (by decide) ?_
          refine lv_goto (tgt := 54) hx hb dX1_least_50 (by decide) ?_
          refine lv_istore_n (lv' := [(2, .int (nI 1)), (3, .int (nI n)), (0, .ref a.1), (1, .int (nI u))]) hx hb dX1_least_54 rfl hl (by decide) rfl (fun ls hl => ?_)
          refine lv_iinc (v := nI (n + 1)) (lv' := [(3, .int (nI (n + 1))), (2, .int (nI 1)), (0, .ref a.1), (1, .int (nI u))]) hx hb dX1_least_55 hl (k := 1) rfl (bw_inc n) (by decide) rfl (fun ls hl => ?_)
          refine lv_goto (tgt := 17) hx hb dX1_least_58 (by decide) ?_
          exact ih17 (true, n + 1) _ _ _ (by show 16 - (n + 1) < 16 - n; omega) ⟨by show (n + 1) ≤ 16; omega, by first | exact (bb_ml_0 (k17_1.symm.trans c24)).symm | exact (bb_ml_eq (k17_1.symm.trans c24) c29).symm | exact (bb_ml_ns (k17_1.symm.trans c24) c37).symm | exact (bb_ml_z (k17_1.symm.trans c24) c46).symm | exact (bb_ml_no c29 c37 c46).symm, lv_sub hl [0, 1, 2, 3] rfl, hw⟩
        · refine lv_iload_n hx hb dX1_least_32 rfl (lv_at hl 0 rfl) ?_
          refine lv_iload_n hx hb dX1_least_33 rfl (lv_at hl 3 rfl) ?_
          refine lv_iconst (v := nI 4294967295) hx hb dX1_least_34 (by decide) ?_
          refine bw_ixor hx hb dX1_least_35 ?_
          refine bw_iand hx hb dX1_least_36 ?_
          refine bw_sne (tgt := 49) hx hb dX1_least_37 (by decide) (by omega) (by omega) (fun c37 => ?_) (fun c37 => ?_)
          · refine lv_iconst (v := nI 1) hx hb dX1_least_49 (by decide) ?_
            refine lv_goto (tgt := 54) hx hb dX1_least_50 (by decide) ?_
            refine lv_istore_n (lv' := [(2, .int (nI 1)), (3, .int (nI n)), (0, .ref a.1), (1, .int (nI u))]) hx hb dX1_least_54 rfl hl (by decide) rfl (fun ls hl => ?_)
            refine lv_iinc (v := nI (n + 1)) (lv' := [(3, .int (nI (n + 1))), (2, .int (nI 1)), (0, .ref a.1), (1, .int (nI u))]) hx hb dX1_least_55 hl (k := 1) rfl (bw_inc n) (by decide) rfl (fun ls hl => ?_)
            refine lv_goto (tgt := 17) hx hb dX1_least_58 (by decide) ?_
            exact ih17 (true, n + 1) _ _ _ (by show 16 - (n + 1) < 16 - n; omega) ⟨by show (n + 1) ≤ 16; omega, by first | exact (bb_ml_0 (k17_1.symm.trans c24)).symm | exact (bb_ml_eq (k17_1.symm.trans c24) c29).symm | exact (bb_ml_ns (k17_1.symm.trans c24) c37).symm | exact (bb_ml_z (k17_1.symm.trans c24) c46).symm | exact (bb_ml_no c29 c37 c46).symm, lv_sub hl [0, 1, 2, 3] rfl, hw⟩
          · refine lv_aload_n hx hb dX1_least_40 rfl (lv_at hl 2 rfl) ?_
            refine bw_g1_hs hx hb hts hown hK hw dX1_least_41 ?_
            refine lv_iload_n hx hb dX1_least_44 rfl (lv_at hl 0 rfl) ?_
            refine bw_l1_hs hx hb hK hw (by omega) dX1_least_45 ?_
            refine bw_ne0 (tgt := 53) hx hb dX1_least_46 (by decide) (by omega) (fun c46 => ?_) (fun c46 => ?_)
            · refine lv_iconst (v := nI 0) hx hb dX1_least_53 (by decide) ?_
              refine lv_istore_n (lv' := [(2, .int (nI 0)), (3, .int (nI n)), (0, .ref a.1), (1, .int (nI u))]) hx hb dX1_least_54 rfl hl (by decide) rfl (fun ls hl => ?_)
              refine lv_iinc (v := nI (n + 1)) (lv' := [(3, .int (nI (n + 1))), (2, .int (nI 0)), (0, .ref a.1), (1, .int (nI u))]) hx hb dX1_least_55 hl (k := 1) rfl (bw_inc n) (by decide) rfl (fun ls hl => ?_)
              refine lv_goto (tgt := 17) hx hb dX1_least_58 (by decide) ?_
              exact ih17 (false, n + 1) _ _ _ (by show 16 - (n + 1) < 16 - n; omega) ⟨by show (n + 1) ≤ 16; omega, by first | exact (bb_ml_0 (k17_1.symm.trans c24)).symm | exact (bb_ml_eq (k17_1.symm.trans c24) c29).symm | exact (bb_ml_ns (k17_1.symm.trans c24) c37).symm | exact (bb_ml_z (k17_1.symm.trans c24) c46).symm | exact (bb_ml_no c29 c37 c46).symm, lv_sub hl [0, 1, 2, 3] rfl, hw⟩
            · refine lv_iconst (v := nI 1) hx hb dX1_least_49 (by decide) ?_
              refine lv_goto (tgt := 54) hx hb dX1_least_50 (by decide) ?_
              refine lv_istore_n (lv' := [(2, .int (nI 1)), (3, .int (nI n)), (0, .ref a.1), (1, .int (nI u))]) hx hb dX1_least_54 rfl hl (by decide) rfl (fun ls hl => ?_)
              refine lv_iinc (v := nI (n + 1)) (lv' := [(3, .int (nI (n + 1))), (2, .int (nI 1)), (0, .ref a.1), (1, .int (nI u))]) hx hb dX1_least_55 hl (k := 1) rfl (bw_inc n) (by decide) rfl (fun ls hl => ?_)
              refine lv_goto (tgt := 17) hx hb dX1_least_58 (by decide) ?_
              exact ih17 (true, n + 1) _ _ _ (by show 16 - (n + 1) < 16 - n; omega) ⟨by show (n + 1) ≤ 16; omega, by first | exact (bb_ml_0 (k17_1.symm.trans c24)).symm | exact (bb_ml_eq (k17_1.symm.trans c24) c29).symm | exact (bb_ml_ns (k17_1.symm.trans c24) c37).symm | exact (bb_ml_z (k17_1.symm.trans c24) c46).symm | exact (bb_ml_no c29 c37 c46).symm, lv_sub hl [0, 1, 2, 3] rfl, hw⟩
  · refine lv_iconst (v := nI 1) hx hb dX1_least_9 (by decide) ?_
    refine lv_goto (tgt := 14) hx hb dX1_least_10 (by decide) ?_
    refine lv_istore_n (lv' := [(2, .int (nI 1)), (0, .ref a.1), (1, .int (nI u))]) hx hb dX1_least_14 rfl hl (by decide) rfl (fun ls hl => ?_)
    refine lv_iconst (v := nI 0) hx hb dX1_least_15 (by decide) ?_
    refine lv_istore_n (lv' := [(3, .int (nI 0)), (2, .int (nI 1)), (0, .ref a.1), (1, .int (nI u))]) hx hb dX1_least_16 rfl hl (by decide) rfl (fun ls hl => ?_)
    refine bw_loop (pc := 17) (fun (qq : Bool × Nat) ls H locs => qq.2 ≤ 16 ∧ qq.1 = bb_ml hs u qq.2 ∧ lv_has ls 4 [(3, .int (nI qq.2)), (2, .int (bw_bI qq.1)), (0, .ref a.1), (1, .int (nI u))] ∧ bw_H D bw_Cl A s.heap (bw_W1 a th gn hs ot) H locs) (fun qq => 16 - qq.2) ?_ (true, 0) ⟨Nat.zero_le _, by show true = !(hs u == 0); simp [c6], lv_sub hl [0, 1, 2, 3] rfl, hw⟩
    rintro ⟨b, n⟩ ls H locs ⟨k17_0, k17_1, hl, hw⟩ ih17
    have k17_0 : n ≤ 16 := k17_0
    have k17_1 : b = bb_ml hs u n := k17_1
    have hl : lv_has ls 4 [(3, .int (nI n)), (2, .int (bw_bI b)), (0, .ref a.1), (1, .int (nI u))] := hl
    have hw : bw_H D bw_Cl A s.heap (bw_W1 a th gn hs ot) H locs := hw
    refine lv_iload_n hx hb dX1_least_17 rfl (lv_at hl 0 rfl) ?_
    refine lv_bipush (v := nI 16) hx hb dX1_least_18 (by decide) ?_
    refine bw_cge (tgt := 61) hx hb dX1_least_20 (by decide) (by omega) (by omega) (fun c20 => ?_) (fun c20 => ?_)
    · refine lv_iload_n hx hb dX1_least_61 rfl (lv_at hl 1 rfl) ?_
      refine bw_top (y := bw_bI (bb_ml hs u 16)) (by rw [k17_1, show n = 16 by omega]) ?_
      exact hret _ _ _ _ hw dX1_least_62
    · have hn9 := hhs n (by omega)
      refine lv_iload_n hx hb dX1_least_23 rfl (lv_at hl 1 rfl) ?_
      refine bw_fz (tgt := 53) hx hb dX1_least_24 (by decide) (fun c24 => ?_) (fun c24 => ?_)
      · refine lv_iconst (v := nI 0) hx hb dX1_least_53 (by decide) ?_
        refine lv_istore_n (lv' := [(2, .int (nI 0)), (3, .int (nI n)), (0, .ref a.1), (1, .int (nI u))]) hx hb dX1_least_54 rfl hl (by decide) rfl (fun ls hl => ?_)
        refine lv_iinc (v := nI (n + 1)) (lv' := [(3, .int (nI (n + 1))), (2, .int (nI 0)), (0, .ref a.1), (1, .int (nI u))]) hx hb dX1_least_55 hl (k := 1) rfl (bw_inc n) (by decide) rfl (fun ls hl => ?_)
        refine lv_goto (tgt := 17) hx hb dX1_least_58 (by decide) ?_
        exact ih17 (false, n + 1) _ _ _ (by show 16 - (n + 1) < 16 - n; omega) ⟨by show (n + 1) ≤ 16; omega, by first | exact (bb_ml_0 (k17_1.symm.trans c24)).symm | exact (bb_ml_eq (k17_1.symm.trans c24) c29).symm | exact (bb_ml_ns (k17_1.symm.trans c24) c37).symm | exact (bb_ml_z (k17_1.symm.trans c24) c46).symm | exact (bb_ml_no c29 c37 c46).symm, lv_sub hl [0, 1, 2, 3] rfl, hw⟩
      · refine lv_iload_n hx hb dX1_least_27 rfl (lv_at hl 0 rfl) ?_
        refine lv_iload_n hx hb dX1_least_28 rfl (lv_at hl 3 rfl) ?_
        refine bw_ceq (tgt := 49) hx hb dX1_least_29 (by decide) (by omega) (by omega) (fun c29 => ?_) (fun c29 => ?_)
        · refine lv_iconst (v := nI 1) hx hb dX1_least_49 (by decide) ?_
          refine lv_goto (tgt := 54) hx hb dX1_least_50 (by decide) ?_
          refine lv_istore_n (lv' := [(2, .int (nI 1)), (3, .int (nI n)), (0, .ref a.1), (1, .int (nI u))]) hx hb dX1_least_54 rfl hl (by decide) rfl (fun ls hl => ?_)
          refine lv_iinc (v := nI (n + 1)) (lv' := [(3, .int (nI (n + 1))), (2, .int (nI 1)), (0, .ref a.1), (1, .int (nI u))]) hx hb dX1_least_55 hl (k := 1) rfl (bw_inc n) (by decide) rfl (fun ls hl => ?_)
          refine lv_goto (tgt := 17) hx hb dX1_least_58 (by decide) ?_
          exact ih17 (true, n + 1) _ _ _ (by show 16 - (n + 1) < 16 - n; omega) ⟨by show (n + 1) ≤ 16; omega, by first | exact (bb_ml_0 (k17_1.symm.trans c24)).symm | exact (bb_ml_eq (k17_1.symm.trans c24) c29).symm | exact (bb_ml_ns (k17_1.symm.trans c24) c37).symm | exact (bb_ml_z (k17_1.symm.trans c24) c46).symm | exact (bb_ml_no c29 c37 c46).symm, lv_sub hl [0, 1, 2, 3] rfl, hw⟩
        · refine lv_iload_n hx hb dX1_least_32 rfl (lv_at hl 0 rfl) ?_
          refine lv_iload_n hx hb dX1_least_33 rfl (lv_at hl 3 rfl) ?_
          refine lv_iconst (v := nI 4294967295) hx hb dX1_least_34 (by decide) ?_
          refine bw_ixor hx hb dX1_least_35 ?_
          refine bw_iand hx hb dX1_least_36 ?_
          refine bw_sne (tgt := 49) hx hb dX1_least_37 (by decide) (by omega) (by omega) (fun c37 => ?_) (fun c37 => ?_)
          · refine lv_iconst (v := nI 1) hx hb dX1_least_49 (by decide) ?_
            refine lv_goto (tgt := 54) hx hb dX1_least_50 (by decide) ?_
            refine lv_istore_n (lv' := [(2, .int (nI 1)), (3, .int (nI n)), (0, .ref a.1), (1, .int (nI u))]) hx hb dX1_least_54 rfl hl (by decide) rfl (fun ls hl => ?_)
            refine lv_iinc (v := nI (n + 1)) (lv' := [(3, .int (nI (n + 1))), (2, .int (nI 1)), (0, .ref a.1), (1, .int (nI u))]) hx hb dX1_least_55 hl (k := 1) rfl (bw_inc n) (by decide) rfl (fun ls hl => ?_)
            refine lv_goto (tgt := 17) hx hb dX1_least_58 (by decide) ?_
            exact ih17 (true, n + 1) _ _ _ (by show 16 - (n + 1) < 16 - n; omega) ⟨by show (n + 1) ≤ 16; omega, by first | exact (bb_ml_0 (k17_1.symm.trans c24)).symm | exact (bb_ml_eq (k17_1.symm.trans c24) c29).symm | exact (bb_ml_ns (k17_1.symm.trans c24) c37).symm | exact (bb_ml_z (k17_1.symm.trans c24) c46).symm | exact (bb_ml_no c29 c37 c46).symm, lv_sub hl [0, 1, 2, 3] rfl, hw⟩
          · refine lv_aload_n hx hb dX1_least_40 rfl (lv_at hl 2 rfl) ?_
            refine bw_g1_hs hx hb hts hown hK hw dX1_least_41 ?_
            refine lv_iload_n hx hb dX1_least_44 rfl (lv_at hl 0 rfl) ?_
            refine bw_l1_hs hx hb hK hw (by omega) dX1_least_45 ?_
            refine bw_ne0 (tgt := 53) hx hb dX1_least_46 (by decide) (by omega) (fun c46 => ?_) (fun c46 => ?_)
            · refine lv_iconst (v := nI 0) hx hb dX1_least_53 (by decide) ?_
              refine lv_istore_n (lv' := [(2, .int (nI 0)), (3, .int (nI n)), (0, .ref a.1), (1, .int (nI u))]) hx hb dX1_least_54 rfl hl (by decide) rfl (fun ls hl => ?_)
              refine lv_iinc (v := nI (n + 1)) (lv' := [(3, .int (nI (n + 1))), (2, .int (nI 0)), (0, .ref a.1), (1, .int (nI u))]) hx hb dX1_least_55 hl (k := 1) rfl (bw_inc n) (by decide) rfl (fun ls hl => ?_)
              refine lv_goto (tgt := 17) hx hb dX1_least_58 (by decide) ?_
              exact ih17 (false, n + 1) _ _ _ (by show 16 - (n + 1) < 16 - n; omega) ⟨by show (n + 1) ≤ 16; omega, by first | exact (bb_ml_0 (k17_1.symm.trans c24)).symm | exact (bb_ml_eq (k17_1.symm.trans c24) c29).symm | exact (bb_ml_ns (k17_1.symm.trans c24) c37).symm | exact (bb_ml_z (k17_1.symm.trans c24) c46).symm | exact (bb_ml_no c29 c37 c46).symm, lv_sub hl [0, 1, 2, 3] rfl, hw⟩
            · refine lv_iconst (v := nI 1) hx hb dX1_least_49 (by decide) ?_
              refine lv_goto (tgt := 54) hx hb dX1_least_50 (by decide) ?_
              refine lv_istore_n (lv' := [(2, .int (nI 1)), (3, .int (nI n)), (0, .ref a.1), (1, .int (nI u))]) hx hb dX1_least_54 rfl hl (by decide) rfl (fun ls hl => ?_)
              refine lv_iinc (v := nI (n + 1)) (lv' := [(3, .int (nI (n + 1))), (2, .int (nI 1)), (0, .ref a.1), (1, .int (nI u))]) hx hb dX1_least_55 hl (k := 1) rfl (bw_inc n) (by decide) rfl (fun ls hl => ?_)
              refine lv_goto (tgt := 17) hx hb dX1_least_58 (by decide) ?_
              exact ih17 (true, n + 1) _ _ _ (by show 16 - (n + 1) < 16 - n; omega) ⟨by show (n + 1) ≤ 16; omega, by first | exact (bb_ml_0 (k17_1.symm.trans c24)).symm | exact (bb_ml_eq (k17_1.symm.trans c24) c29).symm | exact (bb_ml_ns (k17_1.symm.trans c24) c37).symm | exact (bb_ml_z (k17_1.symm.trans c24) c46).symm | exact (bb_ml_no c29 c37 c46).symm, lv_sub hl [0, 1, 2, 3] rfl, hw⟩
set_option maxHeartbeats 4000000 in
set_option maxRecDepth 100000 in
/-- basisSize -/
theorem mu_basisSize (l : Launch) (D : va_G) (a : bw_A0) (th gn hs ot : Nat → Nat) (pr : Nat) (hth : bb_TH pr th) (hgn : ∀ i, i < 6 → gn i < 65536) (h9 : Nat → Nat) (hh9 : bb_wk (fun i => pr.testBit i) gn hs = h9) : bw_MI l yX1_basisSize (ws_ yX1_basisSize cX1_basisSize 3 (some .int)) ({ frames := 3, cells := 0, slots := 0, locals := 70 }) D bw_Cl (bw_T1 a) [.ref a.1] (bw_W1 a th gn hs ot) (bw_W1 a th gn h9 ot) (nI (bb_lc (fun m => bb_ml h9 m 16) 16)) := by
  refine bw_startI (by decide) (Nat.le_of_ble_eq_true rfl) rfl ?_
  intro p e s m below meth c A Q ls hx hb hml hown hts hA hK hw hl hret
  have hown : s.vm.findClass RX1 = some m.cls := hown
  have hl : lv_has ls 3 [(0, .ref a.1)] := hl
  have hhs : ∀ m, m < 16 → h9 m < 65536 := by rw [← hh9]; exact bb_wk_lt _ _ _
  refine lv_aload_n hx hb dX1_basisSize_0 rfl (lv_at hl 0 rfl) ?_
  refine lv_iconst (v := -1) hx hb dX1_basisSize_1 (by decide) ?_
  refine bw_ownV ⟨hx, hb, hml, hown, hts⟩ [.int ((-1))] [] (mu_workA l D a th gn hs ot pr hth hgn h9 hh9) (cwV 1 hts (lw_V q226 q228 qs11 q18 q229) rfl rfl rfl (by decide +kernel) ⟨Nat.le_of_ble_eq_true rfl, Nat.le_of_ble_eq_true rfl⟩) 1 0 rfl rfl hK hA hw rfl hl.1 rfl (Nat.le_of_ble_eq_true rfl) dX1_basisSize_2 ⟨Nat.zero_le _, Nat.zero_le _⟩ (fun H locs hw => ?_)
  refine lv_iconst (v := nI 0) hx hb dX1_basisSize_5 (by decide) ?_
  refine lv_istore_n (lv' := [(1, .int (nI 0)), (0, .ref a.1)]) hx hb dX1_basisSize_6 rfl hl (by decide) rfl (fun ls hl => ?_)
  refine lv_iconst (v := nI 0) hx hb dX1_basisSize_7 (by decide) ?_
  refine lv_istore_n (lv' := [(2, .int (nI 0)), (1, .int (nI 0)), (0, .ref a.1)]) hx hb dX1_basisSize_8 rfl hl (by decide) rfl (fun ls hl => ?_)
  refine bw_loop (pc := 9) (fun (qq : Nat × Nat) ls H locs => qq.2 ≤ 16 ∧ qq.1 = bb_lc (fun m => bb_ml h9 m 16) qq.2 ∧ lv_has ls 3 [(2, .int (nI qq.2)), (1, .int (nI qq.1)), (0, .ref a.1)] ∧ bw_H D bw_Cl A s.heap (bw_W1 a th gn h9 ot) H locs) (fun qq => 16 - qq.2) ?_ (0, 0) ⟨Nat.zero_le _, rfl, lv_sub hl [0, 1, 2] rfl, hw⟩
  rintro ⟨n, t⟩ ls H locs ⟨k9_0, k9_1, hl, hw⟩ ih9
  have k9_0 : t ≤ 16 := k9_0
  have k9_1 : n = bb_lc (fun m => bb_ml h9 m 16) t := k9_1
  have hl : lv_has ls 3 [(2, .int (nI t)), (1, .int (nI n)), (0, .ref a.1)] := hl
  have hw : bw_H D bw_Cl A s.heap (bw_W1 a th gn h9 ot) H locs := hw
  refine lv_iload_n hx hb dX1_basisSize_9 rfl (lv_at hl 0 rfl) ?_
  refine lv_bipush (v := nI 16) hx hb dX1_basisSize_10 (by decide) ?_
  refine bw_cge (tgt := 37) hx hb dX1_basisSize_12 (by decide) (by omega) (by omega) (fun c12 => ?_) (fun c12 => ?_)
  · refine lv_iload_n hx hb dX1_basisSize_37 rfl (lv_at hl 1 rfl) ?_
    refine bw_top (y := nI (bb_lc (fun m => bb_ml h9 m 16) 16)) (by rw [k9_1, show t = 16 by omega]) ?_
    exact hret _ _ _ _ hw dX1_basisSize_38
  · refine lv_aload_n hx hb dX1_basisSize_15 rfl (lv_at hl 2 rfl) ?_
    refine lv_iload_n hx hb dX1_basisSize_16 rfl (lv_at hl 0 rfl) ?_
    refine bw_ownI ⟨hx, hb, hml, hown, hts⟩ [.int (nI t)] [] (mu_least l D a th gn h9 ot hhs t (by omega)) (cwV 1 hts (lw_V q244 q246 qs14 q18 q247) rfl rfl rfl (by decide +kernel) ⟨Nat.le_of_ble_eq_true rfl, Nat.le_of_ble_eq_true rfl⟩) 1 0 rfl rfl hK hA hw rfl hl.1 rfl (Nat.le_of_ble_eq_true rfl) dX1_basisSize_17 ⟨Nat.zero_le _, Nat.zero_le _⟩ (fun H locs hw => ?_)
    refine bw_fz (tgt := 29) hx hb dX1_basisSize_20 (by decide) (fun c20 => ?_) (fun c20 => ?_)
    · refine lv_iload_n hx hb dX1_basisSize_29 rfl (lv_at hl 1 rfl) ?_
      refine lv_istore_n (lv' := [(1, .int (nI n)), (2, .int (nI t)), (0, .ref a.1)]) hx hb dX1_basisSize_30 rfl hl (by decide) rfl (fun ls hl => ?_)
      refine lv_iinc (v := nI (t + 1)) (lv' := [(2, .int (nI (t + 1))), (1, .int (nI n)), (0, .ref a.1)]) hx hb dX1_basisSize_31 hl (k := 1) rfl (bw_inc t) (by decide) rfl (fun ls hl => ?_)
      refine lv_goto (tgt := 9) hx hb dX1_basisSize_34 (by decide) ?_
      exact ih9 (n, t + 1) _ _ _ (by show 16 - (t + 1) < 16 - t; omega) ⟨by show (t + 1) ≤ 16; omega, by rw [k9_1]; first | exact (bb_lc_f (L := (fun m => bb_ml h9 m 16)) c20).symm | exact (bb_lc_t (L := (fun m => bb_ml h9 m 16)) c20).symm, lv_sub hl [0, 1, 2] rfl, hw⟩
    · refine lv_iload_n hx hb dX1_basisSize_23 rfl (lv_at hl 1 rfl) ?_
      refine lv_iconst (v := nI 1) hx hb dX1_basisSize_24 (by decide) ?_
      refine bw_iadd hx hb dX1_basisSize_25 ?_
      refine lv_goto (tgt := 30) hx hb dX1_basisSize_26 (by decide) ?_
      refine lv_istore_n (lv' := [(1, .int (nI (n + 1))), (2, .int (nI t)), (0, .ref a.1)]) hx hb dX1_basisSize_30 rfl hl (by decide) rfl (fun ls hl => ?_)
      refine lv_iinc (v := nI (t + 1)) (lv' := [(2, .int (nI (t + 1))), (1, .int (nI (n + 1))), (0, .ref a.1)]) hx hb dX1_basisSize_31 hl (k := 1) rfl (bw_inc t) (by decide) rfl (fun ls hl => ?_)
      refine lv_goto (tgt := 9) hx hb dX1_basisSize_34 (by decide) ?_
      exact ih9 (n + 1, t + 1) _ _ _ (by show 16 - (t + 1) < 16 - t; omega) ⟨by show (t + 1) ≤ 16; omega, by rw [k9_1]; first | exact (bb_lc_f (L := (fun m => bb_ml h9 m 16)) c20).symm | exact (bb_lc_t (L := (fun m => bb_ml h9 m 16)) c20).symm, lv_sub hl [0, 1, 2] rfl, hw⟩
set_option maxHeartbeats 4000000 in
set_option maxRecDepth 100000 in
/-- basisAt in range -/
theorem mu_basisAt (l : Launch) (D : va_G) (a : bw_A0) (th gn hs ot : Nat → Nat) (pr : Nat) (hth : bb_TH pr th) (hgn : ∀ i, i < 6 → gn i < 65536) (h9 : Nat → Nat) (hh9 : bb_wk (fun i => pr.testBit i) gn hs = h9) (z : Nat → Nat) (i : Nat) (hi : i < bb_lc (fun m => bb_ml h9 m 16) 16) : bw_MI l yX1_basisAt (ws_ yX1_basisAt cX1_basisAt 4 (some .int)) ({ frames := 3, cells := 0, slots := 0, locals := 70 }) D bw_Cl (bw_T1 a) [.ref a.1, .int (nI i)] (bw_W1 a th gn hs ot) (bw_W1 a th gn h9 ot) (nI ((bb_bl (fun m => bb_ml h9 m 16) h9 z 16).2 i)) := by
  refine bw_startI (by decide) (Nat.le_of_ble_eq_true rfl) rfl ?_
  intro p e s m below meth c A Q ls hx hb hml hown hts hA hK hw hl hret
  have hown : s.vm.findClass RX1 = some m.cls := hown
  have hl : lv_has ls 4 [(0, .ref a.1), (1, .int (nI i))] := hl
  have hhs : ∀ m, m < 16 → h9 m < 65536 := by rw [← hh9]; exact bb_wk_lt _ _ _
  have hlc := bb_lc_le (fun m => bb_ml h9 m 16) 16
  refine lv_aload_n hx hb dX1_basisAt_0 rfl (lv_at hl 0 rfl) ?_
  refine lv_iconst (v := -1) hx hb dX1_basisAt_1 (by decide) ?_
  refine bw_ownV ⟨hx, hb, hml, hown, hts⟩ [.int ((-1))] [] (mu_workA l D a th gn hs ot pr hth hgn h9 hh9) (cwV 1 hts (lw_V q226 q228 qs11 q18 q229) rfl rfl rfl (by decide +kernel) ⟨Nat.le_of_ble_eq_true rfl, Nat.le_of_ble_eq_true rfl⟩) 1 0 rfl rfl hK hA hw rfl hl.1 rfl (Nat.le_of_ble_eq_true rfl) dX1_basisAt_2 ⟨Nat.zero_le _, Nat.zero_le _⟩ (fun H locs hw => ?_)
  refine lv_iconst (v := nI 0) hx hb dX1_basisAt_5 (by decide) ?_
  refine lv_istore_n (lv' := [(2, .int (nI 0)), (0, .ref a.1), (1, .int (nI i))]) hx hb dX1_basisAt_6 rfl hl (by decide) rfl (fun ls hl => ?_)
  refine lv_iconst (v := nI 0) hx hb dX1_basisAt_7 (by decide) ?_
  refine lv_istore_n (lv' := [(3, .int (nI 0)), (2, .int (nI 0)), (0, .ref a.1), (1, .int (nI i))]) hx hb dX1_basisAt_8 rfl hl (by decide) rfl (fun ls hl => ?_)
  refine bw_loop (pc := 9) (fun (qq : Nat × Nat) ls H locs => qq.2 ≤ 16 ∧ qq.1 = bb_lc (fun m => bb_ml h9 m 16) qq.2 ∧ qq.1 ≤ i ∧ lv_has ls 4 [(3, .int (nI qq.2)), (2, .int (nI qq.1)), (0, .ref a.1), (1, .int (nI i))] ∧ bw_H D bw_Cl A s.heap (bw_W1 a th gn h9 ot) H locs) (fun qq => 16 - qq.2) ?_ (0, 0) ⟨Nat.zero_le _, rfl, Nat.zero_le _, lv_sub hl [0, 1, 2, 3] rfl, hw⟩
  rintro ⟨n, t⟩ ls H locs ⟨k9_0, k9_1, k9_2, hl, hw⟩ ih9
  have k9_0 : t ≤ 16 := k9_0
  have k9_1 : n = bb_lc (fun m => bb_ml h9 m 16) t := k9_1
  have k9_2 : n ≤ i := k9_2
  have hl : lv_has ls 4 [(3, .int (nI t)), (2, .int (nI n)), (0, .ref a.1), (1, .int (nI i))] := hl
  have hw : bw_H D bw_Cl A s.heap (bw_W1 a th gn h9 ot) H locs := hw
  refine lv_iload_n hx hb dX1_basisAt_9 rfl (lv_at hl 0 rfl) ?_
  refine lv_bipush (v := nI 16) hx hb dX1_basisAt_10 (by decide) ?_
  refine bw_cge (tgt := 49) hx hb dX1_basisAt_12 (by decide) (by omega) (by omega) (fun c12 => ?_) (fun c12 => ?_)
  · exact absurd hi (by rw [show t = 16 by omega] at k9_1; omega)
  · refine lv_aload_n hx hb dX1_basisAt_15 rfl (lv_at hl 2 rfl) ?_
    refine lv_iload_n hx hb dX1_basisAt_16 rfl (lv_at hl 0 rfl) ?_
    refine bw_ownI ⟨hx, hb, hml, hown, hts⟩ [.int (nI t)] [] (mu_least l D a th gn h9 ot hhs t (by omega)) (cwV 1 hts (lw_V q244 q246 qs14 q18 q247) rfl rfl rfl (by decide +kernel) ⟨Nat.le_of_ble_eq_true rfl, Nat.le_of_ble_eq_true rfl⟩) 1 0 rfl rfl hK hA hw rfl hl.1 rfl (Nat.le_of_ble_eq_true rfl) dX1_basisAt_17 ⟨Nat.zero_le _, Nat.zero_le _⟩ (fun H locs hw => ?_)
    refine bw_fz (tgt := 43) hx hb dX1_basisAt_20 (by decide) (fun c20 => ?_) (fun c20 => ?_)
    · refine lv_iinc (v := nI (t + 1)) (lv' := [(3, .int (nI (t + 1))), (2, .int (nI n)), (0, .ref a.1), (1, .int (nI i))]) hx hb dX1_basisAt_43 hl (k := 0) rfl (bw_inc t) (by decide) rfl (fun ls hl => ?_)
      refine lv_goto (tgt := 9) hx hb dX1_basisAt_46 (by decide) ?_
      exact ih9 (n, t + 1) _ _ _ (by show 16 - (t + 1) < 16 - t; omega) ⟨by show (t + 1) ≤ 16; omega, by rw [k9_1]; first | exact (bb_lc_f (L := (fun m => bb_ml h9 m 16)) c20).symm | exact (bb_lc_t (L := (fun m => bb_ml h9 m 16)) c20).symm, by show n ≤ i; omega, lv_sub hl [0, 1, 2, 3] rfl, hw⟩
    · refine lv_iload_n hx hb dX1_basisAt_23 rfl (lv_at hl 1 rfl) ?_
      refine lv_iload_n hx hb dX1_basisAt_24 rfl (lv_at hl 3 rfl) ?_
      refine bw_cne (tgt := 40) hx hb dX1_basisAt_25 (by decide) (by omega) (by omega) (fun c25 => ?_) (fun c25 => ?_)
      · refine lv_iinc (v := nI (n + 1)) (lv' := [(2, .int (nI (n + 1))), (3, .int (nI t)), (0, .ref a.1), (1, .int (nI i))]) hx hb dX1_basisAt_40 hl (k := 1) rfl (bw_inc n) (by decide) rfl (fun ls hl => ?_)
        refine lv_iinc (v := nI (t + 1)) (lv' := [(3, .int (nI (t + 1))), (2, .int (nI (n + 1))), (0, .ref a.1), (1, .int (nI i))]) hx hb dX1_basisAt_43 hl (k := 1) rfl (bw_inc t) (by decide) rfl (fun ls hl => ?_)
        refine lv_goto (tgt := 9) hx hb dX1_basisAt_46 (by decide) ?_
        exact ih9 (n + 1, t + 1) _ _ _ (by show 16 - (t + 1) < 16 - t; omega) ⟨by show (t + 1) ≤ 16; omega, by rw [k9_1]; first | exact (bb_lc_f (L := (fun m => bb_ml h9 m 16)) c20).symm | exact (bb_lc_t (L := (fun m => bb_ml h9 m 16)) c20).symm, by show (n + 1) ≤ i; omega, lv_sub hl [0, 1, 2, 3] rfl, hw⟩
      · refine lv_iconst (v := nI 1) hx hb dX1_basisAt_28 (by decide) ?_
        refine lv_iload_n hx hb dX1_basisAt_29 rfl (lv_at hl 0 rfl) ?_
        refine bw_ishl hx hb dX1_basisAt_30 (by omega) ?_
        refine lv_aload_n hx hb dX1_basisAt_31 rfl (lv_at hl 2 rfl) ?_
        refine lv_iconst (v := nI 1) hx hb dX1_basisAt_32 (by decide) ?_
        refine lv_iload_n hx hb dX1_basisAt_33 rfl (lv_at hl 0 rfl) ?_
        refine bw_ishl hx hb dX1_basisAt_34 (by omega) ?_
        refine bw_ownI ⟨hx, hb, hml, hown, hts⟩ [.int (nI (2 ^ t))] [.int (nI (2 ^ t))] (mu_reduce l D a th gn h9 ot hhs (2 ^ t) (bb_p16 (by omega))) (cwV 1 hts (lw_V q235 q237 qs13 q18 q238) rfl rfl rfl (by decide +kernel) ⟨Nat.le_of_ble_eq_true rfl, Nat.le_of_ble_eq_true rfl⟩) 1 0 rfl rfl hK hA hw rfl hl.1 rfl (Nat.le_of_ble_eq_true rfl) dX1_basisAt_35 ⟨Nat.zero_le _, Nat.zero_le _⟩ (fun H locs hw => ?_)
        refine bw_ixor hx hb dX1_basisAt_38 ?_
        refine bw_top (y := nI ((bb_bl (fun m => bb_ml h9 m 16) h9 z 16).2 i)) (by rw [← c25, k9_1, bb_bl_at (L := (fun m => bb_ml h9 m 16)) (by omega) c20]) ?_
        exact hret _ _ _ _ hw dX1_basisAt_39
set_option maxHeartbeats 4000000 in
set_option maxRecDepth 100000 in
/-- basisAt out of range -/
theorem mu_basisAtX (l : Launch) (D : va_G) (a : bw_A0) (th gn hs ot : Nat → Nat) (pr : Nat) (hth : bb_TH pr th) (hgn : ∀ i, i < 6 → gn i < 65536) (h9 : Nat → Nat) (hh9 : bb_wk (fun i => pr.testBit i) gn hs = h9) (x : Int32) (hbad : ∀ j : Nat, j < bb_lc (fun m => bb_ml h9 m 16) 16 → x ≠ nI j) : bw_MI l yX1_basisAt (ws_ yX1_basisAt cX1_basisAt 4 (some .int)) ({ frames := 3, cells := 0, slots := 0, locals := 70 }) D bw_Cl (bw_T1 a) [.ref a.1, .int x] (bw_W1 a th gn hs ot) (bw_W1 a th gn h9 ot) (-1) := by
  refine bw_startI (by decide) (Nat.le_of_ble_eq_true rfl) rfl ?_
  intro p e s m below meth c A Q ls hx hb hml hown hts hA hK hw hl hret
  have hown : s.vm.findClass RX1 = some m.cls := hown
  have hl : lv_has ls 4 [(0, .ref a.1), (1, .int x)] := hl
  have hhs : ∀ m, m < 16 → h9 m < 65536 := by rw [← hh9]; exact bb_wk_lt _ _ _
  refine lv_aload_n hx hb dX1_basisAt_0 rfl (lv_at hl 0 rfl) ?_
  refine lv_iconst (v := -1) hx hb dX1_basisAt_1 (by decide) ?_
  refine bw_ownV ⟨hx, hb, hml, hown, hts⟩ [.int ((-1))] [] (mu_workA l D a th gn hs ot pr hth hgn h9 hh9) (cwV 1 hts (lw_V q226 q228 qs11 q18 q229) rfl rfl rfl (by decide +kernel) ⟨Nat.le_of_ble_eq_true rfl, Nat.le_of_ble_eq_true rfl⟩) 1 0 rfl rfl hK hA hw rfl hl.1 rfl (Nat.le_of_ble_eq_true rfl) dX1_basisAt_2 ⟨Nat.zero_le _, Nat.zero_le _⟩ (fun H locs hw => ?_)
  refine lv_iconst (v := nI 0) hx hb dX1_basisAt_5 (by decide) ?_
  refine lv_istore_n (lv' := [(2, .int (nI 0)), (0, .ref a.1), (1, .int x)]) hx hb dX1_basisAt_6 rfl hl (by decide) rfl (fun ls hl => ?_)
  refine lv_iconst (v := nI 0) hx hb dX1_basisAt_7 (by decide) ?_
  refine lv_istore_n (lv' := [(3, .int (nI 0)), (2, .int (nI 0)), (0, .ref a.1), (1, .int x)]) hx hb dX1_basisAt_8 rfl hl (by decide) rfl (fun ls hl => ?_)
  refine bw_loop (pc := 9) (fun (qq : Nat × Nat) ls H locs => qq.2 ≤ 16 ∧ qq.1 = bb_lc (fun m => bb_ml h9 m 16) qq.2 ∧ lv_has ls 4 [(3, .int (nI qq.2)), (2, .int (nI qq.1)), (0, .ref a.1), (1, .int x)] ∧ bw_H D bw_Cl A s.heap (bw_W1 a th gn h9 ot) H locs) (fun qq => 16 - qq.2) ?_ (0, 0) ⟨Nat.zero_le _, rfl, lv_sub hl [0, 1, 2, 3] rfl, hw⟩
  rintro ⟨n, t⟩ ls H locs ⟨k9_0, k9_1, hl, hw⟩ ih9
  have k9_0 : t ≤ 16 := k9_0
  have k9_1 : n = bb_lc (fun m => bb_ml h9 m 16) t := k9_1
  have hl : lv_has ls 4 [(3, .int (nI t)), (2, .int (nI n)), (0, .ref a.1), (1, .int x)] := hl
  have hw : bw_H D bw_Cl A s.heap (bw_W1 a th gn h9 ot) H locs := hw
  refine lv_iload_n hx hb dX1_basisAt_9 rfl (lv_at hl 0 rfl) ?_
  refine lv_bipush (v := nI 16) hx hb dX1_basisAt_10 (by decide) ?_
  refine bw_cge (tgt := 49) hx hb dX1_basisAt_12 (by decide) (by omega) (by omega) (fun c12 => ?_) (fun c12 => ?_)
  · refine lv_iconst (v := -1) hx hb dX1_basisAt_49 (by decide) ?_
    exact hret _ _ _ _ hw dX1_basisAt_50
  · refine lv_aload_n hx hb dX1_basisAt_15 rfl (lv_at hl 2 rfl) ?_
    refine lv_iload_n hx hb dX1_basisAt_16 rfl (lv_at hl 0 rfl) ?_
    refine bw_ownI ⟨hx, hb, hml, hown, hts⟩ [.int (nI t)] [] (mu_least l D a th gn h9 ot hhs t (by omega)) (cwV 1 hts (lw_V q244 q246 qs14 q18 q247) rfl rfl rfl (by decide +kernel) ⟨Nat.le_of_ble_eq_true rfl, Nat.le_of_ble_eq_true rfl⟩) 1 0 rfl rfl hK hA hw rfl hl.1 rfl (Nat.le_of_ble_eq_true rfl) dX1_basisAt_17 ⟨Nat.zero_le _, Nat.zero_le _⟩ (fun H locs hw => ?_)
    refine bw_fz (tgt := 43) hx hb dX1_basisAt_20 (by decide) (fun c20 => ?_) (fun c20 => ?_)
    · refine lv_iinc (v := nI (t + 1)) (lv' := [(3, .int (nI (t + 1))), (2, .int (nI n)), (0, .ref a.1), (1, .int x)]) hx hb dX1_basisAt_43 hl (k := 0) rfl (bw_inc t) (by decide) rfl (fun ls hl => ?_)
      refine lv_goto (tgt := 9) hx hb dX1_basisAt_46 (by decide) ?_
      exact ih9 (n, t + 1) _ _ _ (by show 16 - (t + 1) < 16 - t; omega) ⟨by show (t + 1) ≤ 16; omega, by rw [k9_1]; first | exact (bb_lc_f (L := (fun m => bb_ml h9 m 16)) c20).symm | exact (bb_lc_t (L := (fun m => bb_ml h9 m 16)) c20).symm, lv_sub hl [0, 1, 2, 3] rfl, hw⟩
    · refine lv_iload_n hx hb dX1_basisAt_23 rfl (lv_at hl 1 rfl) ?_
      refine lv_iload_n hx hb dX1_basisAt_24 rfl (lv_at hl 3 rfl) ?_
      refine lv_icmp_ne (tgt := 40) hx hb dX1_basisAt_25 (by decide) (fun c25 => ?_) (fun c25 => ?_)
      · refine lv_iinc (v := nI (n + 1)) (lv' := [(2, .int (nI (n + 1))), (3, .int (nI t)), (0, .ref a.1), (1, .int x)]) hx hb dX1_basisAt_40 hl (k := 1) rfl (bw_inc n) (by decide) rfl (fun ls hl => ?_)
        refine lv_iinc (v := nI (t + 1)) (lv' := [(3, .int (nI (t + 1))), (2, .int (nI (n + 1))), (0, .ref a.1), (1, .int x)]) hx hb dX1_basisAt_43 hl (k := 1) rfl (bw_inc t) (by decide) rfl (fun ls hl => ?_)
        refine lv_goto (tgt := 9) hx hb dX1_basisAt_46 (by decide) ?_
        exact ih9 (n + 1, t + 1) _ _ _ (by show 16 - (t + 1) < 16 - t; omega) ⟨by show (t + 1) ≤ 16; omega, by rw [k9_1]; first | exact (bb_lc_f (L := (fun m => bb_ml h9 m 16)) c20).symm | exact (bb_lc_t (L := (fun m => bb_ml h9 m 16)) c20).symm, lv_sub hl [0, 1, 2, 3] rfl, hw⟩
      · exact absurd c25.symm (hbad n (by have h1 := bb_lc_up (L := (fun m => bb_ml h9 m 16)) 16 (show t + 1 ≤ 16 by omega); rw [bb_lc_t (L := (fun m => bb_ml h9 m 16)) c20] at h1; omega))
set_option maxHeartbeats 4000000 in
set_option maxRecDepth 100000 in
/-- bound -/
theorem mu_bound (l : Launch) (D : va_G) (a : bw_A0) (th gn hs ot : Nat → Nat) (pr : Nat) (hth : bb_TH pr th) (hgn : ∀ i, i < 6 → gn i < 65536) (h9 : Nat → Nat) (hh9 : bb_wk (fun i => pr.testBit i) gn hs = h9) : bw_MI l yX1_bound (ws_ yX1_bound cX1_bound 3 (some .int)) ({ frames := 3, cells := 0, slots := 0, locals := 70 }) D bw_Cl (bw_T1 a) [.ref a.1] (bw_W1 a th gn hs ot) (bw_W1 a th gn h9 ot) (nI (bb_bs (fun m => !(h9 m == 0)) 16)) := by
  refine bw_startI (by decide) (Nat.le_of_ble_eq_true rfl) rfl ?_
  intro p e s m below meth c A Q ls hx hb hml hown hts hA hK hw hl hret
  have hown : s.vm.findClass RX1 = some m.cls := hown
  have hl : lv_has ls 3 [(0, .ref a.1)] := hl
  have hhs : ∀ m, m < 16 → h9 m < 65536 := by rw [← hh9]; exact bb_wk_lt _ _ _
  refine lv_aload_n hx hb dX1_bound_0 rfl (lv_at hl 0 rfl) ?_
  refine lv_iconst (v := -1) hx hb dX1_bound_1 (by decide) ?_
  refine bw_ownV ⟨hx, hb, hml, hown, hts⟩ [.int ((-1))] [] (mu_workA l D a th gn hs ot pr hth hgn h9 hh9) (cwV 1 hts (lw_V q226 q228 qs11 q18 q229) rfl rfl rfl (by decide +kernel) ⟨Nat.le_of_ble_eq_true rfl, Nat.le_of_ble_eq_true rfl⟩) 1 0 rfl rfl hK hA hw rfl hl.1 rfl (Nat.le_of_ble_eq_true rfl) dX1_bound_2 ⟨Nat.zero_le _, Nat.zero_le _⟩ (fun H locs hw => ?_)
  refine lv_iconst (v := nI 0) hx hb dX1_bound_5 (by decide) ?_
  refine lv_istore_n (lv' := [(1, .int (nI 0)), (0, .ref a.1)]) hx hb dX1_bound_6 rfl hl (by decide) rfl (fun ls hl => ?_)
  refine lv_iconst (v := nI 0) hx hb dX1_bound_7 (by decide) ?_
  refine lv_istore_n (lv' := [(2, .int (nI 0)), (1, .int (nI 0)), (0, .ref a.1)]) hx hb dX1_bound_8 rfl hl (by decide) rfl (fun ls hl => ?_)
  refine bw_loop (pc := 9) (fun (qq : Nat × Nat) ls H locs => qq.2 ≤ 16 ∧ qq.1 = bb_bs (fun m => !(h9 m == 0)) qq.2 ∧ lv_has ls 3 [(2, .int (nI qq.2)), (1, .int (nI qq.1)), (0, .ref a.1)] ∧ bw_H D bw_Cl A s.heap (bw_W1 a th gn h9 ot) H locs) (fun qq => 16 - qq.2) ?_ (0, 0) ⟨Nat.zero_le _, rfl, lv_sub hl [0, 1, 2] rfl, hw⟩
  rintro ⟨n, t⟩ ls H locs ⟨k9_0, k9_1, hl, hw⟩ ih9
  have k9_0 : t ≤ 16 := k9_0
  have k9_1 : n = bb_bs (fun m => !(h9 m == 0)) t := k9_1
  have hl : lv_has ls 3 [(2, .int (nI t)), (1, .int (nI n)), (0, .ref a.1)] := hl
  have hw : bw_H D bw_Cl A s.heap (bw_W1 a th gn h9 ot) H locs := hw
  refine lv_iload_n hx hb dX1_bound_9 rfl (lv_at hl 0 rfl) ?_
  refine lv_bipush (v := nI 16) hx hb dX1_bound_10 (by decide) ?_
  refine bw_cge (tgt := 40) hx hb dX1_bound_12 (by decide) (by omega) (by omega) (fun c12 => ?_) (fun c12 => ?_)
  · refine lv_iload_n hx hb dX1_bound_40 rfl (lv_at hl 1 rfl) ?_
    refine bw_top (y := nI (bb_bs (fun m => !(h9 m == 0)) 16)) (by rw [k9_1, show t = 16 by omega]) ?_
    exact hret _ _ _ _ hw dX1_bound_41
  · have hn9 := hhs t (by omega)
    refine lv_aload_n hx hb dX1_bound_15 rfl (lv_at hl 2 rfl) ?_
    refine bw_g1_hs hx hb hts hown hK hw dX1_bound_16 ?_
    refine lv_iload_n hx hb dX1_bound_19 rfl (lv_at hl 0 rfl) ?_
    refine bw_l1_hs hx hb hK hw (by omega) dX1_bound_20 ?_
    refine bw_eq0 (tgt := 32) hx hb dX1_bound_21 (by decide) (by omega) (fun c21 => ?_) (fun c21 => ?_)
    · refine lv_iload_n hx hb dX1_bound_32 rfl (lv_at hl 1 rfl) ?_
      refine lv_istore_n (lv' := [(1, .int (nI n)), (2, .int (nI t)), (0, .ref a.1)]) hx hb dX1_bound_33 rfl hl (by decide) rfl (fun ls hl => ?_)
      refine lv_iinc (v := nI (t + 1)) (lv' := [(2, .int (nI (t + 1))), (1, .int (nI n)), (0, .ref a.1)]) hx hb dX1_bound_34 hl (k := 1) rfl (bw_inc t) (by decide) rfl (fun ls hl => ?_)
      refine lv_goto (tgt := 9) hx hb dX1_bound_37 (by decide) ?_
      exact ih9 (n, t + 1) _ _ _ (by show 16 - (t + 1) < 16 - t; omega) ⟨by show (t + 1) ≤ 16; omega, by rw [k9_1]; first | exact (bb_bs_f' (P := (fun m => !(h9 m == 0))) (by show (!(h9 t == 0)) = false; rw [c21]; rfl)).symm | exact (bb_bs_t (P := (fun m => !(h9 m == 0))) (by show (!(h9 t == 0)) = true; simp [c21])).symm, lv_sub hl [0, 1, 2] rfl, hw⟩
    · refine lv_iload_n hx hb dX1_bound_24 rfl (lv_at hl 1 rfl) ?_
      refine lv_iconst (v := nI 1) hx hb dX1_bound_25 (by decide) ?_
      refine lv_iload_n hx hb dX1_bound_26 rfl (lv_at hl 0 rfl) ?_
      refine bw_ishl hx hb dX1_bound_27 (by omega) ?_
      refine bw_ior hx hb dX1_bound_28 ?_
      refine lv_goto (tgt := 33) hx hb dX1_bound_29 (by decide) ?_
      refine lv_istore_n (lv' := [(1, .int (nI (n ||| (2 ^ t)))), (2, .int (nI t)), (0, .ref a.1)]) hx hb dX1_bound_33 rfl hl (by decide) rfl (fun ls hl => ?_)
      refine lv_iinc (v := nI (t + 1)) (lv' := [(2, .int (nI (t + 1))), (1, .int (nI (n ||| (2 ^ t)))), (0, .ref a.1)]) hx hb dX1_bound_34 hl (k := 1) rfl (bw_inc t) (by decide) rfl (fun ls hl => ?_)
      refine lv_goto (tgt := 9) hx hb dX1_bound_37 (by decide) ?_
      exact ih9 (n ||| (2 ^ t), t + 1) _ _ _ (by show 16 - (t + 1) < 16 - t; omega) ⟨by show (t + 1) ≤ 16; omega, by rw [k9_1]; first | exact (bb_bs_f' (P := (fun m => !(h9 m == 0))) (by show (!(h9 t == 0)) = false; rw [c21]; rfl)).symm | exact (bb_bs_t (P := (fun m => !(h9 m == 0))) (by show (!(h9 t == 0)) = true; simp [c21])).symm, lv_sub hl [0, 1, 2] rfl, hw⟩
set_option maxHeartbeats 4000000 in
set_option maxRecDepth 100000 in
/-- zeros -/
theorem mu_zeros (l : Launch) (D : va_G) (a : bw_A0) (th gn hs ot : Nat → Nat) (pr : Nat) (hth : bb_TH pr th) (hgn : ∀ i, i < 6 → gn i < 65536) : bw_MI l yX1_zeros (ws_ yX1_zeros cX1_zeros 5 (some .int)) ({ frames := 2, cells := 0, slots := 0, locals := 45 }) D bw_Cl (bw_T1 a) [.ref a.1] (bw_W1 a th gn hs ot) (bw_W1 a th gn hs ot) (nI (bb_bs (fun p => bb_zr th gn p 6) 16)) := by
  refine bw_startI (by decide) (Nat.le_of_ble_eq_true rfl) rfl ?_
  intro p e s m below meth c A Q ls hx hb hml hown hts hA hK hw hl hret
  have hown : s.vm.findClass RX1 = some m.cls := hown
  have hl : lv_has ls 5 [(0, .ref a.1)] := hl
  refine lv_iconst (v := nI 0) hx hb dX1_zeros_0 (by decide) ?_
  refine lv_istore_n (lv' := [(1, .int (nI 0)), (0, .ref a.1)]) hx hb dX1_zeros_1 rfl hl (by decide) rfl (fun ls hl => ?_)
  refine lv_iconst (v := nI 0) hx hb dX1_zeros_2 (by decide) ?_
  refine lv_istore_n (lv' := [(2, .int (nI 0)), (1, .int (nI 0)), (0, .ref a.1)]) hx hb dX1_zeros_3 rfl hl (by decide) rfl (fun ls hl => ?_)
  refine bw_loop (pc := 4) (fun (qq : Nat × Nat) ls H locs => qq.2 ≤ 16 ∧ qq.1 = bb_bs (fun p => bb_zr th gn p 6) qq.2 ∧ lv_has ls 5 [(2, .int (nI qq.2)), (1, .int (nI qq.1)), (0, .ref a.1)] ∧ bw_H D bw_Cl A s.heap (bw_W1 a th gn hs ot) H locs) (fun qq => 16 - qq.2) ?_ (0, 0) ⟨Nat.zero_le _, rfl, lv_sub hl [0, 1, 2] rfl, hw⟩
  rintro ⟨r, t⟩ ls H locs ⟨k4_0, k4_1, hl, hw⟩ ih4
  have k4_0 : t ≤ 16 := k4_0
  have k4_1 : r = bb_bs (fun p => bb_zr th gn p 6) t := k4_1
  have hl : lv_has ls 5 [(2, .int (nI t)), (1, .int (nI r)), (0, .ref a.1)] := hl
  have hw : bw_H D bw_Cl A s.heap (bw_W1 a th gn hs ot) H locs := hw
  refine lv_iload_n hx hb dX1_zeros_4 rfl (lv_at hl 0 rfl) ?_
  refine lv_bipush (v := nI 16) hx hb dX1_zeros_5 (by decide) ?_
  refine bw_cge (tgt := 83) hx hb dX1_zeros_7 (by decide) (by omega) (by omega) (fun c7 => ?_) (fun c7 => ?_)
  · refine lv_iload_n hx hb dX1_zeros_83 rfl (lv_at hl 1 rfl) ?_
    refine bw_top (y := nI (bb_bs (fun p => bb_zr th gn p 6) 16)) (by rw [k4_1, show t = 16 by omega]) ?_
    exact hret _ _ _ _ hw dX1_zeros_84
  · refine lv_iconst (v := nI 1) hx hb dX1_zeros_10 (by decide) ?_
    refine lv_istore_n (lv' := [(3, .int (nI 1)), (2, .int (nI t)), (1, .int (nI r)), (0, .ref a.1)]) hx hb dX1_zeros_11 rfl hl (by decide) rfl (fun ls hl => ?_)
    refine lv_iconst (v := nI 0) hx hb dX1_zeros_12 (by decide) ?_
    refine lv_istore (lv' := [(4, .int (nI 0)), (3, .int (nI 1)), (2, .int (nI t)), (1, .int (nI r)), (0, .ref a.1)]) hx hb dX1_zeros_13 hl (by decide) rfl (fun ls hl => ?_)
    refine bw_loop (pc := 15) (fun (qq : Bool × Nat) ls H locs => qq.2 ≤ 6 ∧ qq.1 = bb_zr th gn t qq.2 ∧ lv_has ls 5 [(4, .int (nI qq.2)), (3, .int (bw_bI qq.1)), (2, .int (nI t)), (1, .int (nI r)), (0, .ref a.1)] ∧ bw_H D bw_Cl A s.heap (bw_W1 a th gn hs ot) H locs) (fun qq => 6 - qq.2) ?_ (true, 0) ⟨Nat.zero_le _, rfl, lv_sub hl [0, 1, 2, 3, 4] rfl, hw⟩
    rintro ⟨b, i⟩ ls H locs ⟨k15_0, k15_1, hl, hw⟩ ih15
    have k15_0 : i ≤ 6 := k15_0
    have k15_1 : b = bb_zr th gn t i := k15_1
    have hl : lv_has ls 5 [(4, .int (nI i)), (3, .int (bw_bI b)), (2, .int (nI t)), (1, .int (nI r)), (0, .ref a.1)] := hl
    have hw : bw_H D bw_Cl A s.heap (bw_W1 a th gn hs ot) H locs := hw
    refine lv_iload hx hb dX1_zeros_15 (lv_at hl 0 rfl) ?_
    refine lv_bipush (v := nI 6) hx hb dX1_zeros_17 (by decide) ?_
    refine bw_cge (tgt := 63) hx hb dX1_zeros_19 (by decide) (by omega) (by omega) (fun c19 => ?_) (fun c19 => ?_)
    · refine lv_iload_n hx hb dX1_zeros_63 rfl (lv_at hl 1 rfl) ?_
      refine bw_fz (tgt := 75) hx hb dX1_zeros_64 (by decide) (fun c64 => ?_) (fun c64 => ?_)
      · refine lv_iload_n hx hb dX1_zeros_75 rfl (lv_at hl 3 rfl) ?_
        refine lv_istore_n (lv' := [(1, .int (nI r)), (4, .int (nI i)), (3, .int (bw_bI b)), (2, .int (nI t)), (0, .ref a.1)]) hx hb dX1_zeros_76 rfl hl (by decide) rfl (fun ls hl => ?_)
        refine lv_iinc (v := nI (t + 1)) (lv' := [(2, .int (nI (t + 1))), (1, .int (nI r)), (4, .int (nI i)), (3, .int (bw_bI b)), (0, .ref a.1)]) hx hb dX1_zeros_77 hl (k := 3) rfl (bw_inc t) (by decide) rfl (fun ls hl => ?_)
        refine lv_goto (tgt := 4) hx hb dX1_zeros_80 (by decide) ?_
        exact ih4 (r, t + 1) _ _ _ (by show 16 - (t + 1) < 16 - t; omega) ⟨by show (t + 1) ≤ 16; omega, by rw [k4_1]; first | exact (bb_bs_f' (P := (fun p => bb_zr th gn p 6)) (show bb_zr th gn t 6 = false by rw [← c64, k15_1, show i = 6 by omega])).symm | exact (bb_bs_t (P := (fun p => bb_zr th gn p 6)) (show bb_zr th gn t 6 = true by rw [← c64, k15_1, show i = 6 by omega])).symm, lv_sub hl [0, 1, 4] rfl, hw⟩
      · refine lv_iload_n hx hb dX1_zeros_67 rfl (lv_at hl 3 rfl) ?_
        refine lv_iconst (v := nI 1) hx hb dX1_zeros_68 (by decide) ?_
        refine lv_iload_n hx hb dX1_zeros_69 rfl (lv_at hl 2 rfl) ?_
        refine bw_ishl hx hb dX1_zeros_70 (by omega) ?_
        refine bw_ior hx hb dX1_zeros_71 ?_
        refine lv_goto (tgt := 76) hx hb dX1_zeros_72 (by decide) ?_
        refine lv_istore_n (lv' := [(1, .int (nI (r ||| (2 ^ t)))), (4, .int (nI i)), (3, .int (bw_bI b)), (2, .int (nI t)), (0, .ref a.1)]) hx hb dX1_zeros_76 rfl hl (by decide) rfl (fun ls hl => ?_)
        refine lv_iinc (v := nI (t + 1)) (lv' := [(2, .int (nI (t + 1))), (1, .int (nI (r ||| (2 ^ t)))), (4, .int (nI i)), (3, .int (bw_bI b)), (0, .ref a.1)]) hx hb dX1_zeros_77 hl (k := 3) rfl (bw_inc t) (by decide) rfl (fun ls hl => ?_)
        refine lv_goto (tgt := 4) hx hb dX1_zeros_80 (by decide) ?_
        exact ih4 (r ||| (2 ^ t), t + 1) _ _ _ (by show 16 - (t + 1) < 16 - t; omega) ⟨by show (t + 1) ≤ 16; omega, by rw [k4_1]; first | exact (bb_bs_f' (P := (fun p => bb_zr th gn p 6)) (show bb_zr th gn t 6 = false by rw [← c64, k15_1, show i = 6 by omega])).symm | exact (bb_bs_t (P := (fun p => bb_zr th gn p 6)) (show bb_zr th gn t 6 = true by rw [← c64, k15_1, show i = 6 by omega])).symm, lv_sub hl [0, 1, 4] rfl, hw⟩
    · have hti := bb_TH_lt hth (show i < 6 by omega)
      refine lv_iload_n hx hb dX1_zeros_22 rfl (lv_at hl 1 rfl) ?_
      refine bw_fz (tgt := 55) hx hb dX1_zeros_23 (by decide) (fun c23 => ?_) (fun c23 => ?_)
      · refine lv_iconst (v := nI 0) hx hb dX1_zeros_55 (by decide) ?_
        refine lv_istore_n (lv' := [(3, .int (nI 0)), (4, .int (nI i)), (2, .int (nI t)), (1, .int (nI r)), (0, .ref a.1)]) hx hb dX1_zeros_56 rfl hl (by decide) rfl (fun ls hl => ?_)
        refine lv_iinc (v := nI (i + 1)) (lv' := [(4, .int (nI (i + 1))), (3, .int (nI 0)), (2, .int (nI t)), (1, .int (nI r)), (0, .ref a.1)]) hx hb dX1_zeros_57 hl (k := 1) rfl (bw_inc i) (by decide) rfl (fun ls hl => ?_)
        refine lv_goto (tgt := 15) hx hb dX1_zeros_60 (by decide) ?_
        exact ih15 (false, i + 1) _ _ _ (by show 6 - (i + 1) < 6 - i; omega) ⟨by show (i + 1) ≤ 6; omega, by first | exact (bb_zr_0 (k15_1.symm.trans c23)).symm | exact (bb_zr_n (k15_1.symm.trans c23) c33).symm | exact (bb_zr_v (k15_1.symm.trans c23) c48).symm | exact (bb_zr_f c33 c48).symm, lv_sub hl [0, 1, 2, 3, 4] rfl, hw⟩
      · refine lv_aload_n hx hb dX1_zeros_26 rfl (lv_at hl 4 rfl) ?_
        refine bw_g1_th hx hb hts hown hK hw dX1_zeros_27 ?_
        refine lv_iload hx hb dX1_zeros_30 (lv_at hl 0 rfl) ?_
        refine bw_l1_th hx hb hK hw (by omega) dX1_zeros_32 ?_
        refine bw_eq0 (tgt := 51) hx hb dX1_zeros_33 (by decide) (by omega) (fun c33 => ?_) (fun c33 => ?_)
        · refine lv_iconst (v := nI 1) hx hb dX1_zeros_51 (by decide) ?_
          refine lv_goto (tgt := 56) hx hb dX1_zeros_52 (by decide) ?_
          refine lv_istore_n (lv' := [(3, .int (nI 1)), (4, .int (nI i)), (2, .int (nI t)), (1, .int (nI r)), (0, .ref a.1)]) hx hb dX1_zeros_56 rfl hl (by decide) rfl (fun ls hl => ?_)
          refine lv_iinc (v := nI (i + 1)) (lv' := [(4, .int (nI (i + 1))), (3, .int (nI 1)), (2, .int (nI t)), (1, .int (nI r)), (0, .ref a.1)]) hx hb dX1_zeros_57 hl (k := 1) rfl (bw_inc i) (by decide) rfl (fun ls hl => ?_)
          refine lv_goto (tgt := 15) hx hb dX1_zeros_60 (by decide) ?_
          exact ih15 (true, i + 1) _ _ _ (by show 6 - (i + 1) < 6 - i; omega) ⟨by show (i + 1) ≤ 6; omega, by first | exact (bb_zr_0 (k15_1.symm.trans c23)).symm | exact (bb_zr_n (k15_1.symm.trans c23) c33).symm | exact (bb_zr_v (k15_1.symm.trans c23) c48).symm | exact (bb_zr_f c33 c48).symm, lv_sub hl [0, 1, 2, 3, 4] rfl, hw⟩
        · refine lv_aload_n hx hb dX1_zeros_36 rfl (lv_at hl 4 rfl) ?_
          refine lv_aload_n hx hb dX1_zeros_37 rfl (lv_at hl 4 rfl) ?_
          refine bw_g1_gn hx hb hts hown hK hw dX1_zeros_38 ?_
          refine lv_iload hx hb dX1_zeros_41 (lv_at hl 0 rfl) ?_
          refine bw_l1_gn hx hb hK hw (by omega) dX1_zeros_43 ?_
          refine lv_iload_n hx hb dX1_zeros_44 rfl (lv_at hl 2 rfl) ?_
          refine bw_ownI ⟨hx, hb, hml, hown, hts⟩ [.int (nI (gn i)), .int (nI t)] [] (mu_value l D a th gn hs ot (gn i) t (hgn i (by omega)) (by omega)) (cwV 2 hts (lw_V q260 q215 q216 q18 q217) rfl rfl rfl (by decide +kernel) ⟨Nat.le_of_ble_eq_true rfl, Nat.le_of_ble_eq_true rfl⟩) 1 0 rfl rfl hK hA hw rfl hl.1 rfl (Nat.le_of_ble_eq_true rfl) dX1_zeros_45 ⟨Nat.zero_le _, Nat.zero_le _⟩ (fun H locs hw => ?_)
          have hv9 := bb_val_lt (gn i) t
          refine bw_ne0 (tgt := 55) hx hb dX1_zeros_48 (by decide) (by omega) (fun c48 => ?_) (fun c48 => ?_)
          · refine lv_iconst (v := nI 0) hx hb dX1_zeros_55 (by decide) ?_
            refine lv_istore_n (lv' := [(3, .int (nI 0)), (4, .int (nI i)), (2, .int (nI t)), (1, .int (nI r)), (0, .ref a.1)]) hx hb dX1_zeros_56 rfl hl (by decide) rfl (fun ls hl => ?_)
            refine lv_iinc (v := nI (i + 1)) (lv' := [(4, .int (nI (i + 1))), (3, .int (nI 0)), (2, .int (nI t)), (1, .int (nI r)), (0, .ref a.1)]) hx hb dX1_zeros_57 hl (k := 1) rfl (bw_inc i) (by decide) rfl (fun ls hl => ?_)
            refine lv_goto (tgt := 15) hx hb dX1_zeros_60 (by decide) ?_
            exact ih15 (false, i + 1) _ _ _ (by show 6 - (i + 1) < 6 - i; omega) ⟨by show (i + 1) ≤ 6; omega, by first | exact (bb_zr_0 (k15_1.symm.trans c23)).symm | exact (bb_zr_n (k15_1.symm.trans c23) c33).symm | exact (bb_zr_v (k15_1.symm.trans c23) c48).symm | exact (bb_zr_f c33 c48).symm, lv_sub hl [0, 1, 2, 3, 4] rfl, hw⟩
          · refine lv_iconst (v := nI 1) hx hb dX1_zeros_51 (by decide) ?_
            refine lv_goto (tgt := 56) hx hb dX1_zeros_52 (by decide) ?_
            refine lv_istore_n (lv' := [(3, .int (nI 1)), (4, .int (nI i)), (2, .int (nI t)), (1, .int (nI r)), (0, .ref a.1)]) hx hb dX1_zeros_56 rfl hl (by decide) rfl (fun ls hl => ?_)
            refine lv_iinc (v := nI (i + 1)) (lv' := [(4, .int (nI (i + 1))), (3, .int (nI 1)), (2, .int (nI t)), (1, .int (nI r)), (0, .ref a.1)]) hx hb dX1_zeros_57 hl (k := 1) rfl (bw_inc i) (by decide) rfl (fun ls hl => ?_)
            refine lv_goto (tgt := 15) hx hb dX1_zeros_60 (by decide) ?_
            exact ih15 (true, i + 1) _ _ _ (by show 6 - (i + 1) < 6 - i; omega) ⟨by show (i + 1) ≤ 6; omega, by first | exact (bb_zr_0 (k15_1.symm.trans c23)).symm | exact (bb_zr_n (k15_1.symm.trans c23) c33).symm | exact (bb_zr_v (k15_1.symm.trans c23) c48).symm | exact (bb_zr_f c33 c48).symm, lv_sub hl [0, 1, 2, 3, 4] rfl, hw⟩
set_option maxHeartbeats 4000000 in
set_option maxRecDepth 100000 in
/-- zeroCount -/
theorem mu_zeroCount (l : Launch) (D : va_G) (a : bw_A0) (th gn hs ot : Nat → Nat) (pr : Nat) (hth : bb_TH pr th) (hgn : ∀ i, i < 6 → gn i < 65536) : bw_MI l yX1_zeroCount (ws_ yX1_zeroCount cX1_zeroCount 4 (some .int)) ({ frames := 3, cells := 0, slots := 0, locals := 69 }) D bw_Cl (bw_T1 a) [.ref a.1] (bw_W1 a th gn hs ot) (bw_W1 a th gn hs ot) (nI (bb_cnt (bb_bs (fun p => bb_zr th gn p 6) 16) 16)) := by
  refine bw_startI (by decide) (Nat.le_of_ble_eq_true rfl) rfl ?_
  intro p e s m below meth c A Q ls hx hb hml hown hts hA hK hw hl hret
  have hown : s.vm.findClass RX1 = some m.cls := hown
  have hl : lv_has ls 4 [(0, .ref a.1)] := hl
  obtain ⟨z, hz⟩ : ∃ z, z = bb_bs (fun p => bb_zr th gn p 6) 16 := ⟨_, rfl⟩
  have hz9 : z < 65536 := by rw [hz]; exact bb_bs_lt _ 16
  rw [← hz] at hret
  refine lv_aload_n hx hb dX1_zeroCount_0 rfl (lv_at hl 0 rfl) ?_
  refine bw_ownI ⟨hx, hb, hml, hown, hts⟩ [] [] (mu_zeros l D a th gn hs ot pr hth hgn) (cwV 0 hts (lw_V q265 q257 q258 q18 q259) rfl rfl rfl (by decide +kernel) ⟨Nat.le_of_ble_eq_true rfl, Nat.le_of_ble_eq_true rfl⟩) 1 0 rfl rfl hK hA hw rfl hl.1 rfl (Nat.le_of_ble_eq_true rfl) dX1_zeroCount_1 ⟨Nat.zero_le _, Nat.zero_le _⟩ (fun H locs hw => ?_)
  refine bw_topn hz.symm ?_
  refine lv_istore_n (lv' := [(1, .int (nI z)), (0, .ref a.1)]) hx hb dX1_zeroCount_4 rfl hl (by decide) rfl (fun ls hl => ?_)
  refine lv_iconst (v := nI 0) hx hb dX1_zeroCount_5 (by decide) ?_
  refine lv_istore_n (lv' := [(2, .int (nI 0)), (1, .int (nI z)), (0, .ref a.1)]) hx hb dX1_zeroCount_6 rfl hl (by decide) rfl (fun ls hl => ?_)
  refine lv_iconst (v := nI 0) hx hb dX1_zeroCount_7 (by decide) ?_
  refine lv_istore_n (lv' := [(3, .int (nI 0)), (2, .int (nI 0)), (1, .int (nI z)), (0, .ref a.1)]) hx hb dX1_zeroCount_8 rfl hl (by decide) rfl (fun ls hl => ?_)
  refine bw_loop (pc := 9) (fun (qq : Nat × Nat) ls H locs => qq.2 ≤ 16 ∧ qq.1 = bb_cnt z qq.2 ∧ lv_has ls 4 [(3, .int (nI qq.2)), (2, .int (nI qq.1)), (1, .int (nI z)), (0, .ref a.1)] ∧ bw_H D bw_Cl A s.heap (bw_W1 a th gn hs ot) H locs) (fun qq => 16 - qq.2) ?_ (0, 0) ⟨Nat.zero_le _, rfl, lv_sub hl [0, 1, 2, 3] rfl, hw⟩
  rintro ⟨n, t⟩ ls H locs ⟨k9_0, k9_1, hl, hw⟩ ih9
  have k9_0 : t ≤ 16 := k9_0
  have k9_1 : n = bb_cnt z t := k9_1
  have hl : lv_has ls 4 [(3, .int (nI t)), (2, .int (nI n)), (1, .int (nI z)), (0, .ref a.1)] := hl
  have hw : bw_H D bw_Cl A s.heap (bw_W1 a th gn hs ot) H locs := hw
  refine lv_iload_n hx hb dX1_zeroCount_9 rfl (lv_at hl 0 rfl) ?_
  refine lv_bipush (v := nI 16) hx hb dX1_zeroCount_10 (by decide) ?_
  refine bw_cge (tgt := 29) hx hb dX1_zeroCount_12 (by decide) (by omega) (by omega) (fun c12 => ?_) (fun c12 => ?_)
  · refine lv_iload_n hx hb dX1_zeroCount_29 rfl (lv_at hl 1 rfl) ?_
    refine bw_top (y := nI (bb_cnt z 16)) (by rw [k9_1, show t = 16 by omega]) ?_
    exact hret _ _ _ _ hw dX1_zeroCount_30
  · refine lv_iload_n hx hb dX1_zeroCount_15 rfl (lv_at hl 1 rfl) ?_
    refine lv_iload_n hx hb dX1_zeroCount_16 rfl (lv_at hl 2 rfl) ?_
    refine lv_iload_n hx hb dX1_zeroCount_17 rfl (lv_at hl 0 rfl) ?_
    refine bw_ishr hx hb dX1_zeroCount_18 (by omega) (by omega) ?_
    refine lv_iconst (v := nI 1) hx hb dX1_zeroCount_19 (by decide) ?_
    refine bw_iand hx hb dX1_zeroCount_20 ?_
    refine bw_iadd hx hb dX1_zeroCount_21 ?_
    refine lv_istore_n (lv' := [(2, .int (nI (n + ((z >>> t) &&& 1)))), (3, .int (nI t)), (1, .int (nI z)), (0, .ref a.1)]) hx hb dX1_zeroCount_22 rfl hl (by decide) rfl (fun ls hl => ?_)
    refine lv_iinc (v := nI (t + 1)) (lv' := [(3, .int (nI (t + 1))), (2, .int (nI (n + ((z >>> t) &&& 1)))), (1, .int (nI z)), (0, .ref a.1)]) hx hb dX1_zeroCount_23 hl (k := 1) rfl (bw_inc t) (by decide) rfl (fun ls hl => ?_)
    refine lv_goto (tgt := 9) hx hb dX1_zeroCount_26 (by decide) ?_
    exact ih9 (n + ((z >>> t) &&& 1), t + 1) _ _ _ (by show 16 - (t + 1) < 16 - t; omega) ⟨by show (t + 1) ≤ 16; omega, by rw [k9_1]; rfl, lv_sub hl [0, 1, 2, 3] rfl, hw⟩
set_option maxHeartbeats 4000000 in
set_option maxRecDepth 100000 in
/-- values -/
theorem mu_values (l : Launch) (D : va_G) (a : bw_A0) (th gn hs ot : Nat → Nat) (pr : Nat) (hth : bb_TH pr th) (hgn : ∀ i, i < 6 → gn i < 65536) (i : Nat) (hi : i < 4) : bw_MI l yX1_values (ws_ yX1_values cX1_values 5 (some .int)) ({ frames := 3, cells := 0, slots := 0, locals := 69 }) D bw_Cl (bw_T1 a) [.ref a.1, .int (nI i)] (bw_W1 a th gn hs ot) (bw_W1 a th gn hs ot) (nI (bb_vals (bb_bs (fun p => bb_zr th gn p 6) 16) i 16)) := by
  refine bw_startI (by decide) (Nat.le_of_ble_eq_true rfl) rfl ?_
  intro p e s m below meth c A Q ls hx hb hml hown hts hA hK hw hl hret
  have hown : s.vm.findClass RX1 = some m.cls := hown
  have hl : lv_has ls 5 [(0, .ref a.1), (1, .int (nI i))] := hl
  obtain ⟨z, hz⟩ : ∃ z, z = bb_bs (fun p => bb_zr th gn p 6) 16 := ⟨_, rfl⟩
  have hz9 : z < 65536 := by rw [hz]; exact bb_bs_lt _ 16
  rw [← hz] at hret
  refine lv_aload_n hx hb dX1_values_0 rfl (lv_at hl 0 rfl) ?_
  refine bw_ownI ⟨hx, hb, hml, hown, hts⟩ [] [] (mu_zeros l D a th gn hs ot pr hth hgn) (cwV 0 hts (lw_V q265 q257 q258 q18 q259) rfl rfl rfl (by decide +kernel) ⟨Nat.le_of_ble_eq_true rfl, Nat.le_of_ble_eq_true rfl⟩) 1 0 rfl rfl hK hA hw rfl hl.1 rfl (Nat.le_of_ble_eq_true rfl) dX1_values_1 ⟨Nat.zero_le _, Nat.zero_le _⟩ (fun H locs hw => ?_)
  refine bw_topn hz.symm ?_
  refine lv_istore_n (lv' := [(2, .int (nI z)), (0, .ref a.1), (1, .int (nI i))]) hx hb dX1_values_4 rfl hl (by decide) rfl (fun ls hl => ?_)
  refine lv_iconst (v := nI 0) hx hb dX1_values_5 (by decide) ?_
  refine lv_istore_n (lv' := [(3, .int (nI 0)), (2, .int (nI z)), (0, .ref a.1), (1, .int (nI i))]) hx hb dX1_values_6 rfl hl (by decide) rfl (fun ls hl => ?_)
  refine lv_iconst (v := nI 0) hx hb dX1_values_7 (by decide) ?_
  refine lv_istore (lv' := [(4, .int (nI 0)), (3, .int (nI 0)), (2, .int (nI z)), (0, .ref a.1), (1, .int (nI i))]) hx hb dX1_values_8 hl (by decide) rfl (fun ls hl => ?_)
  refine bw_loop (pc := 10) (fun (qq : Nat × Nat) ls H locs => qq.2 ≤ 16 ∧ qq.1 = bb_vals z i qq.2 ∧ lv_has ls 5 [(4, .int (nI qq.2)), (3, .int (nI qq.1)), (2, .int (nI z)), (0, .ref a.1), (1, .int (nI i))] ∧ bw_H D bw_Cl A s.heap (bw_W1 a th gn hs ot) H locs) (fun qq => 16 - qq.2) ?_ (0, 0) ⟨Nat.zero_le _, rfl, lv_sub hl [0, 1, 2, 3, 4] rfl, hw⟩
  rintro ⟨n, t⟩ ls H locs ⟨k10_0, k10_1, hl, hw⟩ ih10
  have k10_0 : t ≤ 16 := k10_0
  have k10_1 : n = bb_vals z i t := k10_1
  have hl : lv_has ls 5 [(4, .int (nI t)), (3, .int (nI n)), (2, .int (nI z)), (0, .ref a.1), (1, .int (nI i))] := hl
  have hw : bw_H D bw_Cl A s.heap (bw_W1 a th gn hs ot) H locs := hw
  refine lv_iload hx hb dX1_values_10 (lv_at hl 0 rfl) ?_
  refine lv_bipush (v := nI 16) hx hb dX1_values_12 (by decide) ?_
  refine bw_cge (tgt := 57) hx hb dX1_values_14 (by decide) (by omega) (by omega) (fun c14 => ?_) (fun c14 => ?_)
  · refine lv_iload_n hx hb dX1_values_57 rfl (lv_at hl 1 rfl) ?_
    refine bw_top (y := nI (bb_vals z i 16)) (by rw [k10_1, show t = 16 by omega]) ?_
    exact hret _ _ _ _ hw dX1_values_58
  · refine lv_iload_n hx hb dX1_values_17 rfl (lv_at hl 4 rfl) ?_
    refine bw_lt0n (tgt := 57) hx hb dX1_values_18 (by decide) (by omega) ?_
    refine lv_iload_n hx hb dX1_values_21 rfl (lv_at hl 4 rfl) ?_
    refine lv_iconst (v := nI 3) hx hb dX1_values_22 (by decide) ?_
    refine bw_cgt (tgt := 57) hx hb dX1_values_23 (by decide) (by omega) (by omega) (fun c23 => ?_) (fun c23 => ?_)
    · exact absurd c23 (by omega)
    · refine lv_iload_n hx hb dX1_values_26 rfl (lv_at hl 2 rfl) ?_
      refine lv_iload hx hb dX1_values_27 (lv_at hl 0 rfl) ?_
      refine bw_ishr hx hb dX1_values_29 (by omega) (by omega) ?_
      refine lv_iconst (v := nI 1) hx hb dX1_values_30 (by decide) ?_
      refine bw_iand hx hb dX1_values_31 ?_
      refine lv_iconst (v := nI 1) hx hb dX1_values_32 (by decide) ?_
      refine bw_b1ne (tgt := 49) hx hb dX1_values_33 (by decide) (fun c33 => ?_) (fun c33 => ?_)
      · refine lv_iload_n hx hb dX1_values_49 rfl (lv_at hl 1 rfl) ?_
        refine lv_istore_n (lv' := [(3, .int (nI n)), (4, .int (nI t)), (2, .int (nI z)), (0, .ref a.1), (1, .int (nI i))]) hx hb dX1_values_50 rfl hl (by decide) rfl (fun ls hl => ?_)
        refine lv_iinc (v := nI (t + 1)) (lv' := [(4, .int (nI (t + 1))), (3, .int (nI n)), (2, .int (nI z)), (0, .ref a.1), (1, .int (nI i))]) hx hb dX1_values_51 hl (k := 1) rfl (bw_inc t) (by decide) rfl (fun ls hl => ?_)
        refine lv_goto (tgt := 10) hx hb dX1_values_54 (by decide) ?_
        exact ih10 (n, t + 1) _ _ _ (by show 16 - (t + 1) < 16 - t; omega) ⟨by show (t + 1) ≤ 16; omega, by rw [k10_1]; first | exact (bb_vals_f c33).symm | exact (bb_vals_t c33).symm, lv_sub hl [0, 1, 2, 3, 4] rfl, hw⟩
      · refine lv_iload_n hx hb dX1_values_36 rfl (lv_at hl 1 rfl) ?_
        refine lv_iconst (v := nI 1) hx hb dX1_values_37 (by decide) ?_
        refine lv_iload hx hb dX1_values_38 (lv_at hl 0 rfl) ?_
        refine lv_iload_n hx hb dX1_values_40 rfl (lv_at hl 4 rfl) ?_
        refine bw_ishr hx hb dX1_values_41 (by omega) (by omega) ?_
        refine lv_iconst (v := nI 1) hx hb dX1_values_42 (by decide) ?_
        refine bw_iand hx hb dX1_values_43 ?_
        refine bw_ishl hx hb dX1_values_44 (Nat.lt_of_le_of_lt Nat.and_le_right (by omega)) ?_
        refine bw_ior hx hb dX1_values_45 ?_
        refine lv_goto (tgt := 50) hx hb dX1_values_46 (by decide) ?_
        refine lv_istore_n (lv' := [(3, .int (nI (n ||| (2 ^ ((t >>> i) &&& 1))))), (4, .int (nI t)), (2, .int (nI z)), (0, .ref a.1), (1, .int (nI i))]) hx hb dX1_values_50 rfl hl (by decide) rfl (fun ls hl => ?_)
        refine lv_iinc (v := nI (t + 1)) (lv' := [(4, .int (nI (t + 1))), (3, .int (nI (n ||| (2 ^ ((t >>> i) &&& 1))))), (2, .int (nI z)), (0, .ref a.1), (1, .int (nI i))]) hx hb dX1_values_51 hl (k := 1) rfl (bw_inc t) (by decide) rfl (fun ls hl => ?_)
        refine lv_goto (tgt := 10) hx hb dX1_values_54 (by decide) ?_
        exact ih10 (n ||| (2 ^ ((t >>> i) &&& 1)), t + 1) _ _ _ (by show 16 - (t + 1) < 16 - t; omega) ⟨by show (t + 1) ≤ 16; omega, by rw [k10_1]; first | exact (bb_vals_f c33).symm | exact (bb_vals_t c33).symm, lv_sub hl [0, 1, 2, 3, 4] rfl, hw⟩
set_option maxHeartbeats 4000000 in
set_option maxRecDepth 100000 in
/-- values of no variable -/
theorem mu_valuesX (l : Launch) (D : va_G) (a : bw_A0) (th gn hs ot : Nat → Nat) (pr : Nat) (hth : bb_TH pr th) (hgn : ∀ i, i < 6 → gn i < 65536) (x : Int32) (hbad : ∀ j : Nat, j < 4 → x ≠ nI j) : bw_MI l yX1_values (ws_ yX1_values cX1_values 5 (some .int)) ({ frames := 3, cells := 0, slots := 0, locals := 69 }) D bw_Cl (bw_T1 a) [.ref a.1, .int x] (bw_W1 a th gn hs ot) (bw_W1 a th gn hs ot) (nI 0) := by
  refine bw_startI (by decide) (Nat.le_of_ble_eq_true rfl) rfl ?_
  intro p e s m below meth c A Q ls hx hb hml hown hts hA hK hw hl hret
  have hown : s.vm.findClass RX1 = some m.cls := hown
  have hl : lv_has ls 5 [(0, .ref a.1), (1, .int x)] := hl
  refine lv_aload_n hx hb dX1_values_0 rfl (lv_at hl 0 rfl) ?_
  refine bw_ownI ⟨hx, hb, hml, hown, hts⟩ [] [] (mu_zeros l D a th gn hs ot pr hth hgn) (cwV 0 hts (lw_V q265 q257 q258 q18 q259) rfl rfl rfl (by decide +kernel) ⟨Nat.le_of_ble_eq_true rfl, Nat.le_of_ble_eq_true rfl⟩) 1 0 rfl rfl hK hA hw rfl hl.1 rfl (Nat.le_of_ble_eq_true rfl) dX1_values_1 ⟨Nat.zero_le _, Nat.zero_le _⟩ (fun H locs hw => ?_)
  refine lv_istore_n (lv' := [(2, .int (nI (bb_bs (fun p => bb_zr th gn p 6) 16))), (0, .ref a.1), (1, .int x)]) hx hb dX1_values_4 rfl hl (by decide) rfl (fun ls hl => ?_)
  refine lv_iconst (v := nI 0) hx hb dX1_values_5 (by decide) ?_
  refine lv_istore_n (lv' := [(3, .int (nI 0)), (2, .int (nI (bb_bs (fun p => bb_zr th gn p 6) 16))), (0, .ref a.1), (1, .int x)]) hx hb dX1_values_6 rfl hl (by decide) rfl (fun ls hl => ?_)
  refine lv_iconst (v := nI 0) hx hb dX1_values_7 (by decide) ?_
  refine lv_istore (lv' := [(4, .int (nI 0)), (3, .int (nI 0)), (2, .int (nI (bb_bs (fun p => bb_zr th gn p 6) 16))), (0, .ref a.1), (1, .int x)]) hx hb dX1_values_8 hl (by decide) rfl (fun ls hl => ?_)
  refine lv_iload hx hb dX1_values_10 (lv_at hl 0 rfl) ?_
  refine lv_bipush (v := nI 16) hx hb dX1_values_12 (by decide) ?_
  refine bw_cge (tgt := 57) hx hb dX1_values_14 (by decide) (by omega) (by omega) (fun c14 => ?_) (fun c14 => ?_)
  · exact absurd c14 (by decide)
  · refine lv_iload_n hx hb dX1_values_17 rfl (lv_at hl 4 rfl) ?_
    refine lv_if_lt (tgt := 57) hx hb dX1_values_18 (by decide) (fun c18 => ?_) (fun c18 => ?_)
    · refine lv_iload_n hx hb dX1_values_57 rfl (lv_at hl 1 rfl) ?_
      exact hret _ _ _ _ hw dX1_values_58
    · obtain ⟨j, hj, rfl⟩ := nI_of c18
      refine lv_iload_n hx hb dX1_values_21 rfl (lv_at hl 4 rfl) ?_
      refine lv_iconst (v := nI 3) hx hb dX1_values_22 (by decide) ?_
      refine bw_cgt (tgt := 57) hx hb dX1_values_23 (by decide) (by omega) (by omega) (fun c23 => ?_) (fun c23 => ?_)
      · refine lv_iload_n hx hb dX1_values_57 rfl (lv_at hl 1 rfl) ?_
        exact hret _ _ _ _ hw dX1_values_58
      · exact absurd rfl (hbad j (by omega))
set_option maxHeartbeats 4000000 in
set_option maxRecDepth 100000 in
/-- redundant of one that is there -/
theorem mu_redundant (l : Launch) (D : va_G) (a : bw_A0) (th gn hs ot : Nat → Nat) (pr : Nat) (hth : bb_TH pr th) (hgn : ∀ i, i < 6 → gn i < 65536) (i : Nat) (hi : i < 6) (hbit : pr.testBit i = true) (sel : Nat → Bool) (hsel : ∀ j, j < 6 → (sel j = true ↔ pr.testBit j = true ∧ nI j ≠ nI i)) : bw_MI l yX1_redundant (ws_ yX1_redundant cX1_redundant 2 (some .boolean)) ({ frames := 3, cells := 0, slots := 0, locals := 70 }) D bw_Cl (bw_T1 a) [.ref a.1, .int (nI i)] (bw_W1 a th gn hs ot) (bw_W1 a th gn (bb_wk sel gn hs) ot) (bw_bI (decide (bb_red (bb_wk sel gn hs) (gn i) = 0))) := by
  refine bw_startI (by decide) (Nat.le_of_ble_eq_true rfl) (bw_bI_n _) ?_
  intro p e s m below meth c A Q ls hx hb hml hown hts hA hK hw hl hret
  have hown : s.vm.findClass RX1 = some m.cls := hown
  have hl : lv_has ls 2 [(0, .ref a.1), (1, .int (nI i))] := hl
  have hti := bb_TH_lt hth hi
  have hhs : ∀ m, m < 16 → bb_wk sel gn hs m < 65536 := bb_wk_lt _ _ _
  have hR : bb_red (bb_wk sel gn hs) (gn i) < 65536 := bb_rd_lt hhs (Nat.le_refl 16) (hgn i hi)
  refine lv_iload_n hx hb dX1_redundant_0 rfl (lv_at hl 1 rfl) ?_
  refine bw_lt0n (tgt := 18) hx hb dX1_redundant_1 (by decide) (by omega) ?_
  refine lv_iload_n hx hb dX1_redundant_4 rfl (lv_at hl 1 rfl) ?_
  refine lv_iconst (v := nI 5) hx hb dX1_redundant_5 (by decide) ?_
  refine bw_cgt (tgt := 18) hx hb dX1_redundant_6 (by decide) (by omega) (by omega) (fun c6 => ?_) (fun c6 => ?_)
  · exact absurd c6 (by omega)
  · refine lv_aload_n hx hb dX1_redundant_9 rfl (lv_at hl 0 rfl) ?_
    refine bw_g1_th hx hb hts hown hK hw dX1_redundant_10 ?_
    refine lv_iload_n hx hb dX1_redundant_13 rfl (lv_at hl 1 rfl) ?_
    refine bw_l1_th hx hb hK hw (by omega) dX1_redundant_14 ?_
    refine bw_ne0 (tgt := 20) hx hb dX1_redundant_15 (by decide) (by omega) (fun c15 => ?_) (fun c15 => ?_)
    · refine lv_aload_n hx hb dX1_redundant_20 rfl (lv_at hl 0 rfl) ?_
      refine lv_iload_n hx hb dX1_redundant_21 rfl (lv_at hl 1 rfl) ?_
      refine bw_ownV ⟨hx, hb, hml, hown, hts⟩ [.int (nI i)] [] (mu_work l D a th gn hs ot pr hth hgn (nI i) sel hsel) (cwV 1 hts (lw_V q226 q228 qs11 q18 q229) rfl rfl rfl (by decide +kernel) ⟨Nat.le_of_ble_eq_true rfl, Nat.le_of_ble_eq_true rfl⟩) 1 0 rfl rfl hK hA hw rfl hl.1 rfl (Nat.le_of_ble_eq_true rfl) dX1_redundant_22 ⟨Nat.zero_le _, Nat.zero_le _⟩ (fun H locs hw => ?_)
      refine lv_aload_n hx hb dX1_redundant_25 rfl (lv_at hl 0 rfl) ?_
      refine lv_aload_n hx hb dX1_redundant_26 rfl (lv_at hl 0 rfl) ?_
      refine bw_g1_gn hx hb hts hown hK hw dX1_redundant_27 ?_
      refine lv_iload_n hx hb dX1_redundant_30 rfl (lv_at hl 1 rfl) ?_
      refine bw_l1_gn hx hb hK hw (by omega) dX1_redundant_31 ?_
      refine bw_ownI ⟨hx, hb, hml, hown, hts⟩ [.int (nI (gn i))] [] (mu_reduce l D a th gn (bb_wk sel gn hs) ot hhs (gn i) (hgn i hi)) (cwV 1 hts (lw_V q235 q237 qs13 q18 q238) rfl rfl rfl (by decide +kernel) ⟨Nat.le_of_ble_eq_true rfl, Nat.le_of_ble_eq_true rfl⟩) 1 0 rfl rfl hK hA hw rfl hl.1 rfl (Nat.le_of_ble_eq_true rfl) dX1_redundant_32 ⟨Nat.zero_le _, Nat.zero_le _⟩ (fun H locs hw => ?_)
      refine bw_ne0 (tgt := 42) hx hb dX1_redundant_35 (by decide) (by omega) (fun c35 => ?_) (fun c35 => ?_)
      · refine lv_iconst (v := nI 0) hx hb dX1_redundant_42 (by decide) ?_
        refine bw_top (y := bw_bI (decide (bb_red (bb_wk sel gn hs) (gn i) = 0))) (by first | (rw [decide_eq_true c35]; rfl) | (rw [decide_eq_false c35]; rfl)) ?_
        exact hret _ _ _ _ hw dX1_redundant_43
      · refine lv_iconst (v := nI 1) hx hb dX1_redundant_38 (by decide) ?_
        refine lv_goto (tgt := 43) hx hb dX1_redundant_39 (by decide) ?_
        refine bw_top (y := bw_bI (decide (bb_red (bb_wk sel gn hs) (gn i) = 0))) (by first | (rw [decide_eq_true c35]; rfl) | (rw [decide_eq_false c35]; rfl)) ?_
        exact hret _ _ _ _ hw dX1_redundant_43
    · rw [bb_TH_0 hth hi c15] at hbit; cases hbit
set_option maxHeartbeats 4000000 in
set_option maxRecDepth 100000 in
/-- redundant of one that is not there -/
theorem mu_redundant0 (l : Launch) (D : va_G) (a : bw_A0) (th gn hs ot : Nat → Nat) (pr : Nat) (hth : bb_TH pr th) (i : Nat) (hi : i < 6) (hbit : pr.testBit i = false) : bw_MI l yX1_redundant (ws_ yX1_redundant cX1_redundant 2 (some .boolean)) ({ frames := 3, cells := 0, slots := 0, locals := 70 }) D bw_Cl (bw_T1 a) [.ref a.1, .int (nI i)] (bw_W1 a th gn hs ot) (bw_W1 a th gn hs ot) (nI 0) := by
  refine bw_startI (by decide) (Nat.le_of_ble_eq_true rfl) (by decide +kernel) ?_
  intro p e s m below meth c A Q ls hx hb hml hown hts hA hK hw hl hret
  have hown : s.vm.findClass RX1 = some m.cls := hown
  have hl : lv_has ls 2 [(0, .ref a.1), (1, .int (nI i))] := hl
  have hti := bb_TH_lt hth hi
  refine lv_iload_n hx hb dX1_redundant_0 rfl (lv_at hl 1 rfl) ?_
  refine bw_lt0n (tgt := 18) hx hb dX1_redundant_1 (by decide) (by omega) ?_
  refine lv_iload_n hx hb dX1_redundant_4 rfl (lv_at hl 1 rfl) ?_
  refine lv_iconst (v := nI 5) hx hb dX1_redundant_5 (by decide) ?_
  refine bw_cgt (tgt := 18) hx hb dX1_redundant_6 (by decide) (by omega) (by omega) (fun c6 => ?_) (fun c6 => ?_)
  · exact absurd c6 (by omega)
  · refine lv_aload_n hx hb dX1_redundant_9 rfl (lv_at hl 0 rfl) ?_
    refine bw_g1_th hx hb hts hown hK hw dX1_redundant_10 ?_
    refine lv_iload_n hx hb dX1_redundant_13 rfl (lv_at hl 1 rfl) ?_
    refine bw_l1_th hx hb hK hw (by omega) dX1_redundant_14 ?_
    refine bw_ne0 (tgt := 20) hx hb dX1_redundant_15 (by decide) (by omega) (fun c15 => ?_) (fun c15 => ?_)
    · rw [bb_TH_1 hth hi c15] at hbit; cases hbit
    · refine lv_iconst (v := nI 0) hx hb dX1_redundant_18 (by decide) ?_
      exact hret _ _ _ _ hw dX1_redundant_19
set_option maxHeartbeats 4000000 in
set_option maxRecDepth 100000 in
/-- redundant out of range -/
theorem mu_redundantX (l : Launch) (D : va_G) (a : bw_A0) (th gn hs ot : Nat → Nat) (x : Int32) (hbad : ∀ j : Nat, j < 6 → x ≠ nI j) : bw_MI l yX1_redundant (ws_ yX1_redundant cX1_redundant 2 (some .boolean)) ({ frames := 3, cells := 0, slots := 0, locals := 70 }) D bw_Cl (bw_T1 a) [.ref a.1, .int x] (bw_W1 a th gn hs ot) (bw_W1 a th gn hs ot) (nI 0) := by
  refine bw_startI (by decide) (Nat.le_of_ble_eq_true rfl) (by decide +kernel) ?_
  intro p e s m below meth c A Q ls hx hb hml hown hts hA hK hw hl hret
  have hown : s.vm.findClass RX1 = some m.cls := hown
  have hl : lv_has ls 2 [(0, .ref a.1), (1, .int x)] := hl
  refine lv_iload_n hx hb dX1_redundant_0 rfl (lv_at hl 1 rfl) ?_
  refine lv_if_lt (tgt := 18) hx hb dX1_redundant_1 (by decide) (fun c1 => ?_) (fun c1 => ?_)
  · refine lv_iconst (v := nI 0) hx hb dX1_redundant_18 (by decide) ?_
    exact hret _ _ _ _ hw dX1_redundant_19
  · obtain ⟨j, hj, rfl⟩ := nI_of c1
    refine lv_iload_n hx hb dX1_redundant_4 rfl (lv_at hl 1 rfl) ?_
    refine lv_iconst (v := nI 5) hx hb dX1_redundant_5 (by decide) ?_
    refine bw_cgt (tgt := 18) hx hb dX1_redundant_6 (by decide) (by omega) (by omega) (fun c6 => ?_) (fun c6 => ?_)
    · refine lv_iconst (v := nI 0) hx hb dX1_redundant_18 (by decide) ?_
      exact hret _ _ _ _ hw dX1_redundant_19
    · exact absurd rfl (hbad j (by omega))
set_option maxHeartbeats 4000000 in
set_option maxRecDepth 100000 in
/-- independent -/
theorem mu_independent (l : Launch) (D : va_G) (a : bw_A0) (th gn hs ot : Nat → Nat) (hot : ∀ m, m < 16 → ot m < 65536) (f : Nat) (hf : f < 65536) : bw_MI l yX1_independent (ws_ yX1_independent cX1_independent 4 (some .boolean)) ({ frames := 0, cells := 0, slots := 0, locals := 0 }) D bw_Cl (bw_T1 a) [.ref a.1, .int (nI f)] (bw_W1 a th gn hs ot) (bw_W1 a th gn hs ((bb_ind ot 16 f).getD ot)) (bw_bI (bb_ind ot 16 f).isSome) := by
  refine bw_startI (by decide) (Nat.le_of_ble_eq_true rfl) (bw_bI_n _) ?_
  intro p e s m below meth c A Q ls hx hb hml hown hts hA hK hw hl hret
  have hown : s.vm.findClass RX1 = some m.cls := hown
  have hl : lv_has ls 4 [(0, .ref a.1), (1, .int (nI f))] := hl
  refine lv_iload_n hx hb dX1_independent_0 rfl (lv_at hl 1 rfl) ?_
  refine lv_istore_n (lv' := [(2, .int (nI f)), (0, .ref a.1), (1, .int (nI f))]) hx hb dX1_independent_1 rfl hl (by decide) rfl (fun ls hl => ?_)
  refine lv_bipush (v := nI 15) hx hb dX1_independent_2 (by decide) ?_
  refine lv_istore_n (lv' := [(3, .int (nI 15)), (2, .int (nI f)), (0, .ref a.1), (1, .int (nI f))]) hx hb dX1_independent_4 rfl hl (by decide) rfl (fun ls hl => ?_)
  have hl : lv_has ls 4 [(3, .int (bw_dn 16)), (2, .int (nI f)), (0, .ref a.1), (1, .int (nI f))] := by rw [show bw_dn 16 = nI 15 from bw_dn_s 15]; exact hl
  refine bw_loop (pc := 5) (fun (qq : Nat × Nat) ls H locs => qq.2 ≤ 16 ∧ qq.1 < 65536 ∧ bb_ind ot qq.2 qq.1 = bb_ind ot 16 f ∧ lv_has ls 4 [(3, .int (bw_dn qq.2)), (2, .int (nI qq.1)), (0, .ref a.1), (1, .int (nI f))] ∧ bw_H D bw_Cl A s.heap (bw_W1 a th gn hs ot) H locs) (fun qq => qq.2) ?_ (f, 16) ⟨Nat.le_refl _, hf, rfl, lv_sub hl [0, 1, 2, 3] rfl, hw⟩
  rintro ⟨r, k⟩ ls H locs ⟨k5_0, k5_1, k5_2, hl, hw⟩ ih5
  have k5_0 : k ≤ 16 := k5_0
  have k5_1 : r < 65536 := k5_1
  have k5_2 : bb_ind ot k r = bb_ind ot 16 f := k5_2
  have hl : lv_has ls 4 [(3, .int (bw_dn k)), (2, .int (nI r)), (0, .ref a.1), (1, .int (nI f))] := hl
  have hw : bw_H D bw_Cl A s.heap (bw_W1 a th gn hs ot) H locs := hw
  rcases Nat.eq_zero_or_pos k with z0 | z0
  · subst z0
    refine lv_iload_n hx hb dX1_independent_5 rfl (lv_at hl 0 rfl) ?_
    refine bw_lt0y (tgt := 51) hx hb dX1_independent_6 (by decide) bw_dn_0 ?_
    refine lv_iconst (v := nI 0) hx hb dX1_independent_51 (by decide) ?_
    rw [← k5_2] at hret
    exact hret _ _ _ _ hw dX1_independent_52
  · obtain ⟨k', rfl⟩ : ∃ z, k = z + 1 := ⟨k - 1, by omega⟩
    rw [bw_dn_s] at hl
    refine lv_iload_n hx hb dX1_independent_5 rfl (lv_at hl 0 rfl) ?_
    refine bw_lt0n (tgt := 51) hx hb dX1_independent_6 (by decide) (by omega) ?_
    refine lv_iload_n hx hb dX1_independent_9 rfl (lv_at hl 1 rfl) ?_
    refine lv_iload_n hx hb dX1_independent_10 rfl (lv_at hl 0 rfl) ?_
    refine bw_ishr hx hb dX1_independent_11 (by omega) (by omega) ?_
    refine lv_iconst (v := nI 1) hx hb dX1_independent_12 (by decide) ?_
    refine bw_iand hx hb dX1_independent_13 ?_
    refine lv_iconst (v := nI 1) hx hb dX1_independent_14 (by decide) ?_
    refine bw_b1ne (tgt := 45) hx hb dX1_independent_15 (by decide) (fun c15 => ?_) (fun c15 => ?_)
    · refine lv_iinc (v := bw_dn k') (lv' := [(3, .int (bw_dn k')), (2, .int (nI r)), (0, .ref a.1), (1, .int (nI f))]) hx hb dX1_independent_45 hl (k := 0) rfl (bw_dec k') (by decide) rfl (fun ls hl => ?_)
      refine lv_goto (tgt := 5) hx hb dX1_independent_48 (by decide) ?_
      exact ih5 (r, k') _ _ _ (by show k' < (k' + 1); omega) ⟨by show k' ≤ 16; omega, by first | exact k5_1 | exact bb_x16 k5_1 hb9, by first | exact (bb_ind_f c15).symm.trans k5_2 | exact (bb_ind_g c15 c24).symm.trans k5_2, lv_sub hl [0, 1, 2, 3] rfl, hw⟩
    · have hb9 := hot k' (by omega)
      refine lv_aload_n hx hb dX1_independent_18 rfl (lv_at hl 2 rfl) ?_
      refine bw_g1_ot hx hb hts hown hK hw dX1_independent_19 ?_
      refine lv_iload_n hx hb dX1_independent_22 rfl (lv_at hl 0 rfl) ?_
      refine bw_l1_ot hx hb hK hw (by omega) dX1_independent_23 ?_
      refine bw_ne0 (tgt := 36) hx hb dX1_independent_24 (by decide) (by omega) (fun c24 => ?_) (fun c24 => ?_)
      · refine lv_iload_n hx hb dX1_independent_36 rfl (lv_at hl 1 rfl) ?_
        refine lv_aload_n hx hb dX1_independent_37 rfl (lv_at hl 2 rfl) ?_
        refine bw_g1_ot hx hb hts hown hK hw dX1_independent_38 ?_
        refine lv_iload_n hx hb dX1_independent_41 rfl (lv_at hl 0 rfl) ?_
        refine bw_l1_ot hx hb hK hw (by omega) dX1_independent_42 ?_
        refine bw_ixor hx hb dX1_independent_43 ?_
        refine lv_istore_n (lv' := [(2, .int (nI (r ^^^ (ot k')))), (3, .int (nI k')), (0, .ref a.1), (1, .int (nI f))]) hx hb dX1_independent_44 rfl hl (by decide) rfl (fun ls hl => ?_)
        refine lv_iinc (v := bw_dn k') (lv' := [(3, .int (bw_dn k')), (2, .int (nI (r ^^^ (ot k')))), (0, .ref a.1), (1, .int (nI f))]) hx hb dX1_independent_45 hl (k := 1) rfl (bw_dec k') (by decide) rfl (fun ls hl => ?_)
        refine lv_goto (tgt := 5) hx hb dX1_independent_48 (by decide) ?_
        exact ih5 (r ^^^ (ot k'), k') _ _ _ (by show k' < (k' + 1); omega) ⟨by show k' ≤ 16; omega, by first | exact k5_1 | exact bb_x16 k5_1 hb9, by first | exact (bb_ind_f c15).symm.trans k5_2 | exact (bb_ind_g c15 c24).symm.trans k5_2, lv_sub hl [0, 1, 2, 3] rfl, hw⟩
      · refine lv_aload_n hx hb dX1_independent_27 rfl (lv_at hl 2 rfl) ?_
        refine bw_g1_ot hx hb hts hown hK hw dX1_independent_28 ?_
        refine lv_iload_n hx hb dX1_independent_31 rfl (lv_at hl 0 rfl) ?_
        refine lv_iload_n hx hb dX1_independent_32 rfl (lv_at hl 1 rfl) ?_
        refine bw_s1_ot hx hb hK hw (by omega) dX1_independent_33 (fun H locs hw => ?_)
        refine lv_iconst (v := nI 1) hx hb dX1_independent_34 (by decide) ?_
        rw [← k5_2, bb_ind_s c15 c24] at hret
        exact hret _ _ _ _ hw dX1_independent_35
set_option maxHeartbeats 4000000 in
set_option maxRecDepth 100000 in
/-- relates -/
theorem mu_relates (l : Launch) (D : va_G) (a : bw_A0) (th gn hs ot : Nat → Nat) (pr : Nat) (hth : bb_TH pr th) (hgn : ∀ i, i < 6 → gn i < 65536) (h9 : Nat → Nat) (hh9 : bb_wk (fun i => pr.testBit i) gn hs = h9) (u : Nat) (hu : u < 16) : bw_MI l yX1_relates (ws_ yX1_relates cX1_relates 4 (some .boolean)) ({ frames := 3, cells := 0, slots := 0, locals := 70 }) D bw_Cl (bw_T1 a) [.ref a.1, .int (nI u)] (bw_W1 a th gn hs ot) (bw_W1 a th gn h9 ((bb_rel h9 u (bb_clr ot 16) 16).2)) (bw_bI (bb_rel h9 u (bb_clr ot 16) 16).1) := by
  refine bw_startI (by decide) (Nat.le_of_ble_eq_true rfl) (bw_bI_n _) ?_
  intro p e s m below meth c A Q ls hx hb hml hown hts hA hK hw hl hret
  have hown : s.vm.findClass RX1 = some m.cls := hown
  have hl : lv_has ls 4 [(0, .ref a.1), (1, .int (nI u))] := hl
  have hhs : ∀ m, m < 16 → h9 m < 65536 := by rw [← hh9]; exact bb_wk_lt _ _ _
  refine lv_iload_n hx hb dX1_relates_0 rfl (lv_at hl 1 rfl) ?_
  refine bw_lt0n (tgt := 10) hx hb dX1_relates_1 (by decide) (by omega) ?_
  refine lv_iload_n hx hb dX1_relates_4 rfl (lv_at hl 1 rfl) ?_
  refine lv_bipush (v := nI 15) hx hb dX1_relates_5 (by decide) ?_
  refine bw_cle (tgt := 12) hx hb dX1_relates_7 (by decide) (by omega) (by omega) (fun c7 => ?_) (fun c7 => ?_)
  · refine lv_aload_n hx hb dX1_relates_12 rfl (lv_at hl 0 rfl) ?_
    refine lv_iconst (v := -1) hx hb dX1_relates_13 (by decide) ?_
    refine bw_ownV ⟨hx, hb, hml, hown, hts⟩ [.int ((-1))] [] (mu_workA l D a th gn hs ot pr hth hgn h9 hh9) (cwV 1 hts (lw_V q226 q228 qs11 q18 q229) rfl rfl rfl (by decide +kernel) ⟨Nat.le_of_ble_eq_true rfl, Nat.le_of_ble_eq_true rfl⟩) 1 0 rfl rfl hK hA hw rfl hl.1 rfl (Nat.le_of_ble_eq_true rfl) dX1_relates_14 ⟨Nat.zero_le _, Nat.zero_le _⟩ (fun H locs hw => ?_)
    refine lv_iconst (v := nI 0) hx hb dX1_relates_17 (by decide) ?_
    refine lv_istore_n (lv' := [(2, .int (nI 0)), (0, .ref a.1), (1, .int (nI u))]) hx hb dX1_relates_18 rfl hl (by decide) rfl (fun ls hl => ?_)
    refine bw_loop (pc := 19) (fun (qq : (Nat → Nat) × Nat) ls H locs => qq.2 ≤ 16 ∧ bb_clr ot qq.2 = qq.1 ∧ lv_has ls 4 [(2, .int (nI qq.2)), (0, .ref a.1), (1, .int (nI u))] ∧ bw_H D bw_Cl A s.heap (bw_W1 a th gn h9 qq.1) H locs) (fun qq => 16 - qq.2) ?_ (ot, 0) ⟨Nat.zero_le _, rfl, lv_sub hl [0, 1, 2] rfl, hw⟩
    rintro ⟨o, i⟩ ls H locs ⟨k19_0, k19_1, hl, hw⟩ ih19
    have k19_0 : i ≤ 16 := k19_0
    have k19_1 : bb_clr ot i = o := k19_1
    have hl : lv_has ls 4 [(2, .int (nI i)), (0, .ref a.1), (1, .int (nI u))] := hl
    have hw : bw_H D bw_Cl A s.heap (bw_W1 a th gn h9 o) H locs := hw
    refine lv_iload_n hx hb dX1_relates_19 rfl (lv_at hl 0 rfl) ?_
    refine lv_bipush (v := nI 16) hx hb dX1_relates_20 (by decide) ?_
    refine bw_cge (tgt := 38) hx hb dX1_relates_22 (by decide) (by omega) (by omega) (fun c22 => ?_) (fun c22 => ?_)
    · refine lv_iconst (v := nI 0) hx hb dX1_relates_38 (by decide) ?_
      refine lv_istore_n (lv' := [(2, .int (nI 0)), (0, .ref a.1), (1, .int (nI u))]) hx hb dX1_relates_39 rfl hl (by decide) rfl (fun ls hl => ?_)
      refine lv_iconst (v := nI 0) hx hb dX1_relates_40 (by decide) ?_
      refine lv_istore_n (lv' := [(3, .int (nI 0)), (2, .int (nI 0)), (0, .ref a.1), (1, .int (nI u))]) hx hb dX1_relates_41 rfl hl (by decide) rfl (fun ls hl => ?_)
      refine bw_loop (pc := 42) (fun (qq : (Nat → Nat) × Bool × Nat) ls H locs => qq.2.2 ≤ 16 ∧ bb_rel h9 u (bb_clr ot 16) qq.2.2 = (qq.2.1, qq.1) ∧ (∀ m, m < 16 → qq.1 m < 65536) ∧ lv_has ls 4 [(3, .int (nI qq.2.2)), (2, .int (bw_bI qq.2.1)), (0, .ref a.1), (1, .int (nI u))] ∧ bw_H D bw_Cl A s.heap (bw_W1 a th gn h9 qq.1) H locs) (fun qq => 16 - qq.2.2) ?_ (o, false, 0) ⟨Nat.zero_le _, by rw [← k19_1, show i = 16 by omega]; rfl, by rw [← k19_1, show i = 16 by omega]; exact bb_clr_lt ot, lv_sub hl [0, 1, 2, 3] rfl, hw⟩
      rintro ⟨o, b, t⟩ ls H locs ⟨k42_0, k42_1, k42_2, hl, hw⟩ ih42
      have k42_0 : t ≤ 16 := k42_0
      have k42_1 : bb_rel h9 u (bb_clr ot 16) t = (b, o) := k42_1
      have k42_2 : ∀ m, m < 16 → o m < 65536 := k42_2
      have hl : lv_has ls 4 [(3, .int (nI t)), (2, .int (bw_bI b)), (0, .ref a.1), (1, .int (nI u))] := hl
      have hw : bw_H D bw_Cl A s.heap (bw_W1 a th gn h9 o) H locs := hw
      refine lv_iload_n hx hb dX1_relates_42 rfl (lv_at hl 0 rfl) ?_
      refine lv_bipush (v := nI 16) hx hb dX1_relates_43 (by decide) ?_
      refine bw_cge (tgt := 86) hx hb dX1_relates_45 (by decide) (by omega) (by omega) (fun c45 => ?_) (fun c45 => ?_)
      · refine lv_iload_n hx hb dX1_relates_86 rfl (lv_at hl 1 rfl) ?_
        rw [show t = 16 by omega] at k42_1
        rw [k42_1] at hret
        exact hret _ _ _ _ hw dX1_relates_87
      · refine lv_iload_n hx hb dX1_relates_48 rfl (lv_at hl 0 rfl) ?_
        refine lv_iload_n hx hb dX1_relates_49 rfl (lv_at hl 3 rfl) ?_
        refine lv_iconst (v := nI 4294967295) hx hb dX1_relates_50 (by decide) ?_
        refine bw_ixor hx hb dX1_relates_51 ?_
        refine bw_iand hx hb dX1_relates_52 ?_
        refine bw_sne (tgt := 80) hx hb dX1_relates_53 (by decide) (by omega) (by omega) (fun c53 => ?_) (fun c53 => ?_)
        · refine lv_iinc (v := nI (t + 1)) (lv' := [(3, .int (nI (t + 1))), (2, .int (bw_bI b)), (0, .ref a.1), (1, .int (nI u))]) hx hb dX1_relates_80 hl (k := 0) rfl (bw_inc t) (by decide) rfl (fun ls hl => ?_)
          refine lv_goto (tgt := 42) hx hb dX1_relates_83 (by decide) ?_
          exact ih42 (o, b, t + 1) _ _ _ (by show 16 - (t + 1) < 16 - t; omega) ⟨by show (t + 1) ≤ 16; omega, by first | exact (bb_rel_n c53).trans k42_1 | exact bb_rel_i0 c53 (by rw [k42_1, c57]) c71 | exact bb_rel_i1 c53 (by rw [k42_1, c57]) c71 | exact bb_rel_y c53 (by rw [k42_1, c57]), by first | exact k42_2 | exact bb_ind_gd k42_2 (bb_rd_lt hhs (Nat.le_refl 16) (bb_p16 (by omega))), lv_sub hl [0, 1, 2, 3] rfl, hw⟩
        · refine lv_iload_n hx hb dX1_relates_56 rfl (lv_at hl 1 rfl) ?_
          refine bw_fnz (tgt := 74) hx hb dX1_relates_57 (by decide) (fun c57 => ?_) (fun c57 => ?_)
          · refine lv_iconst (v := nI 1) hx hb dX1_relates_74 (by decide) ?_
            refine lv_goto (tgt := 79) hx hb dX1_relates_75 (by decide) ?_
            refine lv_istore_n (lv' := [(2, .int (nI 1)), (3, .int (nI t)), (0, .ref a.1), (1, .int (nI u))]) hx hb dX1_relates_79 rfl hl (by decide) rfl (fun ls hl => ?_)
            refine lv_iinc (v := nI (t + 1)) (lv' := [(3, .int (nI (t + 1))), (2, .int (nI 1)), (0, .ref a.1), (1, .int (nI u))]) hx hb dX1_relates_80 hl (k := 1) rfl (bw_inc t) (by decide) rfl (fun ls hl => ?_)
            refine lv_goto (tgt := 42) hx hb dX1_relates_83 (by decide) ?_
            exact ih42 (o, true, t + 1) _ _ _ (by show 16 - (t + 1) < 16 - t; omega) ⟨by show (t + 1) ≤ 16; omega, by first | exact (bb_rel_n c53).trans k42_1 | exact bb_rel_i0 c53 (by rw [k42_1, c57]) c71 | exact bb_rel_i1 c53 (by rw [k42_1, c57]) c71 | exact bb_rel_y c53 (by rw [k42_1, c57]), by first | exact k42_2 | exact bb_ind_gd k42_2 (bb_rd_lt hhs (Nat.le_refl 16) (bb_p16 (by omega))), lv_sub hl [0, 1, 2, 3] rfl, hw⟩
          · refine lv_aload_n hx hb dX1_relates_60 rfl (lv_at hl 2 rfl) ?_
            refine lv_aload_n hx hb dX1_relates_61 rfl (lv_at hl 2 rfl) ?_
            refine lv_iconst (v := nI 1) hx hb dX1_relates_62 (by decide) ?_
            refine lv_iload_n hx hb dX1_relates_63 rfl (lv_at hl 0 rfl) ?_
            refine bw_ishl hx hb dX1_relates_64 (by omega) ?_
            refine bw_ownI ⟨hx, hb, hml, hown, hts⟩ [.int (nI (2 ^ t))] [.ref a.1] (mu_reduce l D a th gn h9 o hhs (2 ^ t) (bb_p16 (by omega))) (cwV 1 hts (lw_V q235 q237 qs13 q18 q238) rfl rfl rfl (by decide +kernel) ⟨Nat.le_of_ble_eq_true rfl, Nat.le_of_ble_eq_true rfl⟩) 1 0 rfl rfl hK hA hw rfl hl.1 rfl (Nat.le_of_ble_eq_true rfl) dX1_relates_65 ⟨Nat.zero_le _, Nat.zero_le _⟩ (fun H locs hw => ?_)
            refine bw_ownI ⟨hx, hb, hml, hown, hts⟩ [.int (nI (bb_red h9 (2 ^ t)))] [] (mu_independent l D a th gn h9 o k42_2 (bb_red h9 (2 ^ t)) (bb_rd_lt hhs (Nat.le_refl 16) (bb_p16 (by omega)))) (cwV 1 hts (lw_V q278 q280 qs15 q18 q281) rfl rfl rfl (by decide +kernel) ⟨Nat.le_of_ble_eq_true rfl, Nat.le_of_ble_eq_true rfl⟩) 1 0 rfl rfl hK hA hw rfl hl.1 rfl (Nat.le_of_ble_eq_true rfl) dX1_relates_68 ⟨Nat.zero_le _, Nat.zero_le _⟩ (fun H locs hw => ?_)
            refine bw_fnz (tgt := 78) hx hb dX1_relates_71 (by decide) (fun c71 => ?_) (fun c71 => ?_)
            · refine lv_iconst (v := nI 0) hx hb dX1_relates_78 (by decide) ?_
              refine lv_istore_n (lv' := [(2, .int (nI 0)), (3, .int (nI t)), (0, .ref a.1), (1, .int (nI u))]) hx hb dX1_relates_79 rfl hl (by decide) rfl (fun ls hl => ?_)
              refine lv_iinc (v := nI (t + 1)) (lv' := [(3, .int (nI (t + 1))), (2, .int (nI 0)), (0, .ref a.1), (1, .int (nI u))]) hx hb dX1_relates_80 hl (k := 1) rfl (bw_inc t) (by decide) rfl (fun ls hl => ?_)
              refine lv_goto (tgt := 42) hx hb dX1_relates_83 (by decide) ?_
              exact ih42 ((bb_ind o 16 (bb_red h9 (2 ^ t))).getD o, false, t + 1) _ _ _ (by show 16 - (t + 1) < 16 - t; omega) ⟨by show (t + 1) ≤ 16; omega, by first | exact (bb_rel_n c53).trans k42_1 | exact bb_rel_i0 c53 (by rw [k42_1, c57]) c71 | exact bb_rel_i1 c53 (by rw [k42_1, c57]) c71 | exact bb_rel_y c53 (by rw [k42_1, c57]), by first | exact k42_2 | exact bb_ind_gd k42_2 (bb_rd_lt hhs (Nat.le_refl 16) (bb_p16 (by omega))), lv_sub hl [0, 1, 2, 3] rfl, hw⟩
            · refine lv_iconst (v := nI 1) hx hb dX1_relates_74 (by decide) ?_
              refine lv_goto (tgt := 79) hx hb dX1_relates_75 (by decide) ?_
              refine lv_istore_n (lv' := [(2, .int (nI 1)), (3, .int (nI t)), (0, .ref a.1), (1, .int (nI u))]) hx hb dX1_relates_79 rfl hl (by decide) rfl (fun ls hl => ?_)
              refine lv_iinc (v := nI (t + 1)) (lv' := [(3, .int (nI (t + 1))), (2, .int (nI 1)), (0, .ref a.1), (1, .int (nI u))]) hx hb dX1_relates_80 hl (k := 1) rfl (bw_inc t) (by decide) rfl (fun ls hl => ?_)
              refine lv_goto (tgt := 42) hx hb dX1_relates_83 (by decide) ?_
              exact ih42 ((bb_ind o 16 (bb_red h9 (2 ^ t))).getD o, true, t + 1) _ _ _ (by show 16 - (t + 1) < 16 - t; omega) ⟨by show (t + 1) ≤ 16; omega, by first | exact (bb_rel_n c53).trans k42_1 | exact bb_rel_i0 c53 (by rw [k42_1, c57]) c71 | exact bb_rel_i1 c53 (by rw [k42_1, c57]) c71 | exact bb_rel_y c53 (by rw [k42_1, c57]), by first | exact k42_2 | exact bb_ind_gd k42_2 (bb_rd_lt hhs (Nat.le_refl 16) (bb_p16 (by omega))), lv_sub hl [0, 1, 2, 3] rfl, hw⟩
    · refine lv_aload_n hx hb dX1_relates_25 rfl (lv_at hl 1 rfl) ?_
      refine bw_g1_ot hx hb hts hown hK hw dX1_relates_26 ?_
      refine lv_iload_n hx hb dX1_relates_29 rfl (lv_at hl 0 rfl) ?_
      refine lv_iconst (v := nI 0) hx hb dX1_relates_30 (by decide) ?_
      refine bw_s1_ot hx hb hK hw (by omega) dX1_relates_31 (fun H locs hw => ?_)
      refine lv_iinc (v := nI (i + 1)) (lv' := [(2, .int (nI (i + 1))), (0, .ref a.1), (1, .int (nI u))]) hx hb dX1_relates_32 hl (k := 0) rfl (bw_inc i) (by decide) rfl (fun ls hl => ?_)
      refine lv_goto (tgt := 19) hx hb dX1_relates_35 (by decide) ?_
      exact ih19 (va_up o i 0, i + 1) _ _ _ (by show 16 - (i + 1) < 16 - i; omega) ⟨by show (i + 1) ≤ 16; omega, by show va_up (bb_clr ot i) i 0 = _; rw [k19_1], lv_sub hl [0, 1, 2] rfl, hw⟩
  · exact absurd c7 (by omega)
set_option maxHeartbeats 4000000 in
set_option maxRecDepth 100000 in
/-- relates, no set of variables -/
theorem mu_relatesX (l : Launch) (D : va_G) (a : bw_A0) (th gn hs ot : Nat → Nat) (x : Int32) (hbad : ∀ j : Nat, j < 16 → x ≠ nI j) : bw_MI l yX1_relates (ws_ yX1_relates cX1_relates 4 (some .boolean)) ({ frames := 3, cells := 0, slots := 0, locals := 70 }) D bw_Cl (bw_T1 a) [.ref a.1, .int x] (bw_W1 a th gn hs ot) (bw_W1 a th gn hs ot) (nI 0) := by
  refine bw_startI (by decide) (Nat.le_of_ble_eq_true rfl) (by decide +kernel) ?_
  intro p e s m below meth c A Q ls hx hb hml hown hts hA hK hw hl hret
  have hown : s.vm.findClass RX1 = some m.cls := hown
  have hl : lv_has ls 4 [(0, .ref a.1), (1, .int x)] := hl
  refine lv_iload_n hx hb dX1_relates_0 rfl (lv_at hl 1 rfl) ?_
  refine lv_if_lt (tgt := 10) hx hb dX1_relates_1 (by decide) (fun c1 => ?_) (fun c1 => ?_)
  · refine lv_iconst (v := nI 0) hx hb dX1_relates_10 (by decide) ?_
    exact hret _ _ _ _ hw dX1_relates_11
  · obtain ⟨j, hj, rfl⟩ := nI_of c1
    refine lv_iload_n hx hb dX1_relates_4 rfl (lv_at hl 1 rfl) ?_
    refine lv_bipush (v := nI 15) hx hb dX1_relates_5 (by decide) ?_
    refine bw_cle (tgt := 12) hx hb dX1_relates_7 (by decide) (by omega) (by omega) (fun c7 => ?_) (fun c7 => ?_)
    · exact absurd rfl (hbad j (by omega))
    · refine lv_iconst (v := nI 0) hx hb dX1_relates_10 (by decide) ?_
      exact hret _ _ _ _ hw dX1_relates_11
end
section
/-! WALKS 32: the two constructors -/
def bw_z : Nat → Nat := fun _ => 0
/-- a new object of the class, a new one of the reference -/
def bw_N0 (h0 : Nat) : va_W := [(h0, .inr (0, [.int (nI 0), .null, .int (nI 0), .int (nI 0), .null, .null, .int (nI 0), .null, .int (nI 0), .int (nI 0)]))]
def bw_N1 (h0 : Nat) : va_W := [(h0, .inr (1, [.null, .null, .null, .null]))]
set_option maxHeartbeats 4000000 in
set_option maxRecDepth 100000 in
/-- the constructor: four new arrays of zeros -/
theorem mt_init (l : Launch) (D : va_G) (h0 sz : Nat) : Met l yX0_init (ws_ yX0_init cX0_init 1 none) ({ frames := 1, cells := 4, slots := 86, locals := 12 }) (va_Pc [.ref h0] (fun U => U.heap.size = sz ∧ va_P D bw_Cl (bw_N0 h0) U.heap ∧ va_K D bw_Cl [] U ∧ va_D (fun _ => True) (bw_N0 h0))) (va_Qv (fun a : bw_A0 => a.1 = h0) (fun a t => va_P D bw_Cl (bw_W0 a 0 bw_z 0 0 bw_z bw_z 0 bw_z 0 0) t.heap ∧ va_K D bw_Cl (bw_T0 a) t ∧ va_D (va_A (bw_N0 h0) sz) (bw_W0 a 0 bw_z 0 0 bw_z bw_z 0 bw_z 0 0)) (va_A (bw_N0 h0) sz)) 4 86 (va_A (bw_N0 h0) sz) := by
  refine Met.ofW (cc := cX0_init) (maxL := 1) (ret := none) (by decide) rfl ?_
  intro p e s m args below meth c s₁ B hml hv
  obtain ⟨rfl, hsz, hP, hK, hD0⟩ := hv
  have hx := B.exec
  have hb := B.bytes
  have hr := B.returns
  have hts := atoms_spec (ws := ws_ yX0_init cX0_init 1 none) B.pre
  have hts : ∀ w ∈ lw_all, w.before _ s = true := fun w h => hts w (List.mem_cons_of_mem _ h)
  have hown : s.vm.findClass RX0 = some m.cls := findClass_of_methodNamed B.named
  have hlocks := B.notSynchronized
  have hin : meth.name = "<init>" := (name_of_methodNamed B.named B.method).1
  subst hsz
  have hD := hD0.self (sz := s.heap.size)
  generalize hAe : va_A (bw_N0 h0) s.heap.size = A at hD ⊢
  have hA : ∀ q : Nat, s.heap.size ≤ q → A q := fun q h => by rw [← hAe]; exact Or.inr h
  have hS : va_S A s.heap s.heap [] := va_S.rf
  have hP : va_P D bw_Cl [(h0, .inr (0, [.int (nI 0), .null, .int (nI 0), .int (nI 0), .null, .null, .int (nI 0), .null, .int (nI 0), .int (nI 0)]))] s.heap := hP
  have hD : va_D A [(h0, .inr (0, [.int (nI 0), .null, .int (nI 0), .int (nI 0), .null, .null, .int (nI 0), .null, .int (nI 0), .int (nI 0)]))] := hD
  have hl := lv_entry ([.ref h0]) (n := 1) (Nat.le_of_ble_eq_true rfl)
  rw [lg_entry_eq]
  generalize (lg_sl ([.ref h0]) ++ List.replicate (1 - (lg_sl ([.ref h0])).length) Slot.unset).toArray = ls at hl ⊢
  have hl : lv_has ls 1 [(0, .ref h0)] := hl
  refine lv_aload_n hx hb dX0_init_0 rfl (lv_at hl 0 rfl) ?_
  refine W.objInit hx hb hown (hts _ q24) (hts _ q25) (hts _ q26) rfl (by rw [hml]; exact hl.1) rfl dX0_init_1 (Nat.le_of_ble_eq_true rfl) (Nat.le_of_ble_eq_true rfl) ?_
  refine W.eq (g2 := F0 m 4 ls []) rfl ?_
  refine lv_aload_n hx hb dX0_init_4 rfl (lv_at hl 0 rfl) ?_
  refine lv_bipush (v := nI 6) hx hb dX0_init_5 (by decide) ?_
  refine va_newa (atype := .int) (ty := .int) (a0 := (6, .inl (bw_nF bw_z))) hx hb (hts _ q58) rfl hK hP hD hS hA (fun _ => rfl) (nI_pos (by decide)) (nI_clamp (by decide)) (by decide) (Nat.le_of_ble_eq_true rfl) (Nat.le_of_ble_eq_true rfl) dX0_init_7 (fun q4 k4 H hK hP hD hS => ?_)
  have hP : va_P D bw_Cl [(h0, .inr (0, [.int (nI 0), .null, .int (nI 0), .int (nI 0), .null, .null, .int (nI 0), .null, .int (nI 0), .int (nI 0)])), (q4, .inl (k4, 6, .inl (bw_nF bw_z)))] H := hP
  have hD : va_D A [(h0, .inr (0, [.int (nI 0), .null, .int (nI 0), .int (nI 0), .null, .null, .int (nI 0), .null, .int (nI 0), .int (nI 0)])), (q4, .inl (k4, 6, .inl (bw_nF bw_z)))] := hD
  have hK : va_K D bw_Cl [(k4, .int)] s := hK
  refine va_putF (D := D) (ci := 0) (v := .ref q4) (ty := .array .int) (C := RX0) (T := TX0) (N := 10) (cl := bw_Cl) hx hb hts in_X0 tyX0 tyX0_ok nmX0 hown hK hP hD hS 0 rfl rfl 1 (by decide) (hts _ q28) (fun _ h9 => h9) rfl hin rfl (by decide +kernel) rfl rfl (Nat.le_of_ble_eq_true rfl) dX0_init_9 (fun H locs hP hD hS => ?_)
  have hP : va_P D bw_Cl [(h0, .inr (0, [.int (nI 0), .ref q4, .int (nI 0), .int (nI 0), .null, .null, .int (nI 0), .null, .int (nI 0), .int (nI 0)])), (q4, .inl (k4, 6, .inl (bw_nF bw_z)))] H := hP
  have hD : va_D A [(h0, .inr (0, [.int (nI 0), .ref q4, .int (nI 0), .int (nI 0), .null, .null, .int (nI 0), .null, .int (nI 0), .int (nI 0)])), (q4, .inl (k4, 6, .inl (bw_nF bw_z)))] := hD
  refine lv_aload_n hx hb dX0_init_12 rfl (lv_at hl 0 rfl) ?_
  refine lv_bipush (v := nI 32) hx hb dX0_init_13 (by decide) ?_
  refine va_newa (atype := .int) (ty := .int) (a0 := (32, .inl (bw_nF bw_z))) hx hb (hts _ q58) rfl hK hP hD hS hA (fun _ => rfl) (nI_pos (by decide)) (nI_clamp (by decide)) (by decide) (Nat.le_of_ble_eq_true rfl) (Nat.le_of_ble_eq_true rfl) dX0_init_15 (fun q12 k12 H hK hP hD hS => ?_)
  have hP : va_P D bw_Cl [(h0, .inr (0, [.int (nI 0), .ref q4, .int (nI 0), .int (nI 0), .null, .null, .int (nI 0), .null, .int (nI 0), .int (nI 0)])), (q4, .inl (k4, 6, .inl (bw_nF bw_z))), (q12, .inl (k12, 32, .inl (bw_nF bw_z)))] H := hP
  have hD : va_D A [(h0, .inr (0, [.int (nI 0), .ref q4, .int (nI 0), .int (nI 0), .null, .null, .int (nI 0), .null, .int (nI 0), .int (nI 0)])), (q4, .inl (k4, 6, .inl (bw_nF bw_z))), (q12, .inl (k12, 32, .inl (bw_nF bw_z)))] := hD
  have hK : va_K D bw_Cl [(k4, .int), (k12, .int)] s := hK
  refine va_putF (D := D) (ci := 0) (v := .ref q12) (ty := .array .int) (C := RX0) (T := TX0) (N := 10) (cl := bw_Cl) hx hb hts in_X0 tyX0 tyX0_ok nmX0 hown hK hP hD hS 0 rfl rfl 4 (by decide) (hts _ q31) (fun _ h9 => h9) rfl hin rfl (by decide +kernel) rfl rfl (Nat.le_of_ble_eq_true rfl) dX0_init_17 (fun H locs hP hD hS => ?_)
  have hP : va_P D bw_Cl [(h0, .inr (0, [.int (nI 0), .ref q4, .int (nI 0), .int (nI 0), .ref q12, .null, .int (nI 0), .null, .int (nI 0), .int (nI 0)])), (q4, .inl (k4, 6, .inl (bw_nF bw_z))), (q12, .inl (k12, 32, .inl (bw_nF bw_z)))] H := hP
  have hD : va_D A [(h0, .inr (0, [.int (nI 0), .ref q4, .int (nI 0), .int (nI 0), .ref q12, .null, .int (nI 0), .null, .int (nI 0), .int (nI 0)])), (q4, .inl (k4, 6, .inl (bw_nF bw_z))), (q12, .inl (k12, 32, .inl (bw_nF bw_z)))] := hD
  refine lv_aload_n hx hb dX0_init_20 rfl (lv_at hl 0 rfl) ?_
  refine lv_bipush (v := nI 32) hx hb dX0_init_21 (by decide) ?_
  refine va_newa (atype := .byte) (ty := .byte) (a0 := (32, .inl (bw_nF bw_z))) hx hb (hts _ q59) rfl hK hP hD hS hA (fun _ => rfl) (nI_pos (by decide)) (nI_clamp (by decide)) (by decide) (Nat.le_of_ble_eq_true rfl) (Nat.le_of_ble_eq_true rfl) dX0_init_23 (fun q20 k20 H hK hP hD hS => ?_)
  have hP : va_P D bw_Cl [(h0, .inr (0, [.int (nI 0), .ref q4, .int (nI 0), .int (nI 0), .ref q12, .null, .int (nI 0), .null, .int (nI 0), .int (nI 0)])), (q4, .inl (k4, 6, .inl (bw_nF bw_z))), (q12, .inl (k12, 32, .inl (bw_nF bw_z))), (q20, .inl (k20, 32, .inl (bw_nF bw_z)))] H := hP
  have hD : va_D A [(h0, .inr (0, [.int (nI 0), .ref q4, .int (nI 0), .int (nI 0), .ref q12, .null, .int (nI 0), .null, .int (nI 0), .int (nI 0)])), (q4, .inl (k4, 6, .inl (bw_nF bw_z))), (q12, .inl (k12, 32, .inl (bw_nF bw_z))), (q20, .inl (k20, 32, .inl (bw_nF bw_z)))] := hD
  have hK : va_K D bw_Cl [(k4, .int), (k12, .int), (k20, .byte)] s := hK
  refine va_putF (D := D) (ci := 0) (v := .ref q20) (ty := .array .byte) (C := RX0) (T := TX0) (N := 10) (cl := bw_Cl) hx hb hts in_X0 tyX0 tyX0_ok nmX0 hown hK hP hD hS 0 rfl rfl 5 (by decide) (hts _ q32) (fun _ h9 => h9) rfl hin rfl (by decide +kernel) rfl rfl (Nat.le_of_ble_eq_true rfl) dX0_init_25 (fun H locs hP hD hS => ?_)
  have hP : va_P D bw_Cl [(h0, .inr (0, [.int (nI 0), .ref q4, .int (nI 0), .int (nI 0), .ref q12, .ref q20, .int (nI 0), .null, .int (nI 0), .int (nI 0)])), (q4, .inl (k4, 6, .inl (bw_nF bw_z))), (q12, .inl (k12, 32, .inl (bw_nF bw_z))), (q20, .inl (k20, 32, .inl (bw_nF bw_z)))] H := hP
  have hD : va_D A [(h0, .inr (0, [.int (nI 0), .ref q4, .int (nI 0), .int (nI 0), .ref q12, .ref q20, .int (nI 0), .null, .int (nI 0), .int (nI 0)])), (q4, .inl (k4, 6, .inl (bw_nF bw_z))), (q12, .inl (k12, 32, .inl (bw_nF bw_z))), (q20, .inl (k20, 32, .inl (bw_nF bw_z)))] := hD
  refine lv_aload_n hx hb dX0_init_28 rfl (lv_at hl 0 rfl) ?_
  refine lv_bipush (v := nI 16) hx hb dX0_init_29 (by decide) ?_
  refine va_newa (atype := .int) (ty := .int) (a0 := (16, .inl (bw_nF bw_z))) hx hb (hts _ q58) rfl hK hP hD hS hA (fun _ => rfl) (nI_pos (by decide)) (nI_clamp (by decide)) (by decide) (Nat.le_of_ble_eq_true rfl) (Nat.le_of_ble_eq_true rfl) dX0_init_31 (fun q28 k28 H hK hP hD hS => ?_)
  have hP : va_P D bw_Cl [(h0, .inr (0, [.int (nI 0), .ref q4, .int (nI 0), .int (nI 0), .ref q12, .ref q20, .int (nI 0), .null, .int (nI 0), .int (nI 0)])), (q4, .inl (k4, 6, .inl (bw_nF bw_z))), (q12, .inl (k12, 32, .inl (bw_nF bw_z))), (q20, .inl (k20, 32, .inl (bw_nF bw_z))), (q28, .inl (k28, 16, .inl (bw_nF bw_z)))] H := hP
  have hD : va_D A [(h0, .inr (0, [.int (nI 0), .ref q4, .int (nI 0), .int (nI 0), .ref q12, .ref q20, .int (nI 0), .null, .int (nI 0), .int (nI 0)])), (q4, .inl (k4, 6, .inl (bw_nF bw_z))), (q12, .inl (k12, 32, .inl (bw_nF bw_z))), (q20, .inl (k20, 32, .inl (bw_nF bw_z))), (q28, .inl (k28, 16, .inl (bw_nF bw_z)))] := hD
  have hK : va_K D bw_Cl [(k4, .int), (k12, .int), (k20, .byte), (k28, .int)] s := hK
  refine va_putF (D := D) (ci := 0) (v := .ref q28) (ty := .array .int) (C := RX0) (T := TX0) (N := 10) (cl := bw_Cl) hx hb hts in_X0 tyX0 tyX0_ok nmX0 hown hK hP hD hS 0 rfl rfl 7 (by decide) (hts _ q34) (fun _ h9 => h9) rfl hin rfl (by decide +kernel) rfl rfl (Nat.le_of_ble_eq_true rfl) dX0_init_33 (fun H locs hP hD hS => ?_)
  have hP : va_P D bw_Cl [(h0, .inr (0, [.int (nI 0), .ref q4, .int (nI 0), .int (nI 0), .ref q12, .ref q20, .int (nI 0), .ref q28, .int (nI 0), .int (nI 0)])), (q4, .inl (k4, 6, .inl (bw_nF bw_z))), (q12, .inl (k12, 32, .inl (bw_nF bw_z))), (q20, .inl (k20, 32, .inl (bw_nF bw_z))), (q28, .inl (k28, 16, .inl (bw_nF bw_z)))] H := hP
  have hD : va_D A [(h0, .inr (0, [.int (nI 0), .ref q4, .int (nI 0), .int (nI 0), .ref q12, .ref q20, .int (nI 0), .ref q28, .int (nI 0), .int (nI 0)])), (q4, .inl (k4, 6, .inl (bw_nF bw_z))), (q12, .inl (k12, 32, .inl (bw_nF bw_z))), (q20, .inl (k20, 32, .inl (bw_nF bw_z))), (q28, .inl (k28, 16, .inl (bw_nF bw_z)))] := hD
  refine W.widen (k := 4) (n := 86) (Nat.le_of_ble_eq_true rfl) (Nat.le_of_ble_eq_true rfl) ?_
  exact W.vret hx hb hr (fun t ht hW => ⟨⟨(h0, q4, q12, q20, q28, k4, k12, k20, k28), rfl, rfl, by rw [ht]; exact hP, va_K.moved hW.alike hK, hD⟩, hS.F ht⟩) hS.2.2 dX0_init_36 (hlocks := hlocks)
set_option maxHeartbeats 4000000 in
set_option maxRecDepth 100000 in
/-- the constructor: four new arrays of zeros -/
theorem mu_init (l : Launch) (D : va_G) (h0 sz : Nat) : Met l yX1_init (ws_ yX1_init cX1_init 1 none) ({ frames := 1, cells := 4, slots := 44, locals := 12 }) (va_Pc [.ref h0] (fun U => U.heap.size = sz ∧ va_P D bw_Cl (bw_N1 h0) U.heap ∧ va_K D bw_Cl [] U ∧ va_D (fun _ => True) (bw_N1 h0))) (va_Qv (fun a : bw_A0 => a.1 = h0) (fun a t => va_P D bw_Cl (bw_W1 a bw_z bw_z bw_z bw_z) t.heap ∧ va_K D bw_Cl (bw_T1 a) t ∧ va_D (va_A (bw_N1 h0) sz) (bw_W1 a bw_z bw_z bw_z bw_z)) (va_A (bw_N1 h0) sz)) 4 44 (va_A (bw_N1 h0) sz) := by
  refine Met.ofW (cc := cX1_init) (maxL := 1) (ret := none) (by decide) rfl ?_
  intro p e s m args below meth c s₁ B hml hv
  obtain ⟨rfl, hsz, hP, hK, hD0⟩ := hv
  have hx := B.exec
  have hb := B.bytes
  have hr := B.returns
  have hts := atoms_spec (ws := ws_ yX1_init cX1_init 1 none) B.pre
  have hts : ∀ w ∈ lw_all, w.before _ s = true := fun w h => hts w (List.mem_cons_of_mem _ h)
  have hown : s.vm.findClass RX1 = some m.cls := findClass_of_methodNamed B.named
  have hlocks := B.notSynchronized
  have hin : meth.name = "<init>" := (name_of_methodNamed B.named B.method).1
  subst hsz
  have hD := hD0.self (sz := s.heap.size)
  generalize hAe : va_A (bw_N1 h0) s.heap.size = A at hD ⊢
  have hA : ∀ q : Nat, s.heap.size ≤ q → A q := fun q h => by rw [← hAe]; exact Or.inr h
  have hS : va_S A s.heap s.heap [] := va_S.rf
  have hP : va_P D bw_Cl [(h0, .inr (1, [.null, .null, .null, .null]))] s.heap := hP
  have hD : va_D A [(h0, .inr (1, [.null, .null, .null, .null]))] := hD
  have hl := lv_entry ([.ref h0]) (n := 1) (Nat.le_of_ble_eq_true rfl)
  rw [lg_entry_eq]
  generalize (lg_sl ([.ref h0]) ++ List.replicate (1 - (lg_sl ([.ref h0])).length) Slot.unset).toArray = ls at hl ⊢
  have hl : lv_has ls 1 [(0, .ref h0)] := hl
  refine lv_aload_n hx hb dX1_init_0 rfl (lv_at hl 0 rfl) ?_
  refine W.objInit hx hb hown (hts _ q178) (hts _ q25) (hts _ q26) rfl (by rw [hml]; exact hl.1) rfl dX1_init_1 (Nat.le_of_ble_eq_true rfl) (Nat.le_of_ble_eq_true rfl) ?_
  refine W.eq (g2 := F0 m 4 ls []) rfl ?_
  refine lv_aload_n hx hb dX1_init_4 rfl (lv_at hl 0 rfl) ?_
  refine lv_bipush (v := nI 6) hx hb dX1_init_5 (by decide) ?_
  refine va_newa (atype := .boolean) (ty := .boolean) (a0 := (6, .inl (bw_nF bw_z))) hx hb (hts _ q192) rfl hK hP hD hS hA (fun _ => rfl) (nI_pos (by decide)) (nI_clamp (by decide)) (by decide) (Nat.le_of_ble_eq_true rfl) (Nat.le_of_ble_eq_true rfl) dX1_init_7 (fun q4 k4 H hK hP hD hS => ?_)
  have hP : va_P D bw_Cl [(h0, .inr (1, [.null, .null, .null, .null])), (q4, .inl (k4, 6, .inl (bw_nF bw_z)))] H := hP
  have hD : va_D A [(h0, .inr (1, [.null, .null, .null, .null])), (q4, .inl (k4, 6, .inl (bw_nF bw_z)))] := hD
  have hK : va_K D bw_Cl [(k4, .boolean)] s := hK
  refine va_put (D := D) (ci := 1) (v := .ref q4) (ty := .array .boolean) (C := RX1) (T := TX1) (N := 4) (cl := bw_Cl) hx hb hts in_X1 tyX1 tyX1_ok nmX1 hown hK hP hD hS 0 rfl rfl 0 (by decide) (hts _ q179) (fun _ h9 => h9) rfl (by decide +kernel) rfl rfl (Nat.le_of_ble_eq_true rfl) dX1_init_9 (fun H locs hP hD hS => ?_)
  have hP : va_P D bw_Cl [(h0, .inr (1, [.ref q4, .null, .null, .null])), (q4, .inl (k4, 6, .inl (bw_nF bw_z)))] H := hP
  have hD : va_D A [(h0, .inr (1, [.ref q4, .null, .null, .null])), (q4, .inl (k4, 6, .inl (bw_nF bw_z)))] := hD
  refine lv_aload_n hx hb dX1_init_12 rfl (lv_at hl 0 rfl) ?_
  refine lv_bipush (v := nI 6) hx hb dX1_init_13 (by decide) ?_
  refine va_newa (atype := .int) (ty := .int) (a0 := (6, .inl (bw_nF bw_z))) hx hb (hts _ q58) rfl hK hP hD hS hA (fun _ => rfl) (nI_pos (by decide)) (nI_clamp (by decide)) (by decide) (Nat.le_of_ble_eq_true rfl) (Nat.le_of_ble_eq_true rfl) dX1_init_15 (fun q12 k12 H hK hP hD hS => ?_)
  have hP : va_P D bw_Cl [(h0, .inr (1, [.ref q4, .null, .null, .null])), (q4, .inl (k4, 6, .inl (bw_nF bw_z))), (q12, .inl (k12, 6, .inl (bw_nF bw_z)))] H := hP
  have hD : va_D A [(h0, .inr (1, [.ref q4, .null, .null, .null])), (q4, .inl (k4, 6, .inl (bw_nF bw_z))), (q12, .inl (k12, 6, .inl (bw_nF bw_z)))] := hD
  have hK : va_K D bw_Cl [(k4, .boolean), (k12, .int)] s := hK
  refine va_put (D := D) (ci := 1) (v := .ref q12) (ty := .array .int) (C := RX1) (T := TX1) (N := 4) (cl := bw_Cl) hx hb hts in_X1 tyX1 tyX1_ok nmX1 hown hK hP hD hS 0 rfl rfl 1 (by decide) (hts _ q180) (fun _ h9 => h9) rfl (by decide +kernel) rfl rfl (Nat.le_of_ble_eq_true rfl) dX1_init_17 (fun H locs hP hD hS => ?_)
  have hP : va_P D bw_Cl [(h0, .inr (1, [.ref q4, .ref q12, .null, .null])), (q4, .inl (k4, 6, .inl (bw_nF bw_z))), (q12, .inl (k12, 6, .inl (bw_nF bw_z)))] H := hP
  have hD : va_D A [(h0, .inr (1, [.ref q4, .ref q12, .null, .null])), (q4, .inl (k4, 6, .inl (bw_nF bw_z))), (q12, .inl (k12, 6, .inl (bw_nF bw_z)))] := hD
  refine lv_aload_n hx hb dX1_init_20 rfl (lv_at hl 0 rfl) ?_
  refine lv_bipush (v := nI 16) hx hb dX1_init_21 (by decide) ?_
  refine va_newa (atype := .int) (ty := .int) (a0 := (16, .inl (bw_nF bw_z))) hx hb (hts _ q58) rfl hK hP hD hS hA (fun _ => rfl) (nI_pos (by decide)) (nI_clamp (by decide)) (by decide) (Nat.le_of_ble_eq_true rfl) (Nat.le_of_ble_eq_true rfl) dX1_init_23 (fun q20 k20 H hK hP hD hS => ?_)
  have hP : va_P D bw_Cl [(h0, .inr (1, [.ref q4, .ref q12, .null, .null])), (q4, .inl (k4, 6, .inl (bw_nF bw_z))), (q12, .inl (k12, 6, .inl (bw_nF bw_z))), (q20, .inl (k20, 16, .inl (bw_nF bw_z)))] H := hP
  have hD : va_D A [(h0, .inr (1, [.ref q4, .ref q12, .null, .null])), (q4, .inl (k4, 6, .inl (bw_nF bw_z))), (q12, .inl (k12, 6, .inl (bw_nF bw_z))), (q20, .inl (k20, 16, .inl (bw_nF bw_z)))] := hD
  have hK : va_K D bw_Cl [(k4, .boolean), (k12, .int), (k20, .int)] s := hK
  refine va_put (D := D) (ci := 1) (v := .ref q20) (ty := .array .int) (C := RX1) (T := TX1) (N := 4) (cl := bw_Cl) hx hb hts in_X1 tyX1 tyX1_ok nmX1 hown hK hP hD hS 0 rfl rfl 2 (by decide) (hts _ q181) (fun _ h9 => h9) rfl (by decide +kernel) rfl rfl (Nat.le_of_ble_eq_true rfl) dX1_init_25 (fun H locs hP hD hS => ?_)
  have hP : va_P D bw_Cl [(h0, .inr (1, [.ref q4, .ref q12, .ref q20, .null])), (q4, .inl (k4, 6, .inl (bw_nF bw_z))), (q12, .inl (k12, 6, .inl (bw_nF bw_z))), (q20, .inl (k20, 16, .inl (bw_nF bw_z)))] H := hP
  have hD : va_D A [(h0, .inr (1, [.ref q4, .ref q12, .ref q20, .null])), (q4, .inl (k4, 6, .inl (bw_nF bw_z))), (q12, .inl (k12, 6, .inl (bw_nF bw_z))), (q20, .inl (k20, 16, .inl (bw_nF bw_z)))] := hD
  refine lv_aload_n hx hb dX1_init_28 rfl (lv_at hl 0 rfl) ?_
  refine lv_bipush (v := nI 16) hx hb dX1_init_29 (by decide) ?_
  refine va_newa (atype := .int) (ty := .int) (a0 := (16, .inl (bw_nF bw_z))) hx hb (hts _ q58) rfl hK hP hD hS hA (fun _ => rfl) (nI_pos (by decide)) (nI_clamp (by decide)) (by decide) (Nat.le_of_ble_eq_true rfl) (Nat.le_of_ble_eq_true rfl) dX1_init_31 (fun q28 k28 H hK hP hD hS => ?_)
  have hP : va_P D bw_Cl [(h0, .inr (1, [.ref q4, .ref q12, .ref q20, .null])), (q4, .inl (k4, 6, .inl (bw_nF bw_z))), (q12, .inl (k12, 6, .inl (bw_nF bw_z))), (q20, .inl (k20, 16, .inl (bw_nF bw_z))), (q28, .inl (k28, 16, .inl (bw_nF bw_z)))] H := hP
  have hD : va_D A [(h0, .inr (1, [.ref q4, .ref q12, .ref q20, .null])), (q4, .inl (k4, 6, .inl (bw_nF bw_z))), (q12, .inl (k12, 6, .inl (bw_nF bw_z))), (q20, .inl (k20, 16, .inl (bw_nF bw_z))), (q28, .inl (k28, 16, .inl (bw_nF bw_z)))] := hD
  have hK : va_K D bw_Cl [(k4, .boolean), (k12, .int), (k20, .int), (k28, .int)] s := hK
  refine va_put (D := D) (ci := 1) (v := .ref q28) (ty := .array .int) (C := RX1) (T := TX1) (N := 4) (cl := bw_Cl) hx hb hts in_X1 tyX1 tyX1_ok nmX1 hown hK hP hD hS 0 rfl rfl 3 (by decide) (hts _ q182) (fun _ h9 => h9) rfl (by decide +kernel) rfl rfl (Nat.le_of_ble_eq_true rfl) dX1_init_33 (fun H locs hP hD hS => ?_)
  have hP : va_P D bw_Cl [(h0, .inr (1, [.ref q4, .ref q12, .ref q20, .ref q28])), (q4, .inl (k4, 6, .inl (bw_nF bw_z))), (q12, .inl (k12, 6, .inl (bw_nF bw_z))), (q20, .inl (k20, 16, .inl (bw_nF bw_z))), (q28, .inl (k28, 16, .inl (bw_nF bw_z)))] H := hP
  have hD : va_D A [(h0, .inr (1, [.ref q4, .ref q12, .ref q20, .ref q28])), (q4, .inl (k4, 6, .inl (bw_nF bw_z))), (q12, .inl (k12, 6, .inl (bw_nF bw_z))), (q20, .inl (k20, 16, .inl (bw_nF bw_z))), (q28, .inl (k28, 16, .inl (bw_nF bw_z)))] := hD
  refine W.widen (k := 4) (n := 44) (Nat.le_of_ble_eq_true rfl) (Nat.le_of_ble_eq_true rfl) ?_
  exact W.vret hx hb hr (fun t ht hW => ⟨⟨(h0, q4, q12, q20, q28, k4, k12, k20, k28), rfl, rfl, by rw [ht]; exact hP, va_K.moved hW.alike hK, hD⟩, hS.F ht⟩) hS.2.2 dX1_init_36 (hlocks := hlocks)
end
section
/-! OPS: each call of the law on both sides: the same answer, and the states agree again -/
/-- present, generators, known, what learn knew; there, heads, others -/
abbrev bl_S : Type := Nat × (Nat → Nat) × Nat × bb_LS × (Nat → Nat) × (Nat → Nat) × (Nat → Nat)
def bl_w0 (a : bw_A0) (z : bl_S) : va_W := bw_W0 a z.1 z.2.1 z.2.2.1 z.2.2.2.1.1.1 z.2.2.2.1.1.2.1 z.2.2.2.1.1.2.2 z.2.2.2.1.2.1 z.2.2.2.1.2.2.1 z.2.2.2.1.2.2.2.1 z.2.2.2.1.2.2.2.2
def bl_w1 (b : bw_A0) (z : bl_S) : va_W := bw_W1 b z.2.2.2.2.1 z.2.1 z.2.2.2.2.2.1 z.2.2.2.2.2.2
def bl_I (z : bl_S) : Prop := z.1 < 64 ∧ (∀ i, i < 6 → z.2.1 i < 65536) ∧ (z.2.2.1 = 0 ∨ (z.2.2.1 = 1 ∧ ∃ q0, z.2.2.2.1 = bb_ln0 z.1 z.2.1 q0)) ∧ bb_TH z.1 z.2.2.2.2.1
def bl_op (l : Launch) (D : va_G) (a b : bw_A0) (y0 y1 : MethodName) (w0 w1 : List Cond) (r0 r1 : Room) (xs : List Value) (z : bl_S) : Prop :=
  ∃ (z' : bl_S) (G : Int32), bl_I z' ∧ bw_MI l y0 w0 r0 D bw_Cl (bw_T0 a) (.ref a.1 :: xs) (bl_w0 a z) (bl_w0 a z') G ∧ bw_MI l y1 w1 r1 D bw_Cl (bw_T1 b) (.ref b.1 :: xs) (bl_w1 b z) (bl_w1 b z') G
theorem bl_to {l : Launch} {y : MethodName} {ws : List Cond} {rm : Room} {D : va_G} {cl : List vw_C} {tys : List (ClassId × FieldType)} {av : List Value} {w0 w1 : va_W} {G G' : Int32} (h : bw_MI l y ws rm D cl tys av w0 w1 G) (e : G = G') : bw_MI l y ws rm D cl tys av w0 w1 G' := by subst e; exact h
set_option maxRecDepth 100000 in
theorem bo_add (l : Launch) (D : va_G) (a b : bw_A0) (x : Int32) (z : bl_S) (hI : bl_I z) : bl_op l D a b yX0_add yX1_add (ws_ yX0_add cX0_add 3 (some .int)) (ws_ yX1_add cX1_add 3 (some .int)) ({ frames := 1, cells := 0, slots := 0, locals := 21 }) ({ frames := 1, cells := 0, slots := 0, locals := 21 }) [.int x] z := by
  obtain ⟨pr, gv, kn, q, th, hs, ot⟩ := z
  obtain ⟨hpr, hgv, hk, hth⟩ := id hI
  have hpr : pr < 64 := hpr
  have hgv : ∀ i, i < 6 → gv i < 65536 := hgv
  have hk : kn = 0 ∨ (kn = 1 ∧ ∃ q0, q = bb_ln0 pr gv q0) := hk
  have hth : bb_TH pr th := hth
  rcases bl_dom x 65536 with ⟨f, hf, rfl⟩ | hbad
  · refine ⟨(bb_apr pr (bb_free pr 6 0), bb_agv gv (bb_free pr 6 0) f, bb_akn kn (bb_free pr 6 0), q, bb_ath th (bb_free pr 6 0), hs, ot), bb_oJ (bb_free pr 6 0), ?_, mt_add l D a pr gv kn q.1.1 q.1.2.1 q.1.2.2 q.2.1 q.2.2.1 q.2.2.2.1 q.2.2.2.2 f hpr hf, mu_add l D b th gv hs ot pr hth f hf⟩
    cases e : bb_free pr 6 0 with
    | none => exact hI
    | some i =>
      obtain ⟨-, h1, -⟩ := bl_free e
      refine ⟨Nat.or_lt_two_pow (n := 6) hpr (Nat.pow_lt_pow_right (by decide) (by omega)), fun j hj => ?_, Or.inl rfl, bl_TH_add hth i⟩
      show va_up gv i f j < 65536
      by_cases e2 : j = i
      · rw [e2, bb_up_s]; exact hf
      · rw [bb_up_n e2]; exact hgv j hj
  · exact ⟨(pr, gv, kn, q, th, hs, ot), -1, hI, mt_addX l D a pr gv kn q.1.1 q.1.2.1 q.1.2.2 q.2.1 q.2.2.1 q.2.2.2.1 q.2.2.2.2 x hbad, mu_addX l D b th gv hs ot x hbad⟩
set_option maxRecDepth 100000 in
theorem bo_remove (l : Launch) (D : va_G) (a b : bw_A0) (x : Int32) (z : bl_S) (hI : bl_I z) : bl_op l D a b yX0_remove yX1_remove (ws_ yX0_remove cX0_remove 2 (some .boolean)) (ws_ yX1_remove cX1_remove 2 (some .boolean)) ({ frames := 1, cells := 0, slots := 0, locals := 21 }) ({ frames := 0, cells := 0, slots := 0, locals := 0 }) [.int x] z := by
  obtain ⟨pr, gv, kn, q, th, hs, ot⟩ := z
  obtain ⟨hpr, hgv, hk, hth⟩ := id hI
  have hpr : pr < 64 := hpr
  have hgv : ∀ i, i < 6 → gv i < 65536 := hgv
  have hk : kn = 0 ∨ (kn = 1 ∧ ∃ q0, q = bb_ln0 pr gv q0) := hk
  have hth : bb_TH pr th := hth
  rcases bl_dom x 6 with ⟨i, hi, rfl⟩ | hbad
  · cases e : pr.testBit i with
    | true => exact ⟨(bb_rmv pr i, gv, 0, q, va_up th i 0, hs, ot), nI 1, ⟨bb_rmv_lt hpr, hgv, Or.inl rfl, bl_TH_rmv hpr hth hi⟩, mt_remove1 l D a pr gv kn q.1.1 q.1.2.1 q.1.2.2 q.2.1 q.2.2.1 q.2.2.2.1 q.2.2.2.2 i hpr hi e, mu_remove1 l D b th gv hs ot pr hth i hi e⟩
    | false => exact ⟨(pr, gv, kn, q, th, hs, ot), nI 0, hI, mt_remove0 l D a pr gv kn q.1.1 q.1.2.1 q.1.2.2 q.2.1 q.2.2.1 q.2.2.2.1 q.2.2.2.2 i hpr hi e, mu_remove0 l D b th gv hs ot pr hth i hi e⟩
  · exact ⟨(pr, gv, kn, q, th, hs, ot), nI 0, hI, mt_removeX l D a pr gv kn q.1.1 q.1.2.1 q.1.2.2 q.2.1 q.2.2.1 q.2.2.2.1 q.2.2.2.2 x hbad, mu_removeX l D b th gv hs ot x hbad⟩
set_option maxRecDepth 100000 in
theorem bo_generators (l : Launch) (D : va_G) (a b : bw_A0) (z : bl_S) (hI : bl_I z) : bl_op l D a b yX0_generators yX1_generators (ws_ yX0_generators cX0_generators 1 (some .int)) (ws_ yX1_generators cX1_generators 3 (some .int)) ({ frames := 0, cells := 0, slots := 0, locals := 0 }) ({ frames := 0, cells := 0, slots := 0, locals := 0 }) [] z := by
  obtain ⟨pr, gv, kn, q, th, hs, ot⟩ := z
  obtain ⟨hpr, hgv, hk, hth⟩ := id hI
  have hpr : pr < 64 := hpr
  have hgv : ∀ i, i < 6 → gv i < 65536 := hgv
  have hk : kn = 0 ∨ (kn = 1 ∧ ∃ q0, q = bb_ln0 pr gv q0) := hk
  have hth : bb_TH pr th := hth
  exact ⟨(pr, gv, kn, q, th, hs, ot), nI pr, hI, mt_generators l D a pr gv kn q.1.1 q.1.2.1 q.1.2.2 q.2.1 q.2.2.1 q.2.2.2.1 q.2.2.2.2, mu_generators l D b th gv hs ot pr hth hpr⟩
set_option maxRecDepth 100000 in
theorem bo_product (l : Launch) (D : va_G) (a b : bw_A0) (x : Int32) (y : Int32) (z : bl_S) (hI : bl_I z) : bl_op l D a b yX0_product yX1_product (ws_ yX0_product cX0_product 5 (some .int)) (ws_ yX1_product cX1_product 7 (some .int)) ({ frames := 1, cells := 0, slots := 0, locals := 23 }) ({ frames := 1, cells := 0, slots := 0, locals := 21 }) [.int x, .int y] z := by
  obtain ⟨pr, gv, kn, q, th, hs, ot⟩ := z
  obtain ⟨hpr, hgv, hk, hth⟩ := id hI
  have hpr : pr < 64 := hpr
  have hgv : ∀ i, i < 6 → gv i < 65536 := hgv
  have hk : kn = 0 ∨ (kn = 1 ∧ ∃ q0, q = bb_ln0 pr gv q0) := hk
  have hth : bb_TH pr th := hth
  rcases bl_dom x 65536 with ⟨f, hf, rfl⟩ | hbad
  · rcases bl_dom y 65536 with ⟨g, hg, rfl⟩ | hbad
    · exact ⟨(pr, gv, kn, q, th, hs, ot), nI (bb_prod f g), hI, mt_product l D a pr gv kn q.1.1 q.1.2.1 q.1.2.2 q.2.1 q.2.2.1 q.2.2.2.1 q.2.2.2.2 f g hf hg, mu_product l D b th gv hs ot f g hf hg⟩
    · exact ⟨(pr, gv, kn, q, th, hs, ot), -1, hI, mt_productX2 l D a pr gv kn q.1.1 q.1.2.1 q.1.2.2 q.2.1 q.2.2.1 q.2.2.2.1 q.2.2.2.2 f y hf hbad, mu_productX2 l D b th gv hs ot f y hf hbad⟩
  · exact ⟨(pr, gv, kn, q, th, hs, ot), -1, hI, mt_productX1 l D a pr gv kn q.1.1 q.1.2.1 q.1.2.2 q.2.1 q.2.2.1 q.2.2.2.1 q.2.2.2.2 x y hbad, mu_productX1 l D b th gv hs ot x y hbad⟩
set_option maxRecDepth 100000 in
theorem bo_value (l : Launch) (D : va_G) (a b : bw_A0) (x : Int32) (y : Int32) (z : bl_S) (hI : bl_I z) : bl_op l D a b yX0_value yX1_value (ws_ yX0_value cX0_value 3 (some .int)) (ws_ yX1_value cX1_value 5 (some .int)) ({ frames := 1, cells := 0, slots := 0, locals := 23 }) ({ frames := 1, cells := 0, slots := 0, locals := 21 }) [.int x, .int y] z := by
  obtain ⟨pr, gv, kn, q, th, hs, ot⟩ := z
  obtain ⟨hpr, hgv, hk, hth⟩ := id hI
  have hpr : pr < 64 := hpr
  have hgv : ∀ i, i < 6 → gv i < 65536 := hgv
  have hk : kn = 0 ∨ (kn = 1 ∧ ∃ q0, q = bb_ln0 pr gv q0) := hk
  have hth : bb_TH pr th := hth
  rcases bl_dom x 65536 with ⟨f, hf, rfl⟩ | hbad
  · rcases bl_dom y 16 with ⟨g, hg, rfl⟩ | hbad
    · exact ⟨(pr, gv, kn, q, th, hs, ot), nI (bb_val f g), hI, mt_value l D a pr gv kn q.1.1 q.1.2.1 q.1.2.2 q.2.1 q.2.2.1 q.2.2.2.1 q.2.2.2.2 f g hf hg, mu_value l D b th gv hs ot f g hf hg⟩
    · exact ⟨(pr, gv, kn, q, th, hs, ot), -1, hI, mt_valueX2 l D a pr gv kn q.1.1 q.1.2.1 q.1.2.2 q.2.1 q.2.2.1 q.2.2.2.1 q.2.2.2.2 f y hf hbad, mu_valueX2 l D b th gv hs ot f y hf hbad⟩
  · exact ⟨(pr, gv, kn, q, th, hs, ot), -1, hI, mt_valueX1 l D a pr gv kn q.1.1 q.1.2.1 q.1.2.2 q.2.1 q.2.2.1 q.2.2.2.1 q.2.2.2.2 x y hbad, mu_valueX1 l D b th gv hs ot x y hbad⟩
set_option maxRecDepth 100000 in
theorem bo_contains (l : Launch) (D : va_G) (a b : bw_A0) (x : Int32) (z : bl_S) (hI : bl_I z) : bl_op l D a b yX0_contains yX1_contains (ws_ yX0_contains cX0_contains 2 (some .boolean)) (ws_ yX1_contains cX1_contains 2 (some .boolean)) ({ frames := 6, cells := 0, slots := 0, locals := 138 }) ({ frames := 4, cells := 0, slots := 0, locals := 91 }) [.int x] z := by
  obtain ⟨pr, gv, kn, q, th, hs, ot⟩ := z
  obtain ⟨hpr, hgv, hk, hth⟩ := id hI
  have hpr : pr < 64 := hpr
  have hgv : ∀ i, i < 6 → gv i < 65536 := hgv
  have hk : kn = 0 ∨ (kn = 1 ∧ ∃ q0, q = bb_ln0 pr gv q0) := hk
  have hth : bb_TH pr th := hth
  rcases bl_dom x 65536 with ⟨f, hf, rfl⟩ | hbad
  · obtain ⟨q0, e⟩ := bl_ln hk
    exact ⟨(pr, gv, 1, bb_ln0 pr gv q0, th, bb_wk (fun i => pr.testBit i) gv hs, ot), _, ⟨hpr, hgv, Or.inr ⟨rfl, q0, rfl⟩, hth⟩, mt_contains l D a pr gv kn q (bb_ln0 pr gv q0) e (bl_kn hk) hpr hgv (bl_ok hgv) f hf, bl_to (mu_contains l D b th gv hs ot pr hth hgv (bb_wk (fun i => pr.testBit i) gv hs) rfl f hf) (by rw [bl_red hgv hs hf])⟩
  · exact ⟨(pr, gv, kn, q, th, hs, ot), nI 0, hI, mt_containsX l D a pr gv kn q x hbad, mu_containsX l D b th gv hs ot x hbad⟩
set_option maxRecDepth 100000 in
theorem bo_rest (l : Launch) (D : va_G) (a b : bw_A0) (x : Int32) (z : bl_S) (hI : bl_I z) : bl_op l D a b yX0_rest yX1_rest (ws_ yX0_rest cX0_rest 2 (some .int)) (ws_ yX1_rest cX1_rest 2 (some .int)) ({ frames := 6, cells := 0, slots := 0, locals := 138 }) ({ frames := 3, cells := 0, slots := 0, locals := 70 }) [.int x] z := by
  obtain ⟨pr, gv, kn, q, th, hs, ot⟩ := z
  obtain ⟨hpr, hgv, hk, hth⟩ := id hI
  have hpr : pr < 64 := hpr
  have hgv : ∀ i, i < 6 → gv i < 65536 := hgv
  have hk : kn = 0 ∨ (kn = 1 ∧ ∃ q0, q = bb_ln0 pr gv q0) := hk
  have hth : bb_TH pr th := hth
  rcases bl_dom x 65536 with ⟨f, hf, rfl⟩ | hbad
  · obtain ⟨q0, e⟩ := bl_ln hk
    exact ⟨(pr, gv, 1, bb_ln0 pr gv q0, th, bb_wk (fun i => pr.testBit i) gv hs, ot), _, ⟨hpr, hgv, Or.inr ⟨rfl, q0, rfl⟩, hth⟩, mt_rest l D a pr gv kn q (bb_ln0 pr gv q0) e (bl_kn hk) hpr hgv (bl_ok hgv) f hf, bl_to (mu_rest l D b th gv hs ot pr hth hgv (bb_wk (fun i => pr.testBit i) gv hs) rfl f hf) (by rw [bl_red hgv hs hf])⟩
  · exact ⟨(pr, gv, kn, q, th, hs, ot), -1, hI, mt_restX l D a pr gv kn q x hbad, mu_restX l D b th gv hs ot x hbad⟩
set_option maxRecDepth 100000 in
theorem bo_basisSize (l : Launch) (D : va_G) (a b : bw_A0) (z : bl_S) (hI : bl_I z) : bl_op l D a b yX0_basisSize yX1_basisSize (ws_ yX0_basisSize cX0_basisSize 1 (some .int)) (ws_ yX1_basisSize cX1_basisSize 3 (some .int)) ({ frames := 6, cells := 0, slots := 0, locals := 138 }) ({ frames := 3, cells := 0, slots := 0, locals := 70 }) [] z := by
  obtain ⟨pr, gv, kn, q, th, hs, ot⟩ := z
  obtain ⟨hpr, hgv, hk, hth⟩ := id hI
  have hpr : pr < 64 := hpr
  have hgv : ∀ i, i < 6 → gv i < 65536 := hgv
  have hk : kn = 0 ∨ (kn = 1 ∧ ∃ q0, q = bb_ln0 pr gv q0) := hk
  have hth : bb_TH pr th := hth
  obtain ⟨q0, e⟩ := bl_ln hk
  exact ⟨(pr, gv, 1, bb_ln0 pr gv q0, th, bb_wk (fun i => pr.testBit i) gv hs, ot), _, ⟨hpr, hgv, Or.inr ⟨rfl, q0, rfl⟩, hth⟩, mt_basisSize l D a pr gv kn q (bb_ln0 pr gv q0) e (bl_kn hk) hpr hgv, bl_to (mu_basisSize l D b th gv hs ot pr hth hgv (bb_wk (fun i => pr.testBit i) gv hs) rfl) (by rw [bl_size hgv hs])⟩
set_option maxRecDepth 100000 in
theorem bo_basisAt (l : Launch) (D : va_G) (a b : bw_A0) (x : Int32) (z : bl_S) (hI : bl_I z) : bl_op l D a b yX0_basisAt yX1_basisAt (ws_ yX0_basisAt cX0_basisAt 2 (some .int)) (ws_ yX1_basisAt cX1_basisAt 4 (some .int)) ({ frames := 6, cells := 0, slots := 0, locals := 138 }) ({ frames := 3, cells := 0, slots := 0, locals := 70 }) [.int x] z := by
  obtain ⟨pr, gv, kn, q, th, hs, ot⟩ := z
  obtain ⟨hpr, hgv, hk, hth⟩ := id hI
  have hpr : pr < 64 := hpr
  have hgv : ∀ i, i < 6 → gv i < 65536 := hgv
  have hk : kn = 0 ∨ (kn = 1 ∧ ∃ q0, q = bb_ln0 pr gv q0) := hk
  have hth : bb_TH pr th := hth
  obtain ⟨q0, e⟩ := bl_ln hk
  have hsz := bl_size (pr := pr) (q0 := q0) hgv hs
  have hbc : (bb_ln0 pr gv q0).2.1 ≤ 16 := by rw [hsz]; exact bb_lc_le _ 16
  rcases bl_dom x (bb_ln0 pr gv q0).2.1 with ⟨i, hi, rfl⟩ | hbad
  · exact ⟨(pr, gv, 1, bb_ln0 pr gv q0, th, bb_wk (fun i => pr.testBit i) gv hs, ot), _, ⟨hpr, hgv, Or.inr ⟨rfl, q0, rfl⟩, hth⟩, mt_basisAt l D a pr gv kn q (bb_ln0 pr gv q0) e (bl_kn hk) hpr hgv i hbc hi, bl_to (mu_basisAt l D b th gv hs ot pr hth hgv (bb_wk (fun i => pr.testBit i) gv hs) rfl bw_z i (by rw [← hsz]; exact hi)) (by rw [bl_at hgv hs bw_z hi])⟩
  · exact ⟨(pr, gv, 1, bb_ln0 pr gv q0, th, bb_wk (fun i => pr.testBit i) gv hs, ot), _, ⟨hpr, hgv, Or.inr ⟨rfl, q0, rfl⟩, hth⟩, mt_basisAtX l D a pr gv kn q (bb_ln0 pr gv q0) e (bl_kn hk) hpr hgv x hbc hbad, mu_basisAtX l D b th gv hs ot pr hth hgv (bb_wk (fun i => pr.testBit i) gv hs) rfl x (by rw [← hsz]; exact hbad)⟩
set_option maxRecDepth 100000 in
theorem bo_bound (l : Launch) (D : va_G) (a b : bw_A0) (z : bl_S) (hI : bl_I z) : bl_op l D a b yX0_bound yX1_bound (ws_ yX0_bound cX0_bound 1 (some .int)) (ws_ yX1_bound cX1_bound 3 (some .int)) ({ frames := 6, cells := 0, slots := 0, locals := 138 }) ({ frames := 3, cells := 0, slots := 0, locals := 70 }) [] z := by
  obtain ⟨pr, gv, kn, q, th, hs, ot⟩ := z
  obtain ⟨hpr, hgv, hk, hth⟩ := id hI
  have hpr : pr < 64 := hpr
  have hgv : ∀ i, i < 6 → gv i < 65536 := hgv
  have hk : kn = 0 ∨ (kn = 1 ∧ ∃ q0, q = bb_ln0 pr gv q0) := hk
  have hth : bb_TH pr th := hth
  obtain ⟨q0, e⟩ := bl_ln hk
  exact ⟨(pr, gv, 1, bb_ln0 pr gv q0, th, bb_wk (fun i => pr.testBit i) gv hs, ot), _, ⟨hpr, hgv, Or.inr ⟨rfl, q0, rfl⟩, hth⟩, mt_bound l D a pr gv kn q (bb_ln0 pr gv q0) e (bl_kn hk) hpr hgv, bl_to (mu_bound l D b th gv hs ot pr hth hgv (bb_wk (fun i => pr.testBit i) gv hs) rfl) (by rw [bl_bound hgv hs])⟩
set_option maxRecDepth 100000 in
theorem bo_zeros (l : Launch) (D : va_G) (a b : bw_A0) (z : bl_S) (hI : bl_I z) : bl_op l D a b yX0_zeros yX1_zeros (ws_ yX0_zeros cX0_zeros 1 (some .int)) (ws_ yX1_zeros cX1_zeros 5 (some .int)) ({ frames := 6, cells := 0, slots := 0, locals := 138 }) ({ frames := 2, cells := 0, slots := 0, locals := 45 }) [] z := by
  obtain ⟨pr, gv, kn, q, th, hs, ot⟩ := z
  obtain ⟨hpr, hgv, hk, hth⟩ := id hI
  have hpr : pr < 64 := hpr
  have hgv : ∀ i, i < 6 → gv i < 65536 := hgv
  have hk : kn = 0 ∨ (kn = 1 ∧ ∃ q0, q = bb_ln0 pr gv q0) := hk
  have hth : bb_TH pr th := hth
  obtain ⟨q0, e⟩ := bl_ln hk
  exact ⟨(pr, gv, 1, bb_ln0 pr gv q0, th, hs, ot), _, ⟨hpr, hgv, Or.inr ⟨rfl, q0, rfl⟩, hth⟩, mt_zeros l D a pr gv kn q (bb_ln0 pr gv q0) e (bl_kn hk) hpr hgv, bl_to (mu_zeros l D b th gv hs ot pr hth hgv) (by rw [bl_zeros hgv hth])⟩
set_option maxRecDepth 100000 in
theorem bo_zeroCount (l : Launch) (D : va_G) (a b : bw_A0) (z : bl_S) (hI : bl_I z) : bl_op l D a b yX0_zeroCount yX1_zeroCount (ws_ yX0_zeroCount cX0_zeroCount 3 (some .int)) (ws_ yX1_zeroCount cX1_zeroCount 4 (some .int)) ({ frames := 6, cells := 0, slots := 0, locals := 138 }) ({ frames := 3, cells := 0, slots := 0, locals := 69 }) [] z := by
  obtain ⟨pr, gv, kn, q, th, hs, ot⟩ := z
  obtain ⟨hpr, hgv, hk, hth⟩ := id hI
  have hpr : pr < 64 := hpr
  have hgv : ∀ i, i < 6 → gv i < 65536 := hgv
  have hk : kn = 0 ∨ (kn = 1 ∧ ∃ q0, q = bb_ln0 pr gv q0) := hk
  have hth : bb_TH pr th := hth
  obtain ⟨q0, e⟩ := bl_ln hk
  exact ⟨(pr, gv, 1, bb_ln0 pr gv q0, th, hs, ot), _, ⟨hpr, hgv, Or.inr ⟨rfl, q0, rfl⟩, hth⟩, mt_zeroCount l D a pr gv kn q (bb_ln0 pr gv q0) e (bl_kn hk) hpr hgv bl_zlt, bl_to (mu_zeroCount l D b th gv hs ot pr hth hgv) (by rw [bl_zeros hgv hth])⟩
set_option maxRecDepth 100000 in
theorem bo_values (l : Launch) (D : va_G) (a b : bw_A0) (x : Int32) (z : bl_S) (hI : bl_I z) : bl_op l D a b yX0_values yX1_values (ws_ yX0_values cX0_values 4 (some .int)) (ws_ yX1_values cX1_values 5 (some .int)) ({ frames := 6, cells := 0, slots := 0, locals := 138 }) ({ frames := 3, cells := 0, slots := 0, locals := 69 }) [.int x] z := by
  obtain ⟨pr, gv, kn, q, th, hs, ot⟩ := z
  obtain ⟨hpr, hgv, hk, hth⟩ := id hI
  have hpr : pr < 64 := hpr
  have hgv : ∀ i, i < 6 → gv i < 65536 := hgv
  have hk : kn = 0 ∨ (kn = 1 ∧ ∃ q0, q = bb_ln0 pr gv q0) := hk
  have hth : bb_TH pr th := hth
  rcases bl_dom x 4 with ⟨i, hi, rfl⟩ | hbad
  · obtain ⟨q0, e⟩ := bl_ln hk
    exact ⟨(pr, gv, 1, bb_ln0 pr gv q0, th, hs, ot), _, ⟨hpr, hgv, Or.inr ⟨rfl, q0, rfl⟩, hth⟩, mt_values l D a pr gv kn q (bb_ln0 pr gv q0) e (bl_kn hk) hpr hgv bl_zlt i hi, bl_to (mu_values l D b th gv hs ot pr hth hgv i hi) (by rw [bl_zeros hgv hth])⟩
  · exact ⟨(pr, gv, kn, q, th, hs, ot), nI 0, hI, mt_valuesX l D a pr gv kn q x hbad, mu_valuesX l D b th gv hs ot pr hth hgv x hbad⟩
set_option maxRecDepth 100000 in
theorem bo_redundant (l : Launch) (D : va_G) (a b : bw_A0) (x : Int32) (z : bl_S) (hI : bl_I z) : bl_op l D a b yX0_redundant yX1_redundant (ws_ yX0_redundant cX0_redundant 2 (some .boolean)) (ws_ yX1_redundant cX1_redundant 2 (some .boolean)) ({ frames := 5, cells := 0, slots := 0, locals := 117 }) ({ frames := 3, cells := 0, slots := 0, locals := 70 }) [.int x] z := by
  obtain ⟨pr, gv, kn, q, th, hs, ot⟩ := z
  obtain ⟨hpr, hgv, hk, hth⟩ := id hI
  have hpr : pr < 64 := hpr
  have hgv : ∀ i, i < 6 → gv i < 65536 := hgv
  have hk : kn = 0 ∨ (kn = 1 ∧ ∃ q0, q = bb_ln0 pr gv q0) := hk
  have hth : bb_TH pr th := hth
  rcases bl_dom x 6 with ⟨i, hi, rfl⟩ | hbad
  · cases e : pr.testBit i with
    | true => exact ⟨(pr, gv, 0, (bb_cmp (bb_rmv pr i) gv q.1.2.1 q.1.2.2, q.2), th, bb_wk (bl_sel pr i) gv hs, ot), _, ⟨hpr, hgv, Or.inl rfl, hth⟩, mt_redundant l D a pr gv kn q hpr hgv i hi e, bl_to (mu_redundant l D b th gv hs ot pr hth hgv i hi e (bl_sel pr i) (bl_hsel pr hi)) (by rw [bl_redun hpr hgv hi _ _ hs (hgv i hi)])⟩
    | false => exact ⟨(pr, gv, kn, q, th, hs, ot), nI 0, hI, mt_redundant0 l D a pr gv kn q hpr hgv i hi e, mu_redundant0 l D b th gv hs ot pr hth i hi e⟩
  · exact ⟨(pr, gv, kn, q, th, hs, ot), nI 0, hI, mt_redundantX l D a pr gv kn q x hbad, mu_redundantX l D b th gv hs ot x hbad⟩
set_option maxRecDepth 100000 in
theorem bo_relates (l : Launch) (D : va_G) (a b : bw_A0) (x : Int32) (z : bl_S) (hI : bl_I z) : bl_op l D a b yX0_relates yX1_relates (ws_ yX0_relates cX0_relates 4 (some .boolean)) (ws_ yX1_relates cX1_relates 4 (some .boolean)) ({ frames := 6, cells := 0, slots := 0, locals := 138 }) ({ frames := 3, cells := 0, slots := 0, locals := 70 }) [.int x] z := by
  obtain ⟨pr, gv, kn, q, th, hs, ot⟩ := z
  obtain ⟨hpr, hgv, hk, hth⟩ := id hI
  have hpr : pr < 64 := hpr
  have hgv : ∀ i, i < 6 → gv i < 65536 := hgv
  have hk : kn = 0 ∨ (kn = 1 ∧ ∃ q0, q = bb_ln0 pr gv q0) := hk
  have hth : bb_TH pr th := hth
  rcases bl_dom x 16 with ⟨u, hu, rfl⟩ | hbad
  · obtain ⟨q0, e⟩ := bl_ln hk
    exact ⟨(pr, gv, 1, bb_ln0 pr gv q0, th, bb_wk (fun i => pr.testBit i) gv hs, (bb_rel (bb_wk (fun i => pr.testBit i) gv hs) u (bb_clr ot 16) 16).2), _, ⟨hpr, hgv, Or.inr ⟨rfl, q0, rfl⟩, hth⟩, mt_relates l D a pr gv kn q (bb_ln0 pr gv q0) e (bl_kn hk) hpr hgv bl_zlt u hu, bl_to (mu_relates l D b th gv hs ot pr hth hgv (bb_wk (fun i => pr.testBit i) gv hs) rfl u hu) (by rw [bl_rel hgv hs ot hu])⟩
  · exact ⟨(pr, gv, kn, q, th, hs, ot), nI 0, hI, mt_relatesX l D a pr gv kn q x hbad, mu_relatesX l D b th gv hs ot x hbad⟩
end
section
/-! THE CLAIM OUT OF ONE WALK OF THE LAW'S BODY. Your part is whole_start (and what it stands on); all else here is the same for every law, but numbers. -/
def R_law : String := "BooleanBasisLaw"
def lw_P (b : Addr) (xs : List Int32) (args : Array Value) (s : State) : Prop := args = #[.ref b] ∧ s.IntsAt b xs ∧ xs.length ≤ 192 ∧ (Jvm.Cond.and given_1 narrow_1).before args s = true
def lw_Q (_ : Array Value) (s : State) (o : Outcome) (t : State) : Prop := o = .returned (some (.int 1)) ∧ Framed s o t [] 600000 7290000
def lw_Z (below : List Frame) (a : Array Value) (s : State) : State → Prop := fun t => ∃ o, t.status = .running ∧ Ended t below o ∧ lw_Q a s o t
/-- the law's own end, with 1 on the stack, nothing written that was there before, its room as the claim has it -/
theorem lw_ret {p : Program} {l : Launch} {e : Env} {s : State} {m : MethodId} {below : List Frame} {meth : Method} {c : Code} {b : Nat} (hx : p.tables.exec = Jvm.exec) (hb : c.code = code) (hr : meth.sig.returnType = ret) (hlocks : meth.locks = false) {pc : Nat} {H : Heap} {ls : Array Slot} (hdg : decode code pc = .ok (.ireturn, 1)) : W p l e room_1 s m #[Value.ref b] below meth c H [] 600000 7290000 (lw_Z below #[Value.ref b] s) (F0 m pc ls [.int 1]) := by
  intro T hT X
  obtain ⟨fs, hret, hrun, hended, hW, hframe⟩ := X.leave (v := some (.int 1)) (hlocks := hlocks) (fun h => by rw [hr] at h; cases h)
  have hmeth' : T.vm.method? m = some meth := X.method'
  refine ⟨T.setFrames fs, ?_, .returned (some (.int 1)), hrun, hended, rfl, ⟨_, rfl⟩, hW, hframe⟩
  jvm_step X.here [X.here.top, hx, hb, hdg, hmeth', hr, ret, narrow_b1]
  (try refine ⟨rfl, ?_⟩); (try refine ⟨rfl, ?_⟩)
  first | (intro acts; rw [hret _ acts rfl rfl rfl]) | rw [hret _ _ rfl rfl rfl]
  exact Steps.refl _
/-- what holds at the law's entry: the machine, the code, the tables' words (any of lw_tbl by 'hts w (by decide +kernel)'), the script of L ints xs at the cell b, what the Statement gives of the start (any of its parts by flat_of_before) -/
def lw_At (p : Program) (s : State) (m : MethodId) (meth : Method) (c : Code) (b L : Nat) (xs : Nat → Int32) : Prop :=
  p.tables.exec = Jvm.exec ∧ c.code = code ∧ meth.sig.returnType = ret ∧ c.maxLocals = 4 ∧ s.vm.findClass R_law = some m.cls ∧ (∀ w ∈ lw_tbl, w.before #[Value.ref b] s = true) ∧ va_X b L xs s s.heap ∧ b < s.heap.size ∧ meth.locks = false ∧ (Jvm.Cond.and given_1 narrow_1).before #[Value.ref b] s = true
end
section
/-! THE LAW, op by op -/
set_option maxHeartbeats 4000000 in
set_option maxRecDepth 100000 in
theorem law_add {p : Program} {e : Env} {s : State} {m : MethodId} {below : List Frame} {meth : Method} {c : Code} {l : Launch} {D : va_G} {a b : bw_A0} {sb L : Nat} {xs : Nat → Int32} (hL : L ≤ 192) (C0 : lw_At p s m meth c sb L xs) (hK0 : va_K D bw_Cl (bw_T0 a) s) (hK1 : va_K D bw_Cl (bw_T1 b) s) {z : bl_S} {i : Nat} (hI : bl_I z) (hi : i + 3 ≤ L) {ls : Array Slot} {H : Heap} {locs : List Loc} (hl : lv_has ls 4 [(0, .ref sb), (1, .ref a.1), (2, .ref b.1), (3, .int (nI i))]) (hw : bw_H D bw_Cl (fun q : Nat => s.heap.size ≤ q) s.heap (bl_w0 a z ++ bl_w1 b z) H locs)
    (kk : ∀ (z' : bl_S) (H' : Heap) (locs' : List Loc), bl_I z' → bw_H D bw_Cl (fun q : Nat => s.heap.size ≤ q) s.heap (bl_w0 a z' ++ bl_w1 b z') H' locs' → W p l e room_1 s m #[Value.ref sb] below meth c H' locs' 10 144 (lw_Z below #[Value.ref sb] s) (F0 m 423 ls [])) : W p l e room_1 s m #[Value.ref sb] below meth c H locs 10 144 (lw_Z below #[Value.ref sb] s) (F0 m 108 ls []) := by
  obtain ⟨hx, hb, hr, hml, hown, hts0, hX, hbl, hlocks, hgv⟩ := id C0
  have hts : ∀ w ∈ lw_all, w.before #[Value.ref sb] s = true := fun w h => hts0 w (lw_all_tbl h)
  have hA : ∀ q : Nat, s.heap.size ≤ q → (fun q : Nat => s.heap.size ≤ q) q := fun _ h => h
  have hbA : ¬ (fun q : Nat => s.heap.size ≤ q) sb := Nat.not_le.mpr hbl
  obtain ⟨z', G, hI', hM0, hM1⟩ := bo_add l D a b (xs (nI (i + 1)).toNatClampNeg) z hI
  refine lv_aload_n hx hb dL_law_108 rfl (lv_at hl 1 rfl) ?_
  refine lv_aload_n hx hb dL_law_109 rfl (lv_at hl 0 rfl) ?_
  refine lv_iload_n hx hb dL_law_110 rfl (lv_at hl 3 rfl) ?_
  refine lv_iconst (v := nI 1) hx hb dL_law_111 (by decide) ?_
  refine bw_iadd hx hb dL_law_112 ?_
  refine va_sld hx hb hX hbl hbA hw.2.2 (vp_in_nI (by omega) (by omega)) dL_law_113 ?_
  refine bw_callVI (tys := []) (wr := bl_w1 b z) ⟨hx, hb, hml, hown, hts⟩ [.int (xs (nI (i + 1)).toNatClampNeg)] [] hM0 (cwV 1 hts (lw_V q60 q61 q62 q17 q63) rfl rfl rfl (by decide +kernel) ⟨Nat.le_of_ble_eq_true rfl, Nat.le_of_ble_eq_true rfl⟩) 0 0 rfl rfl hK0 hA hw [0, 1, 2, 3, 4] [5, 6, 7, 8, 9] rfl rfl rfl rfl rfl (by decide) rfl hl.1 rfl (Nat.le_of_ble_eq_true rfl) dL_law_114 ⟨Nat.le_of_ble_eq_true rfl, Nat.le_of_ble_eq_true rfl⟩ (fun H locs hw => ?_)
  refine lv_aload_n hx hb dL_law_117 rfl (lv_at hl 2 rfl) ?_
  refine lv_aload_n hx hb dL_law_118 rfl (lv_at hl 0 rfl) ?_
  refine lv_iload_n hx hb dL_law_119 rfl (lv_at hl 3 rfl) ?_
  refine lv_iconst (v := nI 1) hx hb dL_law_120 (by decide) ?_
  refine bw_iadd hx hb dL_law_121 ?_
  refine va_sld hx hb hX hbl hbA hw.2.2 (vp_in_nI (by omega) (by omega)) dL_law_122 ?_
  refine bw_callVI (tys := []) (wr := bl_w0 a z') ⟨hx, hb, hml, hown, hts⟩ [.int (xs (nI (i + 1)).toNatClampNeg)] [.int G] hM1 (cwV 1 hts (lw_V q193 q194 q195 q18 q196) rfl rfl rfl (by decide +kernel) ⟨Nat.le_of_ble_eq_true rfl, Nat.le_of_ble_eq_true rfl⟩) 1 0 rfl rfl hK1 hA hw [0, 1, 2, 3, 4] [5, 6, 7, 8, 9] rfl rfl rfl rfl rfl (by decide) rfl hl.1 rfl (Nat.le_of_ble_eq_true rfl) dL_law_123 ⟨Nat.le_of_ble_eq_true rfl, Nat.le_of_ble_eq_true rfl⟩ (fun H locs hw => ?_)
  exact lv_icmp_eq (tgt := 423) hx hb dL_law_126 (by decide) (fun _ => kk z' _ _ hI' hw) (fun h => absurd rfl h)
set_option maxHeartbeats 4000000 in
set_option maxRecDepth 100000 in
theorem law_remove {p : Program} {e : Env} {s : State} {m : MethodId} {below : List Frame} {meth : Method} {c : Code} {l : Launch} {D : va_G} {a b : bw_A0} {sb L : Nat} {xs : Nat → Int32} (hL : L ≤ 192) (C0 : lw_At p s m meth c sb L xs) (hK0 : va_K D bw_Cl (bw_T0 a) s) (hK1 : va_K D bw_Cl (bw_T1 b) s) {z : bl_S} {i : Nat} (hI : bl_I z) (hi : i + 3 ≤ L) {ls : Array Slot} {H : Heap} {locs : List Loc} (hl : lv_has ls 4 [(0, .ref sb), (1, .ref a.1), (2, .ref b.1), (3, .int (nI i))]) (hw : bw_H D bw_Cl (fun q : Nat => s.heap.size ≤ q) s.heap (bl_w0 a z ++ bl_w1 b z) H locs)
    (kk : ∀ (z' : bl_S) (H' : Heap) (locs' : List Loc), bl_I z' → bw_H D bw_Cl (fun q : Nat => s.heap.size ≤ q) s.heap (bl_w0 a z' ++ bl_w1 b z') H' locs' → W p l e room_1 s m #[Value.ref sb] below meth c H' locs' 10 144 (lw_Z below #[Value.ref sb] s) (F0 m 423 ls [])) : W p l e room_1 s m #[Value.ref sb] below meth c H locs 10 144 (lw_Z below #[Value.ref sb] s) (F0 m 131 ls []) := by
  obtain ⟨hx, hb, hr, hml, hown, hts0, hX, hbl, hlocks, hgv⟩ := id C0
  have hts : ∀ w ∈ lw_all, w.before #[Value.ref sb] s = true := fun w h => hts0 w (lw_all_tbl h)
  have hA : ∀ q : Nat, s.heap.size ≤ q → (fun q : Nat => s.heap.size ≤ q) q := fun _ h => h
  have hbA : ¬ (fun q : Nat => s.heap.size ≤ q) sb := Nat.not_le.mpr hbl
  obtain ⟨z', G, hI', hM0, hM1⟩ := bo_remove l D a b (xs (nI (i + 1)).toNatClampNeg) z hI
  refine lv_aload_n hx hb dL_law_131 rfl (lv_at hl 1 rfl) ?_
  refine lv_aload_n hx hb dL_law_132 rfl (lv_at hl 0 rfl) ?_
  refine lv_iload_n hx hb dL_law_133 rfl (lv_at hl 3 rfl) ?_
  refine lv_iconst (v := nI 1) hx hb dL_law_134 (by decide) ?_
  refine bw_iadd hx hb dL_law_135 ?_
  refine va_sld hx hb hX hbl hbA hw.2.2 (vp_in_nI (by omega) (by omega)) dL_law_136 ?_
  refine bw_callVI (tys := []) (wr := bl_w1 b z) ⟨hx, hb, hml, hown, hts⟩ [.int (xs (nI (i + 1)).toNatClampNeg)] [] hM0 (cwV 1 hts (lw_V q72 q73 q74 q17 q75) rfl rfl rfl (by decide +kernel) ⟨Nat.le_of_ble_eq_true rfl, Nat.le_of_ble_eq_true rfl⟩) 0 0 rfl rfl hK0 hA hw [0, 1, 2, 3, 4] [5, 6, 7, 8, 9] rfl rfl rfl rfl rfl (by decide) rfl hl.1 rfl (Nat.le_of_ble_eq_true rfl) dL_law_137 ⟨Nat.le_of_ble_eq_true rfl, Nat.le_of_ble_eq_true rfl⟩ (fun H locs hw => ?_)
  refine lv_aload_n hx hb dL_law_140 rfl (lv_at hl 2 rfl) ?_
  refine lv_aload_n hx hb dL_law_141 rfl (lv_at hl 0 rfl) ?_
  refine lv_iload_n hx hb dL_law_142 rfl (lv_at hl 3 rfl) ?_
  refine lv_iconst (v := nI 1) hx hb dL_law_143 (by decide) ?_
  refine bw_iadd hx hb dL_law_144 ?_
  refine va_sld hx hb hX hbl hbA hw.2.2 (vp_in_nI (by omega) (by omega)) dL_law_145 ?_
  refine bw_callVI (tys := []) (wr := bl_w0 a z') ⟨hx, hb, hml, hown, hts⟩ [.int (xs (nI (i + 1)).toNatClampNeg)] [.int G] hM1 (cwV 1 hts (lw_V q202 q203 q204 q18 q205) rfl rfl rfl (by decide +kernel) ⟨Nat.le_of_ble_eq_true rfl, Nat.le_of_ble_eq_true rfl⟩) 1 0 rfl rfl hK1 hA hw [0, 1, 2, 3, 4] [5, 6, 7, 8, 9] rfl rfl rfl rfl rfl (by decide) rfl hl.1 rfl (Nat.le_of_ble_eq_true rfl) dL_law_146 ⟨Nat.le_of_ble_eq_true rfl, Nat.le_of_ble_eq_true rfl⟩ (fun H locs hw => ?_)
  exact lv_icmp_eq (tgt := 423) hx hb dL_law_149 (by decide) (fun _ => kk z' _ _ hI' hw) (fun h => absurd rfl h)
set_option maxHeartbeats 4000000 in
set_option maxRecDepth 100000 in
theorem law_generators {p : Program} {e : Env} {s : State} {m : MethodId} {below : List Frame} {meth : Method} {c : Code} {l : Launch} {D : va_G} {a b : bw_A0} {sb L : Nat} {xs : Nat → Int32} (hL : L ≤ 192) (C0 : lw_At p s m meth c sb L xs) (hK0 : va_K D bw_Cl (bw_T0 a) s) (hK1 : va_K D bw_Cl (bw_T1 b) s) {z : bl_S} {i : Nat} (hI : bl_I z) (hi : i + 3 ≤ L) {ls : Array Slot} {H : Heap} {locs : List Loc} (hl : lv_has ls 4 [(0, .ref sb), (1, .ref a.1), (2, .ref b.1), (3, .int (nI i))]) (hw : bw_H D bw_Cl (fun q : Nat => s.heap.size ≤ q) s.heap (bl_w0 a z ++ bl_w1 b z) H locs)
    (kk : ∀ (z' : bl_S) (H' : Heap) (locs' : List Loc), bl_I z' → bw_H D bw_Cl (fun q : Nat => s.heap.size ≤ q) s.heap (bl_w0 a z' ++ bl_w1 b z') H' locs' → W p l e room_1 s m #[Value.ref sb] below meth c H' locs' 10 144 (lw_Z below #[Value.ref sb] s) (F0 m 423 ls [])) : W p l e room_1 s m #[Value.ref sb] below meth c H locs 10 144 (lw_Z below #[Value.ref sb] s) (F0 m 154 ls []) := by
  obtain ⟨hx, hb, hr, hml, hown, hts0, hX, hbl, hlocks, hgv⟩ := id C0
  have hts : ∀ w ∈ lw_all, w.before #[Value.ref sb] s = true := fun w h => hts0 w (lw_all_tbl h)
  have hA : ∀ q : Nat, s.heap.size ≤ q → (fun q : Nat => s.heap.size ≤ q) q := fun _ h => h
  have hbA : ¬ (fun q : Nat => s.heap.size ≤ q) sb := Nat.not_le.mpr hbl
  obtain ⟨z', G, hI', hM0, hM1⟩ := bo_generators l D a b z hI
  refine lv_aload_n hx hb dL_law_154 rfl (lv_at hl 1 rfl) ?_
  refine bw_callVI (tys := []) (wr := bl_w1 b z) ⟨hx, hb, hml, hown, hts⟩ [] [] hM0 (cwV 0 hts (lw_V q76 q77 q78 q17 q79) rfl rfl rfl (by decide +kernel) ⟨Nat.le_of_ble_eq_true rfl, Nat.le_of_ble_eq_true rfl⟩) 0 0 rfl rfl hK0 hA hw [0, 1, 2, 3, 4] [5, 6, 7, 8, 9] rfl rfl rfl rfl rfl (by decide) rfl hl.1 rfl (Nat.le_of_ble_eq_true rfl) dL_law_155 ⟨Nat.le_of_ble_eq_true rfl, Nat.le_of_ble_eq_true rfl⟩ (fun H locs hw => ?_)
  refine lv_aload_n hx hb dL_law_158 rfl (lv_at hl 2 rfl) ?_
  refine bw_callVI (tys := []) (wr := bl_w0 a z') ⟨hx, hb, hml, hown, hts⟩ [] [.int G] hM1 (cwV 0 hts (lw_V q206 q207 q208 q18 q209) rfl rfl rfl (by decide +kernel) ⟨Nat.le_of_ble_eq_true rfl, Nat.le_of_ble_eq_true rfl⟩) 1 0 rfl rfl hK1 hA hw [0, 1, 2, 3, 4] [5, 6, 7, 8, 9] rfl rfl rfl rfl rfl (by decide) rfl hl.1 rfl (Nat.le_of_ble_eq_true rfl) dL_law_159 ⟨Nat.le_of_ble_eq_true rfl, Nat.le_of_ble_eq_true rfl⟩ (fun H locs hw => ?_)
  exact lv_icmp_eq (tgt := 423) hx hb dL_law_162 (by decide) (fun _ => kk z' _ _ hI' hw) (fun h => absurd rfl h)
set_option maxHeartbeats 4000000 in
set_option maxRecDepth 100000 in
theorem law_product {p : Program} {e : Env} {s : State} {m : MethodId} {below : List Frame} {meth : Method} {c : Code} {l : Launch} {D : va_G} {a b : bw_A0} {sb L : Nat} {xs : Nat → Int32} (hL : L ≤ 192) (C0 : lw_At p s m meth c sb L xs) (hK0 : va_K D bw_Cl (bw_T0 a) s) (hK1 : va_K D bw_Cl (bw_T1 b) s) {z : bl_S} {i : Nat} (hI : bl_I z) (hi : i + 3 ≤ L) {ls : Array Slot} {H : Heap} {locs : List Loc} (hl : lv_has ls 4 [(0, .ref sb), (1, .ref a.1), (2, .ref b.1), (3, .int (nI i))]) (hw : bw_H D bw_Cl (fun q : Nat => s.heap.size ≤ q) s.heap (bl_w0 a z ++ bl_w1 b z) H locs)
    (kk : ∀ (z' : bl_S) (H' : Heap) (locs' : List Loc), bl_I z' → bw_H D bw_Cl (fun q : Nat => s.heap.size ≤ q) s.heap (bl_w0 a z' ++ bl_w1 b z') H' locs' → W p l e room_1 s m #[Value.ref sb] below meth c H' locs' 10 144 (lw_Z below #[Value.ref sb] s) (F0 m 423 ls [])) : W p l e room_1 s m #[Value.ref sb] below meth c H locs 10 144 (lw_Z below #[Value.ref sb] s) (F0 m 167 ls []) := by
  obtain ⟨hx, hb, hr, hml, hown, hts0, hX, hbl, hlocks, hgv⟩ := id C0
  have hts : ∀ w ∈ lw_all, w.before #[Value.ref sb] s = true := fun w h => hts0 w (lw_all_tbl h)
  have hA : ∀ q : Nat, s.heap.size ≤ q → (fun q : Nat => s.heap.size ≤ q) q := fun _ h => h
  have hbA : ¬ (fun q : Nat => s.heap.size ≤ q) sb := Nat.not_le.mpr hbl
  obtain ⟨z', G, hI', hM0, hM1⟩ := bo_product l D a b (xs (nI (i + 1)).toNatClampNeg) (xs (nI (i + 2)).toNatClampNeg) z hI
  refine lv_aload_n hx hb dL_law_167 rfl (lv_at hl 1 rfl) ?_
  refine lv_aload_n hx hb dL_law_168 rfl (lv_at hl 0 rfl) ?_
  refine lv_iload_n hx hb dL_law_169 rfl (lv_at hl 3 rfl) ?_
  refine lv_iconst (v := nI 1) hx hb dL_law_170 (by decide) ?_
  refine bw_iadd hx hb dL_law_171 ?_
  refine va_sld hx hb hX hbl hbA hw.2.2 (vp_in_nI (by omega) (by omega)) dL_law_172 ?_
  refine lv_aload_n hx hb dL_law_173 rfl (lv_at hl 0 rfl) ?_
  refine lv_iload_n hx hb dL_law_174 rfl (lv_at hl 3 rfl) ?_
  refine lv_iconst (v := nI 2) hx hb dL_law_175 (by decide) ?_
  refine bw_iadd hx hb dL_law_176 ?_
  refine va_sld hx hb hX hbl hbA hw.2.2 (vp_in_nI (by omega) (by omega)) dL_law_177 ?_
  refine bw_callVI (tys := []) (wr := bl_w1 b z) ⟨hx, hb, hml, hown, hts⟩ [.int (xs (nI (i + 1)).toNatClampNeg), .int (xs (nI (i + 2)).toNatClampNeg)] [] hM0 (cwV 2 hts (lw_V q80 q81 q82 q17 q83) rfl rfl rfl (by decide +kernel) ⟨Nat.le_of_ble_eq_true rfl, Nat.le_of_ble_eq_true rfl⟩) 0 0 rfl rfl hK0 hA hw [0, 1, 2, 3, 4] [5, 6, 7, 8, 9] rfl rfl rfl rfl rfl (by decide) rfl hl.1 rfl (Nat.le_of_ble_eq_true rfl) dL_law_178 ⟨Nat.le_of_ble_eq_true rfl, Nat.le_of_ble_eq_true rfl⟩ (fun H locs hw => ?_)
  refine lv_aload_n hx hb dL_law_181 rfl (lv_at hl 2 rfl) ?_
  refine lv_aload_n hx hb dL_law_182 rfl (lv_at hl 0 rfl) ?_
  refine lv_iload_n hx hb dL_law_183 rfl (lv_at hl 3 rfl) ?_
  refine lv_iconst (v := nI 1) hx hb dL_law_184 (by decide) ?_
  refine bw_iadd hx hb dL_law_185 ?_
  refine va_sld hx hb hX hbl hbA hw.2.2 (vp_in_nI (by omega) (by omega)) dL_law_186 ?_
  refine lv_aload_n hx hb dL_law_187 rfl (lv_at hl 0 rfl) ?_
  refine lv_iload_n hx hb dL_law_188 rfl (lv_at hl 3 rfl) ?_
  refine lv_iconst (v := nI 2) hx hb dL_law_189 (by decide) ?_
  refine bw_iadd hx hb dL_law_190 ?_
  refine va_sld hx hb hX hbl hbA hw.2.2 (vp_in_nI (by omega) (by omega)) dL_law_191 ?_
  refine bw_callVI (tys := []) (wr := bl_w0 a z') ⟨hx, hb, hml, hown, hts⟩ [.int (xs (nI (i + 1)).toNatClampNeg), .int (xs (nI (i + 2)).toNatClampNeg)] [.int G] hM1 (cwV 2 hts (lw_V q210 q211 q212 q18 q213) rfl rfl rfl (by decide +kernel) ⟨Nat.le_of_ble_eq_true rfl, Nat.le_of_ble_eq_true rfl⟩) 1 0 rfl rfl hK1 hA hw [0, 1, 2, 3, 4] [5, 6, 7, 8, 9] rfl rfl rfl rfl rfl (by decide) rfl hl.1 rfl (Nat.le_of_ble_eq_true rfl) dL_law_192 ⟨Nat.le_of_ble_eq_true rfl, Nat.le_of_ble_eq_true rfl⟩ (fun H locs hw => ?_)
  exact lv_icmp_eq (tgt := 423) hx hb dL_law_195 (by decide) (fun _ => kk z' _ _ hI' hw) (fun h => absurd rfl h)
set_option maxHeartbeats 4000000 in
set_option maxRecDepth 100000 in
theorem law_value {p : Program} {e : Env} {s : State} {m : MethodId} {below : List Frame} {meth : Method} {c : Code} {l : Launch} {D : va_G} {a b : bw_A0} {sb L : Nat} {xs : Nat → Int32} (hL : L ≤ 192) (C0 : lw_At p s m meth c sb L xs) (hK0 : va_K D bw_Cl (bw_T0 a) s) (hK1 : va_K D bw_Cl (bw_T1 b) s) {z : bl_S} {i : Nat} (hI : bl_I z) (hi : i + 3 ≤ L) {ls : Array Slot} {H : Heap} {locs : List Loc} (hl : lv_has ls 4 [(0, .ref sb), (1, .ref a.1), (2, .ref b.1), (3, .int (nI i))]) (hw : bw_H D bw_Cl (fun q : Nat => s.heap.size ≤ q) s.heap (bl_w0 a z ++ bl_w1 b z) H locs)
    (kk : ∀ (z' : bl_S) (H' : Heap) (locs' : List Loc), bl_I z' → bw_H D bw_Cl (fun q : Nat => s.heap.size ≤ q) s.heap (bl_w0 a z' ++ bl_w1 b z') H' locs' → W p l e room_1 s m #[Value.ref sb] below meth c H' locs' 10 144 (lw_Z below #[Value.ref sb] s) (F0 m 423 ls [])) : W p l e room_1 s m #[Value.ref sb] below meth c H locs 10 144 (lw_Z below #[Value.ref sb] s) (F0 m 200 ls []) := by
  obtain ⟨hx, hb, hr, hml, hown, hts0, hX, hbl, hlocks, hgv⟩ := id C0
  have hts : ∀ w ∈ lw_all, w.before #[Value.ref sb] s = true := fun w h => hts0 w (lw_all_tbl h)
  have hA : ∀ q : Nat, s.heap.size ≤ q → (fun q : Nat => s.heap.size ≤ q) q := fun _ h => h
  have hbA : ¬ (fun q : Nat => s.heap.size ≤ q) sb := Nat.not_le.mpr hbl
  obtain ⟨z', G, hI', hM0, hM1⟩ := bo_value l D a b (xs (nI (i + 1)).toNatClampNeg) (xs (nI (i + 2)).toNatClampNeg) z hI
  refine lv_aload_n hx hb dL_law_200 rfl (lv_at hl 1 rfl) ?_
  refine lv_aload_n hx hb dL_law_201 rfl (lv_at hl 0 rfl) ?_
  refine lv_iload_n hx hb dL_law_202 rfl (lv_at hl 3 rfl) ?_
  refine lv_iconst (v := nI 1) hx hb dL_law_203 (by decide) ?_
  refine bw_iadd hx hb dL_law_204 ?_
  refine va_sld hx hb hX hbl hbA hw.2.2 (vp_in_nI (by omega) (by omega)) dL_law_205 ?_
  refine lv_aload_n hx hb dL_law_206 rfl (lv_at hl 0 rfl) ?_
  refine lv_iload_n hx hb dL_law_207 rfl (lv_at hl 3 rfl) ?_
  refine lv_iconst (v := nI 2) hx hb dL_law_208 (by decide) ?_
  refine bw_iadd hx hb dL_law_209 ?_
  refine va_sld hx hb hX hbl hbA hw.2.2 (vp_in_nI (by omega) (by omega)) dL_law_210 ?_
  refine bw_callVI (tys := []) (wr := bl_w1 b z) ⟨hx, hb, hml, hown, hts⟩ [.int (xs (nI (i + 1)).toNatClampNeg), .int (xs (nI (i + 2)).toNatClampNeg)] [] hM0 (cwV 2 hts (lw_V q87 q88 q89 q17 q90) rfl rfl rfl (by decide +kernel) ⟨Nat.le_of_ble_eq_true rfl, Nat.le_of_ble_eq_true rfl⟩) 0 0 rfl rfl hK0 hA hw [0, 1, 2, 3, 4] [5, 6, 7, 8, 9] rfl rfl rfl rfl rfl (by decide) rfl hl.1 rfl (Nat.le_of_ble_eq_true rfl) dL_law_211 ⟨Nat.le_of_ble_eq_true rfl, Nat.le_of_ble_eq_true rfl⟩ (fun H locs hw => ?_)
  refine lv_aload_n hx hb dL_law_214 rfl (lv_at hl 2 rfl) ?_
  refine lv_aload_n hx hb dL_law_215 rfl (lv_at hl 0 rfl) ?_
  refine lv_iload_n hx hb dL_law_216 rfl (lv_at hl 3 rfl) ?_
  refine lv_iconst (v := nI 1) hx hb dL_law_217 (by decide) ?_
  refine bw_iadd hx hb dL_law_218 ?_
  refine va_sld hx hb hX hbl hbA hw.2.2 (vp_in_nI (by omega) (by omega)) dL_law_219 ?_
  refine lv_aload_n hx hb dL_law_220 rfl (lv_at hl 0 rfl) ?_
  refine lv_iload_n hx hb dL_law_221 rfl (lv_at hl 3 rfl) ?_
  refine lv_iconst (v := nI 2) hx hb dL_law_222 (by decide) ?_
  refine bw_iadd hx hb dL_law_223 ?_
  refine va_sld hx hb hX hbl hbA hw.2.2 (vp_in_nI (by omega) (by omega)) dL_law_224 ?_
  refine bw_callVI (tys := []) (wr := bl_w0 a z') ⟨hx, hb, hml, hown, hts⟩ [.int (xs (nI (i + 1)).toNatClampNeg), .int (xs (nI (i + 2)).toNatClampNeg)] [.int G] hM1 (cwV 2 hts (lw_V q214 q215 q216 q18 q217) rfl rfl rfl (by decide +kernel) ⟨Nat.le_of_ble_eq_true rfl, Nat.le_of_ble_eq_true rfl⟩) 1 0 rfl rfl hK1 hA hw [0, 1, 2, 3, 4] [5, 6, 7, 8, 9] rfl rfl rfl rfl rfl (by decide) rfl hl.1 rfl (Nat.le_of_ble_eq_true rfl) dL_law_225 ⟨Nat.le_of_ble_eq_true rfl, Nat.le_of_ble_eq_true rfl⟩ (fun H locs hw => ?_)
  exact lv_icmp_eq (tgt := 423) hx hb dL_law_228 (by decide) (fun _ => kk z' _ _ hI' hw) (fun h => absurd rfl h)
set_option maxHeartbeats 4000000 in
set_option maxRecDepth 100000 in
theorem law_contains {p : Program} {e : Env} {s : State} {m : MethodId} {below : List Frame} {meth : Method} {c : Code} {l : Launch} {D : va_G} {a b : bw_A0} {sb L : Nat} {xs : Nat → Int32} (hL : L ≤ 192) (C0 : lw_At p s m meth c sb L xs) (hK0 : va_K D bw_Cl (bw_T0 a) s) (hK1 : va_K D bw_Cl (bw_T1 b) s) {z : bl_S} {i : Nat} (hI : bl_I z) (hi : i + 3 ≤ L) {ls : Array Slot} {H : Heap} {locs : List Loc} (hl : lv_has ls 4 [(0, .ref sb), (1, .ref a.1), (2, .ref b.1), (3, .int (nI i))]) (hw : bw_H D bw_Cl (fun q : Nat => s.heap.size ≤ q) s.heap (bl_w0 a z ++ bl_w1 b z) H locs)
    (kk : ∀ (z' : bl_S) (H' : Heap) (locs' : List Loc), bl_I z' → bw_H D bw_Cl (fun q : Nat => s.heap.size ≤ q) s.heap (bl_w0 a z' ++ bl_w1 b z') H' locs' → W p l e room_1 s m #[Value.ref sb] below meth c H' locs' 10 144 (lw_Z below #[Value.ref sb] s) (F0 m 423 ls [])) : W p l e room_1 s m #[Value.ref sb] below meth c H locs 10 144 (lw_Z below #[Value.ref sb] s) (F0 m 233 ls []) := by
  obtain ⟨hx, hb, hr, hml, hown, hts0, hX, hbl, hlocks, hgv⟩ := id C0
  have hts : ∀ w ∈ lw_all, w.before #[Value.ref sb] s = true := fun w h => hts0 w (lw_all_tbl h)
  have hA : ∀ q : Nat, s.heap.size ≤ q → (fun q : Nat => s.heap.size ≤ q) q := fun _ h => h
  have hbA : ¬ (fun q : Nat => s.heap.size ≤ q) sb := Nat.not_le.mpr hbl
  obtain ⟨z', G, hI', hM0, hM1⟩ := bo_contains l D a b (xs (nI (i + 1)).toNatClampNeg) z hI
  refine lv_aload_n hx hb dL_law_233 rfl (lv_at hl 1 rfl) ?_
  refine lv_aload_n hx hb dL_law_234 rfl (lv_at hl 0 rfl) ?_
  refine lv_iload_n hx hb dL_law_235 rfl (lv_at hl 3 rfl) ?_
  refine lv_iconst (v := nI 1) hx hb dL_law_236 (by decide) ?_
  refine bw_iadd hx hb dL_law_237 ?_
  refine va_sld hx hb hX hbl hbA hw.2.2 (vp_in_nI (by omega) (by omega)) dL_law_238 ?_
  refine bw_callVI (tys := []) (wr := bl_w1 b z) ⟨hx, hb, hml, hown, hts⟩ [.int (xs (nI (i + 1)).toNatClampNeg)] [] hM0 (cwV 1 hts (lw_V q94 q95 q96 q17 q97) rfl rfl rfl (by decide +kernel) ⟨Nat.le_of_ble_eq_true rfl, Nat.le_of_ble_eq_true rfl⟩) 0 0 rfl rfl hK0 hA hw [0, 1, 2, 3, 4] [5, 6, 7, 8, 9] rfl rfl rfl rfl rfl (by decide) rfl hl.1 rfl (Nat.le_of_ble_eq_true rfl) dL_law_239 ⟨Nat.le_of_ble_eq_true rfl, Nat.le_of_ble_eq_true rfl⟩ (fun H locs hw => ?_)
  refine lv_aload_n hx hb dL_law_242 rfl (lv_at hl 2 rfl) ?_
  refine lv_aload_n hx hb dL_law_243 rfl (lv_at hl 0 rfl) ?_
  refine lv_iload_n hx hb dL_law_244 rfl (lv_at hl 3 rfl) ?_
  refine lv_iconst (v := nI 1) hx hb dL_law_245 (by decide) ?_
  refine bw_iadd hx hb dL_law_246 ?_
  refine va_sld hx hb hX hbl hbA hw.2.2 (vp_in_nI (by omega) (by omega)) dL_law_247 ?_
  refine bw_callVI (tys := []) (wr := bl_w0 a z') ⟨hx, hb, hml, hown, hts⟩ [.int (xs (nI (i + 1)).toNatClampNeg)] [.int G] hM1 (cwV 1 hts (lw_V q218 q219 q220 q18 q221) rfl rfl rfl (by decide +kernel) ⟨Nat.le_of_ble_eq_true rfl, Nat.le_of_ble_eq_true rfl⟩) 1 0 rfl rfl hK1 hA hw [0, 1, 2, 3, 4] [5, 6, 7, 8, 9] rfl rfl rfl rfl rfl (by decide) rfl hl.1 rfl (Nat.le_of_ble_eq_true rfl) dL_law_248 ⟨Nat.le_of_ble_eq_true rfl, Nat.le_of_ble_eq_true rfl⟩ (fun H locs hw => ?_)
  exact lv_icmp_eq (tgt := 423) hx hb dL_law_251 (by decide) (fun _ => kk z' _ _ hI' hw) (fun h => absurd rfl h)
set_option maxHeartbeats 4000000 in
set_option maxRecDepth 100000 in
theorem law_rest {p : Program} {e : Env} {s : State} {m : MethodId} {below : List Frame} {meth : Method} {c : Code} {l : Launch} {D : va_G} {a b : bw_A0} {sb L : Nat} {xs : Nat → Int32} (hL : L ≤ 192) (C0 : lw_At p s m meth c sb L xs) (hK0 : va_K D bw_Cl (bw_T0 a) s) (hK1 : va_K D bw_Cl (bw_T1 b) s) {z : bl_S} {i : Nat} (hI : bl_I z) (hi : i + 3 ≤ L) {ls : Array Slot} {H : Heap} {locs : List Loc} (hl : lv_has ls 4 [(0, .ref sb), (1, .ref a.1), (2, .ref b.1), (3, .int (nI i))]) (hw : bw_H D bw_Cl (fun q : Nat => s.heap.size ≤ q) s.heap (bl_w0 a z ++ bl_w1 b z) H locs)
    (kk : ∀ (z' : bl_S) (H' : Heap) (locs' : List Loc), bl_I z' → bw_H D bw_Cl (fun q : Nat => s.heap.size ≤ q) s.heap (bl_w0 a z' ++ bl_w1 b z') H' locs' → W p l e room_1 s m #[Value.ref sb] below meth c H' locs' 10 144 (lw_Z below #[Value.ref sb] s) (F0 m 423 ls [])) : W p l e room_1 s m #[Value.ref sb] below meth c H locs 10 144 (lw_Z below #[Value.ref sb] s) (F0 m 256 ls []) := by
  obtain ⟨hx, hb, hr, hml, hown, hts0, hX, hbl, hlocks, hgv⟩ := id C0
  have hts : ∀ w ∈ lw_all, w.before #[Value.ref sb] s = true := fun w h => hts0 w (lw_all_tbl h)
  have hA : ∀ q : Nat, s.heap.size ≤ q → (fun q : Nat => s.heap.size ≤ q) q := fun _ h => h
  have hbA : ¬ (fun q : Nat => s.heap.size ≤ q) sb := Nat.not_le.mpr hbl
  obtain ⟨z', G, hI', hM0, hM1⟩ := bo_rest l D a b (xs (nI (i + 1)).toNatClampNeg) z hI
  refine lv_aload_n hx hb dL_law_256 rfl (lv_at hl 1 rfl) ?_
  refine lv_aload_n hx hb dL_law_257 rfl (lv_at hl 0 rfl) ?_
  refine lv_iload_n hx hb dL_law_258 rfl (lv_at hl 3 rfl) ?_
  refine lv_iconst (v := nI 1) hx hb dL_law_259 (by decide) ?_
  refine bw_iadd hx hb dL_law_260 ?_
  refine va_sld hx hb hX hbl hbA hw.2.2 (vp_in_nI (by omega) (by omega)) dL_law_261 ?_
  refine bw_callVI (tys := []) (wr := bl_w1 b z) ⟨hx, hb, hml, hown, hts⟩ [.int (xs (nI (i + 1)).toNatClampNeg)] [] hM0 (cwV 1 hts (lw_V q137 q138 q139 q17 q140) rfl rfl rfl (by decide +kernel) ⟨Nat.le_of_ble_eq_true rfl, Nat.le_of_ble_eq_true rfl⟩) 0 0 rfl rfl hK0 hA hw [0, 1, 2, 3, 4] [5, 6, 7, 8, 9] rfl rfl rfl rfl rfl (by decide) rfl hl.1 rfl (Nat.le_of_ble_eq_true rfl) dL_law_262 ⟨Nat.le_of_ble_eq_true rfl, Nat.le_of_ble_eq_true rfl⟩ (fun H locs hw => ?_)
  refine lv_aload_n hx hb dL_law_265 rfl (lv_at hl 2 rfl) ?_
  refine lv_aload_n hx hb dL_law_266 rfl (lv_at hl 0 rfl) ?_
  refine lv_iload_n hx hb dL_law_267 rfl (lv_at hl 3 rfl) ?_
  refine lv_iconst (v := nI 1) hx hb dL_law_268 (by decide) ?_
  refine bw_iadd hx hb dL_law_269 ?_
  refine va_sld hx hb hX hbl hbA hw.2.2 (vp_in_nI (by omega) (by omega)) dL_law_270 ?_
  refine bw_callVI (tys := []) (wr := bl_w0 a z') ⟨hx, hb, hml, hown, hts⟩ [.int (xs (nI (i + 1)).toNatClampNeg)] [.int G] hM1 (cwV 1 hts (lw_V q239 q223 q224 q18 q225) rfl rfl rfl (by decide +kernel) ⟨Nat.le_of_ble_eq_true rfl, Nat.le_of_ble_eq_true rfl⟩) 1 0 rfl rfl hK1 hA hw [0, 1, 2, 3, 4] [5, 6, 7, 8, 9] rfl rfl rfl rfl rfl (by decide) rfl hl.1 rfl (Nat.le_of_ble_eq_true rfl) dL_law_271 ⟨Nat.le_of_ble_eq_true rfl, Nat.le_of_ble_eq_true rfl⟩ (fun H locs hw => ?_)
  exact lv_icmp_eq (tgt := 423) hx hb dL_law_274 (by decide) (fun _ => kk z' _ _ hI' hw) (fun h => absurd rfl h)
set_option maxHeartbeats 4000000 in
set_option maxRecDepth 100000 in
theorem law_basisSize {p : Program} {e : Env} {s : State} {m : MethodId} {below : List Frame} {meth : Method} {c : Code} {l : Launch} {D : va_G} {a b : bw_A0} {sb L : Nat} {xs : Nat → Int32} (hL : L ≤ 192) (C0 : lw_At p s m meth c sb L xs) (hK0 : va_K D bw_Cl (bw_T0 a) s) (hK1 : va_K D bw_Cl (bw_T1 b) s) {z : bl_S} {i : Nat} (hI : bl_I z) (hi : i + 3 ≤ L) {ls : Array Slot} {H : Heap} {locs : List Loc} (hl : lv_has ls 4 [(0, .ref sb), (1, .ref a.1), (2, .ref b.1), (3, .int (nI i))]) (hw : bw_H D bw_Cl (fun q : Nat => s.heap.size ≤ q) s.heap (bl_w0 a z ++ bl_w1 b z) H locs)
    (kk : ∀ (z' : bl_S) (H' : Heap) (locs' : List Loc), bl_I z' → bw_H D bw_Cl (fun q : Nat => s.heap.size ≤ q) s.heap (bl_w0 a z' ++ bl_w1 b z') H' locs' → W p l e room_1 s m #[Value.ref sb] below meth c H' locs' 10 144 (lw_Z below #[Value.ref sb] s) (F0 m 423 ls [])) : W p l e room_1 s m #[Value.ref sb] below meth c H locs 10 144 (lw_Z below #[Value.ref sb] s) (F0 m 279 ls []) := by
  obtain ⟨hx, hb, hr, hml, hown, hts0, hX, hbl, hlocks, hgv⟩ := id C0
  have hts : ∀ w ∈ lw_all, w.before #[Value.ref sb] s = true := fun w h => hts0 w (lw_all_tbl h)
  have hA : ∀ q : Nat, s.heap.size ≤ q → (fun q : Nat => s.heap.size ≤ q) q := fun _ h => h
  have hbA : ¬ (fun q : Nat => s.heap.size ≤ q) sb := Nat.not_le.mpr hbl
  obtain ⟨z', G, hI', hM0, hM1⟩ := bo_basisSize l D a b z hI
  refine lv_aload_n hx hb dL_law_279 rfl (lv_at hl 1 rfl) ?_
  refine bw_callVI (tys := []) (wr := bl_w1 b z) ⟨hx, hb, hml, hown, hts⟩ [] [] hM0 (cwV 0 hts (lw_V q141 q142 q143 q17 q144) rfl rfl rfl (by decide +kernel) ⟨Nat.le_of_ble_eq_true rfl, Nat.le_of_ble_eq_true rfl⟩) 0 0 rfl rfl hK0 hA hw [0, 1, 2, 3, 4] [5, 6, 7, 8, 9] rfl rfl rfl rfl rfl (by decide) rfl hl.1 rfl (Nat.le_of_ble_eq_true rfl) dL_law_280 ⟨Nat.le_of_ble_eq_true rfl, Nat.le_of_ble_eq_true rfl⟩ (fun H locs hw => ?_)
  refine lv_aload_n hx hb dL_law_283 rfl (lv_at hl 2 rfl) ?_
  refine bw_callVI (tys := []) (wr := bl_w0 a z') ⟨hx, hb, hml, hown, hts⟩ [] [.int G] hM1 (cwV 0 hts (lw_V q240 q241 q242 q18 q243) rfl rfl rfl (by decide +kernel) ⟨Nat.le_of_ble_eq_true rfl, Nat.le_of_ble_eq_true rfl⟩) 1 0 rfl rfl hK1 hA hw [0, 1, 2, 3, 4] [5, 6, 7, 8, 9] rfl rfl rfl rfl rfl (by decide) rfl hl.1 rfl (Nat.le_of_ble_eq_true rfl) dL_law_284 ⟨Nat.le_of_ble_eq_true rfl, Nat.le_of_ble_eq_true rfl⟩ (fun H locs hw => ?_)
  exact lv_icmp_eq (tgt := 423) hx hb dL_law_287 (by decide) (fun _ => kk z' _ _ hI' hw) (fun h => absurd rfl h)
set_option maxHeartbeats 4000000 in
set_option maxRecDepth 100000 in
theorem law_basisAt {p : Program} {e : Env} {s : State} {m : MethodId} {below : List Frame} {meth : Method} {c : Code} {l : Launch} {D : va_G} {a b : bw_A0} {sb L : Nat} {xs : Nat → Int32} (hL : L ≤ 192) (C0 : lw_At p s m meth c sb L xs) (hK0 : va_K D bw_Cl (bw_T0 a) s) (hK1 : va_K D bw_Cl (bw_T1 b) s) {z : bl_S} {i : Nat} (hI : bl_I z) (hi : i + 3 ≤ L) {ls : Array Slot} {H : Heap} {locs : List Loc} (hl : lv_has ls 4 [(0, .ref sb), (1, .ref a.1), (2, .ref b.1), (3, .int (nI i))]) (hw : bw_H D bw_Cl (fun q : Nat => s.heap.size ≤ q) s.heap (bl_w0 a z ++ bl_w1 b z) H locs)
    (kk : ∀ (z' : bl_S) (H' : Heap) (locs' : List Loc), bl_I z' → bw_H D bw_Cl (fun q : Nat => s.heap.size ≤ q) s.heap (bl_w0 a z' ++ bl_w1 b z') H' locs' → W p l e room_1 s m #[Value.ref sb] below meth c H' locs' 10 144 (lw_Z below #[Value.ref sb] s) (F0 m 423 ls [])) : W p l e room_1 s m #[Value.ref sb] below meth c H locs 10 144 (lw_Z below #[Value.ref sb] s) (F0 m 292 ls []) := by
  obtain ⟨hx, hb, hr, hml, hown, hts0, hX, hbl, hlocks, hgv⟩ := id C0
  have hts : ∀ w ∈ lw_all, w.before #[Value.ref sb] s = true := fun w h => hts0 w (lw_all_tbl h)
  have hA : ∀ q : Nat, s.heap.size ≤ q → (fun q : Nat => s.heap.size ≤ q) q := fun _ h => h
  have hbA : ¬ (fun q : Nat => s.heap.size ≤ q) sb := Nat.not_le.mpr hbl
  obtain ⟨z', G, hI', hM0, hM1⟩ := bo_basisAt l D a b (xs (nI (i + 1)).toNatClampNeg) z hI
  refine lv_aload_n hx hb dL_law_292 rfl (lv_at hl 1 rfl) ?_
  refine lv_aload_n hx hb dL_law_293 rfl (lv_at hl 0 rfl) ?_
  refine lv_iload_n hx hb dL_law_294 rfl (lv_at hl 3 rfl) ?_
  refine lv_iconst (v := nI 1) hx hb dL_law_295 (by decide) ?_
  refine bw_iadd hx hb dL_law_296 ?_
  refine va_sld hx hb hX hbl hbA hw.2.2 (vp_in_nI (by omega) (by omega)) dL_law_297 ?_
  refine bw_callVI (tys := []) (wr := bl_w1 b z) ⟨hx, hb, hml, hown, hts⟩ [.int (xs (nI (i + 1)).toNatClampNeg)] [] hM0 (cwV 1 hts (lw_V q145 q146 q147 q17 q148) rfl rfl rfl (by decide +kernel) ⟨Nat.le_of_ble_eq_true rfl, Nat.le_of_ble_eq_true rfl⟩) 0 0 rfl rfl hK0 hA hw [0, 1, 2, 3, 4] [5, 6, 7, 8, 9] rfl rfl rfl rfl rfl (by decide) rfl hl.1 rfl (Nat.le_of_ble_eq_true rfl) dL_law_298 ⟨Nat.le_of_ble_eq_true rfl, Nat.le_of_ble_eq_true rfl⟩ (fun H locs hw => ?_)
  refine lv_aload_n hx hb dL_law_301 rfl (lv_at hl 2 rfl) ?_
  refine lv_aload_n hx hb dL_law_302 rfl (lv_at hl 0 rfl) ?_
  refine lv_iload_n hx hb dL_law_303 rfl (lv_at hl 3 rfl) ?_
  refine lv_iconst (v := nI 1) hx hb dL_law_304 (by decide) ?_
  refine bw_iadd hx hb dL_law_305 ?_
  refine va_sld hx hb hX hbl hbA hw.2.2 (vp_in_nI (by omega) (by omega)) dL_law_306 ?_
  refine bw_callVI (tys := []) (wr := bl_w0 a z') ⟨hx, hb, hml, hown, hts⟩ [.int (xs (nI (i + 1)).toNatClampNeg)] [.int G] hM1 (cwV 1 hts (lw_V q248 q249 q250 q18 q251) rfl rfl rfl (by decide +kernel) ⟨Nat.le_of_ble_eq_true rfl, Nat.le_of_ble_eq_true rfl⟩) 1 0 rfl rfl hK1 hA hw [0, 1, 2, 3, 4] [5, 6, 7, 8, 9] rfl rfl rfl rfl rfl (by decide) rfl hl.1 rfl (Nat.le_of_ble_eq_true rfl) dL_law_307 ⟨Nat.le_of_ble_eq_true rfl, Nat.le_of_ble_eq_true rfl⟩ (fun H locs hw => ?_)
  exact lv_icmp_eq (tgt := 423) hx hb dL_law_310 (by decide) (fun _ => kk z' _ _ hI' hw) (fun h => absurd rfl h)
set_option maxHeartbeats 4000000 in
set_option maxRecDepth 100000 in
theorem law_bound {p : Program} {e : Env} {s : State} {m : MethodId} {below : List Frame} {meth : Method} {c : Code} {l : Launch} {D : va_G} {a b : bw_A0} {sb L : Nat} {xs : Nat → Int32} (hL : L ≤ 192) (C0 : lw_At p s m meth c sb L xs) (hK0 : va_K D bw_Cl (bw_T0 a) s) (hK1 : va_K D bw_Cl (bw_T1 b) s) {z : bl_S} {i : Nat} (hI : bl_I z) (hi : i + 3 ≤ L) {ls : Array Slot} {H : Heap} {locs : List Loc} (hl : lv_has ls 4 [(0, .ref sb), (1, .ref a.1), (2, .ref b.1), (3, .int (nI i))]) (hw : bw_H D bw_Cl (fun q : Nat => s.heap.size ≤ q) s.heap (bl_w0 a z ++ bl_w1 b z) H locs)
    (kk : ∀ (z' : bl_S) (H' : Heap) (locs' : List Loc), bl_I z' → bw_H D bw_Cl (fun q : Nat => s.heap.size ≤ q) s.heap (bl_w0 a z' ++ bl_w1 b z') H' locs' → W p l e room_1 s m #[Value.ref sb] below meth c H' locs' 10 144 (lw_Z below #[Value.ref sb] s) (F0 m 423 ls [])) : W p l e room_1 s m #[Value.ref sb] below meth c H locs 10 144 (lw_Z below #[Value.ref sb] s) (F0 m 315 ls []) := by
  obtain ⟨hx, hb, hr, hml, hown, hts0, hX, hbl, hlocks, hgv⟩ := id C0
  have hts : ∀ w ∈ lw_all, w.before #[Value.ref sb] s = true := fun w h => hts0 w (lw_all_tbl h)
  have hA : ∀ q : Nat, s.heap.size ≤ q → (fun q : Nat => s.heap.size ≤ q) q := fun _ h => h
  have hbA : ¬ (fun q : Nat => s.heap.size ≤ q) sb := Nat.not_le.mpr hbl
  obtain ⟨z', G, hI', hM0, hM1⟩ := bo_bound l D a b z hI
  refine lv_aload_n hx hb dL_law_315 rfl (lv_at hl 1 rfl) ?_
  refine bw_callVI (tys := []) (wr := bl_w1 b z) ⟨hx, hb, hml, hown, hts⟩ [] [] hM0 (cwV 0 hts (lw_V q149 q150 q151 q17 q152) rfl rfl rfl (by decide +kernel) ⟨Nat.le_of_ble_eq_true rfl, Nat.le_of_ble_eq_true rfl⟩) 0 0 rfl rfl hK0 hA hw [0, 1, 2, 3, 4] [5, 6, 7, 8, 9] rfl rfl rfl rfl rfl (by decide) rfl hl.1 rfl (Nat.le_of_ble_eq_true rfl) dL_law_316 ⟨Nat.le_of_ble_eq_true rfl, Nat.le_of_ble_eq_true rfl⟩ (fun H locs hw => ?_)
  refine lv_aload_n hx hb dL_law_319 rfl (lv_at hl 2 rfl) ?_
  refine bw_callVI (tys := []) (wr := bl_w0 a z') ⟨hx, hb, hml, hown, hts⟩ [] [.int G] hM1 (cwV 0 hts (lw_V q252 q253 q254 q18 q255) rfl rfl rfl (by decide +kernel) ⟨Nat.le_of_ble_eq_true rfl, Nat.le_of_ble_eq_true rfl⟩) 1 0 rfl rfl hK1 hA hw [0, 1, 2, 3, 4] [5, 6, 7, 8, 9] rfl rfl rfl rfl rfl (by decide) rfl hl.1 rfl (Nat.le_of_ble_eq_true rfl) dL_law_320 ⟨Nat.le_of_ble_eq_true rfl, Nat.le_of_ble_eq_true rfl⟩ (fun H locs hw => ?_)
  exact lv_icmp_eq (tgt := 423) hx hb dL_law_323 (by decide) (fun _ => kk z' _ _ hI' hw) (fun h => absurd rfl h)
set_option maxHeartbeats 4000000 in
set_option maxRecDepth 100000 in
theorem law_zeros {p : Program} {e : Env} {s : State} {m : MethodId} {below : List Frame} {meth : Method} {c : Code} {l : Launch} {D : va_G} {a b : bw_A0} {sb L : Nat} {xs : Nat → Int32} (hL : L ≤ 192) (C0 : lw_At p s m meth c sb L xs) (hK0 : va_K D bw_Cl (bw_T0 a) s) (hK1 : va_K D bw_Cl (bw_T1 b) s) {z : bl_S} {i : Nat} (hI : bl_I z) (hi : i + 3 ≤ L) {ls : Array Slot} {H : Heap} {locs : List Loc} (hl : lv_has ls 4 [(0, .ref sb), (1, .ref a.1), (2, .ref b.1), (3, .int (nI i))]) (hw : bw_H D bw_Cl (fun q : Nat => s.heap.size ≤ q) s.heap (bl_w0 a z ++ bl_w1 b z) H locs)
    (kk : ∀ (z' : bl_S) (H' : Heap) (locs' : List Loc), bl_I z' → bw_H D bw_Cl (fun q : Nat => s.heap.size ≤ q) s.heap (bl_w0 a z' ++ bl_w1 b z') H' locs' → W p l e room_1 s m #[Value.ref sb] below meth c H' locs' 10 144 (lw_Z below #[Value.ref sb] s) (F0 m 423 ls [])) : W p l e room_1 s m #[Value.ref sb] below meth c H locs 10 144 (lw_Z below #[Value.ref sb] s) (F0 m 328 ls []) := by
  obtain ⟨hx, hb, hr, hml, hown, hts0, hX, hbl, hlocks, hgv⟩ := id C0
  have hts : ∀ w ∈ lw_all, w.before #[Value.ref sb] s = true := fun w h => hts0 w (lw_all_tbl h)
  have hA : ∀ q : Nat, s.heap.size ≤ q → (fun q : Nat => s.heap.size ≤ q) q := fun _ h => h
  have hbA : ¬ (fun q : Nat => s.heap.size ≤ q) sb := Nat.not_le.mpr hbl
  obtain ⟨z', G, hI', hM0, hM1⟩ := bo_zeros l D a b z hI
  refine lv_aload_n hx hb dL_law_328 rfl (lv_at hl 1 rfl) ?_
  refine bw_callVI (tys := []) (wr := bl_w1 b z) ⟨hx, hb, hml, hown, hts⟩ [] [] hM0 (cwV 0 hts (lw_V q153 q154 q155 q17 q156) rfl rfl rfl (by decide +kernel) ⟨Nat.le_of_ble_eq_true rfl, Nat.le_of_ble_eq_true rfl⟩) 0 0 rfl rfl hK0 hA hw [0, 1, 2, 3, 4] [5, 6, 7, 8, 9] rfl rfl rfl rfl rfl (by decide) rfl hl.1 rfl (Nat.le_of_ble_eq_true rfl) dL_law_329 ⟨Nat.le_of_ble_eq_true rfl, Nat.le_of_ble_eq_true rfl⟩ (fun H locs hw => ?_)
  refine lv_aload_n hx hb dL_law_332 rfl (lv_at hl 2 rfl) ?_
  refine bw_callVI (tys := []) (wr := bl_w0 a z') ⟨hx, hb, hml, hown, hts⟩ [] [.int G] hM1 (cwV 0 hts (lw_V q256 q257 q258 q18 q259) rfl rfl rfl (by decide +kernel) ⟨Nat.le_of_ble_eq_true rfl, Nat.le_of_ble_eq_true rfl⟩) 1 0 rfl rfl hK1 hA hw [0, 1, 2, 3, 4] [5, 6, 7, 8, 9] rfl rfl rfl rfl rfl (by decide) rfl hl.1 rfl (Nat.le_of_ble_eq_true rfl) dL_law_333 ⟨Nat.le_of_ble_eq_true rfl, Nat.le_of_ble_eq_true rfl⟩ (fun H locs hw => ?_)
  exact lv_icmp_eq (tgt := 423) hx hb dL_law_336 (by decide) (fun _ => kk z' _ _ hI' hw) (fun h => absurd rfl h)
set_option maxHeartbeats 4000000 in
set_option maxRecDepth 100000 in
theorem law_zeroCount {p : Program} {e : Env} {s : State} {m : MethodId} {below : List Frame} {meth : Method} {c : Code} {l : Launch} {D : va_G} {a b : bw_A0} {sb L : Nat} {xs : Nat → Int32} (hL : L ≤ 192) (C0 : lw_At p s m meth c sb L xs) (hK0 : va_K D bw_Cl (bw_T0 a) s) (hK1 : va_K D bw_Cl (bw_T1 b) s) {z : bl_S} {i : Nat} (hI : bl_I z) (hi : i + 3 ≤ L) {ls : Array Slot} {H : Heap} {locs : List Loc} (hl : lv_has ls 4 [(0, .ref sb), (1, .ref a.1), (2, .ref b.1), (3, .int (nI i))]) (hw : bw_H D bw_Cl (fun q : Nat => s.heap.size ≤ q) s.heap (bl_w0 a z ++ bl_w1 b z) H locs)
    (kk : ∀ (z' : bl_S) (H' : Heap) (locs' : List Loc), bl_I z' → bw_H D bw_Cl (fun q : Nat => s.heap.size ≤ q) s.heap (bl_w0 a z' ++ bl_w1 b z') H' locs' → W p l e room_1 s m #[Value.ref sb] below meth c H' locs' 10 144 (lw_Z below #[Value.ref sb] s) (F0 m 423 ls [])) : W p l e room_1 s m #[Value.ref sb] below meth c H locs 10 144 (lw_Z below #[Value.ref sb] s) (F0 m 341 ls []) := by
  obtain ⟨hx, hb, hr, hml, hown, hts0, hX, hbl, hlocks, hgv⟩ := id C0
  have hts : ∀ w ∈ lw_all, w.before #[Value.ref sb] s = true := fun w h => hts0 w (lw_all_tbl h)
  have hA : ∀ q : Nat, s.heap.size ≤ q → (fun q : Nat => s.heap.size ≤ q) q := fun _ h => h
  have hbA : ¬ (fun q : Nat => s.heap.size ≤ q) sb := Nat.not_le.mpr hbl
  obtain ⟨z', G, hI', hM0, hM1⟩ := bo_zeroCount l D a b z hI
  refine lv_aload_n hx hb dL_law_341 rfl (lv_at hl 1 rfl) ?_
  refine bw_callVI (tys := []) (wr := bl_w1 b z) ⟨hx, hb, hml, hown, hts⟩ [] [] hM0 (cwV 0 hts (lw_V q157 q158 q159 q17 q160) rfl rfl rfl (by decide +kernel) ⟨Nat.le_of_ble_eq_true rfl, Nat.le_of_ble_eq_true rfl⟩) 0 0 rfl rfl hK0 hA hw [0, 1, 2, 3, 4] [5, 6, 7, 8, 9] rfl rfl rfl rfl rfl (by decide) rfl hl.1 rfl (Nat.le_of_ble_eq_true rfl) dL_law_342 ⟨Nat.le_of_ble_eq_true rfl, Nat.le_of_ble_eq_true rfl⟩ (fun H locs hw => ?_)
  refine lv_aload_n hx hb dL_law_345 rfl (lv_at hl 2 rfl) ?_
  refine bw_callVI (tys := []) (wr := bl_w0 a z') ⟨hx, hb, hml, hown, hts⟩ [] [.int G] hM1 (cwV 0 hts (lw_V q261 q262 q263 q18 q264) rfl rfl rfl (by decide +kernel) ⟨Nat.le_of_ble_eq_true rfl, Nat.le_of_ble_eq_true rfl⟩) 1 0 rfl rfl hK1 hA hw [0, 1, 2, 3, 4] [5, 6, 7, 8, 9] rfl rfl rfl rfl rfl (by decide) rfl hl.1 rfl (Nat.le_of_ble_eq_true rfl) dL_law_346 ⟨Nat.le_of_ble_eq_true rfl, Nat.le_of_ble_eq_true rfl⟩ (fun H locs hw => ?_)
  exact lv_icmp_eq (tgt := 423) hx hb dL_law_349 (by decide) (fun _ => kk z' _ _ hI' hw) (fun h => absurd rfl h)
set_option maxHeartbeats 4000000 in
set_option maxRecDepth 100000 in
theorem law_values {p : Program} {e : Env} {s : State} {m : MethodId} {below : List Frame} {meth : Method} {c : Code} {l : Launch} {D : va_G} {a b : bw_A0} {sb L : Nat} {xs : Nat → Int32} (hL : L ≤ 192) (C0 : lw_At p s m meth c sb L xs) (hK0 : va_K D bw_Cl (bw_T0 a) s) (hK1 : va_K D bw_Cl (bw_T1 b) s) {z : bl_S} {i : Nat} (hI : bl_I z) (hi : i + 3 ≤ L) {ls : Array Slot} {H : Heap} {locs : List Loc} (hl : lv_has ls 4 [(0, .ref sb), (1, .ref a.1), (2, .ref b.1), (3, .int (nI i))]) (hw : bw_H D bw_Cl (fun q : Nat => s.heap.size ≤ q) s.heap (bl_w0 a z ++ bl_w1 b z) H locs)
    (kk : ∀ (z' : bl_S) (H' : Heap) (locs' : List Loc), bl_I z' → bw_H D bw_Cl (fun q : Nat => s.heap.size ≤ q) s.heap (bl_w0 a z' ++ bl_w1 b z') H' locs' → W p l e room_1 s m #[Value.ref sb] below meth c H' locs' 10 144 (lw_Z below #[Value.ref sb] s) (F0 m 423 ls [])) : W p l e room_1 s m #[Value.ref sb] below meth c H locs 10 144 (lw_Z below #[Value.ref sb] s) (F0 m 354 ls []) := by
  obtain ⟨hx, hb, hr, hml, hown, hts0, hX, hbl, hlocks, hgv⟩ := id C0
  have hts : ∀ w ∈ lw_all, w.before #[Value.ref sb] s = true := fun w h => hts0 w (lw_all_tbl h)
  have hA : ∀ q : Nat, s.heap.size ≤ q → (fun q : Nat => s.heap.size ≤ q) q := fun _ h => h
  have hbA : ¬ (fun q : Nat => s.heap.size ≤ q) sb := Nat.not_le.mpr hbl
  obtain ⟨z', G, hI', hM0, hM1⟩ := bo_values l D a b (xs (nI (i + 1)).toNatClampNeg) z hI
  refine lv_aload_n hx hb dL_law_354 rfl (lv_at hl 1 rfl) ?_
  refine lv_aload_n hx hb dL_law_355 rfl (lv_at hl 0 rfl) ?_
  refine lv_iload_n hx hb dL_law_356 rfl (lv_at hl 3 rfl) ?_
  refine lv_iconst (v := nI 1) hx hb dL_law_357 (by decide) ?_
  refine bw_iadd hx hb dL_law_358 ?_
  refine va_sld hx hb hX hbl hbA hw.2.2 (vp_in_nI (by omega) (by omega)) dL_law_359 ?_
  refine bw_callVI (tys := []) (wr := bl_w1 b z) ⟨hx, hb, hml, hown, hts⟩ [.int (xs (nI (i + 1)).toNatClampNeg)] [] hM0 (cwV 1 hts (lw_V q161 q162 q163 q17 q164) rfl rfl rfl (by decide +kernel) ⟨Nat.le_of_ble_eq_true rfl, Nat.le_of_ble_eq_true rfl⟩) 0 0 rfl rfl hK0 hA hw [0, 1, 2, 3, 4] [5, 6, 7, 8, 9] rfl rfl rfl rfl rfl (by decide) rfl hl.1 rfl (Nat.le_of_ble_eq_true rfl) dL_law_360 ⟨Nat.le_of_ble_eq_true rfl, Nat.le_of_ble_eq_true rfl⟩ (fun H locs hw => ?_)
  refine lv_aload_n hx hb dL_law_363 rfl (lv_at hl 2 rfl) ?_
  refine lv_aload_n hx hb dL_law_364 rfl (lv_at hl 0 rfl) ?_
  refine lv_iload_n hx hb dL_law_365 rfl (lv_at hl 3 rfl) ?_
  refine lv_iconst (v := nI 1) hx hb dL_law_366 (by decide) ?_
  refine bw_iadd hx hb dL_law_367 ?_
  refine va_sld hx hb hX hbl hbA hw.2.2 (vp_in_nI (by omega) (by omega)) dL_law_368 ?_
  refine bw_callVI (tys := []) (wr := bl_w0 a z') ⟨hx, hb, hml, hown, hts⟩ [.int (xs (nI (i + 1)).toNatClampNeg)] [.int G] hM1 (cwV 1 hts (lw_V q266 q267 q268 q18 q269) rfl rfl rfl (by decide +kernel) ⟨Nat.le_of_ble_eq_true rfl, Nat.le_of_ble_eq_true rfl⟩) 1 0 rfl rfl hK1 hA hw [0, 1, 2, 3, 4] [5, 6, 7, 8, 9] rfl rfl rfl rfl rfl (by decide) rfl hl.1 rfl (Nat.le_of_ble_eq_true rfl) dL_law_369 ⟨Nat.le_of_ble_eq_true rfl, Nat.le_of_ble_eq_true rfl⟩ (fun H locs hw => ?_)
  exact lv_icmp_eq (tgt := 423) hx hb dL_law_372 (by decide) (fun _ => kk z' _ _ hI' hw) (fun h => absurd rfl h)
set_option maxHeartbeats 4000000 in
set_option maxRecDepth 100000 in
theorem law_redundant {p : Program} {e : Env} {s : State} {m : MethodId} {below : List Frame} {meth : Method} {c : Code} {l : Launch} {D : va_G} {a b : bw_A0} {sb L : Nat} {xs : Nat → Int32} (hL : L ≤ 192) (C0 : lw_At p s m meth c sb L xs) (hK0 : va_K D bw_Cl (bw_T0 a) s) (hK1 : va_K D bw_Cl (bw_T1 b) s) {z : bl_S} {i : Nat} (hI : bl_I z) (hi : i + 3 ≤ L) {ls : Array Slot} {H : Heap} {locs : List Loc} (hl : lv_has ls 4 [(0, .ref sb), (1, .ref a.1), (2, .ref b.1), (3, .int (nI i))]) (hw : bw_H D bw_Cl (fun q : Nat => s.heap.size ≤ q) s.heap (bl_w0 a z ++ bl_w1 b z) H locs)
    (kk : ∀ (z' : bl_S) (H' : Heap) (locs' : List Loc), bl_I z' → bw_H D bw_Cl (fun q : Nat => s.heap.size ≤ q) s.heap (bl_w0 a z' ++ bl_w1 b z') H' locs' → W p l e room_1 s m #[Value.ref sb] below meth c H' locs' 10 144 (lw_Z below #[Value.ref sb] s) (F0 m 423 ls [])) : W p l e room_1 s m #[Value.ref sb] below meth c H locs 10 144 (lw_Z below #[Value.ref sb] s) (F0 m 377 ls []) := by
  obtain ⟨hx, hb, hr, hml, hown, hts0, hX, hbl, hlocks, hgv⟩ := id C0
  have hts : ∀ w ∈ lw_all, w.before #[Value.ref sb] s = true := fun w h => hts0 w (lw_all_tbl h)
  have hA : ∀ q : Nat, s.heap.size ≤ q → (fun q : Nat => s.heap.size ≤ q) q := fun _ h => h
  have hbA : ¬ (fun q : Nat => s.heap.size ≤ q) sb := Nat.not_le.mpr hbl
  obtain ⟨z', G, hI', hM0, hM1⟩ := bo_redundant l D a b (xs (nI (i + 1)).toNatClampNeg) z hI
  refine lv_aload_n hx hb dL_law_377 rfl (lv_at hl 1 rfl) ?_
  refine lv_aload_n hx hb dL_law_378 rfl (lv_at hl 0 rfl) ?_
  refine lv_iload_n hx hb dL_law_379 rfl (lv_at hl 3 rfl) ?_
  refine lv_iconst (v := nI 1) hx hb dL_law_380 (by decide) ?_
  refine bw_iadd hx hb dL_law_381 ?_
  refine va_sld hx hb hX hbl hbA hw.2.2 (vp_in_nI (by omega) (by omega)) dL_law_382 ?_
  refine bw_callVI (tys := []) (wr := bl_w1 b z) ⟨hx, hb, hml, hown, hts⟩ [.int (xs (nI (i + 1)).toNatClampNeg)] [] hM0 (cwV 1 hts (lw_V q165 q166 q167 q17 q168) rfl rfl rfl (by decide +kernel) ⟨Nat.le_of_ble_eq_true rfl, Nat.le_of_ble_eq_true rfl⟩) 0 0 rfl rfl hK0 hA hw [0, 1, 2, 3, 4] [5, 6, 7, 8, 9] rfl rfl rfl rfl rfl (by decide) rfl hl.1 rfl (Nat.le_of_ble_eq_true rfl) dL_law_383 ⟨Nat.le_of_ble_eq_true rfl, Nat.le_of_ble_eq_true rfl⟩ (fun H locs hw => ?_)
  refine lv_aload_n hx hb dL_law_386 rfl (lv_at hl 2 rfl) ?_
  refine lv_aload_n hx hb dL_law_387 rfl (lv_at hl 0 rfl) ?_
  refine lv_iload_n hx hb dL_law_388 rfl (lv_at hl 3 rfl) ?_
  refine lv_iconst (v := nI 1) hx hb dL_law_389 (by decide) ?_
  refine bw_iadd hx hb dL_law_390 ?_
  refine va_sld hx hb hX hbl hbA hw.2.2 (vp_in_nI (by omega) (by omega)) dL_law_391 ?_
  refine bw_callVI (tys := []) (wr := bl_w0 a z') ⟨hx, hb, hml, hown, hts⟩ [.int (xs (nI (i + 1)).toNatClampNeg)] [.int G] hM1 (cwV 1 hts (lw_V q270 q271 q272 q18 q273) rfl rfl rfl (by decide +kernel) ⟨Nat.le_of_ble_eq_true rfl, Nat.le_of_ble_eq_true rfl⟩) 1 0 rfl rfl hK1 hA hw [0, 1, 2, 3, 4] [5, 6, 7, 8, 9] rfl rfl rfl rfl rfl (by decide) rfl hl.1 rfl (Nat.le_of_ble_eq_true rfl) dL_law_392 ⟨Nat.le_of_ble_eq_true rfl, Nat.le_of_ble_eq_true rfl⟩ (fun H locs hw => ?_)
  exact lv_icmp_eq (tgt := 423) hx hb dL_law_395 (by decide) (fun _ => kk z' _ _ hI' hw) (fun h => absurd rfl h)
set_option maxHeartbeats 4000000 in
set_option maxRecDepth 100000 in
theorem law_relates {p : Program} {e : Env} {s : State} {m : MethodId} {below : List Frame} {meth : Method} {c : Code} {l : Launch} {D : va_G} {a b : bw_A0} {sb L : Nat} {xs : Nat → Int32} (hL : L ≤ 192) (C0 : lw_At p s m meth c sb L xs) (hK0 : va_K D bw_Cl (bw_T0 a) s) (hK1 : va_K D bw_Cl (bw_T1 b) s) {z : bl_S} {i : Nat} (hI : bl_I z) (hi : i + 3 ≤ L) {ls : Array Slot} {H : Heap} {locs : List Loc} (hl : lv_has ls 4 [(0, .ref sb), (1, .ref a.1), (2, .ref b.1), (3, .int (nI i))]) (hw : bw_H D bw_Cl (fun q : Nat => s.heap.size ≤ q) s.heap (bl_w0 a z ++ bl_w1 b z) H locs)
    (kk : ∀ (z' : bl_S) (H' : Heap) (locs' : List Loc), bl_I z' → bw_H D bw_Cl (fun q : Nat => s.heap.size ≤ q) s.heap (bl_w0 a z' ++ bl_w1 b z') H' locs' → W p l e room_1 s m #[Value.ref sb] below meth c H' locs' 10 144 (lw_Z below #[Value.ref sb] s) (F0 m 423 ls [])) : W p l e room_1 s m #[Value.ref sb] below meth c H locs 10 144 (lw_Z below #[Value.ref sb] s) (F0 m 400 ls []) := by
  obtain ⟨hx, hb, hr, hml, hown, hts0, hX, hbl, hlocks, hgv⟩ := id C0
  have hts : ∀ w ∈ lw_all, w.before #[Value.ref sb] s = true := fun w h => hts0 w (lw_all_tbl h)
  have hA : ∀ q : Nat, s.heap.size ≤ q → (fun q : Nat => s.heap.size ≤ q) q := fun _ h => h
  have hbA : ¬ (fun q : Nat => s.heap.size ≤ q) sb := Nat.not_le.mpr hbl
  obtain ⟨z', G, hI', hM0, hM1⟩ := bo_relates l D a b (xs (nI (i + 1)).toNatClampNeg) z hI
  refine lv_aload_n hx hb dL_law_400 rfl (lv_at hl 1 rfl) ?_
  refine lv_aload_n hx hb dL_law_401 rfl (lv_at hl 0 rfl) ?_
  refine lv_iload_n hx hb dL_law_402 rfl (lv_at hl 3 rfl) ?_
  refine lv_iconst (v := nI 1) hx hb dL_law_403 (by decide) ?_
  refine bw_iadd hx hb dL_law_404 ?_
  refine va_sld hx hb hX hbl hbA hw.2.2 (vp_in_nI (by omega) (by omega)) dL_law_405 ?_
  refine bw_callVI (tys := []) (wr := bl_w1 b z) ⟨hx, hb, hml, hown, hts⟩ [.int (xs (nI (i + 1)).toNatClampNeg)] [] hM0 (cwV 1 hts (lw_V q169 q170 q171 q17 q172) rfl rfl rfl (by decide +kernel) ⟨Nat.le_of_ble_eq_true rfl, Nat.le_of_ble_eq_true rfl⟩) 0 0 rfl rfl hK0 hA hw [0, 1, 2, 3, 4] [5, 6, 7, 8, 9] rfl rfl rfl rfl rfl (by decide) rfl hl.1 rfl (Nat.le_of_ble_eq_true rfl) dL_law_406 ⟨Nat.le_of_ble_eq_true rfl, Nat.le_of_ble_eq_true rfl⟩ (fun H locs hw => ?_)
  refine lv_aload_n hx hb dL_law_409 rfl (lv_at hl 2 rfl) ?_
  refine lv_aload_n hx hb dL_law_410 rfl (lv_at hl 0 rfl) ?_
  refine lv_iload_n hx hb dL_law_411 rfl (lv_at hl 3 rfl) ?_
  refine lv_iconst (v := nI 1) hx hb dL_law_412 (by decide) ?_
  refine bw_iadd hx hb dL_law_413 ?_
  refine va_sld hx hb hX hbl hbA hw.2.2 (vp_in_nI (by omega) (by omega)) dL_law_414 ?_
  refine bw_callVI (tys := []) (wr := bl_w0 a z') ⟨hx, hb, hml, hown, hts⟩ [.int (xs (nI (i + 1)).toNatClampNeg)] [.int G] hM1 (cwV 1 hts (lw_V q274 q275 q276 q18 q277) rfl rfl rfl (by decide +kernel) ⟨Nat.le_of_ble_eq_true rfl, Nat.le_of_ble_eq_true rfl⟩) 1 0 rfl rfl hK1 hA hw [0, 1, 2, 3, 4] [5, 6, 7, 8, 9] rfl rfl rfl rfl rfl (by decide) rfl hl.1 rfl (Nat.le_of_ble_eq_true rfl) dL_law_415 ⟨Nat.le_of_ble_eq_true rfl, Nat.le_of_ble_eq_true rfl⟩ (fun H locs hw => ?_)
  exact lv_icmp_eq (tgt := 423) hx hb dL_law_418 (by decide) (fun _ => kk z' _ _ hI' hw) (fun h => absurd rfl h)
end
section
/-! THE LAW: its loop, its start -/
theorem bl_sub3 {i L : Nat} (hL : L ≤ 192) (hi : i ≤ L) (h : ¬ nI L - nI 3 < nI i) : i + 3 ≤ L := by
  rw [Int32.lt_iff_toInt_lt, pk_sub_toInt (by omega) (by decide), nI_toInt (by omega)] at h
  omega
set_option maxHeartbeats 4000000 in
set_option maxRecDepth 100000 in
theorem law_loop {p : Program} {e : Env} {s : State} {m : MethodId} {below : List Frame} {meth : Method} {c : Code} {l : Launch} {D : va_G} {a b : bw_A0} {sb L : Nat} {xs : Nat → Int32} (hL : L ≤ 192) (C0 : lw_At p s m meth c sb L xs) (hK0 : va_K D bw_Cl (bw_T0 a) s) (hK1 : va_K D bw_Cl (bw_T1 b) s) (z : bl_S) (hI : bl_I z) {ls : Array Slot} {H : Heap} {locs : List Loc} (hl : lv_has ls 4 [(0, .ref sb), (1, .ref a.1), (2, .ref b.1), (3, .int (nI 0))]) (hw : bw_H D bw_Cl (fun q : Nat => s.heap.size ≤ q) s.heap (bl_w0 a z ++ bl_w1 b z) H locs) : W p l e room_1 s m #[Value.ref sb] below meth c H locs 10 144 (lw_Z below #[Value.ref sb] s) (F0 m 18 ls []) := by
  obtain ⟨hx, hb, hr, hml, hown, hts0, hX, hbl, hlocks, hgv⟩ := id C0
  have hts : ∀ w ∈ lw_all, w.before #[Value.ref sb] s = true := fun w h => hts0 w (lw_all_tbl h)
  have hA : ∀ q : Nat, s.heap.size ≤ q → (fun q : Nat => s.heap.size ≤ q) q := fun _ h => h
  have hbA : ¬ (fun q : Nat => s.heap.size ≤ q) sb := Nat.not_le.mpr hbl
  refine bw_loop (pc := 18) (fun (qq : Nat × bl_S) ls H locs => qq.1 ≤ L ∧ bl_I qq.2 ∧ lv_has ls 4 [(0, .ref sb), (1, .ref a.1), (2, .ref b.1), (3, .int (nI qq.1))] ∧ bw_H D bw_Cl (fun q : Nat => s.heap.size ≤ q) s.heap (bl_w0 a qq.2 ++ bl_w1 b qq.2) H locs) (fun qq => L - qq.1) ?_ (0, z) ⟨Nat.zero_le _, hI, hl, hw⟩
  clear hw hl hI z ls H locs
  rintro ⟨i, z⟩ ls H locs ⟨hi, hI, hl, hw⟩ ih
  have hi : i ≤ L := hi
  have hI : bl_I z := hI
  have hl : lv_has ls 4 [(0, .ref sb), (1, .ref a.1), (2, .ref b.1), (3, .int (nI i))] := hl
  have hw : bw_H D bw_Cl (fun q : Nat => s.heap.size ≤ q) s.heap (bl_w0 a z ++ bl_w1 b z) H locs := hw
  refine lv_iload_n hx hb dL_law_18 rfl (lv_at hl 3 rfl) ?_
  refine lv_aload_n hx hb dL_law_19 rfl (lv_at hl 0 rfl) ?_
  refine va_slen hx hb hX hbl hbA hw.2.2 dL_law_20 ?_
  refine lv_iconst (v := nI 3) hx hb dL_law_21 (by decide) ?_
  refine lv_isub hx hb dL_law_22 ?_
  refine lv_icmp_gt (tgt := 429) hx hb dL_law_23 (by decide) (fun c23 => ?_) (fun c23 => ?_)
  · refine lv_iconst (v := 1) hx hb dL_law_429 (by decide) ?_
    refine va_forget (fun q hq => hw.2.2.2.2 q hq) ?_
    refine W.widen (k := 600000) (n := 7290000) (by decide) (by decide) ?_
    exact lw_ret hx hb hr hlocks dL_law_430
  · have hi3 : i + 3 ≤ L := bl_sub3 hL hi c23
    have nx : ∀ (z' : bl_S) (H' : Heap) (locs' : List Loc), bl_I z' → bw_H D bw_Cl (fun q : Nat => s.heap.size ≤ q) s.heap (bl_w0 a z' ++ bl_w1 b z') H' locs' → W p l e room_1 s m #[Value.ref sb] below meth c H' locs' 10 144 (lw_Z below #[Value.ref sb] s) (F0 m 423 ls []) := by
      intro z' H' locs' hI' hw'
      refine lv_iinc (v := nI (i + 3)) (lv' := [(3, .int (nI (i + 3))), (0, .ref sb), (1, .ref a.1), (2, .ref b.1)]) hx hb dL_law_423 hl (k := 3) rfl (by rw [show Int32.ofInt 3 = nI 3 by decide +kernel]; exact nI_add i 3) (by decide) rfl (fun ls hl => ?_)
      refine lv_goto (tgt := 18) hx hb dL_law_426 (by decide) ?_
      exact ih (i + 3, z') _ _ _ (by show L - (i + 3) < L - i; omega) ⟨hi3, hI', lv_sub hl [1, 2, 3, 0] rfl, hw'⟩
    refine lv_aload_n hx hb dL_law_26 rfl (lv_at hl 0 rfl) ?_
    refine lv_iload_n hx hb dL_law_27 rfl (lv_at hl 3 rfl) ?_
    refine va_sld hx hb hX hbl hbA hw.2.2 (vp_in_nI (by omega) (by omega)) dL_law_28 ?_
    refine lv_bipush (v := nI 15) hx hb dL_law_29 (by decide) ?_
    refine lv_iand hx hb dL_law_31 ?_
    obtain ⟨j, hj, ej⟩ := pk_andE (xs (nI i).toNatClampNeg) (m := nI 15) 4 (by decide +kernel)
    rw [ej]
    have hj : j < 16 := hj
    rcases (show j = 0 ∨ j = 1 ∨ j = 2 ∨ j = 3 ∨ j = 4 ∨ j = 5 ∨ j = 6 ∨ j = 7 ∨ j = 8 ∨ j = 9 ∨ j = 10 ∨ j = 11 ∨ j = 12 ∨ j = 13 ∨ j = 14 ∨ j = 15 by omega) with rfl | rfl | rfl | rfl | rfl | rfl | rfl | rfl | rfl | rfl | rfl | rfl | rfl | rfl | rfl | rfl
    · refine lv_tableIn (off := 76) (tgt := 108) hx hb dL_law_32 (by decide +kernel) (by decide +kernel) (by decide +kernel) (by decide) ?_
      exact law_add hL C0 hK0 hK1 hI hi3 hl hw nx
    · refine lv_tableIn (off := 99) (tgt := 131) hx hb dL_law_32 (by decide +kernel) (by decide +kernel) (by decide +kernel) (by decide) ?_
      exact law_remove hL C0 hK0 hK1 hI hi3 hl hw nx
    · refine lv_tableIn (off := 122) (tgt := 154) hx hb dL_law_32 (by decide +kernel) (by decide +kernel) (by decide +kernel) (by decide) ?_
      exact law_generators hL C0 hK0 hK1 hI hi3 hl hw nx
    · refine lv_tableIn (off := 135) (tgt := 167) hx hb dL_law_32 (by decide +kernel) (by decide +kernel) (by decide +kernel) (by decide) ?_
      exact law_product hL C0 hK0 hK1 hI hi3 hl hw nx
    · refine lv_tableIn (off := 168) (tgt := 200) hx hb dL_law_32 (by decide +kernel) (by decide +kernel) (by decide +kernel) (by decide) ?_
      exact law_value hL C0 hK0 hK1 hI hi3 hl hw nx
    · refine lv_tableIn (off := 201) (tgt := 233) hx hb dL_law_32 (by decide +kernel) (by decide +kernel) (by decide +kernel) (by decide) ?_
      exact law_contains hL C0 hK0 hK1 hI hi3 hl hw nx
    · refine lv_tableIn (off := 224) (tgt := 256) hx hb dL_law_32 (by decide +kernel) (by decide +kernel) (by decide +kernel) (by decide) ?_
      exact law_rest hL C0 hK0 hK1 hI hi3 hl hw nx
    · refine lv_tableIn (off := 247) (tgt := 279) hx hb dL_law_32 (by decide +kernel) (by decide +kernel) (by decide +kernel) (by decide) ?_
      exact law_basisSize hL C0 hK0 hK1 hI hi3 hl hw nx
    · refine lv_tableIn (off := 260) (tgt := 292) hx hb dL_law_32 (by decide +kernel) (by decide +kernel) (by decide +kernel) (by decide) ?_
      exact law_basisAt hL C0 hK0 hK1 hI hi3 hl hw nx
    · refine lv_tableIn (off := 283) (tgt := 315) hx hb dL_law_32 (by decide +kernel) (by decide +kernel) (by decide +kernel) (by decide) ?_
      exact law_bound hL C0 hK0 hK1 hI hi3 hl hw nx
    · refine lv_tableIn (off := 296) (tgt := 328) hx hb dL_law_32 (by decide +kernel) (by decide +kernel) (by decide +kernel) (by decide) ?_
      exact law_zeros hL C0 hK0 hK1 hI hi3 hl hw nx
    · refine lv_tableIn (off := 309) (tgt := 341) hx hb dL_law_32 (by decide +kernel) (by decide +kernel) (by decide +kernel) (by decide) ?_
      exact law_zeroCount hL C0 hK0 hK1 hI hi3 hl hw nx
    · refine lv_tableIn (off := 322) (tgt := 354) hx hb dL_law_32 (by decide +kernel) (by decide +kernel) (by decide +kernel) (by decide) ?_
      exact law_values hL C0 hK0 hK1 hI hi3 hl hw nx
    · refine lv_tableIn (off := 345) (tgt := 377) hx hb dL_law_32 (by decide +kernel) (by decide +kernel) (by decide +kernel) (by decide) ?_
      exact law_redundant hL C0 hK0 hK1 hI hi3 hl hw nx
    · refine lv_tableIn (off := 368) (tgt := 400) hx hb dL_law_32 (by decide +kernel) (by decide +kernel) (by decide +kernel) (by decide) ?_
      exact law_relates hL C0 hK0 hK1 hI hi3 hl hw nx
    · refine lv_tableOut (tgt := 423) hx hb dL_law_32 (by decide +kernel) (by decide) ?_
      exact nx z _ _ hI hw
def bl_z0 : bl_S := (0, bw_z, 0, ((0, bw_z, bw_z), 0, bw_z, 0, 0), bw_z, bw_z, bw_z)
theorem bl_I0 : bl_I bl_z0 := ⟨(by decide : (0 : Nat) < 64), fun i _ => (by decide : (0 : Nat) < 65536), Or.inl rfl, fun i _ => by show 0 = if Nat.testBit 0 i = true then 1 else 0; simp⟩
set_option maxHeartbeats 4000000 in
set_option maxRecDepth 100000 in
/-- THE LAW, from its entry -/
theorem whole_start {p : Program} {e : Env} {s : State} {m : MethodId} {below : List Frame} {meth : Method} {c : Code} (l : Launch) {b L : Nat} {xs : Nat → Int32} (hL : L ≤ 192) (C0 : lw_At p s m meth c b L xs) : W p l e room_1 s m #[Value.ref b] below meth c s.heap [] 0 0 (lw_Z below #[Value.ref b] s) (entryFrame m ([Value.ref b] : List Value).toArray 4) := by
  obtain ⟨hx, hb, hr, hml, hown, hts0, hX, hbl, hlocks, hgv⟩ := id C0
  have hts : ∀ w ∈ lw_all, w.before #[Value.ref b] s = true := fun w h => hts0 w (lw_all_tbl h)
  have hA : ∀ q : Nat, s.heap.size ≤ q → (fun q : Nat => s.heap.size ≤ q) q := fun _ h => h
  obtain ⟨c0, iS0, hKn0⟩ := u_known (C := RX0) (T := TX0) (N := 10) (n := 10) hts in_X0 (hts _ q20)
  obtain ⟨c1, iS1, hKn1⟩ := u_known (C := RX1) (T := TX1) (N := 4) (n := 4) hts in_X1 (hts _ q174)
  obtain ⟨dC, dI, hKc⟩ : ∃ (dC : Nat → ClassId) (dI : Nat → Nat → Nat), ∀ (k : Nat) (q : vw_C), bw_Cl[k]? = some q → u_Kn s q.1 q.2.1 q.2.2 (dC k) (dI k) := by
    refine ⟨fun k => if k = 0 then c0 else c1, fun k => if k = 0 then iS0 else iS1, ?_⟩
    intro k q hq
    match k, hq with
    | 0, hq => cases hq; exact hKn0
    | 1, hq => cases hq; exact hKn1
    | k + 2, hq => simp [bw_Cl] at hq
  have hS : va_S (fun q : Nat => s.heap.size ≤ q) s.heap s.heap [] := va_S.rf
  have hK : va_K (dC, dI) bw_Cl [] s := ⟨hKc, fun k q h => by simp at h⟩
  have hP : va_P (dC, dI) bw_Cl [] s.heap := fun k q h => by simp at h
  have hD : va_D (fun q : Nat => s.heap.size ≤ q) [] := ⟨fun i j p q h => by simp at h, fun k q h => by simp at h⟩
  have hl := lv_entry ([.ref b]) (n := 4) (Nat.le_of_ble_eq_true rfl)
  rw [lg_entry_eq]
  generalize (lg_sl ([.ref b]) ++ List.replicate (4 - (lg_sl ([.ref b])).length) Slot.unset).toArray = ls at hl ⊢
  have hl : lv_has ls 4 [(0, .ref b)] := hl
  refine va_new (ci := 0) (fs := [.int (nI 0), .null, .int (nI 0), .int (nI 0), .null, .null, .int (nI 0), .null, .int (nI 0), .int (nI 0)]) (C := RX0) (T := TX0) (N := 10) hx hb hts in_X0 tyX0 tyX0_ok hown (hts _ q19) (hts _ q20) (hts _ q17) hK hP hD hS hA rfl (fun j hj => by rcases (show j = 0 ∨ j = 1 ∨ j = 2 ∨ j = 3 ∨ j = 4 ∨ j = 5 ∨ j = 6 ∨ j = 7 ∨ j = 8 ∨ j = 9 by omega) with rfl | rfl | rfl | rfl | rfl | rfl | rfl | rfl | rfl | rfl <;> rfl) (Nat.le_of_ble_eq_true rfl) (Nat.le_of_ble_eq_true rfl) dL_law_0 (fun h0 H hP hD hS => ?_)
  have hP : va_P (dC, dI) bw_Cl (bw_N0 h0) H := hP
  have hD : va_D (fun q : Nat => s.heap.size ≤ q) (bw_N0 h0) := hD
  refine W.widen (k := 1) (n := 10) (by omega) (by omega) ?_
  refine lv_dup hx hb dL_law_3 rfl ?_
  have hFc := va_free (wc := bw_N0 h0) hD hS hA [0] rfl
  refine va_callv (va_runI (As := []) (rest := [.ref h0]) ⟨hx, hb, hml, hown, hts⟩ (mt_init l (dC, dI) h0 H.size) (cwI 0 hts (lw_meth q23) rfl rfl rfl (hts _ q17) (hts _ q21) (hts _ q22) rfl (by decide +kernel) ⟨Nat.le_of_ble_eq_true rfl, Nat.le_of_ble_eq_true rfl⟩) ⟨fun a U g mk q => by obtain ⟨q0, q1, qP, qK, qD⟩ := q; exact ⟨q0, q1, qP, va_K.moved (u := U) (U := U.calling g mk a) (Vm.Alike.refl U.vm) qK, qD⟩, fun U hU hW => ⟨rfl, by rw [hU], by rw [hU]; exact hP, va_K.moved hW.alike hK, hD.weaken (fun _ _ _ _ => trivial)⟩⟩ rfl rfl hl.1 rfl (lv_room (Nat.le_of_ble_eq_true rfl)) dL_law_4 ⟨Nat.le_of_ble_eq_true rfl, Nat.le_of_ble_eq_true rfl⟩) hS (fun q _ h => hFc q h) hFc (fun a0 t H1 locs ht hvm ha hB hz1 hk1 hS => ?_)
  have ha : a0.1 = h0 := ha
  subst ha
  obtain ⟨hP1, hK0, hD1⟩ := hB
  rw [ht] at hP1
  have hK0 := va_K.moved hvm.symm hK0
  obtain ⟨hP, hD⟩ := va_join (wr := []) (w1 := bl_w0 a0 bl_z0) hP hD [0] [] rfl rfl (by decide) (by decide) hk1 hFc hP1 hD1
  generalize H1 = H at hP hS ⊢
  have hP : va_P (dC, dI) bw_Cl (bl_w0 a0 bl_z0) H := hP
  have hD : va_D (fun q : Nat => s.heap.size ≤ q) (bl_w0 a0 bl_z0) := hD
  refine W.widen (k := 5) (n := 96) (by omega) (by omega) ?_
  refine lv_astore_n (lv' := [(1, .ref a0.1), (0, .ref b)]) hx hb dL_law_7 rfl hl (by decide) rfl (fun ls hl => ?_)
  refine va_new (ci := 1) (fs := [.null, .null, .null, .null]) (C := RX1) (T := TX1) (N := 4) hx hb hts in_X1 tyX1 tyX1_ok hown (hts _ q173) (hts _ q174) (hts _ q18) hK hP hD hS hA rfl (fun j hj => by rcases (show j = 0 ∨ j = 1 ∨ j = 2 ∨ j = 3 by omega) with rfl | rfl | rfl | rfl <;> rfl) (Nat.le_of_ble_eq_true rfl) (Nat.le_of_ble_eq_true rfl) dL_law_8 (fun h1 H hP hD hS => ?_)
  have hP : va_P (dC, dI) bw_Cl (bl_w0 a0 bl_z0 ++ bw_N1 h1) H := hP
  have hD : va_D (fun q : Nat => s.heap.size ≤ q) (bl_w0 a0 bl_z0 ++ bw_N1 h1) := hD
  refine W.widen (k := 6) (n := 100) (by omega) (by omega) ?_
  refine lv_dup hx hb dL_law_11 rfl ?_
  have hPc := hP.sub (ws' := bw_N1 h1) [5] rfl
  have hDc := hD.sub (ws' := bw_N1 h1) [5] (by decide) rfl
  have hFc := va_free (wc := bw_N1 h1) hD hS hA [5] rfl
  refine va_callv (va_runI (As := []) (rest := [.ref h1]) ⟨hx, hb, hml, hown, hts⟩ (mu_init l (dC, dI) h1 H.size) (cwI 0 hts (lw_meth q177) rfl rfl rfl (hts _ q18) (hts _ q175) (hts _ q176) rfl (by decide +kernel) ⟨Nat.le_of_ble_eq_true rfl, Nat.le_of_ble_eq_true rfl⟩) ⟨fun a U g mk q => by obtain ⟨q0, q1, qP, qK, qD⟩ := q; exact ⟨q0, q1, qP, va_K.moved (u := U) (U := U.calling g mk a) (Vm.Alike.refl U.vm) qK, qD⟩, fun U hU hW => ⟨rfl, by rw [hU], by rw [hU]; exact hPc, va_K.moved hW.alike hK, hDc.weaken (fun _ _ _ _ => trivial)⟩⟩ rfl rfl hl.1 rfl (lv_room (Nat.le_of_ble_eq_true rfl)) dL_law_12 ⟨Nat.le_of_ble_eq_true rfl, Nat.le_of_ble_eq_true rfl⟩) hS (fun q _ h => hFc q h) hFc (fun a1 t H1 locs ht hvm ha hB hz1 hk1 hS => ?_)
  have ha : a1.1 = h1 := ha
  subst ha
  obtain ⟨hP1, hK1, hD1⟩ := hB
  rw [ht] at hP1
  have hK1 := va_K.moved hvm.symm hK1
  obtain ⟨hP, hD⟩ := va_join (wr := bl_w0 a0 bl_z0) (w1 := bl_w1 a1 bl_z0) hP hD [5] [0, 1, 2, 3, 4] rfl rfl (by decide) (by decide) hk1 hFc hP1 hD1
  generalize H1 = H at hP hS ⊢
  refine W.widen (k := 10) (n := 144) (by omega) (by omega) ?_
  refine lv_astore_n (lv' := [(2, .ref a1.1), (1, .ref a0.1), (0, .ref b)]) hx hb dL_law_15 rfl hl (by decide) rfl (fun ls hl => ?_)
  refine lv_iconst (v := nI 0) hx hb dL_law_16 (by decide) ?_
  refine lv_istore_n (lv' := [(3, .int (nI 0)), (2, .ref a1.1), (1, .ref a0.1), (0, .ref b)]) hx hb dL_law_17 rfl hl (by decide) rfl (fun ls hl => ?_)
  exact law_loop hL C0 hK0 hK1 bl_z0 bl_I0 (lv_sub hl [3, 2, 1, 0] rfl) ⟨hP, hD, hS⟩
set_option maxHeartbeats 4000000 in
theorem lw_walk (l : Launch) (b : Addr) (xs : List Int32) : MetFree l x (headSpec (Jvm.Cond.code x code maxLocals ret :: tables_1) room_1) (lw_P b xs) (fun _ _ _ _ _ => True) lw_Q := by
  refine MetFree.of_bodyS (code := code) (maxLocals := maxLocals) (ret := ret) (by decide) ?_ ?_
  · intro args s m h hn
    obtain ⟨meth, c, h1, h2, h3, h4, h5, h6, -, -⟩ := Cond.code_spec hn (atoms_spec (ws := Jvm.Cond.code x code maxLocals ret :: tables_1) h _ List.mem_cons_self)
    exact ⟨meth, c, h1, h2, h3, h4, h5, h6⟩
  · intro p e s m args below meth c s₁ B hml0 hP _
    obtain ⟨rfl, hx, hbd, hgv⟩ := hP
    obtain ⟨scr, harrAt, hlist, hof, hsmall⟩ := hx
    obtain ⟨hcb, hkn, -, -⟩ := State.arrayAt?_spec harrAt
    have hown : s.vm.findClass R_law = some m.cls := findClass_of_methodNamed B.named
    have hts0 : ∀ c ∈ (Jvm.Cond.code x code maxLocals ret :: tables_1), c.before #[Value.ref b] s = true := atoms_spec (ws := Jvm.Cond.code x code maxLocals ret :: tables_1) B.pre
    have hts : ∀ w ∈ lw_tbl, w.before #[Value.ref b] s = true := k2_hts_sels lw_privs (fun w hw => hts0 w (List.mem_cons_of_mem _ hw)) lw_privs_ok
    have hml : c.maxLocals = 4 := B.maxLocals_eq (hts0 _ List.mem_cons_self)
    have X₀ : Stand p l e room_1 s m #[Value.ref b] below meth c s₁ [] 0 0 := Stand.of_body B
    have hh0 : s₁.heap = s.heap := by rw [B.state]; rfl
    have hsz : scr.slots.size = xs.length := by rw [← Array.length_toList, hlist, List.length_map]
    have hval : ∀ j : Nat, j < xs.length → scr.slots[j]? = some (.int (xs.getD j 0)) := fun j hj => by
      rw [← Array.getElem?_toList, hlist]
      simp [hj]
    have hbl : b < s.heap.size := (Array.getElem?_eq_some_iff.mp hcb).1
    have hX : va_X b xs.length (fun j => xs.getD j 0) s s.heap := ⟨scr, hcb, hof, hkn, hsz, hval⟩
    have K : W p l e room_1 s m #[Value.ref b] below meth c s₁.heap [] 0 0 (lw_Z below #[Value.ref b] s) (entryFrame m ([Value.ref b] : List Value).toArray 4) := by
      rw [hh0]
      exact whole_start l hbd ⟨B.exec, B.bytes, B.returns, hml, hown, hts, hX, hbl, B.notSynchronized, hgv⟩
    obtain ⟨t, a1, o, b1, b2, b3⟩ := K s₁ rfl X₀
    exact ⟨t, o, a1, b1, b2, b3⟩
theorem lw_pre_spec {args : Array Value} {s : State} (h : (Jvm.Cond.and given_1 narrow_1).before args s = true) (hr : rest_1_c.before args s = true) : ∃ (b : Addr) (xs : List Int32), lw_P b xs args s := by
  have hs := flat_of_before _ h
  have hq := flat_of_before _ hr
  have hc : (Cond.count 1).before args s = true := hs _ (by decide +kernel)
  have harr : (Cond.arrayOf (.arg 0) .int).before args s = true := hs _ (by decide +kernel)
  have hle : (Cond.le (.length (.arg 0)) (.int 192)).before args s = true := hs _ (by decide +kernel)
  have hlen : (Cond.isInt (.length (.arg 0))).before args s = true := hq _ (by decide +kernel)
  have hall : (Cond.all (.arg 0) (.isInt (.elem (.arg 0) (.index 0)))).before args s = true := hq _ (by decide +kernel)
  obtain ⟨b, xs, hb, hx⟩ := State.ints_of_pre rfl harr hlen hall
  have hsm : xs.length < 2 ^ 31 := hx.choose_spec.2.2.2
  have hev : (Term.length (.arg 0)).eval args s none [] s = some (.int xs.length.toInt32) := hx.length_eval hb
  have hv := Cond.le_ints hev (show (Term.int 192).eval args s none [] s = some (.int 192) from rfl)
  have hd : xs.length.toInt32 ≤ 192 := by
    simpa [Cond.before, Cond.holds, hv] using hle
  have hN : xs.length ≤ 192 := (Int32.ofNat_le_ofNat hsm (by decide)).mp (show Int32.ofNat xs.length ≤ Int32.ofNat 192 from hd)
  exact ⟨b, xs, Cond.one_arg hc (show args[0]? = some (.ref b) from hb), hx, hN, h⟩
theorem lw_comes (l : Launch) : Comes l x (Jvm.Cond.code x code maxLocals ret :: tables_1) room_1 (fun tb e args s => Calls_1 tb e args s ∧ rest_1 tb e args s ∧ Pre_1 tb e args s)
    (fun _ _ args s o t => lw_Q args s o t) := by
  intro p e ha hc hk s m args below hf hfit hheap happ hpre
  obtain ⟨b, xs, hP⟩ := lw_pre_spec hpre.2.2 hpre.2.1
  obtain ⟨k, o, h1, h2, h3, hQ⟩ := lw_walk l b xs p e ha hc hk s m args below hf ((Spec.applies_iff_loose hf).mp happ).1 hP trivial
  exact ⟨k, o, h1, h2, h3, hQ⟩
theorem lw_frame {s t : State} {o : Outcome} {args : Array Value} (h : Framed s o t [] 600000 7290000) :
    Framed s o t (fieldLocs frame_1_writes args s ++ arrayLocs frame_1_arrays args s ++ staticLocs frame_1_statics s) 600000 7290000 := h
theorem lw_limb (L : Cond) (hL : ∀ (args : Array Value) (s t : State), L.after args s (.returned (some (.int 1))) t = true) :
    ArmFor flags0 classFile x code maxLocals ret World_1 tables_1 room_1 Calls_1 rest_1 Pre_1
      (fun tb e a s o t => postC L tb e a s o t ∧ Framed s o t (fieldLocs frame_1_writes a s ++ arrayLocs frame_1_arrays a s ++ staticLocs frame_1_statics s) 600000 7290000) := by
  intro l _ _ _ p e ha hc hk s m args below hf hfit hheap happ hpre
  obtain ⟨k, o, h1, h2, h3, rfl, hF⟩ := lw_comes l p e ha hc hk s m args below hf hfit hheap happ hpre
  exact ⟨k, _, h1, h2, h3, hL args s _, lw_frame hF⟩
theorem i_vc : Claimed_1_1 ∧ Claimed_1_2 := ⟨lw_limb limb_1_1 (fun args s t => by simp [limb_1_1, Cond.after, Cond.holds, Cond.value]), lw_limb limb_1_2 (fun args s t => Cond.after_iff.mpr (by
  first | (rw [show limb_1_2 = Cond.eq .result (.int 1) from rfl, Cond.eq_ints (x := 1) (y := 1) rfl rfl]; simp; done) | (simp [limb_1_2, Cond.value, Term.eval]; done)))⟩
end
