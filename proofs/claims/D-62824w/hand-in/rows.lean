section
-- ===== PART A: goes FIRST, ahead of the names: the tables' words, and 'selects' of the private methods out of them =====
/-- a private method of a class that the tables say can be made, by its rows of tables_1 -/
def lw_okq (q : MethodName × Nat) : Prop := (q.1.cls ≠ "java/lang/invoke/MethodHandle" ∧ q.1.cls ≠ "java/lang/invoke/VarHandle") ∧ Cond.instantiable q.1.cls q.2 ∈ tables_1 ∧ Cond.privateMethod q.1 ∈ tables_1 ∧ Cond.instanceMethod q.1 ∈ tables_1
set_option maxRecDepth 100000
theorem lw_p0 : lw_okq (⟨"OmegaDesk", "free", "()V"⟩, 12) := ⟨⟨by decide +kernel, by decide +kernel⟩, List.mem_of_getElem? (i := 4) rfl, List.mem_of_getElem? (i := 66) rfl, List.mem_of_getElem? (i := 67) rfl⟩
theorem lw_p1 : lw_okq (⟨"OmegaDesk", "collect", "()V"⟩, 12) := ⟨⟨by decide +kernel, by decide +kernel⟩, List.mem_of_getElem? (i := 4) rfl, List.mem_of_getElem? (i := 70) rfl, List.mem_of_getElem? (i := 71) rfl⟩
theorem lw_p2 : lw_okq (⟨"OmegaDesk", "put", "(IIII)V"⟩, 12) := ⟨⟨by decide +kernel, by decide +kernel⟩, List.mem_of_getElem? (i := 4) rfl, List.mem_of_getElem? (i := 74) rfl, List.mem_of_getElem? (i := 75) rfl⟩
theorem lw_p3 : lw_okq (⟨"OmegaDesk", "solvable", "()Z"⟩, 12) := ⟨⟨by decide +kernel, by decide +kernel⟩, List.mem_of_getElem? (i := 4) rfl, List.mem_of_getElem? (i := 78) rfl, List.mem_of_getElem? (i := 79) rfl⟩
theorem lw_p4 : lw_okq (⟨"OmegaDesk", "makeFew", "(Z)Z"⟩, 12) := ⟨⟨by decide +kernel, by decide +kernel⟩, List.mem_of_getElem? (i := 4) rfl, List.mem_of_getElem? (i := 82) rfl, List.mem_of_getElem? (i := 83) rfl⟩
theorem lw_p5 : lw_okq (⟨"OmegaDesk", "putFew", "(III)Z"⟩, 12) := ⟨⟨by decide +kernel, by decide +kernel⟩, List.mem_of_getElem? (i := 4) rfl, List.mem_of_getElem? (i := 86) rfl, List.mem_of_getElem? (i := 87) rfl⟩
theorem lw_p6 : lw_okq (⟨"OmegaDesk", "pairUp", "(IIZ)Z"⟩, 12) := ⟨⟨by decide +kernel, by decide +kernel⟩, List.mem_of_getElem? (i := 4) rfl, List.mem_of_getElem? (i := 99) rfl, List.mem_of_getElem? (i := 100) rfl⟩
theorem lw_p7 : lw_okq (⟨"OmegaDesk", "planeSolvable", "()Z"⟩, 12) := ⟨⟨by decide +kernel, by decide +kernel⟩, List.mem_of_getElem? (i := 4) rfl, List.mem_of_getElem? (i := 103) rfl, List.mem_of_getElem? (i := 104) rfl⟩
theorem lw_p8 : lw_okq (⟨"OmegaDesk", "leavesRoom", "(I)Z"⟩, 12) := ⟨⟨by decide +kernel, by decide +kernel⟩, List.mem_of_getElem? (i := 4) rfl, List.mem_of_getElem? (i := 107) rfl, List.mem_of_getElem? (i := 108) rfl⟩
theorem lw_p9 : lw_okq (⟨"OmegaDesk", "isExact", "()Z"⟩, 12) := ⟨⟨by decide +kernel, by decide +kernel⟩, List.mem_of_getElem? (i := 4) rfl, List.mem_of_getElem? (i := 111) rfl, List.mem_of_getElem? (i := 112) rfl⟩
theorem lw_p10 : lw_okq (⟨"OmegaDesk", "makeFewFor", "(I)Z"⟩, 12) := ⟨⟨by decide +kernel, by decide +kernel⟩, List.mem_of_getElem? (i := 4) rfl, List.mem_of_getElem? (i := 115) rfl, List.mem_of_getElem? (i := 116) rfl⟩
theorem lw_p11 : lw_okq (⟨"OmegaDesk", "leastValue", "(IZ)I"⟩, 12) := ⟨⟨by decide +kernel, by decide +kernel⟩, List.mem_of_getElem? (i := 4) rfl, List.mem_of_getElem? (i := 123) rfl, List.mem_of_getElem? (i := 124) rfl⟩
theorem lw_p12 : lw_okq (⟨"OmegaDesk", "broken", "(II)Z"⟩, 12) := ⟨⟨by decide +kernel, by decide +kernel⟩, List.mem_of_getElem? (i := 4) rfl, List.mem_of_getElem? (i := 143) rfl, List.mem_of_getElem? (i := 144) rfl⟩
theorem lw_p13 : lw_okq (⟨"OmegaDeskModel", "firstRow", "()I"⟩, 6) := ⟨⟨by decide +kernel, by decide +kernel⟩, List.mem_of_getElem? (i := 147) rfl, List.mem_of_getElem? (i := 187) rfl, List.mem_of_getElem? (i := 188) rfl⟩
theorem lw_p14 : lw_okq (⟨"OmegaDeskModel", "solves", "(II)Z"⟩, 6) := ⟨⟨by decide +kernel, by decide +kernel⟩, List.mem_of_getElem? (i := 147) rfl, List.mem_of_getElem? (i := 191) rfl, List.mem_of_getElem? (i := 192) rfl⟩
theorem lw_p15 : lw_okq (⟨"OmegaDeskModel", "meets", "(II)Z"⟩, 6) := ⟨⟨by decide +kernel, by decide +kernel⟩, List.mem_of_getElem? (i := 147) rfl, List.mem_of_getElem? (i := 195) rfl, List.mem_of_getElem? (i := 196) rfl⟩
def lw_privs_1 : List (MethodName × Nat) := [(⟨"OmegaDesk", "free", "()V"⟩, 12), (⟨"OmegaDesk", "collect", "()V"⟩, 12), (⟨"OmegaDesk", "put", "(IIII)V"⟩, 12), (⟨"OmegaDesk", "solvable", "()Z"⟩, 12), (⟨"OmegaDesk", "makeFew", "(Z)Z"⟩, 12), (⟨"OmegaDesk", "putFew", "(III)Z"⟩, 12), (⟨"OmegaDesk", "pairUp", "(IIZ)Z"⟩, 12), (⟨"OmegaDesk", "planeSolvable", "()Z"⟩, 12), (⟨"OmegaDesk", "leavesRoom", "(I)Z"⟩, 12), (⟨"OmegaDesk", "isExact", "()Z"⟩, 12), (⟨"OmegaDesk", "makeFewFor", "(I)Z"⟩, 12), (⟨"OmegaDesk", "leastValue", "(IZ)I"⟩, 12), (⟨"OmegaDesk", "broken", "(II)Z"⟩, 12), (⟨"OmegaDeskModel", "firstRow", "()I"⟩, 6), (⟨"OmegaDeskModel", "solves", "(II)Z"⟩, 6), (⟨"OmegaDeskModel", "meets", "(II)Z"⟩, 6)]
theorem lw_r1 : ∀ q ∈ lw_privs_1, lw_okq q := List.forall_mem_cons.mpr ⟨lw_p0, List.forall_mem_cons.mpr ⟨lw_p1, List.forall_mem_cons.mpr ⟨lw_p2, List.forall_mem_cons.mpr ⟨lw_p3, List.forall_mem_cons.mpr ⟨lw_p4, List.forall_mem_cons.mpr ⟨lw_p5, List.forall_mem_cons.mpr ⟨lw_p6, List.forall_mem_cons.mpr ⟨lw_p7, List.forall_mem_cons.mpr ⟨lw_p8, List.forall_mem_cons.mpr ⟨lw_p9, List.forall_mem_cons.mpr ⟨lw_p10, List.forall_mem_cons.mpr ⟨lw_p11, List.forall_mem_cons.mpr ⟨lw_p12, List.forall_mem_cons.mpr ⟨lw_p13, List.forall_mem_cons.mpr ⟨lw_p14, List.forall_mem_cons.mpr ⟨lw_p15, fun _ h => absurd h List.not_mem_nil⟩⟩⟩⟩⟩⟩⟩⟩⟩⟩⟩⟩⟩⟩⟩⟩
theorem lw_p16 : lw_okq (⟨"OmegaDeskModel", "spared", "(I)Z"⟩, 6) := ⟨⟨by decide +kernel, by decide +kernel⟩, List.mem_of_getElem? (i := 147) rfl, List.mem_of_getElem? (i := 225) rfl, List.mem_of_getElem? (i := 226) rfl⟩
def lw_privs_2 : List (MethodName × Nat) := [(⟨"OmegaDeskModel", "spared", "(I)Z"⟩, 6)]
theorem lw_r2 : ∀ q ∈ lw_privs_2, lw_okq q := List.forall_mem_cons.mpr ⟨lw_p16, fun _ h => absurd h List.not_mem_nil⟩
def lw_privs : List (MethodName × Nat) := lw_privs_1 ++ (lw_privs_2)
def lw_tbl : List Cond := k2_sels lw_privs ++ tables_1
theorem lw_privs_ok : ∀ q ∈ lw_privs, lw_okq q := by
  show ∀ q ∈ lw_privs_1 ++ (lw_privs_2), lw_okq q
  exact List.forall_mem_append.mpr ⟨lw_r1, lw_r2⟩
-- ===== ONE list of words for every method: the tables' words that hold all through a run =====
def lw_all : List Cond := lw_tbl.filter goodWord
/-- a word of the tables by its place: claim/WORDS.tsv -/
theorem lw_w {w : Cond} (i : Nat) (h : lw_tbl[i]? = some w) (g : goodWord w = true) : w ∈ lw_all := List.mem_filter.mpr ⟨List.mem_of_getElem? h, g⟩
theorem lw_all_tbl {w : Cond} (h : w ∈ lw_all) : w ∈ lw_tbl := (List.mem_filter.mp h).1
theorem lw_self : GoodIn lw_all lw_all := fun w h => ⟨h, good_of_word (List.mem_filter.mp h).2⟩
/-- a class's field words, by their places -/
theorem lw_in (ws : List Cond) (ps : List Nat) (hp : ws = ps.filterMap (fun i => lw_tbl[i]?)) (hg : ws.all goodWord = true) : ∀ w ∈ ws, w ∈ lw_all := by
  intro w h
  have h1 := List.all_eq_true.mp hg w h
  rw [hp] at h
  obtain ⟨i, -, hi⟩ := List.mem_filterMap.mp h
  exact lw_w i hi h1
/-- the words of a contract for the method y with code b, L locals, answer r -/
abbrev ws_ (y : MethodName) (b : ByteArray) (L : Nat) (r : Option FieldType) : List Cond := Cond.code y b L r :: lw_all
theorem lw_meth {y : MethodName} {b : ByteArray} {L : Nat} {r : Option FieldType} (h : Cond.code y b L r ∈ lw_all) : GoodIn lw_all (ws_ y b L r) := by
  intro w hw
  rcases List.mem_cons.mp hw with e | e
  · rw [e]
    exact lw_self _ h
  · exact lw_self _ e
theorem lw_app {a c : List Cond} (ha : ∀ w ∈ a, w ∈ lw_all) (hc : GoodIn lw_all c) : GoodIn lw_all (a ++ c) := by
  intro w hw
  rcases List.mem_append.mp hw with e | e
  · exact lw_self w (ha w e)
  · exact hc w e
/-- what a call through an object asks: cwV n hts (lw_V ..) -/
theorem lw_V {own : String} {idx : Nat} {C : String} {y : MethodName} {b : ByteArray} {L : Nat} {r : Option FieldType} (h1 : Cond.methodLink own idx y ∈ lw_all) (h2 : Cond.instanceMethod y ∈ lw_all) (h3 : Cond.selects C y y ∈ lw_all) (h4 : Cond.initialized C ∈ lw_all) (h5 : Cond.code y b L r ∈ lw_all) : GoodIn lw_all (wsV own idx C y (ws_ y b L r)) := by
  refine lw_app ?_ (lw_meth h5)
  intro w hw
  simp only [List.mem_cons, List.not_mem_nil, or_false] at hw
  rcases hw with e | e | e | e
  · rw [e]; exact h1
  · rw [e]; exact h2
  · rw [e]; exact h3
  · rw [e]; exact h4
/-- what a static call asks: va_cwS n hts (lw_S ..) -/
theorem lw_S {own : String} {idx : Nat} {y : MethodName} {b : ByteArray} {L : Nat} {r : Option FieldType} (h1 : Cond.methodLink own idx y ∈ lw_all) (h2 : Cond.static y ∈ lw_all) (h3 : Cond.initialized y.cls ∈ lw_all) (h4 : Cond.code y b L r ∈ lw_all) : GoodIn lw_all (va_wsS own idx y (ws_ y b L r)) := by
  refine lw_app ?_ (lw_meth h4)
  intro w hw
  simp only [List.mem_cons, List.not_mem_nil, or_false] at hw
  rcases hw with e | e | e
  · rw [e]; exact h1
  · rw [e]; exact h2
  · rw [e]; exact h3
/-- the words of a contract for a method WITH HANDLERS (hh: its table) -/
abbrev wsW_ (y : MethodName) (b : ByteArray) (L : Nat) (r : Option FieldType) (hh : List (Nat × Nat × Nat × Nat)) : List Cond := Cond.codeWith y b L r hh :: lw_all
theorem lw_methW {y : MethodName} {b : ByteArray} {L : Nat} {r : Option FieldType} {hh : List (Nat × Nat × Nat × Nat)} (h : Cond.codeWith y b L r hh ∈ lw_all) : GoodIn lw_all (wsW_ y b L r hh) := by
  intro w hw
  rcases List.mem_cons.mp hw with e | e
  · rw [e]
    exact lw_self _ h
  · exact lw_self _ e
/-- any list of words by their places (lw_in), good -/
theorem lw_good {ws : List Cond} (h : ∀ w ∈ ws, w ∈ lw_all) : GoodIn lw_all ws := fun w hw => lw_self w (h w hw)
/-- what a call of a method with handlers asks: vx_cwVW n hts (lw_VW ..), vx_cwSW n hts (lw_SW ..) -/
theorem lw_VW {own : String} {idx : Nat} {C : String} {y : MethodName} {b : ByteArray} {L : Nat} {r : Option FieldType} {hh : List (Nat × Nat × Nat × Nat)} (h1 : Cond.methodLink own idx y ∈ lw_all) (h2 : Cond.instanceMethod y ∈ lw_all) (h3 : Cond.selects C y y ∈ lw_all) (h4 : Cond.initialized C ∈ lw_all) (h5 : Cond.codeWith y b L r hh ∈ lw_all) : GoodIn lw_all (wsV own idx C y (wsW_ y b L r hh)) := by
  refine lw_app ?_ (lw_methW h5)
  intro w hw
  simp only [List.mem_cons, List.not_mem_nil, or_false] at hw
  rcases hw with e | e | e | e
  · rw [e]; exact h1
  · rw [e]; exact h2
  · rw [e]; exact h3
  · rw [e]; exact h4
theorem lw_SW {own : String} {idx : Nat} {y : MethodName} {b : ByteArray} {L : Nat} {r : Option FieldType} {hh : List (Nat × Nat × Nat × Nat)} (h1 : Cond.methodLink own idx y ∈ lw_all) (h2 : Cond.static y ∈ lw_all) (h3 : Cond.initialized y.cls ∈ lw_all) (h4 : Cond.codeWith y b L r hh ∈ lw_all) : GoodIn lw_all (va_wsS own idx y (wsW_ y b L r hh)) := by
  refine lw_app ?_ (lw_methW h4)
  intro w hw
  simp only [List.mem_cons, List.not_mem_nil, or_false] at hw
  rcases hw with e | e | e
  · rw [e]; exact h1
  · rw [e]; exact h2
  · rw [e]; exact h3
/-- a word by its place in its run of the tables -/
theorem lw_at {r : List Cond} (hr : ∀ w ∈ r, w ∈ lw_tbl) {w : Cond} (i : Nat) (h : r[i]? = some w) : w ∈ lw_tbl := hr w (List.mem_of_getElem? h)
theorem lw_g {w : Cond} (h : w ∈ lw_tbl) (g : goodWord w = true) : w ∈ lw_all := List.mem_filter.mpr ⟨h, g⟩
theorem lw_ms : ∀ w ∈ k2_sels lw_privs, w ∈ lw_tbl := fun w h => show w ∈ k2_sels lw_privs ++ tables_1 from List.mem_append_left _ h
theorem lw_m0 : ∀ w ∈ tables_1, w ∈ lw_tbl := fun w h => show w ∈ k2_sels lw_privs ++ tables_1 from List.mem_append_right (k2_sels lw_privs) h
theorem qs0 : (Cond.selects "OmegaDesk" ⟨"OmegaDesk", "free", "()V"⟩ ⟨"OmegaDesk", "free", "()V"⟩) ∈ lw_all := lw_g (lw_at lw_ms 0 rfl) rfl
theorem qs1 : (Cond.selects "OmegaDesk" ⟨"OmegaDesk", "collect", "()V"⟩ ⟨"OmegaDesk", "collect", "()V"⟩) ∈ lw_all := lw_g (lw_at lw_ms 1 rfl) rfl
theorem qs2 : (Cond.selects "OmegaDesk" ⟨"OmegaDesk", "put", "(IIII)V"⟩ ⟨"OmegaDesk", "put", "(IIII)V"⟩) ∈ lw_all := lw_g (lw_at lw_ms 2 rfl) rfl
theorem qs3 : (Cond.selects "OmegaDesk" ⟨"OmegaDesk", "solvable", "()Z"⟩ ⟨"OmegaDesk", "solvable", "()Z"⟩) ∈ lw_all := lw_g (lw_at lw_ms 3 rfl) rfl
theorem qs4 : (Cond.selects "OmegaDesk" ⟨"OmegaDesk", "makeFew", "(Z)Z"⟩ ⟨"OmegaDesk", "makeFew", "(Z)Z"⟩) ∈ lw_all := lw_g (lw_at lw_ms 4 rfl) rfl
theorem qs5 : (Cond.selects "OmegaDesk" ⟨"OmegaDesk", "putFew", "(III)Z"⟩ ⟨"OmegaDesk", "putFew", "(III)Z"⟩) ∈ lw_all := lw_g (lw_at lw_ms 5 rfl) rfl
theorem qs6 : (Cond.selects "OmegaDesk" ⟨"OmegaDesk", "pairUp", "(IIZ)Z"⟩ ⟨"OmegaDesk", "pairUp", "(IIZ)Z"⟩) ∈ lw_all := lw_g (lw_at lw_ms 6 rfl) rfl
theorem qs7 : (Cond.selects "OmegaDesk" ⟨"OmegaDesk", "planeSolvable", "()Z"⟩ ⟨"OmegaDesk", "planeSolvable", "()Z"⟩) ∈ lw_all := lw_g (lw_at lw_ms 7 rfl) rfl
theorem qs8 : (Cond.selects "OmegaDesk" ⟨"OmegaDesk", "leavesRoom", "(I)Z"⟩ ⟨"OmegaDesk", "leavesRoom", "(I)Z"⟩) ∈ lw_all := lw_g (lw_at lw_ms 8 rfl) rfl
theorem qs9 : (Cond.selects "OmegaDesk" ⟨"OmegaDesk", "isExact", "()Z"⟩ ⟨"OmegaDesk", "isExact", "()Z"⟩) ∈ lw_all := lw_g (lw_at lw_ms 9 rfl) rfl
theorem qs10 : (Cond.selects "OmegaDesk" ⟨"OmegaDesk", "makeFewFor", "(I)Z"⟩ ⟨"OmegaDesk", "makeFewFor", "(I)Z"⟩) ∈ lw_all := lw_g (lw_at lw_ms 10 rfl) rfl
theorem qs11 : (Cond.selects "OmegaDesk" ⟨"OmegaDesk", "leastValue", "(IZ)I"⟩ ⟨"OmegaDesk", "leastValue", "(IZ)I"⟩) ∈ lw_all := lw_g (lw_at lw_ms 11 rfl) rfl
theorem qs12 : (Cond.selects "OmegaDesk" ⟨"OmegaDesk", "broken", "(II)Z"⟩ ⟨"OmegaDesk", "broken", "(II)Z"⟩) ∈ lw_all := lw_g (lw_at lw_ms 12 rfl) rfl
theorem qs13 : (Cond.selects "OmegaDeskModel" ⟨"OmegaDeskModel", "firstRow", "()I"⟩ ⟨"OmegaDeskModel", "firstRow", "()I"⟩) ∈ lw_all := lw_g (lw_at lw_ms 13 rfl) rfl
theorem qs14 : (Cond.selects "OmegaDeskModel" ⟨"OmegaDeskModel", "solves", "(II)Z"⟩ ⟨"OmegaDeskModel", "solves", "(II)Z"⟩) ∈ lw_all := lw_g (lw_at lw_ms 14 rfl) rfl
theorem qs15 : (Cond.selects "OmegaDeskModel" ⟨"OmegaDeskModel", "meets", "(II)Z"⟩ ⟨"OmegaDeskModel", "meets", "(II)Z"⟩) ∈ lw_all := lw_g (lw_at lw_ms 15 rfl) rfl
theorem qs16 : (Cond.selects "OmegaDeskModel" ⟨"OmegaDeskModel", "spared", "(I)Z"⟩ ⟨"OmegaDeskModel", "spared", "(I)Z"⟩) ∈ lw_all := lw_g (lw_at lw_ms 16 rfl) rfl
end
section
/-! OmegaDesk -/
set_option maxRecDepth 100000
def RX0 : String := "OmegaDesk"
def TX0 : u_T := fun k => match k with
  | 0 => ("OmegaDesk", "held", "I", false)
  | 1 => ("OmegaDesk", "coefficient", "[I", true)
  | 2 => ("OmegaDesk", "limit", "[I", true)
  | 3 => ("OmegaDesk", "equal", "[Z", true)
  | 4 => ("OmegaDesk", "rows", "I", false)
  | 5 => ("OmegaDesk", "factor", "[I", true)
  | 6 => ("OmegaDesk", "bound", "[I", true)
  | 7 => ("OmegaDesk", "fewRows", "I", false)
  | 8 => ("OmegaDesk", "fewFactor", "[I", true)
  | 9 => ("OmegaDesk", "fewBound", "[I", true)
  | 10 => ("OmegaDesk", "fixed", "[I", true)
  | _ => ("OmegaDesk", "without", "I", false)
def tyX0 : Nat → FieldType := fun k => match k with
  | 0 => .int
  | 1 => .array .int
  | 2 => .array .int
  | 3 => .array .boolean
  | 4 => .int
  | 5 => .array .int
  | 6 => .array .int
  | 7 => .int
  | 8 => .array .int
  | 9 => .array .int
  | 10 => .array .int
  | _ => .int
abbrev wsX00 : List Cond := u_ws RX0 TX0 12
theorem nmX0 : ∀ a, a < 12 → ∀ b, b < 12 → a ≠ b → (TX0 a).2.1 ≠ (TX0 b).2.1 := by decide +kernel
theorem tyX0_ok : ∀ k, k < 12 → parseFieldDescriptor (TX0 k).2.2.1 = some (tyX0 k) := by decide +kernel
abbrev cX0_init : ByteArray := prog_1_method_1_code
def yX0_init : MethodName := ⟨RX0, "<init>", "()V"⟩
theorem dX0_init_0 : decode cX0_init 0 = .ok (.aload_n 0, 1) := by decide +kernel
theorem dX0_init_1 : decode cX0_init 1 = .ok (.invokespecial 1, 3) := by decide +kernel
theorem dX0_init_4 : decode cX0_init 4 = .ok (.aload_n 0, 1) := by decide +kernel
theorem dX0_init_5 : decode cX0_init 5 = .ok (.bipush 24, 2) := by decide +kernel
theorem dX0_init_7 : decode cX0_init 7 = .ok (.newarray .int, 2) := by decide +kernel
theorem dX0_init_9 : decode cX0_init 9 = .ok (.putfield 7, 3) := by decide +kernel
theorem dX0_init_12 : decode cX0_init 12 = .ok (.aload_n 0, 1) := by decide +kernel
theorem dX0_init_13 : decode cX0_init 13 = .ok (.bipush 8, 2) := by decide +kernel
theorem dX0_init_15 : decode cX0_init 15 = .ok (.newarray .int, 2) := by decide +kernel
theorem dX0_init_17 : decode cX0_init 17 = .ok (.putfield 13, 3) := by decide +kernel
theorem dX0_init_20 : decode cX0_init 20 = .ok (.aload_n 0, 1) := by decide +kernel
theorem dX0_init_21 : decode cX0_init 21 = .ok (.bipush 8, 2) := by decide +kernel
theorem dX0_init_23 : decode cX0_init 23 = .ok (.newarray .boolean, 2) := by decide +kernel
theorem dX0_init_25 : decode cX0_init 25 = .ok (.putfield 16, 3) := by decide +kernel
theorem dX0_init_28 : decode cX0_init 28 = .ok (.aload_n 0, 1) := by decide +kernel
theorem dX0_init_29 : decode cX0_init 29 = .ok (.bipush 75, 2) := by decide +kernel
theorem dX0_init_31 : decode cX0_init 31 = .ok (.newarray .int, 2) := by decide +kernel
theorem dX0_init_33 : decode cX0_init 33 = .ok (.putfield 20, 3) := by decide +kernel
theorem dX0_init_36 : decode cX0_init 36 = .ok (.aload_n 0, 1) := by decide +kernel
theorem dX0_init_37 : decode cX0_init 37 = .ok (.bipush 25, 2) := by decide +kernel
theorem dX0_init_39 : decode cX0_init 39 = .ok (.newarray .int, 2) := by decide +kernel
theorem dX0_init_41 : decode cX0_init 41 = .ok (.putfield 23, 3) := by decide +kernel
theorem dX0_init_44 : decode cX0_init 44 = .ok (.aload_n 0, 1) := by decide +kernel
theorem dX0_init_45 : decode cX0_init 45 = .ok (.sipush 480, 3) := by decide +kernel
theorem dX0_init_48 : decode cX0_init 48 = .ok (.newarray .int, 2) := by decide +kernel
theorem dX0_init_50 : decode cX0_init 50 = .ok (.putfield 26, 3) := by decide +kernel
theorem dX0_init_53 : decode cX0_init 53 = .ok (.aload_n 0, 1) := by decide +kernel
theorem dX0_init_54 : decode cX0_init 54 = .ok (.sipush 160, 3) := by decide +kernel
theorem dX0_init_57 : decode cX0_init 57 = .ok (.newarray .int, 2) := by decide +kernel
theorem dX0_init_59 : decode cX0_init 59 = .ok (.putfield 29, 3) := by decide +kernel
theorem dX0_init_62 : decode cX0_init 62 = .ok (.aload_n 0, 1) := by decide +kernel
theorem dX0_init_63 : decode cX0_init 63 = .ok (.iconst 3, 1) := by decide +kernel
theorem dX0_init_64 : decode cX0_init 64 = .ok (.newarray .int, 2) := by decide +kernel
theorem dX0_init_66 : decode cX0_init 66 = .ok (.putfield 32, 3) := by decide +kernel
theorem dX0_init_69 : decode cX0_init 69 = .ok (.aload_n 0, 1) := by decide +kernel
theorem dX0_init_70 : decode cX0_init 70 = .ok (.iconst (-1), 1) := by decide +kernel
theorem dX0_init_71 : decode cX0_init 71 = .ok (.putfield 35, 3) := by decide +kernel
theorem dX0_init_74 : decode cX0_init 74 = .ok (.return_, 1) := by decide +kernel
abbrev cX0_add : ByteArray := prog_1_method_2_code
def yX0_add : MethodName := ⟨RX0, "add", "(IIIIZ)I"⟩
theorem dX0_add_0 : decode cX0_add 0 = .ok (.iload_n 1, 1) := by decide +kernel
theorem dX0_add_1 : decode cX0_add 1 = .ok (.iload_n 2, 1) := by decide +kernel
theorem dX0_add_2 : decode cX0_add 2 = .ok (.iload_n 3, 1) := by decide +kernel
theorem dX0_add_3 : decode cX0_add 3 = .ok (.iload 4, 2) := by decide +kernel
theorem dX0_add_5 : decode cX0_add 5 = .ok (.invokestatic 39, 3) := by decide +kernel
theorem dX0_add_8 : decode cX0_add 8 = .ok (.ifCond .eq 12, 3) := by decide +kernel
theorem dX0_add_11 : decode cX0_add 11 = .ok (.aload_n 0, 1) := by decide +kernel
theorem dX0_add_12 : decode cX0_add 12 = .ok (.getfield 43, 3) := by decide +kernel
theorem dX0_add_15 : decode cX0_add 15 = .ok (.bipush 8, 2) := by decide +kernel
theorem dX0_add_17 : decode cX0_add 17 = .ok (.if_icmp .lt 5, 3) := by decide +kernel
theorem dX0_add_20 : decode cX0_add 20 = .ok (.iconst (-1), 1) := by decide +kernel
theorem dX0_add_21 : decode cX0_add 21 = .ok (.ireturn, 1) := by decide +kernel
theorem dX0_add_22 : decode cX0_add 22 = .ok (.aload_n 0, 1) := by decide +kernel
theorem dX0_add_23 : decode cX0_add 23 = .ok (.getfield 7, 3) := by decide +kernel
theorem dX0_add_26 : decode cX0_add 26 = .ok (.iconst 3, 1) := by decide +kernel
theorem dX0_add_27 : decode cX0_add 27 = .ok (.aload_n 0, 1) := by decide +kernel
theorem dX0_add_28 : decode cX0_add 28 = .ok (.getfield 43, 3) := by decide +kernel
theorem dX0_add_31 : decode cX0_add 31 = .ok (.imul, 1) := by decide +kernel
theorem dX0_add_32 : decode cX0_add 32 = .ok (.iload_n 1, 1) := by decide +kernel
theorem dX0_add_33 : decode cX0_add 33 = .ok (.iastore, 1) := by decide +kernel
theorem dX0_add_34 : decode cX0_add 34 = .ok (.aload_n 0, 1) := by decide +kernel
theorem dX0_add_35 : decode cX0_add 35 = .ok (.getfield 7, 3) := by decide +kernel
theorem dX0_add_38 : decode cX0_add 38 = .ok (.iconst 3, 1) := by decide +kernel
theorem dX0_add_39 : decode cX0_add 39 = .ok (.aload_n 0, 1) := by decide +kernel
theorem dX0_add_40 : decode cX0_add 40 = .ok (.getfield 43, 3) := by decide +kernel
theorem dX0_add_43 : decode cX0_add 43 = .ok (.imul, 1) := by decide +kernel
theorem dX0_add_44 : decode cX0_add 44 = .ok (.iconst 1, 1) := by decide +kernel
theorem dX0_add_45 : decode cX0_add 45 = .ok (.iadd, 1) := by decide +kernel
theorem dX0_add_46 : decode cX0_add 46 = .ok (.iload_n 2, 1) := by decide +kernel
theorem dX0_add_47 : decode cX0_add 47 = .ok (.iastore, 1) := by decide +kernel
theorem dX0_add_48 : decode cX0_add 48 = .ok (.aload_n 0, 1) := by decide +kernel
theorem dX0_add_49 : decode cX0_add 49 = .ok (.getfield 7, 3) := by decide +kernel
theorem dX0_add_52 : decode cX0_add 52 = .ok (.iconst 3, 1) := by decide +kernel
theorem dX0_add_53 : decode cX0_add 53 = .ok (.aload_n 0, 1) := by decide +kernel
theorem dX0_add_54 : decode cX0_add 54 = .ok (.getfield 43, 3) := by decide +kernel
theorem dX0_add_57 : decode cX0_add 57 = .ok (.imul, 1) := by decide +kernel
theorem dX0_add_58 : decode cX0_add 58 = .ok (.iconst 2, 1) := by decide +kernel
theorem dX0_add_59 : decode cX0_add 59 = .ok (.iadd, 1) := by decide +kernel
theorem dX0_add_60 : decode cX0_add 60 = .ok (.iload_n 3, 1) := by decide +kernel
theorem dX0_add_61 : decode cX0_add 61 = .ok (.iastore, 1) := by decide +kernel
theorem dX0_add_62 : decode cX0_add 62 = .ok (.aload_n 0, 1) := by decide +kernel
theorem dX0_add_63 : decode cX0_add 63 = .ok (.getfield 13, 3) := by decide +kernel
theorem dX0_add_66 : decode cX0_add 66 = .ok (.aload_n 0, 1) := by decide +kernel
theorem dX0_add_67 : decode cX0_add 67 = .ok (.getfield 43, 3) := by decide +kernel
theorem dX0_add_70 : decode cX0_add 70 = .ok (.iload 4, 2) := by decide +kernel
theorem dX0_add_72 : decode cX0_add 72 = .ok (.iastore, 1) := by decide +kernel
theorem dX0_add_73 : decode cX0_add 73 = .ok (.aload_n 0, 1) := by decide +kernel
theorem dX0_add_74 : decode cX0_add 74 = .ok (.getfield 16, 3) := by decide +kernel
theorem dX0_add_77 : decode cX0_add 77 = .ok (.aload_n 0, 1) := by decide +kernel
theorem dX0_add_78 : decode cX0_add 78 = .ok (.getfield 43, 3) := by decide +kernel
theorem dX0_add_81 : decode cX0_add 81 = .ok (.iload 5, 2) := by decide +kernel
theorem dX0_add_83 : decode cX0_add 83 = .ok (.bastore, 1) := by decide +kernel
theorem dX0_add_84 : decode cX0_add 84 = .ok (.aload_n 0, 1) := by decide +kernel
theorem dX0_add_85 : decode cX0_add 85 = .ok (.dup, 1) := by decide +kernel
theorem dX0_add_86 : decode cX0_add 86 = .ok (.getfield 43, 3) := by decide +kernel
theorem dX0_add_89 : decode cX0_add 89 = .ok (.iconst 1, 1) := by decide +kernel
theorem dX0_add_90 : decode cX0_add 90 = .ok (.iadd, 1) := by decide +kernel
theorem dX0_add_91 : decode cX0_add 91 = .ok (.putfield 43, 3) := by decide +kernel
theorem dX0_add_94 : decode cX0_add 94 = .ok (.aload_n 0, 1) := by decide +kernel
theorem dX0_add_95 : decode cX0_add 95 = .ok (.getfield 43, 3) := by decide +kernel
theorem dX0_add_98 : decode cX0_add 98 = .ok (.ireturn, 1) := by decide +kernel
abbrev cX0_areRight : ByteArray := prog_1_method_11_code
def yX0_areRight : MethodName := ⟨RX0, "areRight", "(IIII)Z"⟩
theorem dX0_areRight_0 : decode cX0_areRight 0 = .ok (.iload_n 0, 1) := by decide +kernel
theorem dX0_areRight_1 : decode cX0_areRight 1 = .ok (.bipush (-9), 2) := by decide +kernel
theorem dX0_areRight_3 : decode cX0_areRight 3 = .ok (.if_icmp .lt 49, 3) := by decide +kernel
theorem dX0_areRight_6 : decode cX0_areRight 6 = .ok (.iload_n 0, 1) := by decide +kernel
theorem dX0_areRight_7 : decode cX0_areRight 7 = .ok (.bipush 9, 2) := by decide +kernel
theorem dX0_areRight_9 : decode cX0_areRight 9 = .ok (.if_icmp .gt 43, 3) := by decide +kernel
theorem dX0_areRight_12 : decode cX0_areRight 12 = .ok (.iload_n 1, 1) := by decide +kernel
theorem dX0_areRight_13 : decode cX0_areRight 13 = .ok (.bipush (-9), 2) := by decide +kernel
theorem dX0_areRight_15 : decode cX0_areRight 15 = .ok (.if_icmp .lt 37, 3) := by decide +kernel
theorem dX0_areRight_18 : decode cX0_areRight 18 = .ok (.iload_n 1, 1) := by decide +kernel
theorem dX0_areRight_19 : decode cX0_areRight 19 = .ok (.bipush 9, 2) := by decide +kernel
theorem dX0_areRight_21 : decode cX0_areRight 21 = .ok (.if_icmp .gt 31, 3) := by decide +kernel
theorem dX0_areRight_24 : decode cX0_areRight 24 = .ok (.iload_n 2, 1) := by decide +kernel
theorem dX0_areRight_25 : decode cX0_areRight 25 = .ok (.bipush (-9), 2) := by decide +kernel
theorem dX0_areRight_27 : decode cX0_areRight 27 = .ok (.if_icmp .lt 25, 3) := by decide +kernel
theorem dX0_areRight_30 : decode cX0_areRight 30 = .ok (.iload_n 2, 1) := by decide +kernel
theorem dX0_areRight_31 : decode cX0_areRight 31 = .ok (.bipush 9, 2) := by decide +kernel
theorem dX0_areRight_33 : decode cX0_areRight 33 = .ok (.if_icmp .gt 19, 3) := by decide +kernel
theorem dX0_areRight_36 : decode cX0_areRight 36 = .ok (.iload_n 3, 1) := by decide +kernel
theorem dX0_areRight_37 : decode cX0_areRight 37 = .ok (.bipush (-99), 2) := by decide +kernel
theorem dX0_areRight_39 : decode cX0_areRight 39 = .ok (.if_icmp .lt 13, 3) := by decide +kernel
theorem dX0_areRight_42 : decode cX0_areRight 42 = .ok (.iload_n 3, 1) := by decide +kernel
theorem dX0_areRight_43 : decode cX0_areRight 43 = .ok (.bipush 99, 2) := by decide +kernel
theorem dX0_areRight_45 : decode cX0_areRight 45 = .ok (.if_icmp .gt 7, 3) := by decide +kernel
theorem dX0_areRight_48 : decode cX0_areRight 48 = .ok (.iconst 1, 1) := by decide +kernel
theorem dX0_areRight_49 : decode cX0_areRight 49 = .ok (.goto 4, 3) := by decide +kernel
theorem dX0_areRight_52 : decode cX0_areRight 52 = .ok (.iconst 0, 1) := by decide +kernel
theorem dX0_areRight_53 : decode cX0_areRight 53 = .ok (.ireturn, 1) := by decide +kernel
abbrev cX0_drop : ByteArray := prog_1_method_3_code
def yX0_drop : MethodName := ⟨RX0, "drop", "(I)I"⟩
theorem dX0_drop_0 : decode cX0_drop 0 = .ok (.iload_n 1, 1) := by decide +kernel
theorem dX0_drop_1 : decode cX0_drop 1 = .ok (.ifCond .lt 11, 3) := by decide +kernel
theorem dX0_drop_4 : decode cX0_drop 4 = .ok (.iload_n 1, 1) := by decide +kernel
theorem dX0_drop_5 : decode cX0_drop 5 = .ok (.aload_n 0, 1) := by decide +kernel
theorem dX0_drop_6 : decode cX0_drop 6 = .ok (.getfield 43, 3) := by decide +kernel
theorem dX0_drop_9 : decode cX0_drop 9 = .ok (.if_icmp .lt 5, 3) := by decide +kernel
theorem dX0_drop_12 : decode cX0_drop 12 = .ok (.iconst (-1), 1) := by decide +kernel
theorem dX0_drop_13 : decode cX0_drop 13 = .ok (.ireturn, 1) := by decide +kernel
theorem dX0_drop_14 : decode cX0_drop 14 = .ok (.aload_n 0, 1) := by decide +kernel
theorem dX0_drop_15 : decode cX0_drop 15 = .ok (.dup, 1) := by decide +kernel
theorem dX0_drop_16 : decode cX0_drop 16 = .ok (.getfield 43, 3) := by decide +kernel
theorem dX0_drop_19 : decode cX0_drop 19 = .ok (.iconst 1, 1) := by decide +kernel
theorem dX0_drop_20 : decode cX0_drop 20 = .ok (.isub, 1) := by decide +kernel
theorem dX0_drop_21 : decode cX0_drop 21 = .ok (.putfield 43, 3) := by decide +kernel
theorem dX0_drop_24 : decode cX0_drop 24 = .ok (.iload_n 1, 1) := by decide +kernel
theorem dX0_drop_25 : decode cX0_drop 25 = .ok (.istore_n 2, 1) := by decide +kernel
theorem dX0_drop_26 : decode cX0_drop 26 = .ok (.iload_n 2, 1) := by decide +kernel
theorem dX0_drop_27 : decode cX0_drop 27 = .ok (.aload_n 0, 1) := by decide +kernel
theorem dX0_drop_28 : decode cX0_drop 28 = .ok (.getfield 43, 3) := by decide +kernel
theorem dX0_drop_31 : decode cX0_drop 31 = .ok (.if_icmp .ge 72, 3) := by decide +kernel
theorem dX0_drop_34 : decode cX0_drop 34 = .ok (.iconst 0, 1) := by decide +kernel
theorem dX0_drop_35 : decode cX0_drop 35 = .ok (.istore_n 3, 1) := by decide +kernel
theorem dX0_drop_36 : decode cX0_drop 36 = .ok (.iload_n 3, 1) := by decide +kernel
theorem dX0_drop_37 : decode cX0_drop 37 = .ok (.iconst 3, 1) := by decide +kernel
theorem dX0_drop_38 : decode cX0_drop 38 = .ok (.if_icmp .ge 31, 3) := by decide +kernel
theorem dX0_drop_41 : decode cX0_drop 41 = .ok (.aload_n 0, 1) := by decide +kernel
theorem dX0_drop_42 : decode cX0_drop 42 = .ok (.getfield 7, 3) := by decide +kernel
theorem dX0_drop_45 : decode cX0_drop 45 = .ok (.iconst 3, 1) := by decide +kernel
theorem dX0_drop_46 : decode cX0_drop 46 = .ok (.iload_n 2, 1) := by decide +kernel
theorem dX0_drop_47 : decode cX0_drop 47 = .ok (.imul, 1) := by decide +kernel
theorem dX0_drop_48 : decode cX0_drop 48 = .ok (.iload_n 3, 1) := by decide +kernel
theorem dX0_drop_49 : decode cX0_drop 49 = .ok (.iadd, 1) := by decide +kernel
theorem dX0_drop_50 : decode cX0_drop 50 = .ok (.aload_n 0, 1) := by decide +kernel
theorem dX0_drop_51 : decode cX0_drop 51 = .ok (.getfield 7, 3) := by decide +kernel
theorem dX0_drop_54 : decode cX0_drop 54 = .ok (.iconst 3, 1) := by decide +kernel
theorem dX0_drop_55 : decode cX0_drop 55 = .ok (.iload_n 2, 1) := by decide +kernel
theorem dX0_drop_56 : decode cX0_drop 56 = .ok (.imul, 1) := by decide +kernel
theorem dX0_drop_57 : decode cX0_drop 57 = .ok (.iconst 3, 1) := by decide +kernel
theorem dX0_drop_58 : decode cX0_drop 58 = .ok (.iadd, 1) := by decide +kernel
theorem dX0_drop_59 : decode cX0_drop 59 = .ok (.iload_n 3, 1) := by decide +kernel
theorem dX0_drop_60 : decode cX0_drop 60 = .ok (.iadd, 1) := by decide +kernel
theorem dX0_drop_61 : decode cX0_drop 61 = .ok (.iaload, 1) := by decide +kernel
theorem dX0_drop_62 : decode cX0_drop 62 = .ok (.iastore, 1) := by decide +kernel
theorem dX0_drop_63 : decode cX0_drop 63 = .ok (.iinc 3 1, 3) := by decide +kernel
theorem dX0_drop_66 : decode cX0_drop 66 = .ok (.goto (-30), 3) := by decide +kernel
theorem dX0_drop_69 : decode cX0_drop 69 = .ok (.aload_n 0, 1) := by decide +kernel
theorem dX0_drop_70 : decode cX0_drop 70 = .ok (.getfield 13, 3) := by decide +kernel
theorem dX0_drop_73 : decode cX0_drop 73 = .ok (.iload_n 2, 1) := by decide +kernel
theorem dX0_drop_74 : decode cX0_drop 74 = .ok (.aload_n 0, 1) := by decide +kernel
theorem dX0_drop_75 : decode cX0_drop 75 = .ok (.getfield 13, 3) := by decide +kernel
theorem dX0_drop_78 : decode cX0_drop 78 = .ok (.iload_n 2, 1) := by decide +kernel
theorem dX0_drop_79 : decode cX0_drop 79 = .ok (.iconst 1, 1) := by decide +kernel
theorem dX0_drop_80 : decode cX0_drop 80 = .ok (.iadd, 1) := by decide +kernel
theorem dX0_drop_81 : decode cX0_drop 81 = .ok (.iaload, 1) := by decide +kernel
theorem dX0_drop_82 : decode cX0_drop 82 = .ok (.iastore, 1) := by decide +kernel
theorem dX0_drop_83 : decode cX0_drop 83 = .ok (.aload_n 0, 1) := by decide +kernel
theorem dX0_drop_84 : decode cX0_drop 84 = .ok (.getfield 16, 3) := by decide +kernel
theorem dX0_drop_87 : decode cX0_drop 87 = .ok (.iload_n 2, 1) := by decide +kernel
theorem dX0_drop_88 : decode cX0_drop 88 = .ok (.aload_n 0, 1) := by decide +kernel
theorem dX0_drop_89 : decode cX0_drop 89 = .ok (.getfield 16, 3) := by decide +kernel
theorem dX0_drop_92 : decode cX0_drop 92 = .ok (.iload_n 2, 1) := by decide +kernel
theorem dX0_drop_93 : decode cX0_drop 93 = .ok (.iconst 1, 1) := by decide +kernel
theorem dX0_drop_94 : decode cX0_drop 94 = .ok (.iadd, 1) := by decide +kernel
theorem dX0_drop_95 : decode cX0_drop 95 = .ok (.baload, 1) := by decide +kernel
theorem dX0_drop_96 : decode cX0_drop 96 = .ok (.bastore, 1) := by decide +kernel
theorem dX0_drop_97 : decode cX0_drop 97 = .ok (.iinc 2 1, 3) := by decide +kernel
theorem dX0_drop_100 : decode cX0_drop 100 = .ok (.goto (-74), 3) := by decide +kernel
theorem dX0_drop_103 : decode cX0_drop 103 = .ok (.aload_n 0, 1) := by decide +kernel
theorem dX0_drop_104 : decode cX0_drop 104 = .ok (.getfield 43, 3) := by decide +kernel
theorem dX0_drop_107 : decode cX0_drop 107 = .ok (.ireturn, 1) := by decide +kernel
abbrev cX0_possible : ByteArray := prog_1_method_4_code
def yX0_possible : MethodName := ⟨RX0, "possible", "()I"⟩
theorem dX0_possible_0 : decode cX0_possible 0 = .ok (.aload_n 0, 1) := by decide +kernel
theorem dX0_possible_1 : decode cX0_possible 1 = .ok (.invokevirtual 46, 3) := by decide +kernel
theorem dX0_possible_4 : decode cX0_possible 4 = .ok (.aload_n 0, 1) := by decide +kernel
theorem dX0_possible_5 : decode cX0_possible 5 = .ok (.invokevirtual 49, 3) := by decide +kernel
theorem dX0_possible_8 : decode cX0_possible 8 = .ok (.aload_n 0, 1) := by decide +kernel
theorem dX0_possible_9 : decode cX0_possible 9 = .ok (.invokevirtual 52, 3) := by decide +kernel
theorem dX0_possible_12 : decode cX0_possible 12 = .ok (.ifCond .eq 7, 3) := by decide +kernel
theorem dX0_possible_15 : decode cX0_possible 15 = .ok (.iconst 1, 1) := by decide +kernel
theorem dX0_possible_16 : decode cX0_possible 16 = .ok (.goto 4, 3) := by decide +kernel
theorem dX0_possible_19 : decode cX0_possible 19 = .ok (.iconst 0, 1) := by decide +kernel
theorem dX0_possible_20 : decode cX0_possible 20 = .ok (.ireturn, 1) := by decide +kernel
abbrev cX0_free : ByteArray := prog_1_method_12_code
def yX0_free : MethodName := ⟨RX0, "free", "()V"⟩
theorem dX0_free_0 : decode cX0_free 0 = .ok (.iconst 0, 1) := by decide +kernel
theorem dX0_free_1 : decode cX0_free 1 = .ok (.istore_n 1, 1) := by decide +kernel
theorem dX0_free_2 : decode cX0_free 2 = .ok (.iload_n 1, 1) := by decide +kernel
theorem dX0_free_3 : decode cX0_free 3 = .ok (.iconst 3, 1) := by decide +kernel
theorem dX0_free_4 : decode cX0_free 4 = .ok (.if_icmp .ge 17, 3) := by decide +kernel
theorem dX0_free_7 : decode cX0_free 7 = .ok (.aload_n 0, 1) := by decide +kernel
theorem dX0_free_8 : decode cX0_free 8 = .ok (.getfield 32, 3) := by decide +kernel
theorem dX0_free_11 : decode cX0_free 11 = .ok (.iload_n 1, 1) := by decide +kernel
theorem dX0_free_12 : decode cX0_free 12 = .ok (.bipush 100, 2) := by decide +kernel
theorem dX0_free_14 : decode cX0_free 14 = .ok (.iastore, 1) := by decide +kernel
theorem dX0_free_15 : decode cX0_free 15 = .ok (.iinc 1 1, 3) := by decide +kernel
theorem dX0_free_18 : decode cX0_free 18 = .ok (.goto (-16), 3) := by decide +kernel
theorem dX0_free_21 : decode cX0_free 21 = .ok (.return_, 1) := by decide +kernel
abbrev cX0_collect : ByteArray := prog_1_method_14_code
def yX0_collect : MethodName := ⟨RX0, "collect", "()V"⟩
theorem dX0_collect_0 : decode cX0_collect 0 = .ok (.aload_n 0, 1) := by decide +kernel
theorem dX0_collect_1 : decode cX0_collect 1 = .ok (.iconst 0, 1) := by decide +kernel
theorem dX0_collect_2 : decode cX0_collect 2 = .ok (.putfield 68, 3) := by decide +kernel
theorem dX0_collect_5 : decode cX0_collect 5 = .ok (.iconst 0, 1) := by decide +kernel
theorem dX0_collect_6 : decode cX0_collect 6 = .ok (.istore_n 1, 1) := by decide +kernel
theorem dX0_collect_7 : decode cX0_collect 7 = .ok (.iload_n 1, 1) := by decide +kernel
theorem dX0_collect_8 : decode cX0_collect 8 = .ok (.aload_n 0, 1) := by decide +kernel
theorem dX0_collect_9 : decode cX0_collect 9 = .ok (.getfield 43, 3) := by decide +kernel
theorem dX0_collect_12 : decode cX0_collect 12 = .ok (.if_icmp .ge 90, 3) := by decide +kernel
theorem dX0_collect_15 : decode cX0_collect 15 = .ok (.iload_n 1, 1) := by decide +kernel
theorem dX0_collect_16 : decode cX0_collect 16 = .ok (.aload_n 0, 1) := by decide +kernel
theorem dX0_collect_17 : decode cX0_collect 17 = .ok (.getfield 35, 3) := by decide +kernel
theorem dX0_collect_20 : decode cX0_collect 20 = .ok (.if_icmp .eq 76, 3) := by decide +kernel
theorem dX0_collect_23 : decode cX0_collect 23 = .ok (.aload_n 0, 1) := by decide +kernel
theorem dX0_collect_24 : decode cX0_collect 24 = .ok (.getfield 7, 3) := by decide +kernel
theorem dX0_collect_27 : decode cX0_collect 27 = .ok (.iconst 3, 1) := by decide +kernel
theorem dX0_collect_28 : decode cX0_collect 28 = .ok (.iload_n 1, 1) := by decide +kernel
theorem dX0_collect_29 : decode cX0_collect 29 = .ok (.imul, 1) := by decide +kernel
theorem dX0_collect_30 : decode cX0_collect 30 = .ok (.iaload, 1) := by decide +kernel
theorem dX0_collect_31 : decode cX0_collect 31 = .ok (.istore_n 2, 1) := by decide +kernel
theorem dX0_collect_32 : decode cX0_collect 32 = .ok (.aload_n 0, 1) := by decide +kernel
theorem dX0_collect_33 : decode cX0_collect 33 = .ok (.getfield 7, 3) := by decide +kernel
theorem dX0_collect_36 : decode cX0_collect 36 = .ok (.iconst 3, 1) := by decide +kernel
theorem dX0_collect_37 : decode cX0_collect 37 = .ok (.iload_n 1, 1) := by decide +kernel
theorem dX0_collect_38 : decode cX0_collect 38 = .ok (.imul, 1) := by decide +kernel
theorem dX0_collect_39 : decode cX0_collect 39 = .ok (.iconst 1, 1) := by decide +kernel
theorem dX0_collect_40 : decode cX0_collect 40 = .ok (.iadd, 1) := by decide +kernel
theorem dX0_collect_41 : decode cX0_collect 41 = .ok (.iaload, 1) := by decide +kernel
theorem dX0_collect_42 : decode cX0_collect 42 = .ok (.istore_n 3, 1) := by decide +kernel
theorem dX0_collect_43 : decode cX0_collect 43 = .ok (.aload_n 0, 1) := by decide +kernel
theorem dX0_collect_44 : decode cX0_collect 44 = .ok (.getfield 7, 3) := by decide +kernel
theorem dX0_collect_47 : decode cX0_collect 47 = .ok (.iconst 3, 1) := by decide +kernel
theorem dX0_collect_48 : decode cX0_collect 48 = .ok (.iload_n 1, 1) := by decide +kernel
theorem dX0_collect_49 : decode cX0_collect 49 = .ok (.imul, 1) := by decide +kernel
theorem dX0_collect_50 : decode cX0_collect 50 = .ok (.iconst 2, 1) := by decide +kernel
theorem dX0_collect_51 : decode cX0_collect 51 = .ok (.iadd, 1) := by decide +kernel
theorem dX0_collect_52 : decode cX0_collect 52 = .ok (.iaload, 1) := by decide +kernel
theorem dX0_collect_53 : decode cX0_collect 53 = .ok (.istore 4, 2) := by decide +kernel
theorem dX0_collect_55 : decode cX0_collect 55 = .ok (.aload_n 0, 1) := by decide +kernel
theorem dX0_collect_56 : decode cX0_collect 56 = .ok (.iload_n 2, 1) := by decide +kernel
theorem dX0_collect_57 : decode cX0_collect 57 = .ok (.iload_n 3, 1) := by decide +kernel
theorem dX0_collect_58 : decode cX0_collect 58 = .ok (.iload 4, 2) := by decide +kernel
theorem dX0_collect_60 : decode cX0_collect 60 = .ok (.aload_n 0, 1) := by decide +kernel
theorem dX0_collect_61 : decode cX0_collect 61 = .ok (.getfield 13, 3) := by decide +kernel
theorem dX0_collect_64 : decode cX0_collect 64 = .ok (.iload_n 1, 1) := by decide +kernel
theorem dX0_collect_65 : decode cX0_collect 65 = .ok (.iaload, 1) := by decide +kernel
theorem dX0_collect_66 : decode cX0_collect 66 = .ok (.invokevirtual 60, 3) := by decide +kernel
theorem dX0_collect_69 : decode cX0_collect 69 = .ok (.aload_n 0, 1) := by decide +kernel
theorem dX0_collect_70 : decode cX0_collect 70 = .ok (.getfield 16, 3) := by decide +kernel
theorem dX0_collect_73 : decode cX0_collect 73 = .ok (.iload_n 1, 1) := by decide +kernel
theorem dX0_collect_74 : decode cX0_collect 74 = .ok (.baload, 1) := by decide +kernel
theorem dX0_collect_75 : decode cX0_collect 75 = .ok (.ifCond .eq 21, 3) := by decide +kernel
theorem dX0_collect_78 : decode cX0_collect 78 = .ok (.aload_n 0, 1) := by decide +kernel
theorem dX0_collect_79 : decode cX0_collect 79 = .ok (.iload_n 2, 1) := by decide +kernel
theorem dX0_collect_80 : decode cX0_collect 80 = .ok (.ineg, 1) := by decide +kernel
theorem dX0_collect_81 : decode cX0_collect 81 = .ok (.iload_n 3, 1) := by decide +kernel
theorem dX0_collect_82 : decode cX0_collect 82 = .ok (.ineg, 1) := by decide +kernel
theorem dX0_collect_83 : decode cX0_collect 83 = .ok (.iload 4, 2) := by decide +kernel
theorem dX0_collect_85 : decode cX0_collect 85 = .ok (.ineg, 1) := by decide +kernel
theorem dX0_collect_86 : decode cX0_collect 86 = .ok (.aload_n 0, 1) := by decide +kernel
theorem dX0_collect_87 : decode cX0_collect 87 = .ok (.getfield 13, 3) := by decide +kernel
theorem dX0_collect_90 : decode cX0_collect 90 = .ok (.iload_n 1, 1) := by decide +kernel
theorem dX0_collect_91 : decode cX0_collect 91 = .ok (.iaload, 1) := by decide +kernel
theorem dX0_collect_92 : decode cX0_collect 92 = .ok (.ineg, 1) := by decide +kernel
theorem dX0_collect_93 : decode cX0_collect 93 = .ok (.invokevirtual 60, 3) := by decide +kernel
theorem dX0_collect_96 : decode cX0_collect 96 = .ok (.iinc 1 1, 3) := by decide +kernel
theorem dX0_collect_99 : decode cX0_collect 99 = .ok (.goto (-92), 3) := by decide +kernel
theorem dX0_collect_102 : decode cX0_collect 102 = .ok (.iconst 0, 1) := by decide +kernel
theorem dX0_collect_103 : decode cX0_collect 103 = .ok (.istore_n 1, 1) := by decide +kernel
theorem dX0_collect_104 : decode cX0_collect 104 = .ok (.iload_n 1, 1) := by decide +kernel
theorem dX0_collect_105 : decode cX0_collect 105 = .ok (.iconst 3, 1) := by decide +kernel
theorem dX0_collect_106 : decode cX0_collect 106 = .ok (.if_icmp .ge 124, 3) := by decide +kernel
theorem dX0_collect_109 : decode cX0_collect 109 = .ok (.aload_n 0, 1) := by decide +kernel
theorem dX0_collect_110 : decode cX0_collect 110 = .ok (.getfield 32, 3) := by decide +kernel
theorem dX0_collect_113 : decode cX0_collect 113 = .ok (.iload_n 1, 1) := by decide +kernel
theorem dX0_collect_114 : decode cX0_collect 114 = .ok (.iaload, 1) := by decide +kernel
theorem dX0_collect_115 : decode cX0_collect 115 = .ok (.bipush 100, 2) := by decide +kernel
theorem dX0_collect_117 : decode cX0_collect 117 = .ok (.if_icmp .ne 8, 3) := by decide +kernel
theorem dX0_collect_120 : decode cX0_collect 120 = .ok (.bipush 6, 2) := by decide +kernel
theorem dX0_collect_122 : decode cX0_collect 122 = .ok (.goto 9, 3) := by decide +kernel
theorem dX0_collect_125 : decode cX0_collect 125 = .ok (.aload_n 0, 1) := by decide +kernel
theorem dX0_collect_126 : decode cX0_collect 126 = .ok (.getfield 32, 3) := by decide +kernel
theorem dX0_collect_129 : decode cX0_collect 129 = .ok (.iload_n 1, 1) := by decide +kernel
theorem dX0_collect_130 : decode cX0_collect 130 = .ok (.iaload, 1) := by decide +kernel
theorem dX0_collect_131 : decode cX0_collect 131 = .ok (.istore_n 2, 1) := by decide +kernel
theorem dX0_collect_132 : decode cX0_collect 132 = .ok (.aload_n 0, 1) := by decide +kernel
theorem dX0_collect_133 : decode cX0_collect 133 = .ok (.getfield 32, 3) := by decide +kernel
theorem dX0_collect_136 : decode cX0_collect 136 = .ok (.iload_n 1, 1) := by decide +kernel
theorem dX0_collect_137 : decode cX0_collect 137 = .ok (.iaload, 1) := by decide +kernel
theorem dX0_collect_138 : decode cX0_collect 138 = .ok (.bipush 100, 2) := by decide +kernel
theorem dX0_collect_140 : decode cX0_collect 140 = .ok (.if_icmp .ne 8, 3) := by decide +kernel
theorem dX0_collect_143 : decode cX0_collect 143 = .ok (.bipush (-6), 2) := by decide +kernel
theorem dX0_collect_145 : decode cX0_collect 145 = .ok (.goto 9, 3) := by decide +kernel
theorem dX0_collect_148 : decode cX0_collect 148 = .ok (.aload_n 0, 1) := by decide +kernel
theorem dX0_collect_149 : decode cX0_collect 149 = .ok (.getfield 32, 3) := by decide +kernel
theorem dX0_collect_152 : decode cX0_collect 152 = .ok (.iload_n 1, 1) := by decide +kernel
theorem dX0_collect_153 : decode cX0_collect 153 = .ok (.iaload, 1) := by decide +kernel
theorem dX0_collect_154 : decode cX0_collect 154 = .ok (.istore_n 3, 1) := by decide +kernel
theorem dX0_collect_155 : decode cX0_collect 155 = .ok (.aload_n 0, 1) := by decide +kernel
theorem dX0_collect_156 : decode cX0_collect 156 = .ok (.iload_n 1, 1) := by decide +kernel
theorem dX0_collect_157 : decode cX0_collect 157 = .ok (.ifCond .ne 7, 3) := by decide +kernel
theorem dX0_collect_160 : decode cX0_collect 160 = .ok (.iconst 1, 1) := by decide +kernel
theorem dX0_collect_161 : decode cX0_collect 161 = .ok (.goto 4, 3) := by decide +kernel
theorem dX0_collect_164 : decode cX0_collect 164 = .ok (.iconst 0, 1) := by decide +kernel
theorem dX0_collect_165 : decode cX0_collect 165 = .ok (.iload_n 1, 1) := by decide +kernel
theorem dX0_collect_166 : decode cX0_collect 166 = .ok (.iconst 1, 1) := by decide +kernel
theorem dX0_collect_167 : decode cX0_collect 167 = .ok (.if_icmp .ne 7, 3) := by decide +kernel
theorem dX0_collect_170 : decode cX0_collect 170 = .ok (.iconst 1, 1) := by decide +kernel
theorem dX0_collect_171 : decode cX0_collect 171 = .ok (.goto 4, 3) := by decide +kernel
theorem dX0_collect_174 : decode cX0_collect 174 = .ok (.iconst 0, 1) := by decide +kernel
theorem dX0_collect_175 : decode cX0_collect 175 = .ok (.iload_n 1, 1) := by decide +kernel
theorem dX0_collect_176 : decode cX0_collect 176 = .ok (.iconst 2, 1) := by decide +kernel
theorem dX0_collect_177 : decode cX0_collect 177 = .ok (.if_icmp .ne 7, 3) := by decide +kernel
theorem dX0_collect_180 : decode cX0_collect 180 = .ok (.iconst 1, 1) := by decide +kernel
theorem dX0_collect_181 : decode cX0_collect 181 = .ok (.goto 4, 3) := by decide +kernel
theorem dX0_collect_184 : decode cX0_collect 184 = .ok (.iconst 0, 1) := by decide +kernel
theorem dX0_collect_185 : decode cX0_collect 185 = .ok (.iload_n 2, 1) := by decide +kernel
theorem dX0_collect_186 : decode cX0_collect 186 = .ok (.invokevirtual 60, 3) := by decide +kernel
theorem dX0_collect_189 : decode cX0_collect 189 = .ok (.aload_n 0, 1) := by decide +kernel
theorem dX0_collect_190 : decode cX0_collect 190 = .ok (.iload_n 1, 1) := by decide +kernel
theorem dX0_collect_191 : decode cX0_collect 191 = .ok (.ifCond .ne 7, 3) := by decide +kernel
theorem dX0_collect_194 : decode cX0_collect 194 = .ok (.iconst (-1), 1) := by decide +kernel
theorem dX0_collect_195 : decode cX0_collect 195 = .ok (.goto 4, 3) := by decide +kernel
theorem dX0_collect_198 : decode cX0_collect 198 = .ok (.iconst 0, 1) := by decide +kernel
theorem dX0_collect_199 : decode cX0_collect 199 = .ok (.iload_n 1, 1) := by decide +kernel
theorem dX0_collect_200 : decode cX0_collect 200 = .ok (.iconst 1, 1) := by decide +kernel
theorem dX0_collect_201 : decode cX0_collect 201 = .ok (.if_icmp .ne 7, 3) := by decide +kernel
theorem dX0_collect_204 : decode cX0_collect 204 = .ok (.iconst (-1), 1) := by decide +kernel
theorem dX0_collect_205 : decode cX0_collect 205 = .ok (.goto 4, 3) := by decide +kernel
theorem dX0_collect_208 : decode cX0_collect 208 = .ok (.iconst 0, 1) := by decide +kernel
theorem dX0_collect_209 : decode cX0_collect 209 = .ok (.iload_n 1, 1) := by decide +kernel
theorem dX0_collect_210 : decode cX0_collect 210 = .ok (.iconst 2, 1) := by decide +kernel
theorem dX0_collect_211 : decode cX0_collect 211 = .ok (.if_icmp .ne 7, 3) := by decide +kernel
theorem dX0_collect_214 : decode cX0_collect 214 = .ok (.iconst (-1), 1) := by decide +kernel
theorem dX0_collect_215 : decode cX0_collect 215 = .ok (.goto 4, 3) := by decide +kernel
theorem dX0_collect_218 : decode cX0_collect 218 = .ok (.iconst 0, 1) := by decide +kernel
theorem dX0_collect_219 : decode cX0_collect 219 = .ok (.iload_n 3, 1) := by decide +kernel
theorem dX0_collect_220 : decode cX0_collect 220 = .ok (.ineg, 1) := by decide +kernel
theorem dX0_collect_221 : decode cX0_collect 221 = .ok (.invokevirtual 60, 3) := by decide +kernel
theorem dX0_collect_224 : decode cX0_collect 224 = .ok (.iinc 1 1, 3) := by decide +kernel
theorem dX0_collect_227 : decode cX0_collect 227 = .ok (.goto (-123), 3) := by decide +kernel
theorem dX0_collect_230 : decode cX0_collect 230 = .ok (.return_, 1) := by decide +kernel
end
section
set_option maxRecDepth 100000
abbrev cX0_put : ByteArray := prog_1_method_15_code
def yX0_put : MethodName := ⟨RX0, "put", "(IIII)V"⟩
theorem dX0_put_0 : decode cX0_put 0 = .ok (.aload_n 0, 1) := by decide +kernel
theorem dX0_put_1 : decode cX0_put 1 = .ok (.getfield 20, 3) := by decide +kernel
theorem dX0_put_4 : decode cX0_put 4 = .ok (.iconst 3, 1) := by decide +kernel
theorem dX0_put_5 : decode cX0_put 5 = .ok (.aload_n 0, 1) := by decide +kernel
theorem dX0_put_6 : decode cX0_put 6 = .ok (.getfield 68, 3) := by decide +kernel
theorem dX0_put_9 : decode cX0_put 9 = .ok (.imul, 1) := by decide +kernel
theorem dX0_put_10 : decode cX0_put 10 = .ok (.iload_n 1, 1) := by decide +kernel
theorem dX0_put_11 : decode cX0_put 11 = .ok (.iastore, 1) := by decide +kernel
theorem dX0_put_12 : decode cX0_put 12 = .ok (.aload_n 0, 1) := by decide +kernel
theorem dX0_put_13 : decode cX0_put 13 = .ok (.getfield 20, 3) := by decide +kernel
theorem dX0_put_16 : decode cX0_put 16 = .ok (.iconst 3, 1) := by decide +kernel
theorem dX0_put_17 : decode cX0_put 17 = .ok (.aload_n 0, 1) := by decide +kernel
theorem dX0_put_18 : decode cX0_put 18 = .ok (.getfield 68, 3) := by decide +kernel
theorem dX0_put_21 : decode cX0_put 21 = .ok (.imul, 1) := by decide +kernel
theorem dX0_put_22 : decode cX0_put 22 = .ok (.iconst 1, 1) := by decide +kernel
theorem dX0_put_23 : decode cX0_put 23 = .ok (.iadd, 1) := by decide +kernel
theorem dX0_put_24 : decode cX0_put 24 = .ok (.iload_n 2, 1) := by decide +kernel
theorem dX0_put_25 : decode cX0_put 25 = .ok (.iastore, 1) := by decide +kernel
theorem dX0_put_26 : decode cX0_put 26 = .ok (.aload_n 0, 1) := by decide +kernel
theorem dX0_put_27 : decode cX0_put 27 = .ok (.getfield 20, 3) := by decide +kernel
theorem dX0_put_30 : decode cX0_put 30 = .ok (.iconst 3, 1) := by decide +kernel
theorem dX0_put_31 : decode cX0_put 31 = .ok (.aload_n 0, 1) := by decide +kernel
theorem dX0_put_32 : decode cX0_put 32 = .ok (.getfield 68, 3) := by decide +kernel
theorem dX0_put_35 : decode cX0_put 35 = .ok (.imul, 1) := by decide +kernel
theorem dX0_put_36 : decode cX0_put 36 = .ok (.iconst 2, 1) := by decide +kernel
theorem dX0_put_37 : decode cX0_put 37 = .ok (.iadd, 1) := by decide +kernel
theorem dX0_put_38 : decode cX0_put 38 = .ok (.iload_n 3, 1) := by decide +kernel
theorem dX0_put_39 : decode cX0_put 39 = .ok (.iastore, 1) := by decide +kernel
theorem dX0_put_40 : decode cX0_put 40 = .ok (.aload_n 0, 1) := by decide +kernel
theorem dX0_put_41 : decode cX0_put 41 = .ok (.getfield 23, 3) := by decide +kernel
theorem dX0_put_44 : decode cX0_put 44 = .ok (.aload_n 0, 1) := by decide +kernel
theorem dX0_put_45 : decode cX0_put 45 = .ok (.getfield 68, 3) := by decide +kernel
theorem dX0_put_48 : decode cX0_put 48 = .ok (.iload 4, 2) := by decide +kernel
theorem dX0_put_50 : decode cX0_put 50 = .ok (.iastore, 1) := by decide +kernel
theorem dX0_put_51 : decode cX0_put 51 = .ok (.aload_n 0, 1) := by decide +kernel
theorem dX0_put_52 : decode cX0_put 52 = .ok (.dup, 1) := by decide +kernel
theorem dX0_put_53 : decode cX0_put 53 = .ok (.getfield 68, 3) := by decide +kernel
theorem dX0_put_56 : decode cX0_put 56 = .ok (.iconst 1, 1) := by decide +kernel
theorem dX0_put_57 : decode cX0_put 57 = .ok (.iadd, 1) := by decide +kernel
theorem dX0_put_58 : decode cX0_put 58 = .ok (.putfield 68, 3) := by decide +kernel
theorem dX0_put_61 : decode cX0_put 61 = .ok (.return_, 1) := by decide +kernel
abbrev cX0_solvable : ByteArray := prog_1_method_19_code
def yX0_solvable : MethodName := ⟨RX0, "solvable", "()Z"⟩
theorem dX0_solvable_0 : decode cX0_solvable 0 = .ok (.aload_n 0, 1) := by decide +kernel
theorem dX0_solvable_1 : decode cX0_solvable 1 = .ok (.iconst 1, 1) := by decide +kernel
theorem dX0_solvable_2 : decode cX0_solvable 2 = .ok (.invokevirtual 75, 3) := by decide +kernel
theorem dX0_solvable_5 : decode cX0_solvable 5 = .ok (.ifCond .eq 12, 3) := by decide +kernel
theorem dX0_solvable_8 : decode cX0_solvable 8 = .ok (.aload_n 0, 1) := by decide +kernel
theorem dX0_solvable_9 : decode cX0_solvable 9 = .ok (.invokevirtual 79, 3) := by decide +kernel
theorem dX0_solvable_12 : decode cX0_solvable 12 = .ok (.ifCond .eq 5, 3) := by decide +kernel
theorem dX0_solvable_15 : decode cX0_solvable 15 = .ok (.iconst 1, 1) := by decide +kernel
theorem dX0_solvable_16 : decode cX0_solvable 16 = .ok (.ireturn, 1) := by decide +kernel
theorem dX0_solvable_17 : decode cX0_solvable 17 = .ok (.aload_n 0, 1) := by decide +kernel
theorem dX0_solvable_18 : decode cX0_solvable 18 = .ok (.invokevirtual 82, 3) := by decide +kernel
theorem dX0_solvable_21 : decode cX0_solvable 21 = .ok (.istore_n 1, 1) := by decide +kernel
theorem dX0_solvable_22 : decode cX0_solvable 22 = .ok (.iload_n 1, 1) := by decide +kernel
theorem dX0_solvable_23 : decode cX0_solvable 23 = .ok (.ifCond .ne 18, 3) := by decide +kernel
theorem dX0_solvable_26 : decode cX0_solvable 26 = .ok (.aload_n 0, 1) := by decide +kernel
theorem dX0_solvable_27 : decode cX0_solvable 27 = .ok (.iconst 0, 1) := by decide +kernel
theorem dX0_solvable_28 : decode cX0_solvable 28 = .ok (.invokevirtual 75, 3) := by decide +kernel
theorem dX0_solvable_31 : decode cX0_solvable 31 = .ok (.ifCond .eq 10, 3) := by decide +kernel
theorem dX0_solvable_34 : decode cX0_solvable 34 = .ok (.aload_n 0, 1) := by decide +kernel
theorem dX0_solvable_35 : decode cX0_solvable 35 = .ok (.invokevirtual 79, 3) := by decide +kernel
theorem dX0_solvable_38 : decode cX0_solvable 38 = .ok (.ifCond .ne 5, 3) := by decide +kernel
theorem dX0_solvable_41 : decode cX0_solvable 41 = .ok (.iconst 0, 1) := by decide +kernel
theorem dX0_solvable_42 : decode cX0_solvable 42 = .ok (.ireturn, 1) := by decide +kernel
theorem dX0_solvable_43 : decode cX0_solvable 43 = .ok (.bipush (-6), 2) := by decide +kernel
theorem dX0_solvable_45 : decode cX0_solvable 45 = .ok (.istore_n 2, 1) := by decide +kernel
theorem dX0_solvable_46 : decode cX0_solvable 46 = .ok (.iload_n 2, 1) := by decide +kernel
theorem dX0_solvable_47 : decode cX0_solvable 47 = .ok (.bipush 6, 2) := by decide +kernel
theorem dX0_solvable_49 : decode cX0_solvable 49 = .ok (.if_icmp .gt 26, 3) := by decide +kernel
theorem dX0_solvable_52 : decode cX0_solvable 52 = .ok (.aload_n 0, 1) := by decide +kernel
theorem dX0_solvable_53 : decode cX0_solvable 53 = .ok (.iload_n 2, 1) := by decide +kernel
theorem dX0_solvable_54 : decode cX0_solvable 54 = .ok (.invokevirtual 85, 3) := by decide +kernel
theorem dX0_solvable_57 : decode cX0_solvable 57 = .ok (.ifCond .eq 12, 3) := by decide +kernel
theorem dX0_solvable_60 : decode cX0_solvable 60 = .ok (.aload_n 0, 1) := by decide +kernel
theorem dX0_solvable_61 : decode cX0_solvable 61 = .ok (.invokevirtual 79, 3) := by decide +kernel
theorem dX0_solvable_64 : decode cX0_solvable 64 = .ok (.ifCond .eq 5, 3) := by decide +kernel
theorem dX0_solvable_67 : decode cX0_solvable 67 = .ok (.iconst 1, 1) := by decide +kernel
theorem dX0_solvable_68 : decode cX0_solvable 68 = .ok (.ireturn, 1) := by decide +kernel
theorem dX0_solvable_69 : decode cX0_solvable 69 = .ok (.iinc 2 1, 3) := by decide +kernel
theorem dX0_solvable_72 : decode cX0_solvable 72 = .ok (.goto (-26), 3) := by decide +kernel
theorem dX0_solvable_75 : decode cX0_solvable 75 = .ok (.iconst 0, 1) := by decide +kernel
theorem dX0_solvable_76 : decode cX0_solvable 76 = .ok (.ireturn, 1) := by decide +kernel
abbrev cX0_makeFew : ByteArray := prog_1_method_21_code
def yX0_makeFew : MethodName := ⟨RX0, "makeFew", "(Z)Z"⟩
theorem dX0_makeFew_0 : decode cX0_makeFew 0 = .ok (.aload_n 0, 1) := by decide +kernel
theorem dX0_makeFew_1 : decode cX0_makeFew 1 = .ok (.iconst 0, 1) := by decide +kernel
theorem dX0_makeFew_2 : decode cX0_makeFew 2 = .ok (.putfield 89, 3) := by decide +kernel
theorem dX0_makeFew_5 : decode cX0_makeFew 5 = .ok (.iconst 1, 1) := by decide +kernel
theorem dX0_makeFew_6 : decode cX0_makeFew 6 = .ok (.istore_n 2, 1) := by decide +kernel
theorem dX0_makeFew_7 : decode cX0_makeFew 7 = .ok (.iconst 0, 1) := by decide +kernel
theorem dX0_makeFew_8 : decode cX0_makeFew 8 = .ok (.istore_n 3, 1) := by decide +kernel
theorem dX0_makeFew_9 : decode cX0_makeFew 9 = .ok (.iload_n 3, 1) := by decide +kernel
theorem dX0_makeFew_10 : decode cX0_makeFew 10 = .ok (.aload_n 0, 1) := by decide +kernel
theorem dX0_makeFew_11 : decode cX0_makeFew 11 = .ok (.getfield 68, 3) := by decide +kernel
theorem dX0_makeFew_14 : decode cX0_makeFew 14 = .ok (.if_icmp .ge 77, 3) := by decide +kernel
theorem dX0_makeFew_17 : decode cX0_makeFew 17 = .ok (.iload_n 2, 1) := by decide +kernel
theorem dX0_makeFew_18 : decode cX0_makeFew 18 = .ok (.ifCond .eq 73, 3) := by decide +kernel
theorem dX0_makeFew_21 : decode cX0_makeFew 21 = .ok (.aload_n 0, 1) := by decide +kernel
theorem dX0_makeFew_22 : decode cX0_makeFew 22 = .ok (.getfield 20, 3) := by decide +kernel
theorem dX0_makeFew_25 : decode cX0_makeFew 25 = .ok (.iconst 3, 1) := by decide +kernel
theorem dX0_makeFew_26 : decode cX0_makeFew 26 = .ok (.iload_n 3, 1) := by decide +kernel
theorem dX0_makeFew_27 : decode cX0_makeFew 27 = .ok (.imul, 1) := by decide +kernel
theorem dX0_makeFew_28 : decode cX0_makeFew 28 = .ok (.iconst 2, 1) := by decide +kernel
theorem dX0_makeFew_29 : decode cX0_makeFew 29 = .ok (.iadd, 1) := by decide +kernel
theorem dX0_makeFew_30 : decode cX0_makeFew 30 = .ok (.iaload, 1) := by decide +kernel
theorem dX0_makeFew_31 : decode cX0_makeFew 31 = .ok (.istore 4, 2) := by decide +kernel
theorem dX0_makeFew_33 : decode cX0_makeFew 33 = .ok (.iload 4, 2) := by decide +kernel
theorem dX0_makeFew_35 : decode cX0_makeFew 35 = .ok (.ifCond .ne 35, 3) := by decide +kernel
theorem dX0_makeFew_38 : decode cX0_makeFew 38 = .ok (.aload_n 0, 1) := by decide +kernel
theorem dX0_makeFew_39 : decode cX0_makeFew 39 = .ok (.aload_n 0, 1) := by decide +kernel
theorem dX0_makeFew_40 : decode cX0_makeFew 40 = .ok (.getfield 20, 3) := by decide +kernel
theorem dX0_makeFew_43 : decode cX0_makeFew 43 = .ok (.iconst 3, 1) := by decide +kernel
theorem dX0_makeFew_44 : decode cX0_makeFew 44 = .ok (.iload_n 3, 1) := by decide +kernel
theorem dX0_makeFew_45 : decode cX0_makeFew 45 = .ok (.imul, 1) := by decide +kernel
theorem dX0_makeFew_46 : decode cX0_makeFew 46 = .ok (.iaload, 1) := by decide +kernel
theorem dX0_makeFew_47 : decode cX0_makeFew 47 = .ok (.aload_n 0, 1) := by decide +kernel
theorem dX0_makeFew_48 : decode cX0_makeFew 48 = .ok (.getfield 20, 3) := by decide +kernel
theorem dX0_makeFew_51 : decode cX0_makeFew 51 = .ok (.iconst 3, 1) := by decide +kernel
theorem dX0_makeFew_52 : decode cX0_makeFew 52 = .ok (.iload_n 3, 1) := by decide +kernel
theorem dX0_makeFew_53 : decode cX0_makeFew 53 = .ok (.imul, 1) := by decide +kernel
theorem dX0_makeFew_54 : decode cX0_makeFew 54 = .ok (.iconst 1, 1) := by decide +kernel
theorem dX0_makeFew_55 : decode cX0_makeFew 55 = .ok (.iadd, 1) := by decide +kernel
theorem dX0_makeFew_56 : decode cX0_makeFew 56 = .ok (.iaload, 1) := by decide +kernel
theorem dX0_makeFew_57 : decode cX0_makeFew 57 = .ok (.aload_n 0, 1) := by decide +kernel
theorem dX0_makeFew_58 : decode cX0_makeFew 58 = .ok (.getfield 23, 3) := by decide +kernel
theorem dX0_makeFew_61 : decode cX0_makeFew 61 = .ok (.iload_n 3, 1) := by decide +kernel
theorem dX0_makeFew_62 : decode cX0_makeFew 62 = .ok (.iaload, 1) := by decide +kernel
theorem dX0_makeFew_63 : decode cX0_makeFew 63 = .ok (.invokevirtual 92, 3) := by decide +kernel
theorem dX0_makeFew_66 : decode cX0_makeFew 66 = .ok (.istore_n 2, 1) := by decide +kernel
theorem dX0_makeFew_67 : decode cX0_makeFew 67 = .ok (.goto 18, 3) := by decide +kernel
theorem dX0_makeFew_70 : decode cX0_makeFew 70 = .ok (.iload 4, 2) := by decide +kernel
theorem dX0_makeFew_72 : decode cX0_makeFew 72 = .ok (.ifCond .ge 13, 3) := by decide +kernel
theorem dX0_makeFew_75 : decode cX0_makeFew 75 = .ok (.aload_n 0, 1) := by decide +kernel
theorem dX0_makeFew_76 : decode cX0_makeFew 76 = .ok (.iload_n 3, 1) := by decide +kernel
theorem dX0_makeFew_77 : decode cX0_makeFew 77 = .ok (.iload 4, 2) := by decide +kernel
theorem dX0_makeFew_79 : decode cX0_makeFew 79 = .ok (.ineg, 1) := by decide +kernel
theorem dX0_makeFew_80 : decode cX0_makeFew 80 = .ok (.iload_n 1, 1) := by decide +kernel
theorem dX0_makeFew_81 : decode cX0_makeFew 81 = .ok (.invokevirtual 96, 3) := by decide +kernel
theorem dX0_makeFew_84 : decode cX0_makeFew 84 = .ok (.istore_n 2, 1) := by decide +kernel
theorem dX0_makeFew_85 : decode cX0_makeFew 85 = .ok (.iinc 3 1, 3) := by decide +kernel
theorem dX0_makeFew_88 : decode cX0_makeFew 88 = .ok (.goto (-79), 3) := by decide +kernel
theorem dX0_makeFew_91 : decode cX0_makeFew 91 = .ok (.iload_n 2, 1) := by decide +kernel
theorem dX0_makeFew_92 : decode cX0_makeFew 92 = .ok (.ireturn, 1) := by decide +kernel
abbrev cX0_putFew : ByteArray := prog_1_method_24_code
def yX0_putFew : MethodName := ⟨RX0, "putFew", "(III)Z"⟩
theorem dX0_putFew_0 : decode cX0_putFew 0 = .ok (.iload_n 1, 1) := by decide +kernel
theorem dX0_putFew_1 : decode cX0_putFew 1 = .ok (.ifCond .ne 17, 3) := by decide +kernel
theorem dX0_putFew_4 : decode cX0_putFew 4 = .ok (.iload_n 2, 1) := by decide +kernel
theorem dX0_putFew_5 : decode cX0_putFew 5 = .ok (.ifCond .ne 13, 3) := by decide +kernel
theorem dX0_putFew_8 : decode cX0_putFew 8 = .ok (.iload_n 3, 1) := by decide +kernel
theorem dX0_putFew_9 : decode cX0_putFew 9 = .ok (.ifCond .lt 7, 3) := by decide +kernel
theorem dX0_putFew_12 : decode cX0_putFew 12 = .ok (.iconst 1, 1) := by decide +kernel
theorem dX0_putFew_13 : decode cX0_putFew 13 = .ok (.goto 4, 3) := by decide +kernel
theorem dX0_putFew_16 : decode cX0_putFew 16 = .ok (.iconst 0, 1) := by decide +kernel
theorem dX0_putFew_17 : decode cX0_putFew 17 = .ok (.ireturn, 1) := by decide +kernel
theorem dX0_putFew_18 : decode cX0_putFew 18 = .ok (.iload_n 1, 1) := by decide +kernel
theorem dX0_putFew_19 : decode cX0_putFew 19 = .ok (.iload_n 2, 1) := by decide +kernel
theorem dX0_putFew_20 : decode cX0_putFew 20 = .ok (.invokestatic 100, 3) := by decide +kernel
theorem dX0_putFew_23 : decode cX0_putFew 23 = .ok (.istore 4, 2) := by decide +kernel
theorem dX0_putFew_25 : decode cX0_putFew 25 = .ok (.iload_n 1, 1) := by decide +kernel
theorem dX0_putFew_26 : decode cX0_putFew 26 = .ok (.iload 4, 2) := by decide +kernel
theorem dX0_putFew_28 : decode cX0_putFew 28 = .ok (.idiv, 1) := by decide +kernel
theorem dX0_putFew_29 : decode cX0_putFew 29 = .ok (.istore 5, 2) := by decide +kernel
theorem dX0_putFew_31 : decode cX0_putFew 31 = .ok (.iload_n 2, 1) := by decide +kernel
theorem dX0_putFew_32 : decode cX0_putFew 32 = .ok (.iload 4, 2) := by decide +kernel
theorem dX0_putFew_34 : decode cX0_putFew 34 = .ok (.idiv, 1) := by decide +kernel
theorem dX0_putFew_35 : decode cX0_putFew 35 = .ok (.istore 6, 2) := by decide +kernel
theorem dX0_putFew_37 : decode cX0_putFew 37 = .ok (.iload_n 3, 1) := by decide +kernel
theorem dX0_putFew_38 : decode cX0_putFew 38 = .ok (.iload 4, 2) := by decide +kernel
theorem dX0_putFew_40 : decode cX0_putFew 40 = .ok (.invokestatic 104, 3) := by decide +kernel
theorem dX0_putFew_43 : decode cX0_putFew 43 = .ok (.istore 7, 2) := by decide +kernel
theorem dX0_putFew_45 : decode cX0_putFew 45 = .ok (.iconst 0, 1) := by decide +kernel
theorem dX0_putFew_46 : decode cX0_putFew 46 = .ok (.istore 8, 2) := by decide +kernel
theorem dX0_putFew_48 : decode cX0_putFew 48 = .ok (.iload 8, 2) := by decide +kernel
theorem dX0_putFew_50 : decode cX0_putFew 50 = .ok (.aload_n 0, 1) := by decide +kernel
theorem dX0_putFew_51 : decode cX0_putFew 51 = .ok (.getfield 89, 3) := by decide +kernel
theorem dX0_putFew_54 : decode cX0_putFew 54 = .ok (.if_icmp .ge 72, 3) := by decide +kernel
theorem dX0_putFew_57 : decode cX0_putFew 57 = .ok (.aload_n 0, 1) := by decide +kernel
theorem dX0_putFew_58 : decode cX0_putFew 58 = .ok (.getfield 26, 3) := by decide +kernel
theorem dX0_putFew_61 : decode cX0_putFew 61 = .ok (.iconst 3, 1) := by decide +kernel
theorem dX0_putFew_62 : decode cX0_putFew 62 = .ok (.iload 8, 2) := by decide +kernel
theorem dX0_putFew_64 : decode cX0_putFew 64 = .ok (.imul, 1) := by decide +kernel
theorem dX0_putFew_65 : decode cX0_putFew 65 = .ok (.iaload, 1) := by decide +kernel
theorem dX0_putFew_66 : decode cX0_putFew 66 = .ok (.iload 5, 2) := by decide +kernel
theorem dX0_putFew_68 : decode cX0_putFew 68 = .ok (.if_icmp .ne 52, 3) := by decide +kernel
theorem dX0_putFew_71 : decode cX0_putFew 71 = .ok (.aload_n 0, 1) := by decide +kernel
theorem dX0_putFew_72 : decode cX0_putFew 72 = .ok (.getfield 26, 3) := by decide +kernel
theorem dX0_putFew_75 : decode cX0_putFew 75 = .ok (.iconst 3, 1) := by decide +kernel
theorem dX0_putFew_76 : decode cX0_putFew 76 = .ok (.iload 8, 2) := by decide +kernel
theorem dX0_putFew_78 : decode cX0_putFew 78 = .ok (.imul, 1) := by decide +kernel
theorem dX0_putFew_79 : decode cX0_putFew 79 = .ok (.iconst 1, 1) := by decide +kernel
theorem dX0_putFew_80 : decode cX0_putFew 80 = .ok (.iadd, 1) := by decide +kernel
theorem dX0_putFew_81 : decode cX0_putFew 81 = .ok (.iaload, 1) := by decide +kernel
theorem dX0_putFew_82 : decode cX0_putFew 82 = .ok (.iload 6, 2) := by decide +kernel
theorem dX0_putFew_84 : decode cX0_putFew 84 = .ok (.if_icmp .ne 36, 3) := by decide +kernel
theorem dX0_putFew_87 : decode cX0_putFew 87 = .ok (.aload_n 0, 1) := by decide +kernel
theorem dX0_putFew_88 : decode cX0_putFew 88 = .ok (.getfield 29, 3) := by decide +kernel
theorem dX0_putFew_91 : decode cX0_putFew 91 = .ok (.iload 8, 2) := by decide +kernel
theorem dX0_putFew_93 : decode cX0_putFew 93 = .ok (.iload 7, 2) := by decide +kernel
theorem dX0_putFew_95 : decode cX0_putFew 95 = .ok (.aload_n 0, 1) := by decide +kernel
theorem dX0_putFew_96 : decode cX0_putFew 96 = .ok (.getfield 29, 3) := by decide +kernel
theorem dX0_putFew_99 : decode cX0_putFew 99 = .ok (.iload 8, 2) := by decide +kernel
theorem dX0_putFew_101 : decode cX0_putFew 101 = .ok (.iaload, 1) := by decide +kernel
theorem dX0_putFew_102 : decode cX0_putFew 102 = .ok (.if_icmp .ge 8, 3) := by decide +kernel
theorem dX0_putFew_105 : decode cX0_putFew 105 = .ok (.iload 7, 2) := by decide +kernel
theorem dX0_putFew_107 : decode cX0_putFew 107 = .ok (.goto 10, 3) := by decide +kernel
theorem dX0_putFew_110 : decode cX0_putFew 110 = .ok (.aload_n 0, 1) := by decide +kernel
theorem dX0_putFew_111 : decode cX0_putFew 111 = .ok (.getfield 29, 3) := by decide +kernel
theorem dX0_putFew_114 : decode cX0_putFew 114 = .ok (.iload 8, 2) := by decide +kernel
theorem dX0_putFew_116 : decode cX0_putFew 116 = .ok (.iaload, 1) := by decide +kernel
theorem dX0_putFew_117 : decode cX0_putFew 117 = .ok (.iastore, 1) := by decide +kernel
theorem dX0_putFew_118 : decode cX0_putFew 118 = .ok (.iconst 1, 1) := by decide +kernel
theorem dX0_putFew_119 : decode cX0_putFew 119 = .ok (.ireturn, 1) := by decide +kernel
theorem dX0_putFew_120 : decode cX0_putFew 120 = .ok (.iinc 8 1, 3) := by decide +kernel
theorem dX0_putFew_123 : decode cX0_putFew 123 = .ok (.goto (-75), 3) := by decide +kernel
theorem dX0_putFew_126 : decode cX0_putFew 126 = .ok (.aload_n 0, 1) := by decide +kernel
theorem dX0_putFew_127 : decode cX0_putFew 127 = .ok (.getfield 26, 3) := by decide +kernel
theorem dX0_putFew_130 : decode cX0_putFew 130 = .ok (.iconst 3, 1) := by decide +kernel
theorem dX0_putFew_131 : decode cX0_putFew 131 = .ok (.aload_n 0, 1) := by decide +kernel
theorem dX0_putFew_132 : decode cX0_putFew 132 = .ok (.getfield 89, 3) := by decide +kernel
theorem dX0_putFew_135 : decode cX0_putFew 135 = .ok (.imul, 1) := by decide +kernel
theorem dX0_putFew_136 : decode cX0_putFew 136 = .ok (.iload 5, 2) := by decide +kernel
theorem dX0_putFew_138 : decode cX0_putFew 138 = .ok (.iastore, 1) := by decide +kernel
theorem dX0_putFew_139 : decode cX0_putFew 139 = .ok (.aload_n 0, 1) := by decide +kernel
theorem dX0_putFew_140 : decode cX0_putFew 140 = .ok (.getfield 26, 3) := by decide +kernel
theorem dX0_putFew_143 : decode cX0_putFew 143 = .ok (.iconst 3, 1) := by decide +kernel
theorem dX0_putFew_144 : decode cX0_putFew 144 = .ok (.aload_n 0, 1) := by decide +kernel
theorem dX0_putFew_145 : decode cX0_putFew 145 = .ok (.getfield 89, 3) := by decide +kernel
theorem dX0_putFew_148 : decode cX0_putFew 148 = .ok (.imul, 1) := by decide +kernel
theorem dX0_putFew_149 : decode cX0_putFew 149 = .ok (.iconst 1, 1) := by decide +kernel
theorem dX0_putFew_150 : decode cX0_putFew 150 = .ok (.iadd, 1) := by decide +kernel
theorem dX0_putFew_151 : decode cX0_putFew 151 = .ok (.iload 6, 2) := by decide +kernel
theorem dX0_putFew_153 : decode cX0_putFew 153 = .ok (.iastore, 1) := by decide +kernel
theorem dX0_putFew_154 : decode cX0_putFew 154 = .ok (.aload_n 0, 1) := by decide +kernel
theorem dX0_putFew_155 : decode cX0_putFew 155 = .ok (.getfield 29, 3) := by decide +kernel
theorem dX0_putFew_158 : decode cX0_putFew 158 = .ok (.aload_n 0, 1) := by decide +kernel
theorem dX0_putFew_159 : decode cX0_putFew 159 = .ok (.getfield 89, 3) := by decide +kernel
theorem dX0_putFew_162 : decode cX0_putFew 162 = .ok (.iload 7, 2) := by decide +kernel
theorem dX0_putFew_164 : decode cX0_putFew 164 = .ok (.iastore, 1) := by decide +kernel
theorem dX0_putFew_165 : decode cX0_putFew 165 = .ok (.aload_n 0, 1) := by decide +kernel
theorem dX0_putFew_166 : decode cX0_putFew 166 = .ok (.dup, 1) := by decide +kernel
theorem dX0_putFew_167 : decode cX0_putFew 167 = .ok (.getfield 89, 3) := by decide +kernel
theorem dX0_putFew_170 : decode cX0_putFew 170 = .ok (.iconst 1, 1) := by decide +kernel
theorem dX0_putFew_171 : decode cX0_putFew 171 = .ok (.iadd, 1) := by decide +kernel
theorem dX0_putFew_172 : decode cX0_putFew 172 = .ok (.putfield 89, 3) := by decide +kernel
theorem dX0_putFew_175 : decode cX0_putFew 175 = .ok (.iconst 1, 1) := by decide +kernel
theorem dX0_putFew_176 : decode cX0_putFew 176 = .ok (.ireturn, 1) := by decide +kernel
abbrev cX0_divisorOf : ByteArray := prog_1_method_18_code
def yX0_divisorOf : MethodName := ⟨RX0, "divisorOf", "(II)I"⟩
theorem dX0_divisorOf_0 : decode cX0_divisorOf 0 = .ok (.iload_n 0, 1) := by decide +kernel
theorem dX0_divisorOf_1 : decode cX0_divisorOf 1 = .ok (.invokestatic 71, 3) := by decide +kernel
theorem dX0_divisorOf_4 : decode cX0_divisorOf 4 = .ok (.istore_n 2, 1) := by decide +kernel
theorem dX0_divisorOf_5 : decode cX0_divisorOf 5 = .ok (.iload_n 1, 1) := by decide +kernel
theorem dX0_divisorOf_6 : decode cX0_divisorOf 6 = .ok (.invokestatic 71, 3) := by decide +kernel
theorem dX0_divisorOf_9 : decode cX0_divisorOf 9 = .ok (.istore_n 3, 1) := by decide +kernel
theorem dX0_divisorOf_10 : decode cX0_divisorOf 10 = .ok (.iconst 0, 1) := by decide +kernel
theorem dX0_divisorOf_11 : decode cX0_divisorOf 11 = .ok (.istore 4, 2) := by decide +kernel
theorem dX0_divisorOf_13 : decode cX0_divisorOf 13 = .ok (.iload 4, 2) := by decide +kernel
theorem dX0_divisorOf_15 : decode cX0_divisorOf 15 = .ok (.bipush 40, 2) := by decide +kernel
theorem dX0_divisorOf_17 : decode cX0_divisorOf 17 = .ok (.if_icmp .ge 23, 3) := by decide +kernel
theorem dX0_divisorOf_20 : decode cX0_divisorOf 20 = .ok (.iload_n 2, 1) := by decide +kernel
theorem dX0_divisorOf_21 : decode cX0_divisorOf 21 = .ok (.ifCond .le 19, 3) := by decide +kernel
theorem dX0_divisorOf_24 : decode cX0_divisorOf 24 = .ok (.iload_n 3, 1) := by decide +kernel
theorem dX0_divisorOf_25 : decode cX0_divisorOf 25 = .ok (.iload_n 2, 1) := by decide +kernel
theorem dX0_divisorOf_26 : decode cX0_divisorOf 26 = .ok (.irem, 1) := by decide +kernel
theorem dX0_divisorOf_27 : decode cX0_divisorOf 27 = .ok (.istore 5, 2) := by decide +kernel
theorem dX0_divisorOf_29 : decode cX0_divisorOf 29 = .ok (.iload_n 2, 1) := by decide +kernel
theorem dX0_divisorOf_30 : decode cX0_divisorOf 30 = .ok (.istore_n 3, 1) := by decide +kernel
theorem dX0_divisorOf_31 : decode cX0_divisorOf 31 = .ok (.iload 5, 2) := by decide +kernel
theorem dX0_divisorOf_33 : decode cX0_divisorOf 33 = .ok (.istore_n 2, 1) := by decide +kernel
theorem dX0_divisorOf_34 : decode cX0_divisorOf 34 = .ok (.iinc 4 1, 3) := by decide +kernel
theorem dX0_divisorOf_37 : decode cX0_divisorOf 37 = .ok (.goto (-24), 3) := by decide +kernel
theorem dX0_divisorOf_40 : decode cX0_divisorOf 40 = .ok (.iload_n 3, 1) := by decide +kernel
theorem dX0_divisorOf_41 : decode cX0_divisorOf 41 = .ok (.ireturn, 1) := by decide +kernel
abbrev cX0_amount : ByteArray := prog_1_method_17_code
def yX0_amount : MethodName := ⟨RX0, "amount", "(I)I"⟩
theorem dX0_amount_0 : decode cX0_amount 0 = .ok (.iload_n 0, 1) := by decide +kernel
theorem dX0_amount_1 : decode cX0_amount 1 = .ok (.ifCond .ge 8, 3) := by decide +kernel
theorem dX0_amount_4 : decode cX0_amount 4 = .ok (.iload_n 0, 1) := by decide +kernel
theorem dX0_amount_5 : decode cX0_amount 5 = .ok (.ineg, 1) := by decide +kernel
theorem dX0_amount_6 : decode cX0_amount 6 = .ok (.goto 4, 3) := by decide +kernel
theorem dX0_amount_9 : decode cX0_amount 9 = .ok (.iload_n 0, 1) := by decide +kernel
theorem dX0_amount_10 : decode cX0_amount 10 = .ok (.ireturn, 1) := by decide +kernel
abbrev cX0_floorDivide : ByteArray := prog_1_method_16_code
def yX0_floorDivide : MethodName := ⟨RX0, "floorDivide", "(II)I"⟩
theorem dX0_floorDivide_0 : decode cX0_floorDivide 0 = .ok (.iload_n 0, 1) := by decide +kernel
theorem dX0_floorDivide_1 : decode cX0_floorDivide 1 = .ok (.iload_n 1, 1) := by decide +kernel
theorem dX0_floorDivide_2 : decode cX0_floorDivide 2 = .ok (.idiv, 1) := by decide +kernel
theorem dX0_floorDivide_3 : decode cX0_floorDivide 3 = .ok (.istore_n 2, 1) := by decide +kernel
theorem dX0_floorDivide_4 : decode cX0_floorDivide 4 = .ok (.iload_n 0, 1) := by decide +kernel
theorem dX0_floorDivide_5 : decode cX0_floorDivide 5 = .ok (.iload_n 1, 1) := by decide +kernel
theorem dX0_floorDivide_6 : decode cX0_floorDivide 6 = .ok (.irem, 1) := by decide +kernel
theorem dX0_floorDivide_7 : decode cX0_floorDivide 7 = .ok (.ifCond .ge 9, 3) := by decide +kernel
theorem dX0_floorDivide_10 : decode cX0_floorDivide 10 = .ok (.iload_n 2, 1) := by decide +kernel
theorem dX0_floorDivide_11 : decode cX0_floorDivide 11 = .ok (.iconst 1, 1) := by decide +kernel
theorem dX0_floorDivide_12 : decode cX0_floorDivide 12 = .ok (.isub, 1) := by decide +kernel
theorem dX0_floorDivide_13 : decode cX0_floorDivide 13 = .ok (.goto 4, 3) := by decide +kernel
theorem dX0_floorDivide_16 : decode cX0_floorDivide 16 = .ok (.iload_n 2, 1) := by decide +kernel
theorem dX0_floorDivide_17 : decode cX0_floorDivide 17 = .ok (.ireturn, 1) := by decide +kernel
abbrev cX0_pairUp : ByteArray := prog_1_method_22_code
def yX0_pairUp : MethodName := ⟨RX0, "pairUp", "(IIZ)Z"⟩
theorem dX0_pairUp_0 : decode cX0_pairUp 0 = .ok (.iconst 0, 1) := by decide +kernel
theorem dX0_pairUp_1 : decode cX0_pairUp 1 = .ok (.istore 4, 2) := by decide +kernel
theorem dX0_pairUp_3 : decode cX0_pairUp 3 = .ok (.iload 4, 2) := by decide +kernel
theorem dX0_pairUp_5 : decode cX0_pairUp 5 = .ok (.aload_n 0, 1) := by decide +kernel
theorem dX0_pairUp_6 : decode cX0_pairUp 6 = .ok (.getfield 68, 3) := by decide +kernel
theorem dX0_pairUp_9 : decode cX0_pairUp 9 = .ok (.if_icmp .ge 138, 3) := by decide +kernel
theorem dX0_pairUp_12 : decode cX0_pairUp 12 = .ok (.aload_n 0, 1) := by decide +kernel
theorem dX0_pairUp_13 : decode cX0_pairUp 13 = .ok (.getfield 20, 3) := by decide +kernel
theorem dX0_pairUp_16 : decode cX0_pairUp 16 = .ok (.iconst 3, 1) := by decide +kernel
theorem dX0_pairUp_17 : decode cX0_pairUp 17 = .ok (.iload 4, 2) := by decide +kernel
theorem dX0_pairUp_19 : decode cX0_pairUp 19 = .ok (.imul, 1) := by decide +kernel
theorem dX0_pairUp_20 : decode cX0_pairUp 20 = .ok (.iconst 2, 1) := by decide +kernel
theorem dX0_pairUp_21 : decode cX0_pairUp 21 = .ok (.iadd, 1) := by decide +kernel
theorem dX0_pairUp_22 : decode cX0_pairUp 22 = .ok (.iaload, 1) := by decide +kernel
theorem dX0_pairUp_23 : decode cX0_pairUp 23 = .ok (.istore 5, 2) := by decide +kernel
theorem dX0_pairUp_25 : decode cX0_pairUp 25 = .ok (.iload 5, 2) := by decide +kernel
theorem dX0_pairUp_27 : decode cX0_pairUp 27 = .ok (.ifCond .le 114, 3) := by decide +kernel
theorem dX0_pairUp_30 : decode cX0_pairUp 30 = .ok (.iload 5, 2) := by decide +kernel
theorem dX0_pairUp_32 : decode cX0_pairUp 32 = .ok (.aload_n 0, 1) := by decide +kernel
theorem dX0_pairUp_33 : decode cX0_pairUp 33 = .ok (.getfield 20, 3) := by decide +kernel
theorem dX0_pairUp_36 : decode cX0_pairUp 36 = .ok (.iconst 3, 1) := by decide +kernel
theorem dX0_pairUp_37 : decode cX0_pairUp 37 = .ok (.iload_n 1, 1) := by decide +kernel
theorem dX0_pairUp_38 : decode cX0_pairUp 38 = .ok (.imul, 1) := by decide +kernel
theorem dX0_pairUp_39 : decode cX0_pairUp 39 = .ok (.iaload, 1) := by decide +kernel
theorem dX0_pairUp_40 : decode cX0_pairUp 40 = .ok (.imul, 1) := by decide +kernel
theorem dX0_pairUp_41 : decode cX0_pairUp 41 = .ok (.iload_n 2, 1) := by decide +kernel
theorem dX0_pairUp_42 : decode cX0_pairUp 42 = .ok (.aload_n 0, 1) := by decide +kernel
theorem dX0_pairUp_43 : decode cX0_pairUp 43 = .ok (.getfield 20, 3) := by decide +kernel
theorem dX0_pairUp_46 : decode cX0_pairUp 46 = .ok (.iconst 3, 1) := by decide +kernel
theorem dX0_pairUp_47 : decode cX0_pairUp 47 = .ok (.iload 4, 2) := by decide +kernel
theorem dX0_pairUp_49 : decode cX0_pairUp 49 = .ok (.imul, 1) := by decide +kernel
theorem dX0_pairUp_50 : decode cX0_pairUp 50 = .ok (.iaload, 1) := by decide +kernel
theorem dX0_pairUp_51 : decode cX0_pairUp 51 = .ok (.imul, 1) := by decide +kernel
theorem dX0_pairUp_52 : decode cX0_pairUp 52 = .ok (.iadd, 1) := by decide +kernel
theorem dX0_pairUp_53 : decode cX0_pairUp 53 = .ok (.istore 6, 2) := by decide +kernel
theorem dX0_pairUp_55 : decode cX0_pairUp 55 = .ok (.iload 5, 2) := by decide +kernel
theorem dX0_pairUp_57 : decode cX0_pairUp 57 = .ok (.aload_n 0, 1) := by decide +kernel
theorem dX0_pairUp_58 : decode cX0_pairUp 58 = .ok (.getfield 20, 3) := by decide +kernel
theorem dX0_pairUp_61 : decode cX0_pairUp 61 = .ok (.iconst 3, 1) := by decide +kernel
theorem dX0_pairUp_62 : decode cX0_pairUp 62 = .ok (.iload_n 1, 1) := by decide +kernel
theorem dX0_pairUp_63 : decode cX0_pairUp 63 = .ok (.imul, 1) := by decide +kernel
theorem dX0_pairUp_64 : decode cX0_pairUp 64 = .ok (.iconst 1, 1) := by decide +kernel
theorem dX0_pairUp_65 : decode cX0_pairUp 65 = .ok (.iadd, 1) := by decide +kernel
theorem dX0_pairUp_66 : decode cX0_pairUp 66 = .ok (.iaload, 1) := by decide +kernel
theorem dX0_pairUp_67 : decode cX0_pairUp 67 = .ok (.imul, 1) := by decide +kernel
theorem dX0_pairUp_68 : decode cX0_pairUp 68 = .ok (.iload_n 2, 1) := by decide +kernel
theorem dX0_pairUp_69 : decode cX0_pairUp 69 = .ok (.aload_n 0, 1) := by decide +kernel
theorem dX0_pairUp_70 : decode cX0_pairUp 70 = .ok (.getfield 20, 3) := by decide +kernel
theorem dX0_pairUp_73 : decode cX0_pairUp 73 = .ok (.iconst 3, 1) := by decide +kernel
theorem dX0_pairUp_74 : decode cX0_pairUp 74 = .ok (.iload 4, 2) := by decide +kernel
theorem dX0_pairUp_76 : decode cX0_pairUp 76 = .ok (.imul, 1) := by decide +kernel
theorem dX0_pairUp_77 : decode cX0_pairUp 77 = .ok (.iconst 1, 1) := by decide +kernel
theorem dX0_pairUp_78 : decode cX0_pairUp 78 = .ok (.iadd, 1) := by decide +kernel
theorem dX0_pairUp_79 : decode cX0_pairUp 79 = .ok (.iaload, 1) := by decide +kernel
theorem dX0_pairUp_80 : decode cX0_pairUp 80 = .ok (.imul, 1) := by decide +kernel
theorem dX0_pairUp_81 : decode cX0_pairUp 81 = .ok (.iadd, 1) := by decide +kernel
theorem dX0_pairUp_82 : decode cX0_pairUp 82 = .ok (.istore 7, 2) := by decide +kernel
theorem dX0_pairUp_84 : decode cX0_pairUp 84 = .ok (.iload 5, 2) := by decide +kernel
theorem dX0_pairUp_86 : decode cX0_pairUp 86 = .ok (.aload_n 0, 1) := by decide +kernel
theorem dX0_pairUp_87 : decode cX0_pairUp 87 = .ok (.getfield 23, 3) := by decide +kernel
theorem dX0_pairUp_90 : decode cX0_pairUp 90 = .ok (.iload_n 1, 1) := by decide +kernel
theorem dX0_pairUp_91 : decode cX0_pairUp 91 = .ok (.iaload, 1) := by decide +kernel
theorem dX0_pairUp_92 : decode cX0_pairUp 92 = .ok (.imul, 1) := by decide +kernel
theorem dX0_pairUp_93 : decode cX0_pairUp 93 = .ok (.iload_n 2, 1) := by decide +kernel
theorem dX0_pairUp_94 : decode cX0_pairUp 94 = .ok (.aload_n 0, 1) := by decide +kernel
theorem dX0_pairUp_95 : decode cX0_pairUp 95 = .ok (.getfield 23, 3) := by decide +kernel
theorem dX0_pairUp_98 : decode cX0_pairUp 98 = .ok (.iload 4, 2) := by decide +kernel
theorem dX0_pairUp_100 : decode cX0_pairUp 100 = .ok (.iaload, 1) := by decide +kernel
theorem dX0_pairUp_101 : decode cX0_pairUp 101 = .ok (.imul, 1) := by decide +kernel
theorem dX0_pairUp_102 : decode cX0_pairUp 102 = .ok (.iadd, 1) := by decide +kernel
theorem dX0_pairUp_103 : decode cX0_pairUp 103 = .ok (.iload_n 3, 1) := by decide +kernel
theorem dX0_pairUp_104 : decode cX0_pairUp 104 = .ok (.ifCond .eq 14, 3) := by decide +kernel
theorem dX0_pairUp_107 : decode cX0_pairUp 107 = .ok (.iload 5, 2) := by decide +kernel
theorem dX0_pairUp_109 : decode cX0_pairUp 109 = .ok (.iconst 1, 1) := by decide +kernel
theorem dX0_pairUp_110 : decode cX0_pairUp 110 = .ok (.isub, 1) := by decide +kernel
theorem dX0_pairUp_111 : decode cX0_pairUp 111 = .ok (.iload_n 2, 1) := by decide +kernel
theorem dX0_pairUp_112 : decode cX0_pairUp 112 = .ok (.iconst 1, 1) := by decide +kernel
theorem dX0_pairUp_113 : decode cX0_pairUp 113 = .ok (.isub, 1) := by decide +kernel
theorem dX0_pairUp_114 : decode cX0_pairUp 114 = .ok (.imul, 1) := by decide +kernel
theorem dX0_pairUp_115 : decode cX0_pairUp 115 = .ok (.goto 4, 3) := by decide +kernel
theorem dX0_pairUp_118 : decode cX0_pairUp 118 = .ok (.iconst 0, 1) := by decide +kernel
theorem dX0_pairUp_119 : decode cX0_pairUp 119 = .ok (.isub, 1) := by decide +kernel
theorem dX0_pairUp_120 : decode cX0_pairUp 120 = .ok (.istore 8, 2) := by decide +kernel
theorem dX0_pairUp_122 : decode cX0_pairUp 122 = .ok (.aload_n 0, 1) := by decide +kernel
theorem dX0_pairUp_123 : decode cX0_pairUp 123 = .ok (.iload 6, 2) := by decide +kernel
theorem dX0_pairUp_125 : decode cX0_pairUp 125 = .ok (.iload 7, 2) := by decide +kernel
theorem dX0_pairUp_127 : decode cX0_pairUp 127 = .ok (.iload 8, 2) := by decide +kernel
theorem dX0_pairUp_129 : decode cX0_pairUp 129 = .ok (.invokevirtual 92, 3) := by decide +kernel
theorem dX0_pairUp_132 : decode cX0_pairUp 132 = .ok (.istore 9, 2) := by decide +kernel
theorem dX0_pairUp_134 : decode cX0_pairUp 134 = .ok (.iload 9, 2) := by decide +kernel
theorem dX0_pairUp_136 : decode cX0_pairUp 136 = .ok (.ifCond .ne 5, 3) := by decide +kernel
theorem dX0_pairUp_139 : decode cX0_pairUp 139 = .ok (.iconst 0, 1) := by decide +kernel
theorem dX0_pairUp_140 : decode cX0_pairUp 140 = .ok (.ireturn, 1) := by decide +kernel
theorem dX0_pairUp_141 : decode cX0_pairUp 141 = .ok (.iinc 4 1, 3) := by decide +kernel
theorem dX0_pairUp_144 : decode cX0_pairUp 144 = .ok (.goto (-141), 3) := by decide +kernel
theorem dX0_pairUp_147 : decode cX0_pairUp 147 = .ok (.iconst 1, 1) := by decide +kernel
theorem dX0_pairUp_148 : decode cX0_pairUp 148 = .ok (.ireturn, 1) := by decide +kernel
abbrev cX0_planeSolvable : ByteArray := prog_1_method_25_code
def yX0_planeSolvable : MethodName := ⟨RX0, "planeSolvable", "()Z"⟩
theorem dX0_planeSolvable_0 : decode cX0_planeSolvable 0 = .ok (.bipush (-6), 2) := by decide +kernel
theorem dX0_planeSolvable_2 : decode cX0_planeSolvable 2 = .ok (.istore_n 1, 1) := by decide +kernel
theorem dX0_planeSolvable_3 : decode cX0_planeSolvable 3 = .ok (.iload_n 1, 1) := by decide +kernel
theorem dX0_planeSolvable_4 : decode cX0_planeSolvable 4 = .ok (.bipush 6, 2) := by decide +kernel
theorem dX0_planeSolvable_6 : decode cX0_planeSolvable 6 = .ok (.if_icmp .gt 19, 3) := by decide +kernel
theorem dX0_planeSolvable_9 : decode cX0_planeSolvable 9 = .ok (.aload_n 0, 1) := by decide +kernel
theorem dX0_planeSolvable_10 : decode cX0_planeSolvable 10 = .ok (.iload_n 1, 1) := by decide +kernel
theorem dX0_planeSolvable_11 : decode cX0_planeSolvable 11 = .ok (.invokevirtual 107, 3) := by decide +kernel
theorem dX0_planeSolvable_14 : decode cX0_planeSolvable 14 = .ok (.ifCond .eq 5, 3) := by decide +kernel
theorem dX0_planeSolvable_17 : decode cX0_planeSolvable 17 = .ok (.iconst 1, 1) := by decide +kernel
theorem dX0_planeSolvable_18 : decode cX0_planeSolvable 18 = .ok (.ireturn, 1) := by decide +kernel
theorem dX0_planeSolvable_19 : decode cX0_planeSolvable 19 = .ok (.iinc 1 1, 3) := by decide +kernel
theorem dX0_planeSolvable_22 : decode cX0_planeSolvable 22 = .ok (.goto (-19), 3) := by decide +kernel
theorem dX0_planeSolvable_25 : decode cX0_planeSolvable 25 = .ok (.iconst 0, 1) := by decide +kernel
theorem dX0_planeSolvable_26 : decode cX0_planeSolvable 26 = .ok (.ireturn, 1) := by decide +kernel
end
section
set_option maxRecDepth 100000
abbrev cX0_leavesRoom : ByteArray := prog_1_method_26_code
def yX0_leavesRoom : MethodName := ⟨RX0, "leavesRoom", "(I)Z"⟩
theorem dX0_leavesRoom_0 : decode cX0_leavesRoom 0 = .ok (.bipush (-6), 2) := by decide +kernel
theorem dX0_leavesRoom_2 : decode cX0_leavesRoom 2 = .ok (.istore_n 2, 1) := by decide +kernel
theorem dX0_leavesRoom_3 : decode cX0_leavesRoom 3 = .ok (.bipush 6, 2) := by decide +kernel
theorem dX0_leavesRoom_5 : decode cX0_leavesRoom 5 = .ok (.istore_n 3, 1) := by decide +kernel
theorem dX0_leavesRoom_6 : decode cX0_leavesRoom 6 = .ok (.iconst 0, 1) := by decide +kernel
theorem dX0_leavesRoom_7 : decode cX0_leavesRoom 7 = .ok (.istore 4, 2) := by decide +kernel
theorem dX0_leavesRoom_9 : decode cX0_leavesRoom 9 = .ok (.iload 4, 2) := by decide +kernel
theorem dX0_leavesRoom_11 : decode cX0_leavesRoom 11 = .ok (.aload_n 0, 1) := by decide +kernel
theorem dX0_leavesRoom_12 : decode cX0_leavesRoom 12 = .ok (.getfield 89, 3) := by decide +kernel
theorem dX0_leavesRoom_15 : decode cX0_leavesRoom 15 = .ok (.if_icmp .ge 114, 3) := by decide +kernel
theorem dX0_leavesRoom_18 : decode cX0_leavesRoom 18 = .ok (.aload_n 0, 1) := by decide +kernel
theorem dX0_leavesRoom_19 : decode cX0_leavesRoom 19 = .ok (.getfield 26, 3) := by decide +kernel
theorem dX0_leavesRoom_22 : decode cX0_leavesRoom 22 = .ok (.iconst 3, 1) := by decide +kernel
theorem dX0_leavesRoom_23 : decode cX0_leavesRoom 23 = .ok (.iload 4, 2) := by decide +kernel
theorem dX0_leavesRoom_25 : decode cX0_leavesRoom 25 = .ok (.imul, 1) := by decide +kernel
theorem dX0_leavesRoom_26 : decode cX0_leavesRoom 26 = .ok (.iconst 1, 1) := by decide +kernel
theorem dX0_leavesRoom_27 : decode cX0_leavesRoom 27 = .ok (.iadd, 1) := by decide +kernel
theorem dX0_leavesRoom_28 : decode cX0_leavesRoom 28 = .ok (.iaload, 1) := by decide +kernel
theorem dX0_leavesRoom_29 : decode cX0_leavesRoom 29 = .ok (.istore 5, 2) := by decide +kernel
theorem dX0_leavesRoom_31 : decode cX0_leavesRoom 31 = .ok (.aload_n 0, 1) := by decide +kernel
theorem dX0_leavesRoom_32 : decode cX0_leavesRoom 32 = .ok (.getfield 29, 3) := by decide +kernel
theorem dX0_leavesRoom_35 : decode cX0_leavesRoom 35 = .ok (.iload 4, 2) := by decide +kernel
theorem dX0_leavesRoom_37 : decode cX0_leavesRoom 37 = .ok (.iaload, 1) := by decide +kernel
theorem dX0_leavesRoom_38 : decode cX0_leavesRoom 38 = .ok (.aload_n 0, 1) := by decide +kernel
theorem dX0_leavesRoom_39 : decode cX0_leavesRoom 39 = .ok (.getfield 26, 3) := by decide +kernel
theorem dX0_leavesRoom_42 : decode cX0_leavesRoom 42 = .ok (.iconst 3, 1) := by decide +kernel
theorem dX0_leavesRoom_43 : decode cX0_leavesRoom 43 = .ok (.iload 4, 2) := by decide +kernel
theorem dX0_leavesRoom_45 : decode cX0_leavesRoom 45 = .ok (.imul, 1) := by decide +kernel
theorem dX0_leavesRoom_46 : decode cX0_leavesRoom 46 = .ok (.iaload, 1) := by decide +kernel
theorem dX0_leavesRoom_47 : decode cX0_leavesRoom 47 = .ok (.iload_n 1, 1) := by decide +kernel
theorem dX0_leavesRoom_48 : decode cX0_leavesRoom 48 = .ok (.imul, 1) := by decide +kernel
theorem dX0_leavesRoom_49 : decode cX0_leavesRoom 49 = .ok (.isub, 1) := by decide +kernel
theorem dX0_leavesRoom_50 : decode cX0_leavesRoom 50 = .ok (.istore 6, 2) := by decide +kernel
theorem dX0_leavesRoom_52 : decode cX0_leavesRoom 52 = .ok (.iload 5, 2) := by decide +kernel
theorem dX0_leavesRoom_54 : decode cX0_leavesRoom 54 = .ok (.ifCond .ne 10, 3) := by decide +kernel
theorem dX0_leavesRoom_57 : decode cX0_leavesRoom 57 = .ok (.iload 6, 2) := by decide +kernel
theorem dX0_leavesRoom_59 : decode cX0_leavesRoom 59 = .ok (.ifCond .ge 5, 3) := by decide +kernel
theorem dX0_leavesRoom_62 : decode cX0_leavesRoom 62 = .ok (.iconst 0, 1) := by decide +kernel
theorem dX0_leavesRoom_63 : decode cX0_leavesRoom 63 = .ok (.ireturn, 1) := by decide +kernel
theorem dX0_leavesRoom_64 : decode cX0_leavesRoom 64 = .ok (.iload 5, 2) := by decide +kernel
theorem dX0_leavesRoom_66 : decode cX0_leavesRoom 66 = .ok (.ifCond .le 28, 3) := by decide +kernel
theorem dX0_leavesRoom_69 : decode cX0_leavesRoom 69 = .ok (.iload 6, 2) := by decide +kernel
theorem dX0_leavesRoom_71 : decode cX0_leavesRoom 71 = .ok (.iload 5, 2) := by decide +kernel
theorem dX0_leavesRoom_73 : decode cX0_leavesRoom 73 = .ok (.invokestatic 104, 3) := by decide +kernel
theorem dX0_leavesRoom_76 : decode cX0_leavesRoom 76 = .ok (.istore 7, 2) := by decide +kernel
theorem dX0_leavesRoom_78 : decode cX0_leavesRoom 78 = .ok (.iload 7, 2) := by decide +kernel
theorem dX0_leavesRoom_80 : decode cX0_leavesRoom 80 = .ok (.iload_n 3, 1) := by decide +kernel
theorem dX0_leavesRoom_81 : decode cX0_leavesRoom 81 = .ok (.if_icmp .ge 8, 3) := by decide +kernel
theorem dX0_leavesRoom_84 : decode cX0_leavesRoom 84 = .ok (.iload 7, 2) := by decide +kernel
theorem dX0_leavesRoom_86 : decode cX0_leavesRoom 86 = .ok (.goto 4, 3) := by decide +kernel
theorem dX0_leavesRoom_89 : decode cX0_leavesRoom 89 = .ok (.iload_n 3, 1) := by decide +kernel
theorem dX0_leavesRoom_90 : decode cX0_leavesRoom 90 = .ok (.istore_n 3, 1) := by decide +kernel
theorem dX0_leavesRoom_91 : decode cX0_leavesRoom 91 = .ok (.goto 32, 3) := by decide +kernel
theorem dX0_leavesRoom_94 : decode cX0_leavesRoom 94 = .ok (.iload 5, 2) := by decide +kernel
theorem dX0_leavesRoom_96 : decode cX0_leavesRoom 96 = .ok (.ifCond .ge 27, 3) := by decide +kernel
theorem dX0_leavesRoom_99 : decode cX0_leavesRoom 99 = .ok (.iload 6, 2) := by decide +kernel
theorem dX0_leavesRoom_101 : decode cX0_leavesRoom 101 = .ok (.iload 5, 2) := by decide +kernel
theorem dX0_leavesRoom_103 : decode cX0_leavesRoom 103 = .ok (.ineg, 1) := by decide +kernel
theorem dX0_leavesRoom_104 : decode cX0_leavesRoom 104 = .ok (.invokestatic 104, 3) := by decide +kernel
theorem dX0_leavesRoom_107 : decode cX0_leavesRoom 107 = .ok (.ineg, 1) := by decide +kernel
theorem dX0_leavesRoom_108 : decode cX0_leavesRoom 108 = .ok (.istore 7, 2) := by decide +kernel
theorem dX0_leavesRoom_110 : decode cX0_leavesRoom 110 = .ok (.iload 7, 2) := by decide +kernel
theorem dX0_leavesRoom_112 : decode cX0_leavesRoom 112 = .ok (.iload_n 2, 1) := by decide +kernel
theorem dX0_leavesRoom_113 : decode cX0_leavesRoom 113 = .ok (.if_icmp .le 8, 3) := by decide +kernel
theorem dX0_leavesRoom_116 : decode cX0_leavesRoom 116 = .ok (.iload 7, 2) := by decide +kernel
theorem dX0_leavesRoom_118 : decode cX0_leavesRoom 118 = .ok (.goto 4, 3) := by decide +kernel
theorem dX0_leavesRoom_121 : decode cX0_leavesRoom 121 = .ok (.iload_n 2, 1) := by decide +kernel
theorem dX0_leavesRoom_122 : decode cX0_leavesRoom 122 = .ok (.istore_n 2, 1) := by decide +kernel
theorem dX0_leavesRoom_123 : decode cX0_leavesRoom 123 = .ok (.iinc 4 1, 3) := by decide +kernel
theorem dX0_leavesRoom_126 : decode cX0_leavesRoom 126 = .ok (.goto (-117), 3) := by decide +kernel
theorem dX0_leavesRoom_129 : decode cX0_leavesRoom 129 = .ok (.iload_n 2, 1) := by decide +kernel
theorem dX0_leavesRoom_130 : decode cX0_leavesRoom 130 = .ok (.iload_n 3, 1) := by decide +kernel
theorem dX0_leavesRoom_131 : decode cX0_leavesRoom 131 = .ok (.if_icmp .gt 7, 3) := by decide +kernel
theorem dX0_leavesRoom_134 : decode cX0_leavesRoom 134 = .ok (.iconst 1, 1) := by decide +kernel
theorem dX0_leavesRoom_135 : decode cX0_leavesRoom 135 = .ok (.goto 4, 3) := by decide +kernel
theorem dX0_leavesRoom_138 : decode cX0_leavesRoom 138 = .ok (.iconst 0, 1) := by decide +kernel
theorem dX0_leavesRoom_139 : decode cX0_leavesRoom 139 = .ok (.ireturn, 1) := by decide +kernel
abbrev cX0_isExact : ByteArray := prog_1_method_20_code
def yX0_isExact : MethodName := ⟨RX0, "isExact", "()Z"⟩
theorem dX0_isExact_0 : decode cX0_isExact 0 = .ok (.iconst 1, 1) := by decide +kernel
theorem dX0_isExact_1 : decode cX0_isExact 1 = .ok (.istore_n 1, 1) := by decide +kernel
theorem dX0_isExact_2 : decode cX0_isExact 2 = .ok (.iconst 1, 1) := by decide +kernel
theorem dX0_isExact_3 : decode cX0_isExact 3 = .ok (.istore_n 2, 1) := by decide +kernel
theorem dX0_isExact_4 : decode cX0_isExact 4 = .ok (.iconst 0, 1) := by decide +kernel
theorem dX0_isExact_5 : decode cX0_isExact 5 = .ok (.istore_n 3, 1) := by decide +kernel
theorem dX0_isExact_6 : decode cX0_isExact 6 = .ok (.iload_n 3, 1) := by decide +kernel
theorem dX0_isExact_7 : decode cX0_isExact 7 = .ok (.aload_n 0, 1) := by decide +kernel
theorem dX0_isExact_8 : decode cX0_isExact 8 = .ok (.getfield 68, 3) := by decide +kernel
theorem dX0_isExact_11 : decode cX0_isExact 11 = .ok (.if_icmp .ge 49, 3) := by decide +kernel
theorem dX0_isExact_14 : decode cX0_isExact 14 = .ok (.aload_n 0, 1) := by decide +kernel
theorem dX0_isExact_15 : decode cX0_isExact 15 = .ok (.getfield 20, 3) := by decide +kernel
theorem dX0_isExact_18 : decode cX0_isExact 18 = .ok (.iconst 3, 1) := by decide +kernel
theorem dX0_isExact_19 : decode cX0_isExact 19 = .ok (.iload_n 3, 1) := by decide +kernel
theorem dX0_isExact_20 : decode cX0_isExact 20 = .ok (.imul, 1) := by decide +kernel
theorem dX0_isExact_21 : decode cX0_isExact 21 = .ok (.iconst 2, 1) := by decide +kernel
theorem dX0_isExact_22 : decode cX0_isExact 22 = .ok (.iadd, 1) := by decide +kernel
theorem dX0_isExact_23 : decode cX0_isExact 23 = .ok (.iaload, 1) := by decide +kernel
theorem dX0_isExact_24 : decode cX0_isExact 24 = .ok (.istore 4, 2) := by decide +kernel
theorem dX0_isExact_26 : decode cX0_isExact 26 = .ok (.iload 4, 2) := by decide +kernel
theorem dX0_isExact_28 : decode cX0_isExact 28 = .ok (.ineg, 1) := by decide +kernel
theorem dX0_isExact_29 : decode cX0_isExact 29 = .ok (.iload_n 1, 1) := by decide +kernel
theorem dX0_isExact_30 : decode cX0_isExact 30 = .ok (.if_icmp .le 9, 3) := by decide +kernel
theorem dX0_isExact_33 : decode cX0_isExact 33 = .ok (.iload 4, 2) := by decide +kernel
theorem dX0_isExact_35 : decode cX0_isExact 35 = .ok (.ineg, 1) := by decide +kernel
theorem dX0_isExact_36 : decode cX0_isExact 36 = .ok (.goto 4, 3) := by decide +kernel
theorem dX0_isExact_39 : decode cX0_isExact 39 = .ok (.iload_n 1, 1) := by decide +kernel
theorem dX0_isExact_40 : decode cX0_isExact 40 = .ok (.istore_n 1, 1) := by decide +kernel
theorem dX0_isExact_41 : decode cX0_isExact 41 = .ok (.iload 4, 2) := by decide +kernel
theorem dX0_isExact_43 : decode cX0_isExact 43 = .ok (.iload_n 2, 1) := by decide +kernel
theorem dX0_isExact_44 : decode cX0_isExact 44 = .ok (.if_icmp .le 8, 3) := by decide +kernel
theorem dX0_isExact_47 : decode cX0_isExact 47 = .ok (.iload 4, 2) := by decide +kernel
theorem dX0_isExact_49 : decode cX0_isExact 49 = .ok (.goto 4, 3) := by decide +kernel
theorem dX0_isExact_52 : decode cX0_isExact 52 = .ok (.iload_n 2, 1) := by decide +kernel
theorem dX0_isExact_53 : decode cX0_isExact 53 = .ok (.istore_n 2, 1) := by decide +kernel
theorem dX0_isExact_54 : decode cX0_isExact 54 = .ok (.iinc 3 1, 3) := by decide +kernel
theorem dX0_isExact_57 : decode cX0_isExact 57 = .ok (.goto (-51), 3) := by decide +kernel
theorem dX0_isExact_60 : decode cX0_isExact 60 = .ok (.iload_n 1, 1) := by decide +kernel
theorem dX0_isExact_61 : decode cX0_isExact 61 = .ok (.iconst 1, 1) := by decide +kernel
theorem dX0_isExact_62 : decode cX0_isExact 62 = .ok (.if_icmp .eq 8, 3) := by decide +kernel
theorem dX0_isExact_65 : decode cX0_isExact 65 = .ok (.iload_n 2, 1) := by decide +kernel
theorem dX0_isExact_66 : decode cX0_isExact 66 = .ok (.iconst 1, 1) := by decide +kernel
theorem dX0_isExact_67 : decode cX0_isExact 67 = .ok (.if_icmp .ne 7, 3) := by decide +kernel
theorem dX0_isExact_70 : decode cX0_isExact 70 = .ok (.iconst 1, 1) := by decide +kernel
theorem dX0_isExact_71 : decode cX0_isExact 71 = .ok (.goto 4, 3) := by decide +kernel
theorem dX0_isExact_74 : decode cX0_isExact 74 = .ok (.iconst 0, 1) := by decide +kernel
theorem dX0_isExact_75 : decode cX0_isExact 75 = .ok (.ireturn, 1) := by decide +kernel
abbrev cX0_makeFewFor : ByteArray := prog_1_method_23_code
def yX0_makeFewFor : MethodName := ⟨RX0, "makeFewFor", "(I)Z"⟩
theorem dX0_makeFewFor_0 : decode cX0_makeFewFor 0 = .ok (.aload_n 0, 1) := by decide +kernel
theorem dX0_makeFewFor_1 : decode cX0_makeFewFor 1 = .ok (.iconst 0, 1) := by decide +kernel
theorem dX0_makeFewFor_2 : decode cX0_makeFewFor 2 = .ok (.putfield 89, 3) := by decide +kernel
theorem dX0_makeFewFor_5 : decode cX0_makeFewFor 5 = .ok (.iconst 1, 1) := by decide +kernel
theorem dX0_makeFewFor_6 : decode cX0_makeFewFor 6 = .ok (.istore_n 2, 1) := by decide +kernel
theorem dX0_makeFewFor_7 : decode cX0_makeFewFor 7 = .ok (.iconst 0, 1) := by decide +kernel
theorem dX0_makeFewFor_8 : decode cX0_makeFewFor 8 = .ok (.istore_n 3, 1) := by decide +kernel
theorem dX0_makeFewFor_9 : decode cX0_makeFewFor 9 = .ok (.iload_n 3, 1) := by decide +kernel
theorem dX0_makeFewFor_10 : decode cX0_makeFewFor 10 = .ok (.aload_n 0, 1) := by decide +kernel
theorem dX0_makeFewFor_11 : decode cX0_makeFewFor 11 = .ok (.getfield 68, 3) := by decide +kernel
theorem dX0_makeFewFor_14 : decode cX0_makeFewFor 14 = .ok (.if_icmp .ge 55, 3) := by decide +kernel
theorem dX0_makeFewFor_17 : decode cX0_makeFewFor 17 = .ok (.iload_n 2, 1) := by decide +kernel
theorem dX0_makeFewFor_18 : decode cX0_makeFewFor 18 = .ok (.ifCond .eq 51, 3) := by decide +kernel
theorem dX0_makeFewFor_21 : decode cX0_makeFewFor 21 = .ok (.aload_n 0, 1) := by decide +kernel
theorem dX0_makeFewFor_22 : decode cX0_makeFewFor 22 = .ok (.aload_n 0, 1) := by decide +kernel
theorem dX0_makeFewFor_23 : decode cX0_makeFewFor 23 = .ok (.getfield 20, 3) := by decide +kernel
theorem dX0_makeFewFor_26 : decode cX0_makeFewFor 26 = .ok (.iconst 3, 1) := by decide +kernel
theorem dX0_makeFewFor_27 : decode cX0_makeFewFor 27 = .ok (.iload_n 3, 1) := by decide +kernel
theorem dX0_makeFewFor_28 : decode cX0_makeFewFor 28 = .ok (.imul, 1) := by decide +kernel
theorem dX0_makeFewFor_29 : decode cX0_makeFewFor 29 = .ok (.iaload, 1) := by decide +kernel
theorem dX0_makeFewFor_30 : decode cX0_makeFewFor 30 = .ok (.aload_n 0, 1) := by decide +kernel
theorem dX0_makeFewFor_31 : decode cX0_makeFewFor 31 = .ok (.getfield 20, 3) := by decide +kernel
theorem dX0_makeFewFor_34 : decode cX0_makeFewFor 34 = .ok (.iconst 3, 1) := by decide +kernel
theorem dX0_makeFewFor_35 : decode cX0_makeFewFor 35 = .ok (.iload_n 3, 1) := by decide +kernel
theorem dX0_makeFewFor_36 : decode cX0_makeFewFor 36 = .ok (.imul, 1) := by decide +kernel
theorem dX0_makeFewFor_37 : decode cX0_makeFewFor 37 = .ok (.iconst 1, 1) := by decide +kernel
theorem dX0_makeFewFor_38 : decode cX0_makeFewFor 38 = .ok (.iadd, 1) := by decide +kernel
theorem dX0_makeFewFor_39 : decode cX0_makeFewFor 39 = .ok (.iaload, 1) := by decide +kernel
theorem dX0_makeFewFor_40 : decode cX0_makeFewFor 40 = .ok (.aload_n 0, 1) := by decide +kernel
theorem dX0_makeFewFor_41 : decode cX0_makeFewFor 41 = .ok (.getfield 23, 3) := by decide +kernel
theorem dX0_makeFewFor_44 : decode cX0_makeFewFor 44 = .ok (.iload_n 3, 1) := by decide +kernel
theorem dX0_makeFewFor_45 : decode cX0_makeFewFor 45 = .ok (.iaload, 1) := by decide +kernel
theorem dX0_makeFewFor_46 : decode cX0_makeFewFor 46 = .ok (.aload_n 0, 1) := by decide +kernel
theorem dX0_makeFewFor_47 : decode cX0_makeFewFor 47 = .ok (.getfield 20, 3) := by decide +kernel
theorem dX0_makeFewFor_50 : decode cX0_makeFewFor 50 = .ok (.iconst 3, 1) := by decide +kernel
theorem dX0_makeFewFor_51 : decode cX0_makeFewFor 51 = .ok (.iload_n 3, 1) := by decide +kernel
theorem dX0_makeFewFor_52 : decode cX0_makeFewFor 52 = .ok (.imul, 1) := by decide +kernel
theorem dX0_makeFewFor_53 : decode cX0_makeFewFor 53 = .ok (.iconst 2, 1) := by decide +kernel
theorem dX0_makeFewFor_54 : decode cX0_makeFewFor 54 = .ok (.iadd, 1) := by decide +kernel
theorem dX0_makeFewFor_55 : decode cX0_makeFewFor 55 = .ok (.iaload, 1) := by decide +kernel
theorem dX0_makeFewFor_56 : decode cX0_makeFewFor 56 = .ok (.iload_n 1, 1) := by decide +kernel
theorem dX0_makeFewFor_57 : decode cX0_makeFewFor 57 = .ok (.imul, 1) := by decide +kernel
theorem dX0_makeFewFor_58 : decode cX0_makeFewFor 58 = .ok (.isub, 1) := by decide +kernel
theorem dX0_makeFewFor_59 : decode cX0_makeFewFor 59 = .ok (.invokevirtual 92, 3) := by decide +kernel
theorem dX0_makeFewFor_62 : decode cX0_makeFewFor 62 = .ok (.istore_n 2, 1) := by decide +kernel
theorem dX0_makeFewFor_63 : decode cX0_makeFewFor 63 = .ok (.iinc 3 1, 3) := by decide +kernel
theorem dX0_makeFewFor_66 : decode cX0_makeFewFor 66 = .ok (.goto (-57), 3) := by decide +kernel
theorem dX0_makeFewFor_69 : decode cX0_makeFewFor 69 = .ok (.iload_n 2, 1) := by decide +kernel
theorem dX0_makeFewFor_70 : decode cX0_makeFewFor 70 = .ok (.ireturn, 1) := by decide +kernel
abbrev cX0_first : ByteArray := prog_1_method_5_code
def yX0_first : MethodName := ⟨RX0, "first", "(I)I"⟩
theorem dX0_first_0 : decode cX0_first 0 = .ok (.iload_n 1, 1) := by decide +kernel
theorem dX0_first_1 : decode cX0_first 1 = .ok (.ifCond .lt 8, 3) := by decide +kernel
theorem dX0_first_4 : decode cX0_first 4 = .ok (.iload_n 1, 1) := by decide +kernel
theorem dX0_first_5 : decode cX0_first 5 = .ok (.iconst 2, 1) := by decide +kernel
theorem dX0_first_6 : decode cX0_first 6 = .ok (.if_icmp .le 6, 3) := by decide +kernel
theorem dX0_first_9 : decode cX0_first 9 = .ok (.bipush 100, 2) := by decide +kernel
theorem dX0_first_11 : decode cX0_first 11 = .ok (.ireturn, 1) := by decide +kernel
theorem dX0_first_12 : decode cX0_first 12 = .ok (.aload_n 0, 1) := by decide +kernel
theorem dX0_first_13 : decode cX0_first 13 = .ok (.invokevirtual 46, 3) := by decide +kernel
theorem dX0_first_16 : decode cX0_first 16 = .ok (.iconst 0, 1) := by decide +kernel
theorem dX0_first_17 : decode cX0_first 17 = .ok (.istore_n 2, 1) := by decide +kernel
theorem dX0_first_18 : decode cX0_first 18 = .ok (.iload_n 2, 1) := by decide +kernel
theorem dX0_first_19 : decode cX0_first 19 = .ok (.iload_n 1, 1) := by decide +kernel
theorem dX0_first_20 : decode cX0_first 20 = .ok (.if_icmp .gt 32, 3) := by decide +kernel
theorem dX0_first_23 : decode cX0_first 23 = .ok (.aload_n 0, 1) := by decide +kernel
theorem dX0_first_24 : decode cX0_first 24 = .ok (.iload_n 2, 1) := by decide +kernel
theorem dX0_first_25 : decode cX0_first 25 = .ok (.iconst 0, 1) := by decide +kernel
theorem dX0_first_26 : decode cX0_first 26 = .ok (.invokevirtual 56, 3) := by decide +kernel
theorem dX0_first_29 : decode cX0_first 29 = .ok (.istore_n 3, 1) := by decide +kernel
theorem dX0_first_30 : decode cX0_first 30 = .ok (.iload_n 3, 1) := by decide +kernel
theorem dX0_first_31 : decode cX0_first 31 = .ok (.bipush 100, 2) := by decide +kernel
theorem dX0_first_33 : decode cX0_first 33 = .ok (.if_icmp .ne 6, 3) := by decide +kernel
theorem dX0_first_36 : decode cX0_first 36 = .ok (.bipush 100, 2) := by decide +kernel
theorem dX0_first_38 : decode cX0_first 38 = .ok (.ireturn, 1) := by decide +kernel
theorem dX0_first_39 : decode cX0_first 39 = .ok (.aload_n 0, 1) := by decide +kernel
theorem dX0_first_40 : decode cX0_first 40 = .ok (.getfield 32, 3) := by decide +kernel
theorem dX0_first_43 : decode cX0_first 43 = .ok (.iload_n 2, 1) := by decide +kernel
theorem dX0_first_44 : decode cX0_first 44 = .ok (.iload_n 3, 1) := by decide +kernel
theorem dX0_first_45 : decode cX0_first 45 = .ok (.iastore, 1) := by decide +kernel
theorem dX0_first_46 : decode cX0_first 46 = .ok (.iinc 2 1, 3) := by decide +kernel
theorem dX0_first_49 : decode cX0_first 49 = .ok (.goto (-31), 3) := by decide +kernel
theorem dX0_first_52 : decode cX0_first 52 = .ok (.aload_n 0, 1) := by decide +kernel
theorem dX0_first_53 : decode cX0_first 53 = .ok (.getfield 32, 3) := by decide +kernel
theorem dX0_first_56 : decode cX0_first 56 = .ok (.iload_n 1, 1) := by decide +kernel
theorem dX0_first_57 : decode cX0_first 57 = .ok (.iaload, 1) := by decide +kernel
theorem dX0_first_58 : decode cX0_first 58 = .ok (.ireturn, 1) := by decide +kernel
abbrev cX0_leastValue : ByteArray := prog_1_method_13_code
def yX0_leastValue : MethodName := ⟨RX0, "leastValue", "(IZ)I"⟩
theorem dX0_leastValue_0 : decode cX0_leastValue 0 = .ok (.iconst 0, 1) := by decide +kernel
theorem dX0_leastValue_1 : decode cX0_leastValue 1 = .ok (.istore_n 3, 1) := by decide +kernel
theorem dX0_leastValue_2 : decode cX0_leastValue 2 = .ok (.iload_n 3, 1) := by decide +kernel
theorem dX0_leastValue_3 : decode cX0_leastValue 3 = .ok (.bipush 13, 2) := by decide +kernel
theorem dX0_leastValue_5 : decode cX0_leastValue 5 = .ok (.if_icmp .ge 56, 3) := by decide +kernel
theorem dX0_leastValue_8 : decode cX0_leastValue 8 = .ok (.iload_n 2, 1) := by decide +kernel
theorem dX0_leastValue_9 : decode cX0_leastValue 9 = .ok (.ifCond .eq 10, 3) := by decide +kernel
theorem dX0_leastValue_12 : decode cX0_leastValue 12 = .ok (.bipush 6, 2) := by decide +kernel
theorem dX0_leastValue_14 : decode cX0_leastValue 14 = .ok (.iload_n 3, 1) := by decide +kernel
theorem dX0_leastValue_15 : decode cX0_leastValue 15 = .ok (.isub, 1) := by decide +kernel
theorem dX0_leastValue_16 : decode cX0_leastValue 16 = .ok (.goto 7, 3) := by decide +kernel
theorem dX0_leastValue_19 : decode cX0_leastValue 19 = .ok (.iload_n 3, 1) := by decide +kernel
theorem dX0_leastValue_20 : decode cX0_leastValue 20 = .ok (.bipush 6, 2) := by decide +kernel
theorem dX0_leastValue_22 : decode cX0_leastValue 22 = .ok (.isub, 1) := by decide +kernel
theorem dX0_leastValue_23 : decode cX0_leastValue 23 = .ok (.istore 4, 2) := by decide +kernel
theorem dX0_leastValue_25 : decode cX0_leastValue 25 = .ok (.aload_n 0, 1) := by decide +kernel
theorem dX0_leastValue_26 : decode cX0_leastValue 26 = .ok (.getfield 32, 3) := by decide +kernel
theorem dX0_leastValue_29 : decode cX0_leastValue 29 = .ok (.iload_n 1, 1) := by decide +kernel
theorem dX0_leastValue_30 : decode cX0_leastValue 30 = .ok (.iload 4, 2) := by decide +kernel
theorem dX0_leastValue_32 : decode cX0_leastValue 32 = .ok (.iastore, 1) := by decide +kernel
theorem dX0_leastValue_33 : decode cX0_leastValue 33 = .ok (.aload_n 0, 1) := by decide +kernel
theorem dX0_leastValue_34 : decode cX0_leastValue 34 = .ok (.invokevirtual 49, 3) := by decide +kernel
theorem dX0_leastValue_37 : decode cX0_leastValue 37 = .ok (.aload_n 0, 1) := by decide +kernel
theorem dX0_leastValue_38 : decode cX0_leastValue 38 = .ok (.invokevirtual 52, 3) := by decide +kernel
theorem dX0_leastValue_41 : decode cX0_leastValue 41 = .ok (.ifCond .eq 14, 3) := by decide +kernel
theorem dX0_leastValue_44 : decode cX0_leastValue 44 = .ok (.aload_n 0, 1) := by decide +kernel
theorem dX0_leastValue_45 : decode cX0_leastValue 45 = .ok (.getfield 32, 3) := by decide +kernel
theorem dX0_leastValue_48 : decode cX0_leastValue 48 = .ok (.iload_n 1, 1) := by decide +kernel
theorem dX0_leastValue_49 : decode cX0_leastValue 49 = .ok (.bipush 100, 2) := by decide +kernel
theorem dX0_leastValue_51 : decode cX0_leastValue 51 = .ok (.iastore, 1) := by decide +kernel
theorem dX0_leastValue_52 : decode cX0_leastValue 52 = .ok (.iload 4, 2) := by decide +kernel
theorem dX0_leastValue_54 : decode cX0_leastValue 54 = .ok (.ireturn, 1) := by decide +kernel
theorem dX0_leastValue_55 : decode cX0_leastValue 55 = .ok (.iinc 3 1, 3) := by decide +kernel
theorem dX0_leastValue_58 : decode cX0_leastValue 58 = .ok (.goto (-56), 3) := by decide +kernel
theorem dX0_leastValue_61 : decode cX0_leastValue 61 = .ok (.aload_n 0, 1) := by decide +kernel
theorem dX0_leastValue_62 : decode cX0_leastValue 62 = .ok (.getfield 32, 3) := by decide +kernel
theorem dX0_leastValue_65 : decode cX0_leastValue 65 = .ok (.iload_n 1, 1) := by decide +kernel
theorem dX0_leastValue_66 : decode cX0_leastValue 66 = .ok (.bipush 100, 2) := by decide +kernel
theorem dX0_leastValue_68 : decode cX0_leastValue 68 = .ok (.iastore, 1) := by decide +kernel
theorem dX0_leastValue_69 : decode cX0_leastValue 69 = .ok (.bipush 100, 2) := by decide +kernel
theorem dX0_leastValue_71 : decode cX0_leastValue 71 = .ok (.ireturn, 1) := by decide +kernel
abbrev cX0_extreme : ByteArray := prog_1_method_6_code
def yX0_extreme : MethodName := ⟨RX0, "extreme", "(IZ)I"⟩
theorem dX0_extreme_0 : decode cX0_extreme 0 = .ok (.iload_n 1, 1) := by decide +kernel
theorem dX0_extreme_1 : decode cX0_extreme 1 = .ok (.ifCond .lt 8, 3) := by decide +kernel
theorem dX0_extreme_4 : decode cX0_extreme 4 = .ok (.iload_n 1, 1) := by decide +kernel
theorem dX0_extreme_5 : decode cX0_extreme 5 = .ok (.iconst 2, 1) := by decide +kernel
theorem dX0_extreme_6 : decode cX0_extreme 6 = .ok (.if_icmp .le 6, 3) := by decide +kernel
theorem dX0_extreme_9 : decode cX0_extreme 9 = .ok (.bipush 100, 2) := by decide +kernel
theorem dX0_extreme_11 : decode cX0_extreme 11 = .ok (.ireturn, 1) := by decide +kernel
theorem dX0_extreme_12 : decode cX0_extreme 12 = .ok (.aload_n 0, 1) := by decide +kernel
theorem dX0_extreme_13 : decode cX0_extreme 13 = .ok (.invokevirtual 46, 3) := by decide +kernel
theorem dX0_extreme_16 : decode cX0_extreme 16 = .ok (.aload_n 0, 1) := by decide +kernel
theorem dX0_extreme_17 : decode cX0_extreme 17 = .ok (.iload_n 1, 1) := by decide +kernel
theorem dX0_extreme_18 : decode cX0_extreme 18 = .ok (.iload_n 2, 1) := by decide +kernel
theorem dX0_extreme_19 : decode cX0_extreme 19 = .ok (.invokevirtual 56, 3) := by decide +kernel
theorem dX0_extreme_22 : decode cX0_extreme 22 = .ok (.ireturn, 1) := by decide +kernel
abbrev cX0_with : ByteArray := prog_1_method_7_code
def yX0_with : MethodName := ⟨RX0, "with", "(II)I"⟩
theorem dX0_with_0 : decode cX0_with 0 = .ok (.iload_n 1, 1) := by decide +kernel
theorem dX0_with_1 : decode cX0_with 1 = .ok (.ifCond .lt 20, 3) := by decide +kernel
theorem dX0_with_4 : decode cX0_with 4 = .ok (.iload_n 1, 1) := by decide +kernel
theorem dX0_with_5 : decode cX0_with 5 = .ok (.iconst 2, 1) := by decide +kernel
theorem dX0_with_6 : decode cX0_with 6 = .ok (.if_icmp .gt 15, 3) := by decide +kernel
theorem dX0_with_9 : decode cX0_with 9 = .ok (.iload_n 2, 1) := by decide +kernel
theorem dX0_with_10 : decode cX0_with 10 = .ok (.bipush (-6), 2) := by decide +kernel
theorem dX0_with_12 : decode cX0_with 12 = .ok (.if_icmp .lt 9, 3) := by decide +kernel
theorem dX0_with_15 : decode cX0_with 15 = .ok (.iload_n 2, 1) := by decide +kernel
theorem dX0_with_16 : decode cX0_with 16 = .ok (.bipush 6, 2) := by decide +kernel
theorem dX0_with_18 : decode cX0_with 18 = .ok (.if_icmp .le 5, 3) := by decide +kernel
theorem dX0_with_21 : decode cX0_with 21 = .ok (.iconst 0, 1) := by decide +kernel
theorem dX0_with_22 : decode cX0_with 22 = .ok (.ireturn, 1) := by decide +kernel
theorem dX0_with_23 : decode cX0_with 23 = .ok (.aload_n 0, 1) := by decide +kernel
theorem dX0_with_24 : decode cX0_with 24 = .ok (.invokevirtual 46, 3) := by decide +kernel
theorem dX0_with_27 : decode cX0_with 27 = .ok (.aload_n 0, 1) := by decide +kernel
theorem dX0_with_28 : decode cX0_with 28 = .ok (.getfield 32, 3) := by decide +kernel
theorem dX0_with_31 : decode cX0_with 31 = .ok (.iload_n 1, 1) := by decide +kernel
theorem dX0_with_32 : decode cX0_with 32 = .ok (.iload_n 2, 1) := by decide +kernel
theorem dX0_with_33 : decode cX0_with 33 = .ok (.iastore, 1) := by decide +kernel
theorem dX0_with_34 : decode cX0_with 34 = .ok (.aload_n 0, 1) := by decide +kernel
theorem dX0_with_35 : decode cX0_with 35 = .ok (.invokevirtual 49, 3) := by decide +kernel
theorem dX0_with_38 : decode cX0_with 38 = .ok (.aload_n 0, 1) := by decide +kernel
theorem dX0_with_39 : decode cX0_with 39 = .ok (.invokevirtual 52, 3) := by decide +kernel
theorem dX0_with_42 : decode cX0_with 42 = .ok (.ifCond .eq 7, 3) := by decide +kernel
theorem dX0_with_45 : decode cX0_with 45 = .ok (.iconst 1, 1) := by decide +kernel
theorem dX0_with_46 : decode cX0_with 46 = .ok (.goto 4, 3) := by decide +kernel
theorem dX0_with_49 : decode cX0_with 49 = .ok (.iconst 0, 1) := by decide +kernel
theorem dX0_with_50 : decode cX0_with 50 = .ok (.ireturn, 1) := by decide +kernel
abbrev cX0_follows : ByteArray := prog_1_method_8_code
def yX0_follows : MethodName := ⟨RX0, "follows", "(IIII)I"⟩
theorem dX0_follows_0 : decode cX0_follows 0 = .ok (.iload_n 1, 1) := by decide +kernel
theorem dX0_follows_1 : decode cX0_follows 1 = .ok (.iload_n 2, 1) := by decide +kernel
theorem dX0_follows_2 : decode cX0_follows 2 = .ok (.iload_n 3, 1) := by decide +kernel
theorem dX0_follows_3 : decode cX0_follows 3 = .ok (.iload 4, 2) := by decide +kernel
theorem dX0_follows_5 : decode cX0_follows 5 = .ok (.invokestatic 39, 3) := by decide +kernel
theorem dX0_follows_8 : decode cX0_follows 8 = .ok (.ifCond .ne 5, 3) := by decide +kernel
theorem dX0_follows_11 : decode cX0_follows 11 = .ok (.iconst (-1), 1) := by decide +kernel
theorem dX0_follows_12 : decode cX0_follows 12 = .ok (.ireturn, 1) := by decide +kernel
theorem dX0_follows_13 : decode cX0_follows 13 = .ok (.aload_n 0, 1) := by decide +kernel
theorem dX0_follows_14 : decode cX0_follows 14 = .ok (.invokevirtual 46, 3) := by decide +kernel
theorem dX0_follows_17 : decode cX0_follows 17 = .ok (.aload_n 0, 1) := by decide +kernel
theorem dX0_follows_18 : decode cX0_follows 18 = .ok (.invokevirtual 49, 3) := by decide +kernel
theorem dX0_follows_21 : decode cX0_follows 21 = .ok (.aload_n 0, 1) := by decide +kernel
theorem dX0_follows_22 : decode cX0_follows 22 = .ok (.iload_n 1, 1) := by decide +kernel
theorem dX0_follows_23 : decode cX0_follows 23 = .ok (.ineg, 1) := by decide +kernel
theorem dX0_follows_24 : decode cX0_follows 24 = .ok (.iload_n 2, 1) := by decide +kernel
theorem dX0_follows_25 : decode cX0_follows 25 = .ok (.ineg, 1) := by decide +kernel
theorem dX0_follows_26 : decode cX0_follows 26 = .ok (.iload_n 3, 1) := by decide +kernel
theorem dX0_follows_27 : decode cX0_follows 27 = .ok (.ineg, 1) := by decide +kernel
theorem dX0_follows_28 : decode cX0_follows 28 = .ok (.iload 4, 2) := by decide +kernel
theorem dX0_follows_30 : decode cX0_follows 30 = .ok (.ineg, 1) := by decide +kernel
theorem dX0_follows_31 : decode cX0_follows 31 = .ok (.iconst 1, 1) := by decide +kernel
theorem dX0_follows_32 : decode cX0_follows 32 = .ok (.isub, 1) := by decide +kernel
theorem dX0_follows_33 : decode cX0_follows 33 = .ok (.invokevirtual 60, 3) := by decide +kernel
theorem dX0_follows_36 : decode cX0_follows 36 = .ok (.aload_n 0, 1) := by decide +kernel
theorem dX0_follows_37 : decode cX0_follows 37 = .ok (.invokevirtual 52, 3) := by decide +kernel
theorem dX0_follows_40 : decode cX0_follows 40 = .ok (.ifCond .eq 7, 3) := by decide +kernel
theorem dX0_follows_43 : decode cX0_follows 43 = .ok (.iconst 0, 1) := by decide +kernel
theorem dX0_follows_44 : decode cX0_follows 44 = .ok (.goto 4, 3) := by decide +kernel
theorem dX0_follows_47 : decode cX0_follows 47 = .ok (.iconst 1, 1) := by decide +kernel
theorem dX0_follows_48 : decode cX0_follows 48 = .ok (.ireturn, 1) := by decide +kernel
abbrev cX0_spare : ByteArray := prog_1_method_9_code
def yX0_spare : MethodName := ⟨RX0, "spare", "()I"⟩
theorem dX0_spare_0 : decode cX0_spare 0 = .ok (.iconst 0, 1) := by decide +kernel
theorem dX0_spare_1 : decode cX0_spare 1 = .ok (.istore_n 1, 1) := by decide +kernel
theorem dX0_spare_2 : decode cX0_spare 2 = .ok (.aload_n 0, 1) := by decide +kernel
theorem dX0_spare_3 : decode cX0_spare 3 = .ok (.invokevirtual 46, 3) := by decide +kernel
theorem dX0_spare_6 : decode cX0_spare 6 = .ok (.iconst 0, 1) := by decide +kernel
theorem dX0_spare_7 : decode cX0_spare 7 = .ok (.istore_n 2, 1) := by decide +kernel
theorem dX0_spare_8 : decode cX0_spare 8 = .ok (.iload_n 2, 1) := by decide +kernel
theorem dX0_spare_9 : decode cX0_spare 9 = .ok (.aload_n 0, 1) := by decide +kernel
theorem dX0_spare_10 : decode cX0_spare 10 = .ok (.getfield 43, 3) := by decide +kernel
theorem dX0_spare_13 : decode cX0_spare 13 = .ok (.if_icmp .ge 68, 3) := by decide +kernel
theorem dX0_spare_16 : decode cX0_spare 16 = .ok (.aload_n 0, 1) := by decide +kernel
theorem dX0_spare_17 : decode cX0_spare 17 = .ok (.iload_n 2, 1) := by decide +kernel
theorem dX0_spare_18 : decode cX0_spare 18 = .ok (.putfield 35, 3) := by decide +kernel
theorem dX0_spare_21 : decode cX0_spare 21 = .ok (.aload_n 0, 1) := by decide +kernel
theorem dX0_spare_22 : decode cX0_spare 22 = .ok (.iload_n 2, 1) := by decide +kernel
theorem dX0_spare_23 : decode cX0_spare 23 = .ok (.iconst 1, 1) := by decide +kernel
theorem dX0_spare_24 : decode cX0_spare 24 = .ok (.invokevirtual 64, 3) := by decide +kernel
theorem dX0_spare_27 : decode cX0_spare 27 = .ok (.istore_n 3, 1) := by decide +kernel
theorem dX0_spare_28 : decode cX0_spare 28 = .ok (.aload_n 0, 1) := by decide +kernel
theorem dX0_spare_29 : decode cX0_spare 29 = .ok (.getfield 16, 3) := by decide +kernel
theorem dX0_spare_32 : decode cX0_spare 32 = .ok (.iload_n 2, 1) := by decide +kernel
theorem dX0_spare_33 : decode cX0_spare 33 = .ok (.baload, 1) := by decide +kernel
theorem dX0_spare_34 : decode cX0_spare 34 = .ok (.ifCond .eq 16, 3) := by decide +kernel
theorem dX0_spare_37 : decode cX0_spare 37 = .ok (.aload_n 0, 1) := by decide +kernel
theorem dX0_spare_38 : decode cX0_spare 38 = .ok (.iload_n 2, 1) := by decide +kernel
theorem dX0_spare_39 : decode cX0_spare 39 = .ok (.iconst (-1), 1) := by decide +kernel
theorem dX0_spare_40 : decode cX0_spare 40 = .ok (.invokevirtual 64, 3) := by decide +kernel
theorem dX0_spare_43 : decode cX0_spare 43 = .ok (.ifCond .eq 7, 3) := by decide +kernel
theorem dX0_spare_46 : decode cX0_spare 46 = .ok (.iconst 1, 1) := by decide +kernel
theorem dX0_spare_47 : decode cX0_spare 47 = .ok (.goto 4, 3) := by decide +kernel
theorem dX0_spare_50 : decode cX0_spare 50 = .ok (.iconst 0, 1) := by decide +kernel
theorem dX0_spare_51 : decode cX0_spare 51 = .ok (.istore 4, 2) := by decide +kernel
theorem dX0_spare_53 : decode cX0_spare 53 = .ok (.aload_n 0, 1) := by decide +kernel
theorem dX0_spare_54 : decode cX0_spare 54 = .ok (.iconst (-1), 1) := by decide +kernel
theorem dX0_spare_55 : decode cX0_spare 55 = .ok (.putfield 35, 3) := by decide +kernel
theorem dX0_spare_58 : decode cX0_spare 58 = .ok (.iload_n 1, 1) := by decide +kernel
theorem dX0_spare_59 : decode cX0_spare 59 = .ok (.iload_n 3, 1) := by decide +kernel
theorem dX0_spare_60 : decode cX0_spare 60 = .ok (.ifCond .ne 8, 3) := by decide +kernel
theorem dX0_spare_63 : decode cX0_spare 63 = .ok (.iload 4, 2) := by decide +kernel
theorem dX0_spare_65 : decode cX0_spare 65 = .ok (.ifCond .eq 7, 3) := by decide +kernel
theorem dX0_spare_68 : decode cX0_spare 68 = .ok (.iconst 0, 1) := by decide +kernel
theorem dX0_spare_69 : decode cX0_spare 69 = .ok (.goto 4, 3) := by decide +kernel
theorem dX0_spare_72 : decode cX0_spare 72 = .ok (.iconst 1, 1) := by decide +kernel
theorem dX0_spare_73 : decode cX0_spare 73 = .ok (.iadd, 1) := by decide +kernel
theorem dX0_spare_74 : decode cX0_spare 74 = .ok (.istore_n 1, 1) := by decide +kernel
theorem dX0_spare_75 : decode cX0_spare 75 = .ok (.iinc 2 1, 3) := by decide +kernel
theorem dX0_spare_78 : decode cX0_spare 78 = .ok (.goto (-70), 3) := by decide +kernel
theorem dX0_spare_81 : decode cX0_spare 81 = .ok (.iload_n 1, 1) := by decide +kernel
theorem dX0_spare_82 : decode cX0_spare 82 = .ok (.ireturn, 1) := by decide +kernel
end
section
set_option maxRecDepth 100000
abbrev cX0_broken : ByteArray := prog_1_method_10_code
def yX0_broken : MethodName := ⟨RX0, "broken", "(II)Z"⟩
theorem dX0_broken_0 : decode cX0_broken 0 = .ok (.aload_n 0, 1) := by decide +kernel
theorem dX0_broken_1 : decode cX0_broken 1 = .ok (.invokevirtual 49, 3) := by decide +kernel
theorem dX0_broken_4 : decode cX0_broken 4 = .ok (.iload_n 2, 1) := by decide +kernel
theorem dX0_broken_5 : decode cX0_broken 5 = .ok (.ineg, 1) := by decide +kernel
theorem dX0_broken_6 : decode cX0_broken 6 = .ok (.istore_n 3, 1) := by decide +kernel
theorem dX0_broken_7 : decode cX0_broken 7 = .ok (.aload_n 0, 1) := by decide +kernel
theorem dX0_broken_8 : decode cX0_broken 8 = .ok (.iload_n 3, 1) := by decide +kernel
theorem dX0_broken_9 : decode cX0_broken 9 = .ok (.aload_n 0, 1) := by decide +kernel
theorem dX0_broken_10 : decode cX0_broken 10 = .ok (.getfield 7, 3) := by decide +kernel
theorem dX0_broken_13 : decode cX0_broken 13 = .ok (.iconst 3, 1) := by decide +kernel
theorem dX0_broken_14 : decode cX0_broken 14 = .ok (.iload_n 1, 1) := by decide +kernel
theorem dX0_broken_15 : decode cX0_broken 15 = .ok (.imul, 1) := by decide +kernel
theorem dX0_broken_16 : decode cX0_broken 16 = .ok (.iaload, 1) := by decide +kernel
theorem dX0_broken_17 : decode cX0_broken 17 = .ok (.imul, 1) := by decide +kernel
theorem dX0_broken_18 : decode cX0_broken 18 = .ok (.iload_n 3, 1) := by decide +kernel
theorem dX0_broken_19 : decode cX0_broken 19 = .ok (.aload_n 0, 1) := by decide +kernel
theorem dX0_broken_20 : decode cX0_broken 20 = .ok (.getfield 7, 3) := by decide +kernel
theorem dX0_broken_23 : decode cX0_broken 23 = .ok (.iconst 3, 1) := by decide +kernel
theorem dX0_broken_24 : decode cX0_broken 24 = .ok (.iload_n 1, 1) := by decide +kernel
theorem dX0_broken_25 : decode cX0_broken 25 = .ok (.imul, 1) := by decide +kernel
theorem dX0_broken_26 : decode cX0_broken 26 = .ok (.iconst 1, 1) := by decide +kernel
theorem dX0_broken_27 : decode cX0_broken 27 = .ok (.iadd, 1) := by decide +kernel
theorem dX0_broken_28 : decode cX0_broken 28 = .ok (.iaload, 1) := by decide +kernel
theorem dX0_broken_29 : decode cX0_broken 29 = .ok (.imul, 1) := by decide +kernel
theorem dX0_broken_30 : decode cX0_broken 30 = .ok (.iload_n 3, 1) := by decide +kernel
theorem dX0_broken_31 : decode cX0_broken 31 = .ok (.aload_n 0, 1) := by decide +kernel
theorem dX0_broken_32 : decode cX0_broken 32 = .ok (.getfield 7, 3) := by decide +kernel
theorem dX0_broken_35 : decode cX0_broken 35 = .ok (.iconst 3, 1) := by decide +kernel
theorem dX0_broken_36 : decode cX0_broken 36 = .ok (.iload_n 1, 1) := by decide +kernel
theorem dX0_broken_37 : decode cX0_broken 37 = .ok (.imul, 1) := by decide +kernel
theorem dX0_broken_38 : decode cX0_broken 38 = .ok (.iconst 2, 1) := by decide +kernel
theorem dX0_broken_39 : decode cX0_broken 39 = .ok (.iadd, 1) := by decide +kernel
theorem dX0_broken_40 : decode cX0_broken 40 = .ok (.iaload, 1) := by decide +kernel
theorem dX0_broken_41 : decode cX0_broken 41 = .ok (.imul, 1) := by decide +kernel
theorem dX0_broken_42 : decode cX0_broken 42 = .ok (.iload_n 3, 1) := by decide +kernel
theorem dX0_broken_43 : decode cX0_broken 43 = .ok (.aload_n 0, 1) := by decide +kernel
theorem dX0_broken_44 : decode cX0_broken 44 = .ok (.getfield 13, 3) := by decide +kernel
theorem dX0_broken_47 : decode cX0_broken 47 = .ok (.iload_n 1, 1) := by decide +kernel
theorem dX0_broken_48 : decode cX0_broken 48 = .ok (.iaload, 1) := by decide +kernel
theorem dX0_broken_49 : decode cX0_broken 49 = .ok (.imul, 1) := by decide +kernel
theorem dX0_broken_50 : decode cX0_broken 50 = .ok (.iconst 1, 1) := by decide +kernel
theorem dX0_broken_51 : decode cX0_broken 51 = .ok (.isub, 1) := by decide +kernel
theorem dX0_broken_52 : decode cX0_broken 52 = .ok (.invokevirtual 60, 3) := by decide +kernel
theorem dX0_broken_55 : decode cX0_broken 55 = .ok (.aload_n 0, 1) := by decide +kernel
theorem dX0_broken_56 : decode cX0_broken 56 = .ok (.invokevirtual 52, 3) := by decide +kernel
theorem dX0_broken_59 : decode cX0_broken 59 = .ok (.ireturn, 1) := by decide +kernel
end
section
set_option maxRecDepth 100000
theorem q18 : (Jvm.Cond.initialized "OmegaDesk") ∈ lw_all := lw_g (lw_at lw_m0 1 rfl) rfl
theorem q21 : (Jvm.Cond.instantiable "OmegaDesk" (12 : Nat)) ∈ lw_all := lw_g (lw_at lw_m0 4 rfl) rfl
theorem q23 : (Jvm.Cond.instanceMethod ({ cls := "OmegaDesk", name := "<init>", desc := "()V" } : Jvm.MethodName)) ∈ lw_all := lw_g (lw_at lw_m0 6 rfl) rfl
theorem q24 : (Jvm.Cond.code ({ cls := "OmegaDesk", name := "<init>", desc := "()V" } : Jvm.MethodName) prog_1_method_1_code (1 : Nat) (Option.none : Option Jvm.ClassFile.FieldType)) ∈ lw_all := lw_g (lw_at lw_m0 7 rfl) rfl
theorem q25 : (Jvm.Cond.methodLink "OmegaDesk" (1 : Nat) ({ cls := "java/lang/Object", name := "<init>", desc := "()V" } : Jvm.MethodName)) ∈ lw_all := lw_g (lw_at lw_m0 8 rfl) rfl
theorem q28 : (Jvm.Cond.fieldLink "OmegaDesk" (43 : Nat) "OmegaDesk" "held" "I") ∈ lw_all := lw_g (lw_at lw_m0 11 rfl) rfl
theorem q29 : (Jvm.Cond.fieldLink "OmegaDesk" (7 : Nat) "OmegaDesk" "coefficient" "[I") ∈ lw_all := lw_g (lw_at lw_m0 12 rfl) rfl
theorem q30 : (Jvm.Cond.fieldLink "OmegaDesk" (13 : Nat) "OmegaDesk" "limit" "[I") ∈ lw_all := lw_g (lw_at lw_m0 13 rfl) rfl
theorem q31 : (Jvm.Cond.fieldLink "OmegaDesk" (16 : Nat) "OmegaDesk" "equal" "[Z") ∈ lw_all := lw_g (lw_at lw_m0 14 rfl) rfl
theorem q32 : (Jvm.Cond.fieldLink "OmegaDesk" (68 : Nat) "OmegaDesk" "rows" "I") ∈ lw_all := lw_g (lw_at lw_m0 15 rfl) rfl
theorem q33 : (Jvm.Cond.fieldLink "OmegaDesk" (20 : Nat) "OmegaDesk" "factor" "[I") ∈ lw_all := lw_g (lw_at lw_m0 16 rfl) rfl
theorem q34 : (Jvm.Cond.fieldLink "OmegaDesk" (23 : Nat) "OmegaDesk" "bound" "[I") ∈ lw_all := lw_g (lw_at lw_m0 17 rfl) rfl
theorem q35 : (Jvm.Cond.fieldLink "OmegaDesk" (89 : Nat) "OmegaDesk" "fewRows" "I") ∈ lw_all := lw_g (lw_at lw_m0 18 rfl) rfl
theorem q36 : (Jvm.Cond.fieldLink "OmegaDesk" (26 : Nat) "OmegaDesk" "fewFactor" "[I") ∈ lw_all := lw_g (lw_at lw_m0 19 rfl) rfl
theorem q37 : (Jvm.Cond.fieldLink "OmegaDesk" (29 : Nat) "OmegaDesk" "fewBound" "[I") ∈ lw_all := lw_g (lw_at lw_m0 20 rfl) rfl
theorem q38 : (Jvm.Cond.fieldLink "OmegaDesk" (32 : Nat) "OmegaDesk" "fixed" "[I") ∈ lw_all := lw_g (lw_at lw_m0 21 rfl) rfl
theorem q39 : (Jvm.Cond.fieldLink "OmegaDesk" (35 : Nat) "OmegaDesk" "without" "I") ∈ lw_all := lw_g (lw_at lw_m0 22 rfl) rfl
theorem q40 : (Jvm.Cond.lays "OmegaDesk" "OmegaDesk" "held" "I") ∈ lw_all := lw_g (lw_at lw_m0 23 rfl) rfl
theorem q41 : (Jvm.Cond.soleField "OmegaDesk" "held") ∈ lw_all := lw_g (lw_at lw_m0 24 rfl) rfl
theorem q42 : (Jvm.Cond.laysFinal "OmegaDesk" "OmegaDesk" "coefficient" "[I") ∈ lw_all := lw_g (lw_at lw_m0 25 rfl) rfl
theorem q43 : (Jvm.Cond.soleField "OmegaDesk" "coefficient") ∈ lw_all := lw_g (lw_at lw_m0 26 rfl) rfl
theorem q44 : (Jvm.Cond.laysFinal "OmegaDesk" "OmegaDesk" "limit" "[I") ∈ lw_all := lw_g (lw_at lw_m0 27 rfl) rfl
theorem q45 : (Jvm.Cond.soleField "OmegaDesk" "limit") ∈ lw_all := lw_g (lw_at lw_m0 28 rfl) rfl
theorem q46 : (Jvm.Cond.laysFinal "OmegaDesk" "OmegaDesk" "equal" "[Z") ∈ lw_all := lw_g (lw_at lw_m0 29 rfl) rfl
theorem q47 : (Jvm.Cond.soleField "OmegaDesk" "equal") ∈ lw_all := lw_g (lw_at lw_m0 30 rfl) rfl
theorem q48 : (Jvm.Cond.lays "OmegaDesk" "OmegaDesk" "rows" "I") ∈ lw_all := lw_g (lw_at lw_m0 31 rfl) rfl
theorem q49 : (Jvm.Cond.soleField "OmegaDesk" "rows") ∈ lw_all := lw_g (lw_at lw_m0 32 rfl) rfl
theorem q50 : (Jvm.Cond.laysFinal "OmegaDesk" "OmegaDesk" "factor" "[I") ∈ lw_all := lw_g (lw_at lw_m0 33 rfl) rfl
theorem q51 : (Jvm.Cond.soleField "OmegaDesk" "factor") ∈ lw_all := lw_g (lw_at lw_m0 34 rfl) rfl
theorem q52 : (Jvm.Cond.laysFinal "OmegaDesk" "OmegaDesk" "bound" "[I") ∈ lw_all := lw_g (lw_at lw_m0 35 rfl) rfl
theorem q53 : (Jvm.Cond.soleField "OmegaDesk" "bound") ∈ lw_all := lw_g (lw_at lw_m0 36 rfl) rfl
theorem q54 : (Jvm.Cond.lays "OmegaDesk" "OmegaDesk" "fewRows" "I") ∈ lw_all := lw_g (lw_at lw_m0 37 rfl) rfl
theorem q55 : (Jvm.Cond.soleField "OmegaDesk" "fewRows") ∈ lw_all := lw_g (lw_at lw_m0 38 rfl) rfl
theorem q56 : (Jvm.Cond.laysFinal "OmegaDesk" "OmegaDesk" "fewFactor" "[I") ∈ lw_all := lw_g (lw_at lw_m0 39 rfl) rfl
theorem q57 : (Jvm.Cond.soleField "OmegaDesk" "fewFactor") ∈ lw_all := lw_g (lw_at lw_m0 40 rfl) rfl
theorem q58 : (Jvm.Cond.laysFinal "OmegaDesk" "OmegaDesk" "fewBound" "[I") ∈ lw_all := lw_g (lw_at lw_m0 41 rfl) rfl
theorem q59 : (Jvm.Cond.soleField "OmegaDesk" "fewBound") ∈ lw_all := lw_g (lw_at lw_m0 42 rfl) rfl
theorem q60 : (Jvm.Cond.laysFinal "OmegaDesk" "OmegaDesk" "fixed" "[I") ∈ lw_all := lw_g (lw_at lw_m0 43 rfl) rfl
theorem q61 : (Jvm.Cond.soleField "OmegaDesk" "fixed") ∈ lw_all := lw_g (lw_at lw_m0 44 rfl) rfl
theorem q62 : (Jvm.Cond.lays "OmegaDesk" "OmegaDesk" "without" "I") ∈ lw_all := lw_g (lw_at lw_m0 45 rfl) rfl
theorem q63 : (Jvm.Cond.soleField "OmegaDesk" "without") ∈ lw_all := lw_g (lw_at lw_m0 46 rfl) rfl
theorem q64 : (Jvm.Cond.superclass "OmegaDesk" "java/lang/Object") ∈ lw_all := lw_g (lw_at lw_m0 47 rfl) rfl
theorem q68 : (Jvm.Cond.instanceMethod ({ cls := "OmegaDesk", name := "add", desc := "(IIIIZ)I" } : Jvm.MethodName)) ∈ lw_all := lw_g (lw_at lw_m0 51 rfl) rfl
theorem q69 : (Jvm.Cond.selects "OmegaDesk" ({ cls := "OmegaDesk", name := "add", desc := "(IIIIZ)I" } : Jvm.MethodName) ({ cls := "OmegaDesk", name := "add", desc := "(IIIIZ)I" } : Jvm.MethodName)) ∈ lw_all := lw_g (lw_at lw_m0 52 rfl) rfl
theorem q70 : (Jvm.Cond.code ({ cls := "OmegaDesk", name := "add", desc := "(IIIIZ)I" } : Jvm.MethodName) prog_1_method_2_code (6 : Nat) (Option.some Jvm.ClassFile.FieldType.int)) ∈ lw_all := lw_g (lw_at lw_m0 53 rfl) rfl
theorem q71 : (Jvm.Cond.methodLink "OmegaDesk" (39 : Nat) ({ cls := "OmegaDesk", name := "areRight", desc := "(IIII)Z" } : Jvm.MethodName)) ∈ lw_all := lw_g (lw_at lw_m0 54 rfl) rfl
theorem q72 : (Jvm.Cond.static ({ cls := "OmegaDesk", name := "areRight", desc := "(IIII)Z" } : Jvm.MethodName)) ∈ lw_all := lw_g (lw_at lw_m0 55 rfl) rfl
theorem q73 : (Jvm.Cond.code ({ cls := "OmegaDesk", name := "areRight", desc := "(IIII)Z" } : Jvm.MethodName) prog_1_method_11_code (4 : Nat) (Option.some Jvm.ClassFile.FieldType.boolean)) ∈ lw_all := lw_g (lw_at lw_m0 56 rfl) rfl
theorem q75 : (Jvm.Cond.instanceMethod ({ cls := "OmegaDesk", name := "drop", desc := "(I)I" } : Jvm.MethodName)) ∈ lw_all := lw_g (lw_at lw_m0 58 rfl) rfl
theorem q76 : (Jvm.Cond.selects "OmegaDesk" ({ cls := "OmegaDesk", name := "drop", desc := "(I)I" } : Jvm.MethodName) ({ cls := "OmegaDesk", name := "drop", desc := "(I)I" } : Jvm.MethodName)) ∈ lw_all := lw_g (lw_at lw_m0 59 rfl) rfl
theorem q77 : (Jvm.Cond.code ({ cls := "OmegaDesk", name := "drop", desc := "(I)I" } : Jvm.MethodName) prog_1_method_3_code (4 : Nat) (Option.some Jvm.ClassFile.FieldType.int)) ∈ lw_all := lw_g (lw_at lw_m0 60 rfl) rfl
theorem q79 : (Jvm.Cond.instanceMethod ({ cls := "OmegaDesk", name := "possible", desc := "()I" } : Jvm.MethodName)) ∈ lw_all := lw_g (lw_at lw_m0 62 rfl) rfl
theorem q80 : (Jvm.Cond.selects "OmegaDesk" ({ cls := "OmegaDesk", name := "possible", desc := "()I" } : Jvm.MethodName) ({ cls := "OmegaDesk", name := "possible", desc := "()I" } : Jvm.MethodName)) ∈ lw_all := lw_g (lw_at lw_m0 63 rfl) rfl
theorem q81 : (Jvm.Cond.code ({ cls := "OmegaDesk", name := "possible", desc := "()I" } : Jvm.MethodName) prog_1_method_4_code (1 : Nat) (Option.some Jvm.ClassFile.FieldType.int)) ∈ lw_all := lw_g (lw_at lw_m0 64 rfl) rfl
theorem q82 : (Jvm.Cond.methodLink "OmegaDesk" (46 : Nat) ({ cls := "OmegaDesk", name := "free", desc := "()V" } : Jvm.MethodName)) ∈ lw_all := lw_g (lw_at lw_m0 65 rfl) rfl
theorem q83 : (Jvm.Cond.privateMethod ({ cls := "OmegaDesk", name := "free", desc := "()V" } : Jvm.MethodName)) ∈ lw_tbl := lw_at lw_m0 66 rfl
theorem q84 : (Jvm.Cond.instanceMethod ({ cls := "OmegaDesk", name := "free", desc := "()V" } : Jvm.MethodName)) ∈ lw_all := lw_g (lw_at lw_m0 67 rfl) rfl
theorem q85 : (Jvm.Cond.code ({ cls := "OmegaDesk", name := "free", desc := "()V" } : Jvm.MethodName) prog_1_method_12_code (2 : Nat) (Option.none : Option Jvm.ClassFile.FieldType)) ∈ lw_all := lw_g (lw_at lw_m0 68 rfl) rfl
theorem q86 : (Jvm.Cond.methodLink "OmegaDesk" (49 : Nat) ({ cls := "OmegaDesk", name := "collect", desc := "()V" } : Jvm.MethodName)) ∈ lw_all := lw_g (lw_at lw_m0 69 rfl) rfl
theorem q87 : (Jvm.Cond.privateMethod ({ cls := "OmegaDesk", name := "collect", desc := "()V" } : Jvm.MethodName)) ∈ lw_tbl := lw_at lw_m0 70 rfl
theorem q88 : (Jvm.Cond.instanceMethod ({ cls := "OmegaDesk", name := "collect", desc := "()V" } : Jvm.MethodName)) ∈ lw_all := lw_g (lw_at lw_m0 71 rfl) rfl
theorem q89 : (Jvm.Cond.code ({ cls := "OmegaDesk", name := "collect", desc := "()V" } : Jvm.MethodName) prog_1_method_14_code (5 : Nat) (Option.none : Option Jvm.ClassFile.FieldType)) ∈ lw_all := lw_g (lw_at lw_m0 72 rfl) rfl
theorem q90 : (Jvm.Cond.methodLink "OmegaDesk" (60 : Nat) ({ cls := "OmegaDesk", name := "put", desc := "(IIII)V" } : Jvm.MethodName)) ∈ lw_all := lw_g (lw_at lw_m0 73 rfl) rfl
theorem q91 : (Jvm.Cond.privateMethod ({ cls := "OmegaDesk", name := "put", desc := "(IIII)V" } : Jvm.MethodName)) ∈ lw_tbl := lw_at lw_m0 74 rfl
theorem q92 : (Jvm.Cond.instanceMethod ({ cls := "OmegaDesk", name := "put", desc := "(IIII)V" } : Jvm.MethodName)) ∈ lw_all := lw_g (lw_at lw_m0 75 rfl) rfl
theorem q93 : (Jvm.Cond.code ({ cls := "OmegaDesk", name := "put", desc := "(IIII)V" } : Jvm.MethodName) prog_1_method_15_code (5 : Nat) (Option.none : Option Jvm.ClassFile.FieldType)) ∈ lw_all := lw_g (lw_at lw_m0 76 rfl) rfl
theorem q94 : (Jvm.Cond.methodLink "OmegaDesk" (52 : Nat) ({ cls := "OmegaDesk", name := "solvable", desc := "()Z" } : Jvm.MethodName)) ∈ lw_all := lw_g (lw_at lw_m0 77 rfl) rfl
theorem q95 : (Jvm.Cond.privateMethod ({ cls := "OmegaDesk", name := "solvable", desc := "()Z" } : Jvm.MethodName)) ∈ lw_tbl := lw_at lw_m0 78 rfl
theorem q96 : (Jvm.Cond.instanceMethod ({ cls := "OmegaDesk", name := "solvable", desc := "()Z" } : Jvm.MethodName)) ∈ lw_all := lw_g (lw_at lw_m0 79 rfl) rfl
theorem q97 : (Jvm.Cond.code ({ cls := "OmegaDesk", name := "solvable", desc := "()Z" } : Jvm.MethodName) prog_1_method_19_code (3 : Nat) (Option.some Jvm.ClassFile.FieldType.boolean)) ∈ lw_all := lw_g (lw_at lw_m0 80 rfl) rfl
theorem q98 : (Jvm.Cond.methodLink "OmegaDesk" (75 : Nat) ({ cls := "OmegaDesk", name := "makeFew", desc := "(Z)Z" } : Jvm.MethodName)) ∈ lw_all := lw_g (lw_at lw_m0 81 rfl) rfl
theorem q99 : (Jvm.Cond.privateMethod ({ cls := "OmegaDesk", name := "makeFew", desc := "(Z)Z" } : Jvm.MethodName)) ∈ lw_tbl := lw_at lw_m0 82 rfl
theorem q100 : (Jvm.Cond.instanceMethod ({ cls := "OmegaDesk", name := "makeFew", desc := "(Z)Z" } : Jvm.MethodName)) ∈ lw_all := lw_g (lw_at lw_m0 83 rfl) rfl
theorem q101 : (Jvm.Cond.code ({ cls := "OmegaDesk", name := "makeFew", desc := "(Z)Z" } : Jvm.MethodName) prog_1_method_21_code (5 : Nat) (Option.some Jvm.ClassFile.FieldType.boolean)) ∈ lw_all := lw_g (lw_at lw_m0 84 rfl) rfl
theorem q102 : (Jvm.Cond.methodLink "OmegaDesk" (92 : Nat) ({ cls := "OmegaDesk", name := "putFew", desc := "(III)Z" } : Jvm.MethodName)) ∈ lw_all := lw_g (lw_at lw_m0 85 rfl) rfl
theorem q103 : (Jvm.Cond.privateMethod ({ cls := "OmegaDesk", name := "putFew", desc := "(III)Z" } : Jvm.MethodName)) ∈ lw_tbl := lw_at lw_m0 86 rfl
theorem q104 : (Jvm.Cond.instanceMethod ({ cls := "OmegaDesk", name := "putFew", desc := "(III)Z" } : Jvm.MethodName)) ∈ lw_all := lw_g (lw_at lw_m0 87 rfl) rfl
theorem q105 : (Jvm.Cond.code ({ cls := "OmegaDesk", name := "putFew", desc := "(III)Z" } : Jvm.MethodName) prog_1_method_24_code (9 : Nat) (Option.some Jvm.ClassFile.FieldType.boolean)) ∈ lw_all := lw_g (lw_at lw_m0 88 rfl) rfl
theorem q106 : (Jvm.Cond.methodLink "OmegaDesk" (100 : Nat) ({ cls := "OmegaDesk", name := "divisorOf", desc := "(II)I" } : Jvm.MethodName)) ∈ lw_all := lw_g (lw_at lw_m0 89 rfl) rfl
theorem q107 : (Jvm.Cond.static ({ cls := "OmegaDesk", name := "divisorOf", desc := "(II)I" } : Jvm.MethodName)) ∈ lw_all := lw_g (lw_at lw_m0 90 rfl) rfl
theorem q108 : (Jvm.Cond.code ({ cls := "OmegaDesk", name := "divisorOf", desc := "(II)I" } : Jvm.MethodName) prog_1_method_18_code (6 : Nat) (Option.some Jvm.ClassFile.FieldType.int)) ∈ lw_all := lw_g (lw_at lw_m0 91 rfl) rfl
theorem q109 : (Jvm.Cond.methodLink "OmegaDesk" (71 : Nat) ({ cls := "OmegaDesk", name := "amount", desc := "(I)I" } : Jvm.MethodName)) ∈ lw_all := lw_g (lw_at lw_m0 92 rfl) rfl
theorem q110 : (Jvm.Cond.static ({ cls := "OmegaDesk", name := "amount", desc := "(I)I" } : Jvm.MethodName)) ∈ lw_all := lw_g (lw_at lw_m0 93 rfl) rfl
theorem q111 : (Jvm.Cond.code ({ cls := "OmegaDesk", name := "amount", desc := "(I)I" } : Jvm.MethodName) prog_1_method_17_code (1 : Nat) (Option.some Jvm.ClassFile.FieldType.int)) ∈ lw_all := lw_g (lw_at lw_m0 94 rfl) rfl
theorem q112 : (Jvm.Cond.methodLink "OmegaDesk" (104 : Nat) ({ cls := "OmegaDesk", name := "floorDivide", desc := "(II)I" } : Jvm.MethodName)) ∈ lw_all := lw_g (lw_at lw_m0 95 rfl) rfl
theorem q113 : (Jvm.Cond.static ({ cls := "OmegaDesk", name := "floorDivide", desc := "(II)I" } : Jvm.MethodName)) ∈ lw_all := lw_g (lw_at lw_m0 96 rfl) rfl
theorem q114 : (Jvm.Cond.code ({ cls := "OmegaDesk", name := "floorDivide", desc := "(II)I" } : Jvm.MethodName) prog_1_method_16_code (3 : Nat) (Option.some Jvm.ClassFile.FieldType.int)) ∈ lw_all := lw_g (lw_at lw_m0 97 rfl) rfl
theorem q115 : (Jvm.Cond.methodLink "OmegaDesk" (96 : Nat) ({ cls := "OmegaDesk", name := "pairUp", desc := "(IIZ)Z" } : Jvm.MethodName)) ∈ lw_all := lw_g (lw_at lw_m0 98 rfl) rfl
theorem q116 : (Jvm.Cond.privateMethod ({ cls := "OmegaDesk", name := "pairUp", desc := "(IIZ)Z" } : Jvm.MethodName)) ∈ lw_tbl := lw_at lw_m0 99 rfl
theorem q117 : (Jvm.Cond.instanceMethod ({ cls := "OmegaDesk", name := "pairUp", desc := "(IIZ)Z" } : Jvm.MethodName)) ∈ lw_all := lw_g (lw_at lw_m0 100 rfl) rfl
theorem q118 : (Jvm.Cond.code ({ cls := "OmegaDesk", name := "pairUp", desc := "(IIZ)Z" } : Jvm.MethodName) prog_1_method_22_code (10 : Nat) (Option.some Jvm.ClassFile.FieldType.boolean)) ∈ lw_all := lw_g (lw_at lw_m0 101 rfl) rfl
theorem q119 : (Jvm.Cond.methodLink "OmegaDesk" (79 : Nat) ({ cls := "OmegaDesk", name := "planeSolvable", desc := "()Z" } : Jvm.MethodName)) ∈ lw_all := lw_g (lw_at lw_m0 102 rfl) rfl
theorem q120 : (Jvm.Cond.privateMethod ({ cls := "OmegaDesk", name := "planeSolvable", desc := "()Z" } : Jvm.MethodName)) ∈ lw_tbl := lw_at lw_m0 103 rfl
theorem q121 : (Jvm.Cond.instanceMethod ({ cls := "OmegaDesk", name := "planeSolvable", desc := "()Z" } : Jvm.MethodName)) ∈ lw_all := lw_g (lw_at lw_m0 104 rfl) rfl
theorem q122 : (Jvm.Cond.code ({ cls := "OmegaDesk", name := "planeSolvable", desc := "()Z" } : Jvm.MethodName) prog_1_method_25_code (2 : Nat) (Option.some Jvm.ClassFile.FieldType.boolean)) ∈ lw_all := lw_g (lw_at lw_m0 105 rfl) rfl
theorem q123 : (Jvm.Cond.methodLink "OmegaDesk" (107 : Nat) ({ cls := "OmegaDesk", name := "leavesRoom", desc := "(I)Z" } : Jvm.MethodName)) ∈ lw_all := lw_g (lw_at lw_m0 106 rfl) rfl
theorem q124 : (Jvm.Cond.privateMethod ({ cls := "OmegaDesk", name := "leavesRoom", desc := "(I)Z" } : Jvm.MethodName)) ∈ lw_tbl := lw_at lw_m0 107 rfl
theorem q125 : (Jvm.Cond.instanceMethod ({ cls := "OmegaDesk", name := "leavesRoom", desc := "(I)Z" } : Jvm.MethodName)) ∈ lw_all := lw_g (lw_at lw_m0 108 rfl) rfl
theorem q126 : (Jvm.Cond.code ({ cls := "OmegaDesk", name := "leavesRoom", desc := "(I)Z" } : Jvm.MethodName) prog_1_method_26_code (8 : Nat) (Option.some Jvm.ClassFile.FieldType.boolean)) ∈ lw_all := lw_g (lw_at lw_m0 109 rfl) rfl
theorem q127 : (Jvm.Cond.methodLink "OmegaDesk" (82 : Nat) ({ cls := "OmegaDesk", name := "isExact", desc := "()Z" } : Jvm.MethodName)) ∈ lw_all := lw_g (lw_at lw_m0 110 rfl) rfl
theorem q128 : (Jvm.Cond.privateMethod ({ cls := "OmegaDesk", name := "isExact", desc := "()Z" } : Jvm.MethodName)) ∈ lw_tbl := lw_at lw_m0 111 rfl
theorem q129 : (Jvm.Cond.instanceMethod ({ cls := "OmegaDesk", name := "isExact", desc := "()Z" } : Jvm.MethodName)) ∈ lw_all := lw_g (lw_at lw_m0 112 rfl) rfl
theorem q130 : (Jvm.Cond.code ({ cls := "OmegaDesk", name := "isExact", desc := "()Z" } : Jvm.MethodName) prog_1_method_20_code (5 : Nat) (Option.some Jvm.ClassFile.FieldType.boolean)) ∈ lw_all := lw_g (lw_at lw_m0 113 rfl) rfl
theorem q131 : (Jvm.Cond.methodLink "OmegaDesk" (85 : Nat) ({ cls := "OmegaDesk", name := "makeFewFor", desc := "(I)Z" } : Jvm.MethodName)) ∈ lw_all := lw_g (lw_at lw_m0 114 rfl) rfl
theorem q132 : (Jvm.Cond.privateMethod ({ cls := "OmegaDesk", name := "makeFewFor", desc := "(I)Z" } : Jvm.MethodName)) ∈ lw_tbl := lw_at lw_m0 115 rfl
theorem q133 : (Jvm.Cond.instanceMethod ({ cls := "OmegaDesk", name := "makeFewFor", desc := "(I)Z" } : Jvm.MethodName)) ∈ lw_all := lw_g (lw_at lw_m0 116 rfl) rfl
theorem q134 : (Jvm.Cond.code ({ cls := "OmegaDesk", name := "makeFewFor", desc := "(I)Z" } : Jvm.MethodName) prog_1_method_23_code (4 : Nat) (Option.some Jvm.ClassFile.FieldType.boolean)) ∈ lw_all := lw_g (lw_at lw_m0 117 rfl) rfl
theorem q136 : (Jvm.Cond.instanceMethod ({ cls := "OmegaDesk", name := "first", desc := "(I)I" } : Jvm.MethodName)) ∈ lw_all := lw_g (lw_at lw_m0 119 rfl) rfl
theorem q137 : (Jvm.Cond.selects "OmegaDesk" ({ cls := "OmegaDesk", name := "first", desc := "(I)I" } : Jvm.MethodName) ({ cls := "OmegaDesk", name := "first", desc := "(I)I" } : Jvm.MethodName)) ∈ lw_all := lw_g (lw_at lw_m0 120 rfl) rfl
theorem q138 : (Jvm.Cond.code ({ cls := "OmegaDesk", name := "first", desc := "(I)I" } : Jvm.MethodName) prog_1_method_5_code (4 : Nat) (Option.some Jvm.ClassFile.FieldType.int)) ∈ lw_all := lw_g (lw_at lw_m0 121 rfl) rfl
theorem q139 : (Jvm.Cond.methodLink "OmegaDesk" (56 : Nat) ({ cls := "OmegaDesk", name := "leastValue", desc := "(IZ)I" } : Jvm.MethodName)) ∈ lw_all := lw_g (lw_at lw_m0 122 rfl) rfl
theorem q140 : (Jvm.Cond.privateMethod ({ cls := "OmegaDesk", name := "leastValue", desc := "(IZ)I" } : Jvm.MethodName)) ∈ lw_tbl := lw_at lw_m0 123 rfl
theorem q141 : (Jvm.Cond.instanceMethod ({ cls := "OmegaDesk", name := "leastValue", desc := "(IZ)I" } : Jvm.MethodName)) ∈ lw_all := lw_g (lw_at lw_m0 124 rfl) rfl
theorem q142 : (Jvm.Cond.code ({ cls := "OmegaDesk", name := "leastValue", desc := "(IZ)I" } : Jvm.MethodName) prog_1_method_13_code (5 : Nat) (Option.some Jvm.ClassFile.FieldType.int)) ∈ lw_all := lw_g (lw_at lw_m0 125 rfl) rfl
theorem q144 : (Jvm.Cond.instanceMethod ({ cls := "OmegaDesk", name := "extreme", desc := "(IZ)I" } : Jvm.MethodName)) ∈ lw_all := lw_g (lw_at lw_m0 127 rfl) rfl
theorem q145 : (Jvm.Cond.selects "OmegaDesk" ({ cls := "OmegaDesk", name := "extreme", desc := "(IZ)I" } : Jvm.MethodName) ({ cls := "OmegaDesk", name := "extreme", desc := "(IZ)I" } : Jvm.MethodName)) ∈ lw_all := lw_g (lw_at lw_m0 128 rfl) rfl
theorem q146 : (Jvm.Cond.code ({ cls := "OmegaDesk", name := "extreme", desc := "(IZ)I" } : Jvm.MethodName) prog_1_method_6_code (3 : Nat) (Option.some Jvm.ClassFile.FieldType.int)) ∈ lw_all := lw_g (lw_at lw_m0 129 rfl) rfl
theorem q148 : (Jvm.Cond.instanceMethod ({ cls := "OmegaDesk", name := "with", desc := "(II)I" } : Jvm.MethodName)) ∈ lw_all := lw_g (lw_at lw_m0 131 rfl) rfl
theorem q149 : (Jvm.Cond.selects "OmegaDesk" ({ cls := "OmegaDesk", name := "with", desc := "(II)I" } : Jvm.MethodName) ({ cls := "OmegaDesk", name := "with", desc := "(II)I" } : Jvm.MethodName)) ∈ lw_all := lw_g (lw_at lw_m0 132 rfl) rfl
theorem q150 : (Jvm.Cond.code ({ cls := "OmegaDesk", name := "with", desc := "(II)I" } : Jvm.MethodName) prog_1_method_7_code (3 : Nat) (Option.some Jvm.ClassFile.FieldType.int)) ∈ lw_all := lw_g (lw_at lw_m0 133 rfl) rfl
theorem q152 : (Jvm.Cond.instanceMethod ({ cls := "OmegaDesk", name := "follows", desc := "(IIII)I" } : Jvm.MethodName)) ∈ lw_all := lw_g (lw_at lw_m0 135 rfl) rfl
theorem q153 : (Jvm.Cond.selects "OmegaDesk" ({ cls := "OmegaDesk", name := "follows", desc := "(IIII)I" } : Jvm.MethodName) ({ cls := "OmegaDesk", name := "follows", desc := "(IIII)I" } : Jvm.MethodName)) ∈ lw_all := lw_g (lw_at lw_m0 136 rfl) rfl
theorem q154 : (Jvm.Cond.code ({ cls := "OmegaDesk", name := "follows", desc := "(IIII)I" } : Jvm.MethodName) prog_1_method_8_code (5 : Nat) (Option.some Jvm.ClassFile.FieldType.int)) ∈ lw_all := lw_g (lw_at lw_m0 137 rfl) rfl
theorem q156 : (Jvm.Cond.instanceMethod ({ cls := "OmegaDesk", name := "spare", desc := "()I" } : Jvm.MethodName)) ∈ lw_all := lw_g (lw_at lw_m0 139 rfl) rfl
theorem q157 : (Jvm.Cond.selects "OmegaDesk" ({ cls := "OmegaDesk", name := "spare", desc := "()I" } : Jvm.MethodName) ({ cls := "OmegaDesk", name := "spare", desc := "()I" } : Jvm.MethodName)) ∈ lw_all := lw_g (lw_at lw_m0 140 rfl) rfl
theorem q158 : (Jvm.Cond.code ({ cls := "OmegaDesk", name := "spare", desc := "()I" } : Jvm.MethodName) prog_1_method_9_code (5 : Nat) (Option.some Jvm.ClassFile.FieldType.int)) ∈ lw_all := lw_g (lw_at lw_m0 141 rfl) rfl
theorem q159 : (Jvm.Cond.methodLink "OmegaDesk" (64 : Nat) ({ cls := "OmegaDesk", name := "broken", desc := "(II)Z" } : Jvm.MethodName)) ∈ lw_all := lw_g (lw_at lw_m0 142 rfl) rfl
theorem q160 : (Jvm.Cond.privateMethod ({ cls := "OmegaDesk", name := "broken", desc := "(II)Z" } : Jvm.MethodName)) ∈ lw_tbl := lw_at lw_m0 143 rfl
theorem q161 : (Jvm.Cond.instanceMethod ({ cls := "OmegaDesk", name := "broken", desc := "(II)Z" } : Jvm.MethodName)) ∈ lw_all := lw_g (lw_at lw_m0 144 rfl) rfl
theorem q162 : (Jvm.Cond.code ({ cls := "OmegaDesk", name := "broken", desc := "(II)Z" } : Jvm.MethodName) prog_1_method_10_code (4 : Nat) (Option.some Jvm.ClassFile.FieldType.boolean)) ∈ lw_all := lw_g (lw_at lw_m0 145 rfl) rfl
theorem in_X0 : ∀ w ∈ wsX00, w ∈ lw_all := lw_in wsX00 [40, 42, 44, 46, 48, 50, 52, 54, 56, 58, 60, 62] (by decide +kernel) (by decide +kernel)

theorem q65 : (Jvm.Cond.arrayClass Jvm.ClassFile.FieldType.int) ∈ lw_all := lw_g (lw_at lw_m0 48 rfl) rfl
theorem q66 : (Jvm.Cond.arrayClass Jvm.ClassFile.FieldType.boolean) ∈ lw_all := lw_g (lw_at lw_m0 49 rfl) rfl

/-! java/lang/Object -/
def RJ0 : String := "java/lang/Object"
abbrev cJ0_init : ByteArray := object_method_1_code
def yJ0_init : MethodName := ⟨RJ0, "<init>", "()V"⟩
theorem dJ0_init_0 : decode cJ0_init 0 = .ok (.return_, 1) := by decide +kernel
theorem q26 : (Jvm.Cond.instanceMethod ({ cls := "java/lang/Object", name := "<init>", desc := "()V" } : Jvm.MethodName)) ∈ lw_all := lw_g (lw_at lw_m0 9 rfl) rfl
theorem q27 : (Jvm.Cond.code ({ cls := "java/lang/Object", name := "<init>", desc := "()V" } : Jvm.MethodName) object_method_1_code (1 : Nat) (Option.none : Option Jvm.ClassFile.FieldType)) ∈ lw_all := lw_g (lw_at lw_m0 10 rfl) rfl
end
section
/-! OmegaDeskModel -/
set_option maxRecDepth 100000
def RX1 : String := "OmegaDeskModel"
def TX1 : u_T := fun k => match k with
  | 0 => ("OmegaDeskModel", "held", "I", false)
  | 1 => ("OmegaDeskModel", "as", "[I", true)
  | 2 => ("OmegaDeskModel", "bs", "[I", true)
  | 3 => ("OmegaDeskModel", "cs", "[I", true)
  | 4 => ("OmegaDeskModel", "ds", "[I", true)
  | _ => ("OmegaDeskModel", "equals", "[Z", true)
def tyX1 : Nat → FieldType := fun k => match k with
  | 0 => .int
  | 1 => .array .int
  | 2 => .array .int
  | 3 => .array .int
  | 4 => .array .int
  | _ => .array .boolean
abbrev wsX10 : List Cond := u_ws RX1 TX1 6
theorem nmX1 : ∀ a, a < 6 → ∀ b, b < 6 → a ≠ b → (TX1 a).2.1 ≠ (TX1 b).2.1 := by decide +kernel
theorem tyX1_ok : ∀ k, k < 6 → parseFieldDescriptor (TX1 k).2.2.1 = some (tyX1 k) := by decide +kernel
abbrev cX1_init : ByteArray := prog_3_method_1_code
def yX1_init : MethodName := ⟨RX1, "<init>", "()V"⟩
theorem dX1_init_0 : decode cX1_init 0 = .ok (.aload_n 0, 1) := by decide +kernel
theorem dX1_init_1 : decode cX1_init 1 = .ok (.invokespecial 1, 3) := by decide +kernel
theorem dX1_init_4 : decode cX1_init 4 = .ok (.aload_n 0, 1) := by decide +kernel
theorem dX1_init_5 : decode cX1_init 5 = .ok (.bipush 8, 2) := by decide +kernel
theorem dX1_init_7 : decode cX1_init 7 = .ok (.newarray .int, 2) := by decide +kernel
theorem dX1_init_9 : decode cX1_init 9 = .ok (.putfield 7, 3) := by decide +kernel
theorem dX1_init_12 : decode cX1_init 12 = .ok (.aload_n 0, 1) := by decide +kernel
theorem dX1_init_13 : decode cX1_init 13 = .ok (.bipush 8, 2) := by decide +kernel
theorem dX1_init_15 : decode cX1_init 15 = .ok (.newarray .int, 2) := by decide +kernel
theorem dX1_init_17 : decode cX1_init 17 = .ok (.putfield 13, 3) := by decide +kernel
theorem dX1_init_20 : decode cX1_init 20 = .ok (.aload_n 0, 1) := by decide +kernel
theorem dX1_init_21 : decode cX1_init 21 = .ok (.bipush 8, 2) := by decide +kernel
theorem dX1_init_23 : decode cX1_init 23 = .ok (.newarray .int, 2) := by decide +kernel
theorem dX1_init_25 : decode cX1_init 25 = .ok (.putfield 16, 3) := by decide +kernel
theorem dX1_init_28 : decode cX1_init 28 = .ok (.aload_n 0, 1) := by decide +kernel
theorem dX1_init_29 : decode cX1_init 29 = .ok (.bipush 8, 2) := by decide +kernel
theorem dX1_init_31 : decode cX1_init 31 = .ok (.newarray .int, 2) := by decide +kernel
theorem dX1_init_33 : decode cX1_init 33 = .ok (.putfield 19, 3) := by decide +kernel
theorem dX1_init_36 : decode cX1_init 36 = .ok (.aload_n 0, 1) := by decide +kernel
theorem dX1_init_37 : decode cX1_init 37 = .ok (.bipush 8, 2) := by decide +kernel
theorem dX1_init_39 : decode cX1_init 39 = .ok (.newarray .boolean, 2) := by decide +kernel
theorem dX1_init_41 : decode cX1_init 41 = .ok (.putfield 22, 3) := by decide +kernel
theorem dX1_init_44 : decode cX1_init 44 = .ok (.return_, 1) := by decide +kernel
abbrev cX1_add : ByteArray := prog_3_method_3_code
def yX1_add : MethodName := ⟨RX1, "add", "(IIIIZ)I"⟩
theorem dX1_add_0 : decode cX1_add 0 = .ok (.iload_n 1, 1) := by decide +kernel
theorem dX1_add_1 : decode cX1_add 1 = .ok (.iload_n 2, 1) := by decide +kernel
theorem dX1_add_2 : decode cX1_add 2 = .ok (.iload_n 3, 1) := by decide +kernel
theorem dX1_add_3 : decode cX1_add 3 = .ok (.iload 4, 2) := by decide +kernel
theorem dX1_add_5 : decode cX1_add 5 = .ok (.invokestatic 26, 3) := by decide +kernel
theorem dX1_add_8 : decode cX1_add 8 = .ok (.ifCond .ne 12, 3) := by decide +kernel
theorem dX1_add_11 : decode cX1_add 11 = .ok (.aload_n 0, 1) := by decide +kernel
theorem dX1_add_12 : decode cX1_add 12 = .ok (.getfield 30, 3) := by decide +kernel
theorem dX1_add_15 : decode cX1_add 15 = .ok (.bipush 8, 2) := by decide +kernel
theorem dX1_add_17 : decode cX1_add 17 = .ok (.if_icmp .ne 5, 3) := by decide +kernel
theorem dX1_add_20 : decode cX1_add 20 = .ok (.iconst (-1), 1) := by decide +kernel
theorem dX1_add_21 : decode cX1_add 21 = .ok (.ireturn, 1) := by decide +kernel
theorem dX1_add_22 : decode cX1_add 22 = .ok (.aload_n 0, 1) := by decide +kernel
theorem dX1_add_23 : decode cX1_add 23 = .ok (.getfield 7, 3) := by decide +kernel
theorem dX1_add_26 : decode cX1_add 26 = .ok (.aload_n 0, 1) := by decide +kernel
theorem dX1_add_27 : decode cX1_add 27 = .ok (.getfield 30, 3) := by decide +kernel
theorem dX1_add_30 : decode cX1_add 30 = .ok (.iload_n 1, 1) := by decide +kernel
theorem dX1_add_31 : decode cX1_add 31 = .ok (.iastore, 1) := by decide +kernel
theorem dX1_add_32 : decode cX1_add 32 = .ok (.aload_n 0, 1) := by decide +kernel
theorem dX1_add_33 : decode cX1_add 33 = .ok (.getfield 13, 3) := by decide +kernel
theorem dX1_add_36 : decode cX1_add 36 = .ok (.aload_n 0, 1) := by decide +kernel
theorem dX1_add_37 : decode cX1_add 37 = .ok (.getfield 30, 3) := by decide +kernel
theorem dX1_add_40 : decode cX1_add 40 = .ok (.iload_n 2, 1) := by decide +kernel
theorem dX1_add_41 : decode cX1_add 41 = .ok (.iastore, 1) := by decide +kernel
theorem dX1_add_42 : decode cX1_add 42 = .ok (.aload_n 0, 1) := by decide +kernel
theorem dX1_add_43 : decode cX1_add 43 = .ok (.getfield 16, 3) := by decide +kernel
theorem dX1_add_46 : decode cX1_add 46 = .ok (.aload_n 0, 1) := by decide +kernel
theorem dX1_add_47 : decode cX1_add 47 = .ok (.getfield 30, 3) := by decide +kernel
theorem dX1_add_50 : decode cX1_add 50 = .ok (.iload_n 3, 1) := by decide +kernel
theorem dX1_add_51 : decode cX1_add 51 = .ok (.iastore, 1) := by decide +kernel
theorem dX1_add_52 : decode cX1_add 52 = .ok (.aload_n 0, 1) := by decide +kernel
theorem dX1_add_53 : decode cX1_add 53 = .ok (.getfield 19, 3) := by decide +kernel
theorem dX1_add_56 : decode cX1_add 56 = .ok (.aload_n 0, 1) := by decide +kernel
theorem dX1_add_57 : decode cX1_add 57 = .ok (.getfield 30, 3) := by decide +kernel
theorem dX1_add_60 : decode cX1_add 60 = .ok (.iload 4, 2) := by decide +kernel
theorem dX1_add_62 : decode cX1_add 62 = .ok (.iastore, 1) := by decide +kernel
theorem dX1_add_63 : decode cX1_add 63 = .ok (.aload_n 0, 1) := by decide +kernel
theorem dX1_add_64 : decode cX1_add 64 = .ok (.getfield 22, 3) := by decide +kernel
theorem dX1_add_67 : decode cX1_add 67 = .ok (.aload_n 0, 1) := by decide +kernel
theorem dX1_add_68 : decode cX1_add 68 = .ok (.getfield 30, 3) := by decide +kernel
theorem dX1_add_71 : decode cX1_add 71 = .ok (.iload 5, 2) := by decide +kernel
theorem dX1_add_73 : decode cX1_add 73 = .ok (.bastore, 1) := by decide +kernel
theorem dX1_add_74 : decode cX1_add 74 = .ok (.aload_n 0, 1) := by decide +kernel
theorem dX1_add_75 : decode cX1_add 75 = .ok (.dup, 1) := by decide +kernel
theorem dX1_add_76 : decode cX1_add 76 = .ok (.getfield 30, 3) := by decide +kernel
theorem dX1_add_79 : decode cX1_add 79 = .ok (.iconst 1, 1) := by decide +kernel
theorem dX1_add_80 : decode cX1_add 80 = .ok (.iadd, 1) := by decide +kernel
theorem dX1_add_81 : decode cX1_add 81 = .ok (.putfield 30, 3) := by decide +kernel
theorem dX1_add_84 : decode cX1_add 84 = .ok (.aload_n 0, 1) := by decide +kernel
theorem dX1_add_85 : decode cX1_add 85 = .ok (.getfield 30, 3) := by decide +kernel
theorem dX1_add_88 : decode cX1_add 88 = .ok (.ireturn, 1) := by decide +kernel
abbrev cX1_bad : ByteArray := prog_3_method_2_code
def yX1_bad : MethodName := ⟨RX1, "bad", "(IIII)Z"⟩
theorem dX1_bad_0 : decode cX1_bad 0 = .ok (.iload_n 0, 1) := by decide +kernel
theorem dX1_bad_1 : decode cX1_bad 1 = .ok (.bipush (-9), 2) := by decide +kernel
theorem dX1_bad_3 : decode cX1_bad 3 = .ok (.if_icmp .lt 45, 3) := by decide +kernel
theorem dX1_bad_6 : decode cX1_bad 6 = .ok (.iload_n 0, 1) := by decide +kernel
theorem dX1_bad_7 : decode cX1_bad 7 = .ok (.bipush 9, 2) := by decide +kernel
theorem dX1_bad_9 : decode cX1_bad 9 = .ok (.if_icmp .gt 39, 3) := by decide +kernel
theorem dX1_bad_12 : decode cX1_bad 12 = .ok (.iload_n 1, 1) := by decide +kernel
theorem dX1_bad_13 : decode cX1_bad 13 = .ok (.bipush (-9), 2) := by decide +kernel
theorem dX1_bad_15 : decode cX1_bad 15 = .ok (.if_icmp .lt 33, 3) := by decide +kernel
theorem dX1_bad_18 : decode cX1_bad 18 = .ok (.iload_n 1, 1) := by decide +kernel
theorem dX1_bad_19 : decode cX1_bad 19 = .ok (.bipush 9, 2) := by decide +kernel
theorem dX1_bad_21 : decode cX1_bad 21 = .ok (.if_icmp .gt 27, 3) := by decide +kernel
theorem dX1_bad_24 : decode cX1_bad 24 = .ok (.iload_n 2, 1) := by decide +kernel
theorem dX1_bad_25 : decode cX1_bad 25 = .ok (.bipush (-9), 2) := by decide +kernel
theorem dX1_bad_27 : decode cX1_bad 27 = .ok (.if_icmp .lt 21, 3) := by decide +kernel
theorem dX1_bad_30 : decode cX1_bad 30 = .ok (.iload_n 2, 1) := by decide +kernel
theorem dX1_bad_31 : decode cX1_bad 31 = .ok (.bipush 9, 2) := by decide +kernel
theorem dX1_bad_33 : decode cX1_bad 33 = .ok (.if_icmp .gt 15, 3) := by decide +kernel
theorem dX1_bad_36 : decode cX1_bad 36 = .ok (.iload_n 3, 1) := by decide +kernel
theorem dX1_bad_37 : decode cX1_bad 37 = .ok (.bipush (-99), 2) := by decide +kernel
theorem dX1_bad_39 : decode cX1_bad 39 = .ok (.if_icmp .lt 9, 3) := by decide +kernel
theorem dX1_bad_42 : decode cX1_bad 42 = .ok (.iload_n 3, 1) := by decide +kernel
theorem dX1_bad_43 : decode cX1_bad 43 = .ok (.bipush 99, 2) := by decide +kernel
theorem dX1_bad_45 : decode cX1_bad 45 = .ok (.if_icmp .le 7, 3) := by decide +kernel
theorem dX1_bad_48 : decode cX1_bad 48 = .ok (.iconst 1, 1) := by decide +kernel
theorem dX1_bad_49 : decode cX1_bad 49 = .ok (.goto 4, 3) := by decide +kernel
theorem dX1_bad_52 : decode cX1_bad 52 = .ok (.iconst 0, 1) := by decide +kernel
theorem dX1_bad_53 : decode cX1_bad 53 = .ok (.ireturn, 1) := by decide +kernel
abbrev cX1_drop : ByteArray := prog_3_method_4_code
def yX1_drop : MethodName := ⟨RX1, "drop", "(I)I"⟩
theorem dX1_drop_0 : decode cX1_drop 0 = .ok (.iload_n 1, 1) := by decide +kernel
theorem dX1_drop_1 : decode cX1_drop 1 = .ok (.ifCond .lt 11, 3) := by decide +kernel
theorem dX1_drop_4 : decode cX1_drop 4 = .ok (.iload_n 1, 1) := by decide +kernel
theorem dX1_drop_5 : decode cX1_drop 5 = .ok (.aload_n 0, 1) := by decide +kernel
theorem dX1_drop_6 : decode cX1_drop 6 = .ok (.getfield 30, 3) := by decide +kernel
theorem dX1_drop_9 : decode cX1_drop 9 = .ok (.if_icmp .lt 5, 3) := by decide +kernel
theorem dX1_drop_12 : decode cX1_drop 12 = .ok (.iconst (-1), 1) := by decide +kernel
theorem dX1_drop_13 : decode cX1_drop 13 = .ok (.ireturn, 1) := by decide +kernel
theorem dX1_drop_14 : decode cX1_drop 14 = .ok (.aload_n 0, 1) := by decide +kernel
theorem dX1_drop_15 : decode cX1_drop 15 = .ok (.dup, 1) := by decide +kernel
theorem dX1_drop_16 : decode cX1_drop 16 = .ok (.getfield 30, 3) := by decide +kernel
theorem dX1_drop_19 : decode cX1_drop 19 = .ok (.iconst 1, 1) := by decide +kernel
theorem dX1_drop_20 : decode cX1_drop 20 = .ok (.isub, 1) := by decide +kernel
theorem dX1_drop_21 : decode cX1_drop 21 = .ok (.putfield 30, 3) := by decide +kernel
theorem dX1_drop_24 : decode cX1_drop 24 = .ok (.iload_n 1, 1) := by decide +kernel
theorem dX1_drop_25 : decode cX1_drop 25 = .ok (.istore_n 2, 1) := by decide +kernel
theorem dX1_drop_26 : decode cX1_drop 26 = .ok (.iload_n 2, 1) := by decide +kernel
theorem dX1_drop_27 : decode cX1_drop 27 = .ok (.aload_n 0, 1) := by decide +kernel
theorem dX1_drop_28 : decode cX1_drop 28 = .ok (.getfield 30, 3) := by decide +kernel
theorem dX1_drop_31 : decode cX1_drop 31 = .ok (.if_icmp .ge 79, 3) := by decide +kernel
theorem dX1_drop_34 : decode cX1_drop 34 = .ok (.aload_n 0, 1) := by decide +kernel
theorem dX1_drop_35 : decode cX1_drop 35 = .ok (.getfield 7, 3) := by decide +kernel
theorem dX1_drop_38 : decode cX1_drop 38 = .ok (.iload_n 2, 1) := by decide +kernel
theorem dX1_drop_39 : decode cX1_drop 39 = .ok (.aload_n 0, 1) := by decide +kernel
theorem dX1_drop_40 : decode cX1_drop 40 = .ok (.getfield 7, 3) := by decide +kernel
theorem dX1_drop_43 : decode cX1_drop 43 = .ok (.iload_n 2, 1) := by decide +kernel
theorem dX1_drop_44 : decode cX1_drop 44 = .ok (.iconst 1, 1) := by decide +kernel
theorem dX1_drop_45 : decode cX1_drop 45 = .ok (.iadd, 1) := by decide +kernel
theorem dX1_drop_46 : decode cX1_drop 46 = .ok (.iaload, 1) := by decide +kernel
theorem dX1_drop_47 : decode cX1_drop 47 = .ok (.iastore, 1) := by decide +kernel
theorem dX1_drop_48 : decode cX1_drop 48 = .ok (.aload_n 0, 1) := by decide +kernel
theorem dX1_drop_49 : decode cX1_drop 49 = .ok (.getfield 13, 3) := by decide +kernel
theorem dX1_drop_52 : decode cX1_drop 52 = .ok (.iload_n 2, 1) := by decide +kernel
theorem dX1_drop_53 : decode cX1_drop 53 = .ok (.aload_n 0, 1) := by decide +kernel
theorem dX1_drop_54 : decode cX1_drop 54 = .ok (.getfield 13, 3) := by decide +kernel
theorem dX1_drop_57 : decode cX1_drop 57 = .ok (.iload_n 2, 1) := by decide +kernel
theorem dX1_drop_58 : decode cX1_drop 58 = .ok (.iconst 1, 1) := by decide +kernel
theorem dX1_drop_59 : decode cX1_drop 59 = .ok (.iadd, 1) := by decide +kernel
theorem dX1_drop_60 : decode cX1_drop 60 = .ok (.iaload, 1) := by decide +kernel
theorem dX1_drop_61 : decode cX1_drop 61 = .ok (.iastore, 1) := by decide +kernel
theorem dX1_drop_62 : decode cX1_drop 62 = .ok (.aload_n 0, 1) := by decide +kernel
theorem dX1_drop_63 : decode cX1_drop 63 = .ok (.getfield 16, 3) := by decide +kernel
theorem dX1_drop_66 : decode cX1_drop 66 = .ok (.iload_n 2, 1) := by decide +kernel
theorem dX1_drop_67 : decode cX1_drop 67 = .ok (.aload_n 0, 1) := by decide +kernel
theorem dX1_drop_68 : decode cX1_drop 68 = .ok (.getfield 16, 3) := by decide +kernel
theorem dX1_drop_71 : decode cX1_drop 71 = .ok (.iload_n 2, 1) := by decide +kernel
theorem dX1_drop_72 : decode cX1_drop 72 = .ok (.iconst 1, 1) := by decide +kernel
theorem dX1_drop_73 : decode cX1_drop 73 = .ok (.iadd, 1) := by decide +kernel
theorem dX1_drop_74 : decode cX1_drop 74 = .ok (.iaload, 1) := by decide +kernel
theorem dX1_drop_75 : decode cX1_drop 75 = .ok (.iastore, 1) := by decide +kernel
theorem dX1_drop_76 : decode cX1_drop 76 = .ok (.aload_n 0, 1) := by decide +kernel
theorem dX1_drop_77 : decode cX1_drop 77 = .ok (.getfield 19, 3) := by decide +kernel
theorem dX1_drop_80 : decode cX1_drop 80 = .ok (.iload_n 2, 1) := by decide +kernel
theorem dX1_drop_81 : decode cX1_drop 81 = .ok (.aload_n 0, 1) := by decide +kernel
theorem dX1_drop_82 : decode cX1_drop 82 = .ok (.getfield 19, 3) := by decide +kernel
theorem dX1_drop_85 : decode cX1_drop 85 = .ok (.iload_n 2, 1) := by decide +kernel
theorem dX1_drop_86 : decode cX1_drop 86 = .ok (.iconst 1, 1) := by decide +kernel
theorem dX1_drop_87 : decode cX1_drop 87 = .ok (.iadd, 1) := by decide +kernel
theorem dX1_drop_88 : decode cX1_drop 88 = .ok (.iaload, 1) := by decide +kernel
theorem dX1_drop_89 : decode cX1_drop 89 = .ok (.iastore, 1) := by decide +kernel
theorem dX1_drop_90 : decode cX1_drop 90 = .ok (.aload_n 0, 1) := by decide +kernel
theorem dX1_drop_91 : decode cX1_drop 91 = .ok (.getfield 22, 3) := by decide +kernel
theorem dX1_drop_94 : decode cX1_drop 94 = .ok (.iload_n 2, 1) := by decide +kernel
theorem dX1_drop_95 : decode cX1_drop 95 = .ok (.aload_n 0, 1) := by decide +kernel
theorem dX1_drop_96 : decode cX1_drop 96 = .ok (.getfield 22, 3) := by decide +kernel
theorem dX1_drop_99 : decode cX1_drop 99 = .ok (.iload_n 2, 1) := by decide +kernel
theorem dX1_drop_100 : decode cX1_drop 100 = .ok (.iconst 1, 1) := by decide +kernel
theorem dX1_drop_101 : decode cX1_drop 101 = .ok (.iadd, 1) := by decide +kernel
theorem dX1_drop_102 : decode cX1_drop 102 = .ok (.baload, 1) := by decide +kernel
theorem dX1_drop_103 : decode cX1_drop 103 = .ok (.bastore, 1) := by decide +kernel
theorem dX1_drop_104 : decode cX1_drop 104 = .ok (.iinc 2 1, 3) := by decide +kernel
theorem dX1_drop_107 : decode cX1_drop 107 = .ok (.goto (-81), 3) := by decide +kernel
theorem dX1_drop_110 : decode cX1_drop 110 = .ok (.aload_n 0, 1) := by decide +kernel
theorem dX1_drop_111 : decode cX1_drop 111 = .ok (.getfield 30, 3) := by decide +kernel
theorem dX1_drop_114 : decode cX1_drop 114 = .ok (.ireturn, 1) := by decide +kernel
abbrev cX1_possible : ByteArray := prog_3_method_9_code
def yX1_possible : MethodName := ⟨RX1, "possible", "()I"⟩
theorem dX1_possible_0 : decode cX1_possible 0 = .ok (.aload_n 0, 1) := by decide +kernel
theorem dX1_possible_1 : decode cX1_possible 1 = .ok (.invokevirtual 45, 3) := by decide +kernel
theorem dX1_possible_4 : decode cX1_possible 4 = .ok (.ifCond .lt 7, 3) := by decide +kernel
theorem dX1_possible_7 : decode cX1_possible 7 = .ok (.iconst 1, 1) := by decide +kernel
theorem dX1_possible_8 : decode cX1_possible 8 = .ok (.goto 4, 3) := by decide +kernel
theorem dX1_possible_11 : decode cX1_possible 11 = .ok (.iconst 0, 1) := by decide +kernel
theorem dX1_possible_12 : decode cX1_possible 12 = .ok (.ireturn, 1) := by decide +kernel
abbrev cX1_firstRow : ByteArray := prog_3_method_8_code
def yX1_firstRow : MethodName := ⟨RX1, "firstRow", "()I"⟩
theorem dX1_firstRow_0 : decode cX1_firstRow 0 = .ok (.iconst 0, 1) := by decide +kernel
theorem dX1_firstRow_1 : decode cX1_firstRow 1 = .ok (.istore_n 1, 1) := by decide +kernel
theorem dX1_firstRow_2 : decode cX1_firstRow 2 = .ok (.iload_n 1, 1) := by decide +kernel
theorem dX1_firstRow_3 : decode cX1_firstRow 3 = .ok (.sipush 2197, 3) := by decide +kernel
theorem dX1_firstRow_6 : decode cX1_firstRow 6 = .ok (.if_icmp .ge 20, 3) := by decide +kernel
theorem dX1_firstRow_9 : decode cX1_firstRow 9 = .ok (.aload_n 0, 1) := by decide +kernel
theorem dX1_firstRow_10 : decode cX1_firstRow 10 = .ok (.iload_n 1, 1) := by decide +kernel
theorem dX1_firstRow_11 : decode cX1_firstRow 11 = .ok (.iconst (-1), 1) := by decide +kernel
theorem dX1_firstRow_12 : decode cX1_firstRow 12 = .ok (.invokevirtual 42, 3) := by decide +kernel
theorem dX1_firstRow_15 : decode cX1_firstRow 15 = .ok (.ifCond .eq 5, 3) := by decide +kernel
theorem dX1_firstRow_18 : decode cX1_firstRow 18 = .ok (.iload_n 1, 1) := by decide +kernel
theorem dX1_firstRow_19 : decode cX1_firstRow 19 = .ok (.ireturn, 1) := by decide +kernel
theorem dX1_firstRow_20 : decode cX1_firstRow 20 = .ok (.iinc 1 1, 3) := by decide +kernel
theorem dX1_firstRow_23 : decode cX1_firstRow 23 = .ok (.goto (-21), 3) := by decide +kernel
theorem dX1_firstRow_26 : decode cX1_firstRow 26 = .ok (.iconst (-1), 1) := by decide +kernel
theorem dX1_firstRow_27 : decode cX1_firstRow 27 = .ok (.ireturn, 1) := by decide +kernel
abbrev cX1_solves : ByteArray := prog_3_method_7_code
def yX1_solves : MethodName := ⟨RX1, "solves", "(II)Z"⟩
theorem dX1_solves_0 : decode cX1_solves 0 = .ok (.iconst 0, 1) := by decide +kernel
theorem dX1_solves_1 : decode cX1_solves 1 = .ok (.istore_n 3, 1) := by decide +kernel
theorem dX1_solves_2 : decode cX1_solves 2 = .ok (.iload_n 3, 1) := by decide +kernel
theorem dX1_solves_3 : decode cX1_solves 3 = .ok (.aload_n 0, 1) := by decide +kernel
theorem dX1_solves_4 : decode cX1_solves 4 = .ok (.getfield 30, 3) := by decide +kernel
theorem dX1_solves_7 : decode cX1_solves 7 = .ok (.if_icmp .ge 25, 3) := by decide +kernel
theorem dX1_solves_10 : decode cX1_solves 10 = .ok (.iload_n 3, 1) := by decide +kernel
theorem dX1_solves_11 : decode cX1_solves 11 = .ok (.iload_n 2, 1) := by decide +kernel
theorem dX1_solves_12 : decode cX1_solves 12 = .ok (.if_icmp .eq 14, 3) := by decide +kernel
theorem dX1_solves_15 : decode cX1_solves 15 = .ok (.aload_n 0, 1) := by decide +kernel
theorem dX1_solves_16 : decode cX1_solves 16 = .ok (.iload_n 1, 1) := by decide +kernel
theorem dX1_solves_17 : decode cX1_solves 17 = .ok (.iload_n 3, 1) := by decide +kernel
theorem dX1_solves_18 : decode cX1_solves 18 = .ok (.invokevirtual 38, 3) := by decide +kernel
theorem dX1_solves_21 : decode cX1_solves 21 = .ok (.ifCond .ne 5, 3) := by decide +kernel
theorem dX1_solves_24 : decode cX1_solves 24 = .ok (.iconst 0, 1) := by decide +kernel
theorem dX1_solves_25 : decode cX1_solves 25 = .ok (.ireturn, 1) := by decide +kernel
theorem dX1_solves_26 : decode cX1_solves 26 = .ok (.iinc 3 1, 3) := by decide +kernel
theorem dX1_solves_29 : decode cX1_solves 29 = .ok (.goto (-27), 3) := by decide +kernel
theorem dX1_solves_32 : decode cX1_solves 32 = .ok (.iconst 1, 1) := by decide +kernel
theorem dX1_solves_33 : decode cX1_solves 33 = .ok (.ireturn, 1) := by decide +kernel
abbrev cX1_meets : ByteArray := prog_3_method_6_code
def yX1_meets : MethodName := ⟨RX1, "meets", "(II)Z"⟩
theorem dX1_meets_0 : decode cX1_meets 0 = .ok (.aload_n 0, 1) := by decide +kernel
theorem dX1_meets_1 : decode cX1_meets 1 = .ok (.getfield 7, 3) := by decide +kernel
theorem dX1_meets_4 : decode cX1_meets 4 = .ok (.iload_n 2, 1) := by decide +kernel
theorem dX1_meets_5 : decode cX1_meets 5 = .ok (.iaload, 1) := by decide +kernel
theorem dX1_meets_6 : decode cX1_meets 6 = .ok (.iload_n 1, 1) := by decide +kernel
theorem dX1_meets_7 : decode cX1_meets 7 = .ok (.iconst 0, 1) := by decide +kernel
theorem dX1_meets_8 : decode cX1_meets 8 = .ok (.invokestatic 34, 3) := by decide +kernel
theorem dX1_meets_11 : decode cX1_meets 11 = .ok (.imul, 1) := by decide +kernel
theorem dX1_meets_12 : decode cX1_meets 12 = .ok (.aload_n 0, 1) := by decide +kernel
theorem dX1_meets_13 : decode cX1_meets 13 = .ok (.getfield 13, 3) := by decide +kernel
theorem dX1_meets_16 : decode cX1_meets 16 = .ok (.iload_n 2, 1) := by decide +kernel
theorem dX1_meets_17 : decode cX1_meets 17 = .ok (.iaload, 1) := by decide +kernel
theorem dX1_meets_18 : decode cX1_meets 18 = .ok (.iload_n 1, 1) := by decide +kernel
theorem dX1_meets_19 : decode cX1_meets 19 = .ok (.iconst 1, 1) := by decide +kernel
theorem dX1_meets_20 : decode cX1_meets 20 = .ok (.invokestatic 34, 3) := by decide +kernel
theorem dX1_meets_23 : decode cX1_meets 23 = .ok (.imul, 1) := by decide +kernel
theorem dX1_meets_24 : decode cX1_meets 24 = .ok (.iadd, 1) := by decide +kernel
theorem dX1_meets_25 : decode cX1_meets 25 = .ok (.aload_n 0, 1) := by decide +kernel
theorem dX1_meets_26 : decode cX1_meets 26 = .ok (.getfield 16, 3) := by decide +kernel
theorem dX1_meets_29 : decode cX1_meets 29 = .ok (.iload_n 2, 1) := by decide +kernel
theorem dX1_meets_30 : decode cX1_meets 30 = .ok (.iaload, 1) := by decide +kernel
theorem dX1_meets_31 : decode cX1_meets 31 = .ok (.iload_n 1, 1) := by decide +kernel
theorem dX1_meets_32 : decode cX1_meets 32 = .ok (.iconst 2, 1) := by decide +kernel
theorem dX1_meets_33 : decode cX1_meets 33 = .ok (.invokestatic 34, 3) := by decide +kernel
theorem dX1_meets_36 : decode cX1_meets 36 = .ok (.imul, 1) := by decide +kernel
theorem dX1_meets_37 : decode cX1_meets 37 = .ok (.iadd, 1) := by decide +kernel
theorem dX1_meets_38 : decode cX1_meets 38 = .ok (.istore_n 3, 1) := by decide +kernel
theorem dX1_meets_39 : decode cX1_meets 39 = .ok (.aload_n 0, 1) := by decide +kernel
theorem dX1_meets_40 : decode cX1_meets 40 = .ok (.getfield 22, 3) := by decide +kernel
theorem dX1_meets_43 : decode cX1_meets 43 = .ok (.iload_n 2, 1) := by decide +kernel
theorem dX1_meets_44 : decode cX1_meets 44 = .ok (.baload, 1) := by decide +kernel
theorem dX1_meets_45 : decode cX1_meets 45 = .ok (.ifCond .eq 21, 3) := by decide +kernel
theorem dX1_meets_48 : decode cX1_meets 48 = .ok (.iload_n 3, 1) := by decide +kernel
theorem dX1_meets_49 : decode cX1_meets 49 = .ok (.aload_n 0, 1) := by decide +kernel
theorem dX1_meets_50 : decode cX1_meets 50 = .ok (.getfield 19, 3) := by decide +kernel
theorem dX1_meets_53 : decode cX1_meets 53 = .ok (.iload_n 2, 1) := by decide +kernel
theorem dX1_meets_54 : decode cX1_meets 54 = .ok (.iaload, 1) := by decide +kernel
theorem dX1_meets_55 : decode cX1_meets 55 = .ok (.if_icmp .ne 7, 3) := by decide +kernel
theorem dX1_meets_58 : decode cX1_meets 58 = .ok (.iconst 1, 1) := by decide +kernel
theorem dX1_meets_59 : decode cX1_meets 59 = .ok (.goto 22, 3) := by decide +kernel
theorem dX1_meets_62 : decode cX1_meets 62 = .ok (.iconst 0, 1) := by decide +kernel
theorem dX1_meets_63 : decode cX1_meets 63 = .ok (.goto 18, 3) := by decide +kernel
theorem dX1_meets_66 : decode cX1_meets 66 = .ok (.iload_n 3, 1) := by decide +kernel
theorem dX1_meets_67 : decode cX1_meets 67 = .ok (.aload_n 0, 1) := by decide +kernel
theorem dX1_meets_68 : decode cX1_meets 68 = .ok (.getfield 19, 3) := by decide +kernel
theorem dX1_meets_71 : decode cX1_meets 71 = .ok (.iload_n 2, 1) := by decide +kernel
theorem dX1_meets_72 : decode cX1_meets 72 = .ok (.iaload, 1) := by decide +kernel
theorem dX1_meets_73 : decode cX1_meets 73 = .ok (.if_icmp .gt 7, 3) := by decide +kernel
theorem dX1_meets_76 : decode cX1_meets 76 = .ok (.iconst 1, 1) := by decide +kernel
theorem dX1_meets_77 : decode cX1_meets 77 = .ok (.goto 4, 3) := by decide +kernel
theorem dX1_meets_80 : decode cX1_meets 80 = .ok (.iconst 0, 1) := by decide +kernel
theorem dX1_meets_81 : decode cX1_meets 81 = .ok (.ireturn, 1) := by decide +kernel
abbrev cX1_valueOf : ByteArray := prog_3_method_5_code
def yX1_valueOf : MethodName := ⟨RX1, "valueOf", "(II)I"⟩
theorem dX1_valueOf_0 : decode cX1_valueOf 0 = .ok (.iload_n 1, 1) := by decide +kernel
theorem dX1_valueOf_1 : decode cX1_valueOf 1 = .ok (.ifCond .ne 11, 3) := by decide +kernel
theorem dX1_valueOf_4 : decode cX1_valueOf 4 = .ok (.iload_n 0, 1) := by decide +kernel
theorem dX1_valueOf_5 : decode cX1_valueOf 5 = .ok (.sipush 169, 3) := by decide +kernel
theorem dX1_valueOf_8 : decode cX1_valueOf 8 = .ok (.idiv, 1) := by decide +kernel
theorem dX1_valueOf_9 : decode cX1_valueOf 9 = .ok (.goto 22, 3) := by decide +kernel
theorem dX1_valueOf_12 : decode cX1_valueOf 12 = .ok (.iload_n 1, 1) := by decide +kernel
theorem dX1_valueOf_13 : decode cX1_valueOf 13 = .ok (.iconst 1, 1) := by decide +kernel
theorem dX1_valueOf_14 : decode cX1_valueOf 14 = .ok (.if_icmp .ne 13, 3) := by decide +kernel
theorem dX1_valueOf_17 : decode cX1_valueOf 17 = .ok (.iload_n 0, 1) := by decide +kernel
theorem dX1_valueOf_18 : decode cX1_valueOf 18 = .ok (.bipush 13, 2) := by decide +kernel
theorem dX1_valueOf_20 : decode cX1_valueOf 20 = .ok (.idiv, 1) := by decide +kernel
theorem dX1_valueOf_21 : decode cX1_valueOf 21 = .ok (.bipush 13, 2) := by decide +kernel
theorem dX1_valueOf_23 : decode cX1_valueOf 23 = .ok (.irem, 1) := by decide +kernel
theorem dX1_valueOf_24 : decode cX1_valueOf 24 = .ok (.goto 7, 3) := by decide +kernel
theorem dX1_valueOf_27 : decode cX1_valueOf 27 = .ok (.iload_n 0, 1) := by decide +kernel
theorem dX1_valueOf_28 : decode cX1_valueOf 28 = .ok (.bipush 13, 2) := by decide +kernel
theorem dX1_valueOf_30 : decode cX1_valueOf 30 = .ok (.irem, 1) := by decide +kernel
theorem dX1_valueOf_31 : decode cX1_valueOf 31 = .ok (.bipush 6, 2) := by decide +kernel
theorem dX1_valueOf_33 : decode cX1_valueOf 33 = .ok (.isub, 1) := by decide +kernel
theorem dX1_valueOf_34 : decode cX1_valueOf 34 = .ok (.ireturn, 1) := by decide +kernel
abbrev cX1_first : ByteArray := prog_3_method_11_code
def yX1_first : MethodName := ⟨RX1, "first", "(I)I"⟩
theorem dX1_first_0 : decode cX1_first 0 = .ok (.aload_n 0, 1) := by decide +kernel
theorem dX1_first_1 : decode cX1_first 1 = .ok (.invokevirtual 45, 3) := by decide +kernel
theorem dX1_first_4 : decode cX1_first 4 = .ok (.istore_n 2, 1) := by decide +kernel
theorem dX1_first_5 : decode cX1_first 5 = .ok (.iload_n 2, 1) := by decide +kernel
theorem dX1_first_6 : decode cX1_first 6 = .ok (.ifCond .lt 10, 3) := by decide +kernel
theorem dX1_first_9 : decode cX1_first 9 = .ok (.iload_n 1, 1) := by decide +kernel
theorem dX1_first_10 : decode cX1_first 10 = .ok (.invokestatic 49, 3) := by decide +kernel
theorem dX1_first_13 : decode cX1_first 13 = .ok (.ifCond .eq 8, 3) := by decide +kernel
theorem dX1_first_16 : decode cX1_first 16 = .ok (.bipush 100, 2) := by decide +kernel
theorem dX1_first_18 : decode cX1_first 18 = .ok (.goto 8, 3) := by decide +kernel
theorem dX1_first_21 : decode cX1_first 21 = .ok (.iload_n 2, 1) := by decide +kernel
theorem dX1_first_22 : decode cX1_first 22 = .ok (.iload_n 1, 1) := by decide +kernel
theorem dX1_first_23 : decode cX1_first 23 = .ok (.invokestatic 34, 3) := by decide +kernel
theorem dX1_first_26 : decode cX1_first 26 = .ok (.ireturn, 1) := by decide +kernel
abbrev cX1_noPlace : ByteArray := prog_3_method_10_code
def yX1_noPlace : MethodName := ⟨RX1, "noPlace", "(I)Z"⟩
theorem dX1_noPlace_0 : decode cX1_noPlace 0 = .ok (.iload_n 0, 1) := by decide +kernel
theorem dX1_noPlace_1 : decode cX1_noPlace 1 = .ok (.ifCond .lt 8, 3) := by decide +kernel
theorem dX1_noPlace_4 : decode cX1_noPlace 4 = .ok (.iload_n 0, 1) := by decide +kernel
theorem dX1_noPlace_5 : decode cX1_noPlace 5 = .ok (.iconst 2, 1) := by decide +kernel
theorem dX1_noPlace_6 : decode cX1_noPlace 6 = .ok (.if_icmp .le 7, 3) := by decide +kernel
theorem dX1_noPlace_9 : decode cX1_noPlace 9 = .ok (.iconst 1, 1) := by decide +kernel
theorem dX1_noPlace_10 : decode cX1_noPlace 10 = .ok (.goto 4, 3) := by decide +kernel
theorem dX1_noPlace_13 : decode cX1_noPlace 13 = .ok (.iconst 0, 1) := by decide +kernel
theorem dX1_noPlace_14 : decode cX1_noPlace 14 = .ok (.ireturn, 1) := by decide +kernel
abbrev cX1_extreme : ByteArray := prog_3_method_12_code
def yX1_extreme : MethodName := ⟨RX1, "extreme", "(IZ)I"⟩
theorem dX1_extreme_0 : decode cX1_extreme 0 = .ok (.iload_n 1, 1) := by decide +kernel
theorem dX1_extreme_1 : decode cX1_extreme 1 = .ok (.invokestatic 49, 3) := by decide +kernel
theorem dX1_extreme_4 : decode cX1_extreme 4 = .ok (.ifCond .eq 6, 3) := by decide +kernel
theorem dX1_extreme_7 : decode cX1_extreme 7 = .ok (.bipush 100, 2) := by decide +kernel
theorem dX1_extreme_9 : decode cX1_extreme 9 = .ok (.ireturn, 1) := by decide +kernel
theorem dX1_extreme_10 : decode cX1_extreme 10 = .ok (.bipush 100, 2) := by decide +kernel
theorem dX1_extreme_12 : decode cX1_extreme 12 = .ok (.istore_n 3, 1) := by decide +kernel
theorem dX1_extreme_13 : decode cX1_extreme 13 = .ok (.iconst 0, 1) := by decide +kernel
theorem dX1_extreme_14 : decode cX1_extreme 14 = .ok (.istore 4, 2) := by decide +kernel
theorem dX1_extreme_16 : decode cX1_extreme 16 = .ok (.iload 4, 2) := by decide +kernel
theorem dX1_extreme_18 : decode cX1_extreme 18 = .ok (.sipush 2197, 3) := by decide +kernel
theorem dX1_extreme_21 : decode cX1_extreme 21 = .ok (.if_icmp .ge 55, 3) := by decide +kernel
theorem dX1_extreme_24 : decode cX1_extreme 24 = .ok (.iload 4, 2) := by decide +kernel
theorem dX1_extreme_26 : decode cX1_extreme 26 = .ok (.iload_n 1, 1) := by decide +kernel
theorem dX1_extreme_27 : decode cX1_extreme 27 = .ok (.invokestatic 34, 3) := by decide +kernel
theorem dX1_extreme_30 : decode cX1_extreme 30 = .ok (.istore 5, 2) := by decide +kernel
theorem dX1_extreme_32 : decode cX1_extreme 32 = .ok (.aload_n 0, 1) := by decide +kernel
theorem dX1_extreme_33 : decode cX1_extreme 33 = .ok (.iload 4, 2) := by decide +kernel
theorem dX1_extreme_35 : decode cX1_extreme 35 = .ok (.iconst (-1), 1) := by decide +kernel
theorem dX1_extreme_36 : decode cX1_extreme 36 = .ok (.invokevirtual 42, 3) := by decide +kernel
theorem dX1_extreme_39 : decode cX1_extreme 39 = .ok (.ifCond .eq 31, 3) := by decide +kernel
theorem dX1_extreme_42 : decode cX1_extreme 42 = .ok (.iload_n 3, 1) := by decide +kernel
theorem dX1_extreme_43 : decode cX1_extreme 43 = .ok (.bipush 100, 2) := by decide +kernel
theorem dX1_extreme_45 : decode cX1_extreme 45 = .ok (.if_icmp .eq 22, 3) := by decide +kernel
theorem dX1_extreme_48 : decode cX1_extreme 48 = .ok (.iload_n 2, 1) := by decide +kernel
theorem dX1_extreme_49 : decode cX1_extreme 49 = .ok (.ifCond .eq 12, 3) := by decide +kernel
theorem dX1_extreme_52 : decode cX1_extreme 52 = .ok (.iload 5, 2) := by decide +kernel
theorem dX1_extreme_54 : decode cX1_extreme 54 = .ok (.iload_n 3, 1) := by decide +kernel
theorem dX1_extreme_55 : decode cX1_extreme 55 = .ok (.if_icmp .le 15, 3) := by decide +kernel
theorem dX1_extreme_58 : decode cX1_extreme 58 = .ok (.goto 9, 3) := by decide +kernel
theorem dX1_extreme_61 : decode cX1_extreme 61 = .ok (.iload 5, 2) := by decide +kernel
theorem dX1_extreme_63 : decode cX1_extreme 63 = .ok (.iload_n 3, 1) := by decide +kernel
theorem dX1_extreme_64 : decode cX1_extreme 64 = .ok (.if_icmp .ge 6, 3) := by decide +kernel
theorem dX1_extreme_67 : decode cX1_extreme 67 = .ok (.iload 5, 2) := by decide +kernel
theorem dX1_extreme_69 : decode cX1_extreme 69 = .ok (.istore_n 3, 1) := by decide +kernel
theorem dX1_extreme_70 : decode cX1_extreme 70 = .ok (.iinc 4 1, 3) := by decide +kernel
theorem dX1_extreme_73 : decode cX1_extreme 73 = .ok (.goto (-57), 3) := by decide +kernel
theorem dX1_extreme_76 : decode cX1_extreme 76 = .ok (.iload_n 3, 1) := by decide +kernel
theorem dX1_extreme_77 : decode cX1_extreme 77 = .ok (.ireturn, 1) := by decide +kernel
abbrev cX1_with : ByteArray := prog_3_method_13_code
def yX1_with : MethodName := ⟨RX1, "with", "(II)I"⟩
theorem dX1_with_0 : decode cX1_with 0 = .ok (.iload_n 1, 1) := by decide +kernel
theorem dX1_with_1 : decode cX1_with 1 = .ok (.invokestatic 49, 3) := by decide +kernel
theorem dX1_with_4 : decode cX1_with 4 = .ok (.ifCond .eq 5, 3) := by decide +kernel
theorem dX1_with_7 : decode cX1_with 7 = .ok (.iconst 0, 1) := by decide +kernel
theorem dX1_with_8 : decode cX1_with 8 = .ok (.ireturn, 1) := by decide +kernel
theorem dX1_with_9 : decode cX1_with 9 = .ok (.iconst 0, 1) := by decide +kernel
theorem dX1_with_10 : decode cX1_with 10 = .ok (.istore_n 3, 1) := by decide +kernel
theorem dX1_with_11 : decode cX1_with 11 = .ok (.iload_n 3, 1) := by decide +kernel
theorem dX1_with_12 : decode cX1_with 12 = .ok (.sipush 2197, 3) := by decide +kernel
theorem dX1_with_15 : decode cX1_with 15 = .ok (.if_icmp .ge 29, 3) := by decide +kernel
theorem dX1_with_18 : decode cX1_with 18 = .ok (.iload_n 3, 1) := by decide +kernel
theorem dX1_with_19 : decode cX1_with 19 = .ok (.iload_n 1, 1) := by decide +kernel
theorem dX1_with_20 : decode cX1_with 20 = .ok (.invokestatic 34, 3) := by decide +kernel
theorem dX1_with_23 : decode cX1_with 23 = .ok (.iload_n 2, 1) := by decide +kernel
theorem dX1_with_24 : decode cX1_with 24 = .ok (.if_icmp .ne 14, 3) := by decide +kernel
theorem dX1_with_27 : decode cX1_with 27 = .ok (.aload_n 0, 1) := by decide +kernel
theorem dX1_with_28 : decode cX1_with 28 = .ok (.iload_n 3, 1) := by decide +kernel
theorem dX1_with_29 : decode cX1_with 29 = .ok (.iconst (-1), 1) := by decide +kernel
theorem dX1_with_30 : decode cX1_with 30 = .ok (.invokevirtual 42, 3) := by decide +kernel
theorem dX1_with_33 : decode cX1_with 33 = .ok (.ifCond .eq 5, 3) := by decide +kernel
theorem dX1_with_36 : decode cX1_with 36 = .ok (.iconst 1, 1) := by decide +kernel
theorem dX1_with_37 : decode cX1_with 37 = .ok (.ireturn, 1) := by decide +kernel
theorem dX1_with_38 : decode cX1_with 38 = .ok (.iinc 3 1, 3) := by decide +kernel
theorem dX1_with_41 : decode cX1_with 41 = .ok (.goto (-30), 3) := by decide +kernel
theorem dX1_with_44 : decode cX1_with 44 = .ok (.iconst 0, 1) := by decide +kernel
theorem dX1_with_45 : decode cX1_with 45 = .ok (.ireturn, 1) := by decide +kernel
abbrev cX1_follows : ByteArray := prog_3_method_14_code
def yX1_follows : MethodName := ⟨RX1, "follows", "(IIII)I"⟩
theorem dX1_follows_0 : decode cX1_follows 0 = .ok (.iload_n 1, 1) := by decide +kernel
theorem dX1_follows_1 : decode cX1_follows 1 = .ok (.iload_n 2, 1) := by decide +kernel
theorem dX1_follows_2 : decode cX1_follows 2 = .ok (.iload_n 3, 1) := by decide +kernel
theorem dX1_follows_3 : decode cX1_follows 3 = .ok (.iload 4, 2) := by decide +kernel
theorem dX1_follows_5 : decode cX1_follows 5 = .ok (.invokestatic 26, 3) := by decide +kernel
theorem dX1_follows_8 : decode cX1_follows 8 = .ok (.ifCond .eq 5, 3) := by decide +kernel
theorem dX1_follows_11 : decode cX1_follows 11 = .ok (.iconst (-1), 1) := by decide +kernel
theorem dX1_follows_12 : decode cX1_follows 12 = .ok (.ireturn, 1) := by decide +kernel
theorem dX1_follows_13 : decode cX1_follows 13 = .ok (.iconst 0, 1) := by decide +kernel
theorem dX1_follows_14 : decode cX1_follows 14 = .ok (.istore 5, 2) := by decide +kernel
theorem dX1_follows_16 : decode cX1_follows 16 = .ok (.iload 5, 2) := by decide +kernel
theorem dX1_follows_18 : decode cX1_follows 18 = .ok (.sipush 2197, 3) := by decide +kernel
theorem dX1_follows_21 : decode cX1_follows 21 = .ok (.if_icmp .ge 56, 3) := by decide +kernel
theorem dX1_follows_24 : decode cX1_follows 24 = .ok (.iload_n 1, 1) := by decide +kernel
theorem dX1_follows_25 : decode cX1_follows 25 = .ok (.iload 5, 2) := by decide +kernel
theorem dX1_follows_27 : decode cX1_follows 27 = .ok (.iconst 0, 1) := by decide +kernel
theorem dX1_follows_28 : decode cX1_follows 28 = .ok (.invokestatic 34, 3) := by decide +kernel
theorem dX1_follows_31 : decode cX1_follows 31 = .ok (.imul, 1) := by decide +kernel
theorem dX1_follows_32 : decode cX1_follows 32 = .ok (.iload_n 2, 1) := by decide +kernel
theorem dX1_follows_33 : decode cX1_follows 33 = .ok (.iload 5, 2) := by decide +kernel
theorem dX1_follows_35 : decode cX1_follows 35 = .ok (.iconst 1, 1) := by decide +kernel
theorem dX1_follows_36 : decode cX1_follows 36 = .ok (.invokestatic 34, 3) := by decide +kernel
theorem dX1_follows_39 : decode cX1_follows 39 = .ok (.imul, 1) := by decide +kernel
theorem dX1_follows_40 : decode cX1_follows 40 = .ok (.iadd, 1) := by decide +kernel
theorem dX1_follows_41 : decode cX1_follows 41 = .ok (.iload_n 3, 1) := by decide +kernel
theorem dX1_follows_42 : decode cX1_follows 42 = .ok (.iload 5, 2) := by decide +kernel
theorem dX1_follows_44 : decode cX1_follows 44 = .ok (.iconst 2, 1) := by decide +kernel
theorem dX1_follows_45 : decode cX1_follows 45 = .ok (.invokestatic 34, 3) := by decide +kernel
theorem dX1_follows_48 : decode cX1_follows 48 = .ok (.imul, 1) := by decide +kernel
theorem dX1_follows_49 : decode cX1_follows 49 = .ok (.iadd, 1) := by decide +kernel
theorem dX1_follows_50 : decode cX1_follows 50 = .ok (.istore 6, 2) := by decide +kernel
theorem dX1_follows_52 : decode cX1_follows 52 = .ok (.iload 6, 2) := by decide +kernel
theorem dX1_follows_54 : decode cX1_follows 54 = .ok (.iload 4, 2) := by decide +kernel
theorem dX1_follows_56 : decode cX1_follows 56 = .ok (.if_icmp .le 15, 3) := by decide +kernel
theorem dX1_follows_59 : decode cX1_follows 59 = .ok (.aload_n 0, 1) := by decide +kernel
theorem dX1_follows_60 : decode cX1_follows 60 = .ok (.iload 5, 2) := by decide +kernel
theorem dX1_follows_62 : decode cX1_follows 62 = .ok (.iconst (-1), 1) := by decide +kernel
theorem dX1_follows_63 : decode cX1_follows 63 = .ok (.invokevirtual 42, 3) := by decide +kernel
theorem dX1_follows_66 : decode cX1_follows 66 = .ok (.ifCond .eq 5, 3) := by decide +kernel
theorem dX1_follows_69 : decode cX1_follows 69 = .ok (.iconst 0, 1) := by decide +kernel
theorem dX1_follows_70 : decode cX1_follows 70 = .ok (.ireturn, 1) := by decide +kernel
theorem dX1_follows_71 : decode cX1_follows 71 = .ok (.iinc 5 1, 3) := by decide +kernel
theorem dX1_follows_74 : decode cX1_follows 74 = .ok (.goto (-58), 3) := by decide +kernel
theorem dX1_follows_77 : decode cX1_follows 77 = .ok (.iconst 1, 1) := by decide +kernel
theorem dX1_follows_78 : decode cX1_follows 78 = .ok (.ireturn, 1) := by decide +kernel
abbrev cX1_spare : ByteArray := prog_3_method_16_code
def yX1_spare : MethodName := ⟨RX1, "spare", "()I"⟩
theorem dX1_spare_0 : decode cX1_spare 0 = .ok (.iconst 0, 1) := by decide +kernel
theorem dX1_spare_1 : decode cX1_spare 1 = .ok (.istore_n 1, 1) := by decide +kernel
theorem dX1_spare_2 : decode cX1_spare 2 = .ok (.iconst 0, 1) := by decide +kernel
theorem dX1_spare_3 : decode cX1_spare 3 = .ok (.istore_n 2, 1) := by decide +kernel
theorem dX1_spare_4 : decode cX1_spare 4 = .ok (.iload_n 2, 1) := by decide +kernel
theorem dX1_spare_5 : decode cX1_spare 5 = .ok (.aload_n 0, 1) := by decide +kernel
theorem dX1_spare_6 : decode cX1_spare 6 = .ok (.getfield 30, 3) := by decide +kernel
theorem dX1_spare_9 : decode cX1_spare 9 = .ok (.if_icmp .ge 20, 3) := by decide +kernel
theorem dX1_spare_12 : decode cX1_spare 12 = .ok (.aload_n 0, 1) := by decide +kernel
theorem dX1_spare_13 : decode cX1_spare 13 = .ok (.iload_n 2, 1) := by decide +kernel
theorem dX1_spare_14 : decode cX1_spare 14 = .ok (.invokevirtual 53, 3) := by decide +kernel
theorem dX1_spare_17 : decode cX1_spare 17 = .ok (.ifCond .eq 6, 3) := by decide +kernel
theorem dX1_spare_20 : decode cX1_spare 20 = .ok (.iinc 1 1, 3) := by decide +kernel
theorem dX1_spare_23 : decode cX1_spare 23 = .ok (.iinc 2 1, 3) := by decide +kernel
theorem dX1_spare_26 : decode cX1_spare 26 = .ok (.goto (-22), 3) := by decide +kernel
theorem dX1_spare_29 : decode cX1_spare 29 = .ok (.iload_n 1, 1) := by decide +kernel
theorem dX1_spare_30 : decode cX1_spare 30 = .ok (.ireturn, 1) := by decide +kernel
abbrev cX1_spared : ByteArray := prog_3_method_15_code
def yX1_spared : MethodName := ⟨RX1, "spared", "(I)Z"⟩
theorem dX1_spared_0 : decode cX1_spared 0 = .ok (.iconst 0, 1) := by decide +kernel
theorem dX1_spared_1 : decode cX1_spared 1 = .ok (.istore_n 2, 1) := by decide +kernel
theorem dX1_spared_2 : decode cX1_spared 2 = .ok (.iload_n 2, 1) := by decide +kernel
theorem dX1_spared_3 : decode cX1_spared 3 = .ok (.sipush 2197, 3) := by decide +kernel
theorem dX1_spared_6 : decode cX1_spared 6 = .ok (.if_icmp .ge 29, 3) := by decide +kernel
theorem dX1_spared_9 : decode cX1_spared 9 = .ok (.aload_n 0, 1) := by decide +kernel
theorem dX1_spared_10 : decode cX1_spared 10 = .ok (.iload_n 2, 1) := by decide +kernel
theorem dX1_spared_11 : decode cX1_spared 11 = .ok (.iload_n 1, 1) := by decide +kernel
theorem dX1_spared_12 : decode cX1_spared 12 = .ok (.invokevirtual 42, 3) := by decide +kernel
theorem dX1_spared_15 : decode cX1_spared 15 = .ok (.ifCond .eq 14, 3) := by decide +kernel
theorem dX1_spared_18 : decode cX1_spared 18 = .ok (.aload_n 0, 1) := by decide +kernel
theorem dX1_spared_19 : decode cX1_spared 19 = .ok (.iload_n 2, 1) := by decide +kernel
theorem dX1_spared_20 : decode cX1_spared 20 = .ok (.iload_n 1, 1) := by decide +kernel
theorem dX1_spared_21 : decode cX1_spared 21 = .ok (.invokevirtual 38, 3) := by decide +kernel
theorem dX1_spared_24 : decode cX1_spared 24 = .ok (.ifCond .ne 5, 3) := by decide +kernel
theorem dX1_spared_27 : decode cX1_spared 27 = .ok (.iconst 0, 1) := by decide +kernel
theorem dX1_spared_28 : decode cX1_spared 28 = .ok (.ireturn, 1) := by decide +kernel
theorem dX1_spared_29 : decode cX1_spared 29 = .ok (.iinc 2 1, 3) := by decide +kernel
theorem dX1_spared_32 : decode cX1_spared 32 = .ok (.goto (-30), 3) := by decide +kernel
theorem dX1_spared_35 : decode cX1_spared 35 = .ok (.iconst 1, 1) := by decide +kernel
theorem dX1_spared_36 : decode cX1_spared 36 = .ok (.ireturn, 1) := by decide +kernel
theorem q19 : (Jvm.Cond.initialized "OmegaDeskModel") ∈ lw_all := lw_g (lw_at lw_m0 2 rfl) rfl
theorem q164 : (Jvm.Cond.instantiable "OmegaDeskModel" (6 : Nat)) ∈ lw_all := lw_g (lw_at lw_m0 147 rfl) rfl
theorem q166 : (Jvm.Cond.instanceMethod ({ cls := "OmegaDeskModel", name := "<init>", desc := "()V" } : Jvm.MethodName)) ∈ lw_all := lw_g (lw_at lw_m0 149 rfl) rfl
theorem q167 : (Jvm.Cond.code ({ cls := "OmegaDeskModel", name := "<init>", desc := "()V" } : Jvm.MethodName) prog_3_method_1_code (1 : Nat) (Option.none : Option Jvm.ClassFile.FieldType)) ∈ lw_all := lw_g (lw_at lw_m0 150 rfl) rfl
theorem q168 : (Jvm.Cond.methodLink "OmegaDeskModel" (1 : Nat) ({ cls := "java/lang/Object", name := "<init>", desc := "()V" } : Jvm.MethodName)) ∈ lw_all := lw_g (lw_at lw_m0 151 rfl) rfl
theorem q169 : (Jvm.Cond.fieldLink "OmegaDeskModel" (30 : Nat) "OmegaDeskModel" "held" "I") ∈ lw_all := lw_g (lw_at lw_m0 152 rfl) rfl
theorem q170 : (Jvm.Cond.fieldLink "OmegaDeskModel" (7 : Nat) "OmegaDeskModel" "as" "[I") ∈ lw_all := lw_g (lw_at lw_m0 153 rfl) rfl
theorem q171 : (Jvm.Cond.fieldLink "OmegaDeskModel" (13 : Nat) "OmegaDeskModel" "bs" "[I") ∈ lw_all := lw_g (lw_at lw_m0 154 rfl) rfl
theorem q172 : (Jvm.Cond.fieldLink "OmegaDeskModel" (16 : Nat) "OmegaDeskModel" "cs" "[I") ∈ lw_all := lw_g (lw_at lw_m0 155 rfl) rfl
theorem q173 : (Jvm.Cond.fieldLink "OmegaDeskModel" (19 : Nat) "OmegaDeskModel" "ds" "[I") ∈ lw_all := lw_g (lw_at lw_m0 156 rfl) rfl
theorem q174 : (Jvm.Cond.fieldLink "OmegaDeskModel" (22 : Nat) "OmegaDeskModel" "equals" "[Z") ∈ lw_all := lw_g (lw_at lw_m0 157 rfl) rfl
theorem q175 : (Jvm.Cond.lays "OmegaDeskModel" "OmegaDeskModel" "held" "I") ∈ lw_all := lw_g (lw_at lw_m0 158 rfl) rfl
theorem q176 : (Jvm.Cond.soleField "OmegaDeskModel" "held") ∈ lw_all := lw_g (lw_at lw_m0 159 rfl) rfl
theorem q177 : (Jvm.Cond.laysFinal "OmegaDeskModel" "OmegaDeskModel" "as" "[I") ∈ lw_all := lw_g (lw_at lw_m0 160 rfl) rfl
theorem q178 : (Jvm.Cond.soleField "OmegaDeskModel" "as") ∈ lw_all := lw_g (lw_at lw_m0 161 rfl) rfl
theorem q179 : (Jvm.Cond.laysFinal "OmegaDeskModel" "OmegaDeskModel" "bs" "[I") ∈ lw_all := lw_g (lw_at lw_m0 162 rfl) rfl
theorem q180 : (Jvm.Cond.soleField "OmegaDeskModel" "bs") ∈ lw_all := lw_g (lw_at lw_m0 163 rfl) rfl
theorem q181 : (Jvm.Cond.laysFinal "OmegaDeskModel" "OmegaDeskModel" "cs" "[I") ∈ lw_all := lw_g (lw_at lw_m0 164 rfl) rfl
theorem q182 : (Jvm.Cond.soleField "OmegaDeskModel" "cs") ∈ lw_all := lw_g (lw_at lw_m0 165 rfl) rfl
theorem q183 : (Jvm.Cond.laysFinal "OmegaDeskModel" "OmegaDeskModel" "ds" "[I") ∈ lw_all := lw_g (lw_at lw_m0 166 rfl) rfl
theorem q184 : (Jvm.Cond.soleField "OmegaDeskModel" "ds") ∈ lw_all := lw_g (lw_at lw_m0 167 rfl) rfl
theorem q185 : (Jvm.Cond.laysFinal "OmegaDeskModel" "OmegaDeskModel" "equals" "[Z") ∈ lw_all := lw_g (lw_at lw_m0 168 rfl) rfl
theorem q186 : (Jvm.Cond.soleField "OmegaDeskModel" "equals") ∈ lw_all := lw_g (lw_at lw_m0 169 rfl) rfl
theorem q187 : (Jvm.Cond.superclass "OmegaDeskModel" "java/lang/Object") ∈ lw_all := lw_g (lw_at lw_m0 170 rfl) rfl
theorem q189 : (Jvm.Cond.instanceMethod ({ cls := "OmegaDeskModel", name := "add", desc := "(IIIIZ)I" } : Jvm.MethodName)) ∈ lw_all := lw_g (lw_at lw_m0 172 rfl) rfl
theorem q190 : (Jvm.Cond.selects "OmegaDeskModel" ({ cls := "OmegaDeskModel", name := "add", desc := "(IIIIZ)I" } : Jvm.MethodName) ({ cls := "OmegaDeskModel", name := "add", desc := "(IIIIZ)I" } : Jvm.MethodName)) ∈ lw_all := lw_g (lw_at lw_m0 173 rfl) rfl
theorem q191 : (Jvm.Cond.code ({ cls := "OmegaDeskModel", name := "add", desc := "(IIIIZ)I" } : Jvm.MethodName) prog_3_method_3_code (6 : Nat) (Option.some Jvm.ClassFile.FieldType.int)) ∈ lw_all := lw_g (lw_at lw_m0 174 rfl) rfl
theorem q192 : (Jvm.Cond.methodLink "OmegaDeskModel" (26 : Nat) ({ cls := "OmegaDeskModel", name := "bad", desc := "(IIII)Z" } : Jvm.MethodName)) ∈ lw_all := lw_g (lw_at lw_m0 175 rfl) rfl
theorem q193 : (Jvm.Cond.static ({ cls := "OmegaDeskModel", name := "bad", desc := "(IIII)Z" } : Jvm.MethodName)) ∈ lw_all := lw_g (lw_at lw_m0 176 rfl) rfl
theorem q194 : (Jvm.Cond.code ({ cls := "OmegaDeskModel", name := "bad", desc := "(IIII)Z" } : Jvm.MethodName) prog_3_method_2_code (4 : Nat) (Option.some Jvm.ClassFile.FieldType.boolean)) ∈ lw_all := lw_g (lw_at lw_m0 177 rfl) rfl
theorem q196 : (Jvm.Cond.instanceMethod ({ cls := "OmegaDeskModel", name := "drop", desc := "(I)I" } : Jvm.MethodName)) ∈ lw_all := lw_g (lw_at lw_m0 179 rfl) rfl
theorem q197 : (Jvm.Cond.selects "OmegaDeskModel" ({ cls := "OmegaDeskModel", name := "drop", desc := "(I)I" } : Jvm.MethodName) ({ cls := "OmegaDeskModel", name := "drop", desc := "(I)I" } : Jvm.MethodName)) ∈ lw_all := lw_g (lw_at lw_m0 180 rfl) rfl
theorem q198 : (Jvm.Cond.code ({ cls := "OmegaDeskModel", name := "drop", desc := "(I)I" } : Jvm.MethodName) prog_3_method_4_code (3 : Nat) (Option.some Jvm.ClassFile.FieldType.int)) ∈ lw_all := lw_g (lw_at lw_m0 181 rfl) rfl
theorem q200 : (Jvm.Cond.instanceMethod ({ cls := "OmegaDeskModel", name := "possible", desc := "()I" } : Jvm.MethodName)) ∈ lw_all := lw_g (lw_at lw_m0 183 rfl) rfl
theorem q201 : (Jvm.Cond.selects "OmegaDeskModel" ({ cls := "OmegaDeskModel", name := "possible", desc := "()I" } : Jvm.MethodName) ({ cls := "OmegaDeskModel", name := "possible", desc := "()I" } : Jvm.MethodName)) ∈ lw_all := lw_g (lw_at lw_m0 184 rfl) rfl
theorem q202 : (Jvm.Cond.code ({ cls := "OmegaDeskModel", name := "possible", desc := "()I" } : Jvm.MethodName) prog_3_method_9_code (1 : Nat) (Option.some Jvm.ClassFile.FieldType.int)) ∈ lw_all := lw_g (lw_at lw_m0 185 rfl) rfl
theorem q203 : (Jvm.Cond.methodLink "OmegaDeskModel" (45 : Nat) ({ cls := "OmegaDeskModel", name := "firstRow", desc := "()I" } : Jvm.MethodName)) ∈ lw_all := lw_g (lw_at lw_m0 186 rfl) rfl
theorem q204 : (Jvm.Cond.privateMethod ({ cls := "OmegaDeskModel", name := "firstRow", desc := "()I" } : Jvm.MethodName)) ∈ lw_tbl := lw_at lw_m0 187 rfl
theorem q205 : (Jvm.Cond.instanceMethod ({ cls := "OmegaDeskModel", name := "firstRow", desc := "()I" } : Jvm.MethodName)) ∈ lw_all := lw_g (lw_at lw_m0 188 rfl) rfl
theorem q206 : (Jvm.Cond.code ({ cls := "OmegaDeskModel", name := "firstRow", desc := "()I" } : Jvm.MethodName) prog_3_method_8_code (2 : Nat) (Option.some Jvm.ClassFile.FieldType.int)) ∈ lw_all := lw_g (lw_at lw_m0 189 rfl) rfl
theorem q207 : (Jvm.Cond.methodLink "OmegaDeskModel" (42 : Nat) ({ cls := "OmegaDeskModel", name := "solves", desc := "(II)Z" } : Jvm.MethodName)) ∈ lw_all := lw_g (lw_at lw_m0 190 rfl) rfl
theorem q208 : (Jvm.Cond.privateMethod ({ cls := "OmegaDeskModel", name := "solves", desc := "(II)Z" } : Jvm.MethodName)) ∈ lw_tbl := lw_at lw_m0 191 rfl
theorem q209 : (Jvm.Cond.instanceMethod ({ cls := "OmegaDeskModel", name := "solves", desc := "(II)Z" } : Jvm.MethodName)) ∈ lw_all := lw_g (lw_at lw_m0 192 rfl) rfl
theorem q210 : (Jvm.Cond.code ({ cls := "OmegaDeskModel", name := "solves", desc := "(II)Z" } : Jvm.MethodName) prog_3_method_7_code (4 : Nat) (Option.some Jvm.ClassFile.FieldType.boolean)) ∈ lw_all := lw_g (lw_at lw_m0 193 rfl) rfl
theorem q211 : (Jvm.Cond.methodLink "OmegaDeskModel" (38 : Nat) ({ cls := "OmegaDeskModel", name := "meets", desc := "(II)Z" } : Jvm.MethodName)) ∈ lw_all := lw_g (lw_at lw_m0 194 rfl) rfl
theorem q212 : (Jvm.Cond.privateMethod ({ cls := "OmegaDeskModel", name := "meets", desc := "(II)Z" } : Jvm.MethodName)) ∈ lw_tbl := lw_at lw_m0 195 rfl
theorem q213 : (Jvm.Cond.instanceMethod ({ cls := "OmegaDeskModel", name := "meets", desc := "(II)Z" } : Jvm.MethodName)) ∈ lw_all := lw_g (lw_at lw_m0 196 rfl) rfl
theorem q214 : (Jvm.Cond.code ({ cls := "OmegaDeskModel", name := "meets", desc := "(II)Z" } : Jvm.MethodName) prog_3_method_6_code (4 : Nat) (Option.some Jvm.ClassFile.FieldType.boolean)) ∈ lw_all := lw_g (lw_at lw_m0 197 rfl) rfl
theorem q215 : (Jvm.Cond.methodLink "OmegaDeskModel" (34 : Nat) ({ cls := "OmegaDeskModel", name := "valueOf", desc := "(II)I" } : Jvm.MethodName)) ∈ lw_all := lw_g (lw_at lw_m0 198 rfl) rfl
theorem q216 : (Jvm.Cond.static ({ cls := "OmegaDeskModel", name := "valueOf", desc := "(II)I" } : Jvm.MethodName)) ∈ lw_all := lw_g (lw_at lw_m0 199 rfl) rfl
theorem q217 : (Jvm.Cond.code ({ cls := "OmegaDeskModel", name := "valueOf", desc := "(II)I" } : Jvm.MethodName) prog_3_method_5_code (2 : Nat) (Option.some Jvm.ClassFile.FieldType.int)) ∈ lw_all := lw_g (lw_at lw_m0 200 rfl) rfl
theorem q219 : (Jvm.Cond.instanceMethod ({ cls := "OmegaDeskModel", name := "first", desc := "(I)I" } : Jvm.MethodName)) ∈ lw_all := lw_g (lw_at lw_m0 202 rfl) rfl
theorem q220 : (Jvm.Cond.selects "OmegaDeskModel" ({ cls := "OmegaDeskModel", name := "first", desc := "(I)I" } : Jvm.MethodName) ({ cls := "OmegaDeskModel", name := "first", desc := "(I)I" } : Jvm.MethodName)) ∈ lw_all := lw_g (lw_at lw_m0 203 rfl) rfl
theorem q221 : (Jvm.Cond.code ({ cls := "OmegaDeskModel", name := "first", desc := "(I)I" } : Jvm.MethodName) prog_3_method_11_code (3 : Nat) (Option.some Jvm.ClassFile.FieldType.int)) ∈ lw_all := lw_g (lw_at lw_m0 204 rfl) rfl
theorem q222 : (Jvm.Cond.methodLink "OmegaDeskModel" (49 : Nat) ({ cls := "OmegaDeskModel", name := "noPlace", desc := "(I)Z" } : Jvm.MethodName)) ∈ lw_all := lw_g (lw_at lw_m0 205 rfl) rfl
theorem q223 : (Jvm.Cond.static ({ cls := "OmegaDeskModel", name := "noPlace", desc := "(I)Z" } : Jvm.MethodName)) ∈ lw_all := lw_g (lw_at lw_m0 206 rfl) rfl
theorem q224 : (Jvm.Cond.code ({ cls := "OmegaDeskModel", name := "noPlace", desc := "(I)Z" } : Jvm.MethodName) prog_3_method_10_code (1 : Nat) (Option.some Jvm.ClassFile.FieldType.boolean)) ∈ lw_all := lw_g (lw_at lw_m0 207 rfl) rfl
theorem q226 : (Jvm.Cond.instanceMethod ({ cls := "OmegaDeskModel", name := "extreme", desc := "(IZ)I" } : Jvm.MethodName)) ∈ lw_all := lw_g (lw_at lw_m0 209 rfl) rfl
theorem q227 : (Jvm.Cond.selects "OmegaDeskModel" ({ cls := "OmegaDeskModel", name := "extreme", desc := "(IZ)I" } : Jvm.MethodName) ({ cls := "OmegaDeskModel", name := "extreme", desc := "(IZ)I" } : Jvm.MethodName)) ∈ lw_all := lw_g (lw_at lw_m0 210 rfl) rfl
theorem q228 : (Jvm.Cond.code ({ cls := "OmegaDeskModel", name := "extreme", desc := "(IZ)I" } : Jvm.MethodName) prog_3_method_12_code (6 : Nat) (Option.some Jvm.ClassFile.FieldType.int)) ∈ lw_all := lw_g (lw_at lw_m0 211 rfl) rfl
theorem q230 : (Jvm.Cond.instanceMethod ({ cls := "OmegaDeskModel", name := "with", desc := "(II)I" } : Jvm.MethodName)) ∈ lw_all := lw_g (lw_at lw_m0 213 rfl) rfl
theorem q231 : (Jvm.Cond.selects "OmegaDeskModel" ({ cls := "OmegaDeskModel", name := "with", desc := "(II)I" } : Jvm.MethodName) ({ cls := "OmegaDeskModel", name := "with", desc := "(II)I" } : Jvm.MethodName)) ∈ lw_all := lw_g (lw_at lw_m0 214 rfl) rfl
theorem q232 : (Jvm.Cond.code ({ cls := "OmegaDeskModel", name := "with", desc := "(II)I" } : Jvm.MethodName) prog_3_method_13_code (4 : Nat) (Option.some Jvm.ClassFile.FieldType.int)) ∈ lw_all := lw_g (lw_at lw_m0 215 rfl) rfl
theorem q234 : (Jvm.Cond.instanceMethod ({ cls := "OmegaDeskModel", name := "follows", desc := "(IIII)I" } : Jvm.MethodName)) ∈ lw_all := lw_g (lw_at lw_m0 217 rfl) rfl
theorem q235 : (Jvm.Cond.selects "OmegaDeskModel" ({ cls := "OmegaDeskModel", name := "follows", desc := "(IIII)I" } : Jvm.MethodName) ({ cls := "OmegaDeskModel", name := "follows", desc := "(IIII)I" } : Jvm.MethodName)) ∈ lw_all := lw_g (lw_at lw_m0 218 rfl) rfl
theorem q236 : (Jvm.Cond.code ({ cls := "OmegaDeskModel", name := "follows", desc := "(IIII)I" } : Jvm.MethodName) prog_3_method_14_code (7 : Nat) (Option.some Jvm.ClassFile.FieldType.int)) ∈ lw_all := lw_g (lw_at lw_m0 219 rfl) rfl
theorem q238 : (Jvm.Cond.instanceMethod ({ cls := "OmegaDeskModel", name := "spare", desc := "()I" } : Jvm.MethodName)) ∈ lw_all := lw_g (lw_at lw_m0 221 rfl) rfl
theorem q239 : (Jvm.Cond.selects "OmegaDeskModel" ({ cls := "OmegaDeskModel", name := "spare", desc := "()I" } : Jvm.MethodName) ({ cls := "OmegaDeskModel", name := "spare", desc := "()I" } : Jvm.MethodName)) ∈ lw_all := lw_g (lw_at lw_m0 222 rfl) rfl
theorem q240 : (Jvm.Cond.code ({ cls := "OmegaDeskModel", name := "spare", desc := "()I" } : Jvm.MethodName) prog_3_method_16_code (3 : Nat) (Option.some Jvm.ClassFile.FieldType.int)) ∈ lw_all := lw_g (lw_at lw_m0 223 rfl) rfl
theorem q241 : (Jvm.Cond.methodLink "OmegaDeskModel" (53 : Nat) ({ cls := "OmegaDeskModel", name := "spared", desc := "(I)Z" } : Jvm.MethodName)) ∈ lw_all := lw_g (lw_at lw_m0 224 rfl) rfl
theorem q242 : (Jvm.Cond.privateMethod ({ cls := "OmegaDeskModel", name := "spared", desc := "(I)Z" } : Jvm.MethodName)) ∈ lw_tbl := lw_at lw_m0 225 rfl
theorem q243 : (Jvm.Cond.instanceMethod ({ cls := "OmegaDeskModel", name := "spared", desc := "(I)Z" } : Jvm.MethodName)) ∈ lw_all := lw_g (lw_at lw_m0 226 rfl) rfl
theorem q244 : (Jvm.Cond.code ({ cls := "OmegaDeskModel", name := "spared", desc := "(I)Z" } : Jvm.MethodName) prog_3_method_15_code (3 : Nat) (Option.some Jvm.ClassFile.FieldType.boolean)) ∈ lw_all := lw_g (lw_at lw_m0 227 rfl) rfl
theorem in_X1 : ∀ w ∈ wsX10, w ∈ lw_all := lw_in wsX10 [175, 177, 179, 181, 183, 185] (by decide +kernel) (by decide +kernel)
end
section
/-! the law's own entry -/
set_option maxRecDepth 100000
abbrev cL_law : ByteArray := code
theorem dL_law_0 : decode cL_law 0 = .ok (.new 7, 3) := by decide +kernel
theorem dL_law_3 : decode cL_law 3 = .ok (.dup, 1) := by decide +kernel
theorem dL_law_4 : decode cL_law 4 = .ok (.invokespecial 9, 3) := by decide +kernel
theorem dL_law_7 : decode cL_law 7 = .ok (.astore_n 1, 1) := by decide +kernel
theorem dL_law_8 : decode cL_law 8 = .ok (.new 10, 3) := by decide +kernel
theorem dL_law_11 : decode cL_law 11 = .ok (.dup, 1) := by decide +kernel
theorem dL_law_12 : decode cL_law 12 = .ok (.invokespecial 12, 3) := by decide +kernel
theorem dL_law_15 : decode cL_law 15 = .ok (.astore_n 2, 1) := by decide +kernel
theorem dL_law_16 : decode cL_law 16 = .ok (.iconst 0, 1) := by decide +kernel
theorem dL_law_17 : decode cL_law 17 = .ok (.istore_n 3, 1) := by decide +kernel
theorem dL_law_18 : decode cL_law 18 = .ok (.iload_n 3, 1) := by decide +kernel
theorem dL_law_19 : decode cL_law 19 = .ok (.aload_n 0, 1) := by decide +kernel
theorem dL_law_20 : decode cL_law 20 = .ok (.arraylength, 1) := by decide +kernel
theorem dL_law_21 : decode cL_law 21 = .ok (.bipush 6, 2) := by decide +kernel
theorem dL_law_23 : decode cL_law 23 = .ok (.isub, 1) := by decide +kernel
theorem dL_law_24 : decode cL_law 24 = .ok (.if_icmp .gt 348, 3) := by decide +kernel
theorem dL_law_27 : decode cL_law 27 = .ok (.aload_n 0, 1) := by decide +kernel
theorem dL_law_28 : decode cL_law 28 = .ok (.iload_n 3, 1) := by decide +kernel
theorem dL_law_29 : decode cL_law 29 = .ok (.iaload, 1) := by decide +kernel
theorem dL_law_30 : decode cL_law 30 = .ok (.bipush 7, 2) := by decide +kernel
theorem dL_law_32 : decode cL_law 32 = .ok (.iand, 1) := by decide +kernel
theorem dL_law_33 : decode cL_law 33 = .ok (.tableswitch 333 0 7 #[47, 126, 149, 162, 185, 234, 267, 320], 47) := by decide +kernel
theorem dL_law_80 : decode cL_law 80 = .ok (.aload_n 1, 1) := by decide +kernel
theorem dL_law_81 : decode cL_law 81 = .ok (.aload_n 0, 1) := by decide +kernel
theorem dL_law_82 : decode cL_law 82 = .ok (.iload_n 3, 1) := by decide +kernel
theorem dL_law_83 : decode cL_law 83 = .ok (.iconst 1, 1) := by decide +kernel
theorem dL_law_84 : decode cL_law 84 = .ok (.iadd, 1) := by decide +kernel
theorem dL_law_85 : decode cL_law 85 = .ok (.iaload, 1) := by decide +kernel
theorem dL_law_86 : decode cL_law 86 = .ok (.aload_n 0, 1) := by decide +kernel
theorem dL_law_87 : decode cL_law 87 = .ok (.iload_n 3, 1) := by decide +kernel
theorem dL_law_88 : decode cL_law 88 = .ok (.iconst 2, 1) := by decide +kernel
theorem dL_law_89 : decode cL_law 89 = .ok (.iadd, 1) := by decide +kernel
theorem dL_law_90 : decode cL_law 90 = .ok (.iaload, 1) := by decide +kernel
theorem dL_law_91 : decode cL_law 91 = .ok (.aload_n 0, 1) := by decide +kernel
theorem dL_law_92 : decode cL_law 92 = .ok (.iload_n 3, 1) := by decide +kernel
theorem dL_law_93 : decode cL_law 93 = .ok (.iconst 3, 1) := by decide +kernel
theorem dL_law_94 : decode cL_law 94 = .ok (.iadd, 1) := by decide +kernel
theorem dL_law_95 : decode cL_law 95 = .ok (.iaload, 1) := by decide +kernel
theorem dL_law_96 : decode cL_law 96 = .ok (.aload_n 0, 1) := by decide +kernel
theorem dL_law_97 : decode cL_law 97 = .ok (.iload_n 3, 1) := by decide +kernel
theorem dL_law_98 : decode cL_law 98 = .ok (.iconst 4, 1) := by decide +kernel
theorem dL_law_99 : decode cL_law 99 = .ok (.iadd, 1) := by decide +kernel
theorem dL_law_100 : decode cL_law 100 = .ok (.iaload, 1) := by decide +kernel
theorem dL_law_101 : decode cL_law 101 = .ok (.aload_n 0, 1) := by decide +kernel
theorem dL_law_102 : decode cL_law 102 = .ok (.iload_n 3, 1) := by decide +kernel
theorem dL_law_103 : decode cL_law 103 = .ok (.iconst 5, 1) := by decide +kernel
theorem dL_law_104 : decode cL_law 104 = .ok (.iadd, 1) := by decide +kernel
theorem dL_law_105 : decode cL_law 105 = .ok (.iaload, 1) := by decide +kernel
theorem dL_law_106 : decode cL_law 106 = .ok (.ifCond .eq 7, 3) := by decide +kernel
theorem dL_law_109 : decode cL_law 109 = .ok (.iconst 1, 1) := by decide +kernel
theorem dL_law_110 : decode cL_law 110 = .ok (.goto 4, 3) := by decide +kernel
theorem dL_law_113 : decode cL_law 113 = .ok (.iconst 0, 1) := by decide +kernel
theorem dL_law_114 : decode cL_law 114 = .ok (.invokevirtual 13, 3) := by decide +kernel
theorem dL_law_117 : decode cL_law 117 = .ok (.aload_n 2, 1) := by decide +kernel
theorem dL_law_118 : decode cL_law 118 = .ok (.aload_n 0, 1) := by decide +kernel
theorem dL_law_119 : decode cL_law 119 = .ok (.iload_n 3, 1) := by decide +kernel
theorem dL_law_120 : decode cL_law 120 = .ok (.iconst 1, 1) := by decide +kernel
theorem dL_law_121 : decode cL_law 121 = .ok (.iadd, 1) := by decide +kernel
theorem dL_law_122 : decode cL_law 122 = .ok (.iaload, 1) := by decide +kernel
theorem dL_law_123 : decode cL_law 123 = .ok (.aload_n 0, 1) := by decide +kernel
theorem dL_law_124 : decode cL_law 124 = .ok (.iload_n 3, 1) := by decide +kernel
theorem dL_law_125 : decode cL_law 125 = .ok (.iconst 2, 1) := by decide +kernel
theorem dL_law_126 : decode cL_law 126 = .ok (.iadd, 1) := by decide +kernel
theorem dL_law_127 : decode cL_law 127 = .ok (.iaload, 1) := by decide +kernel
theorem dL_law_128 : decode cL_law 128 = .ok (.aload_n 0, 1) := by decide +kernel
theorem dL_law_129 : decode cL_law 129 = .ok (.iload_n 3, 1) := by decide +kernel
theorem dL_law_130 : decode cL_law 130 = .ok (.iconst 3, 1) := by decide +kernel
theorem dL_law_131 : decode cL_law 131 = .ok (.iadd, 1) := by decide +kernel
theorem dL_law_132 : decode cL_law 132 = .ok (.iaload, 1) := by decide +kernel
theorem dL_law_133 : decode cL_law 133 = .ok (.aload_n 0, 1) := by decide +kernel
theorem dL_law_134 : decode cL_law 134 = .ok (.iload_n 3, 1) := by decide +kernel
theorem dL_law_135 : decode cL_law 135 = .ok (.iconst 4, 1) := by decide +kernel
theorem dL_law_136 : decode cL_law 136 = .ok (.iadd, 1) := by decide +kernel
theorem dL_law_137 : decode cL_law 137 = .ok (.iaload, 1) := by decide +kernel
theorem dL_law_138 : decode cL_law 138 = .ok (.aload_n 0, 1) := by decide +kernel
theorem dL_law_139 : decode cL_law 139 = .ok (.iload_n 3, 1) := by decide +kernel
theorem dL_law_140 : decode cL_law 140 = .ok (.iconst 5, 1) := by decide +kernel
theorem dL_law_141 : decode cL_law 141 = .ok (.iadd, 1) := by decide +kernel
theorem dL_law_142 : decode cL_law 142 = .ok (.iaload, 1) := by decide +kernel
theorem dL_law_143 : decode cL_law 143 = .ok (.ifCond .eq 7, 3) := by decide +kernel
theorem dL_law_146 : decode cL_law 146 = .ok (.iconst 1, 1) := by decide +kernel
theorem dL_law_147 : decode cL_law 147 = .ok (.goto 4, 3) := by decide +kernel
theorem dL_law_150 : decode cL_law 150 = .ok (.iconst 0, 1) := by decide +kernel
theorem dL_law_151 : decode cL_law 151 = .ok (.invokevirtual 17, 3) := by decide +kernel
theorem dL_law_154 : decode cL_law 154 = .ok (.if_icmp .eq 212, 3) := by decide +kernel
theorem dL_law_157 : decode cL_law 157 = .ok (.iconst 0, 1) := by decide +kernel
theorem dL_law_158 : decode cL_law 158 = .ok (.ireturn, 1) := by decide +kernel
theorem dL_law_159 : decode cL_law 159 = .ok (.aload_n 1, 1) := by decide +kernel
theorem dL_law_160 : decode cL_law 160 = .ok (.aload_n 0, 1) := by decide +kernel
theorem dL_law_161 : decode cL_law 161 = .ok (.iload_n 3, 1) := by decide +kernel
theorem dL_law_162 : decode cL_law 162 = .ok (.iconst 1, 1) := by decide +kernel
theorem dL_law_163 : decode cL_law 163 = .ok (.iadd, 1) := by decide +kernel
theorem dL_law_164 : decode cL_law 164 = .ok (.iaload, 1) := by decide +kernel
theorem dL_law_165 : decode cL_law 165 = .ok (.invokevirtual 18, 3) := by decide +kernel
theorem dL_law_168 : decode cL_law 168 = .ok (.aload_n 2, 1) := by decide +kernel
theorem dL_law_169 : decode cL_law 169 = .ok (.aload_n 0, 1) := by decide +kernel
theorem dL_law_170 : decode cL_law 170 = .ok (.iload_n 3, 1) := by decide +kernel
theorem dL_law_171 : decode cL_law 171 = .ok (.iconst 1, 1) := by decide +kernel
theorem dL_law_172 : decode cL_law 172 = .ok (.iadd, 1) := by decide +kernel
theorem dL_law_173 : decode cL_law 173 = .ok (.iaload, 1) := by decide +kernel
theorem dL_law_174 : decode cL_law 174 = .ok (.invokevirtual 22, 3) := by decide +kernel
theorem dL_law_177 : decode cL_law 177 = .ok (.if_icmp .eq 189, 3) := by decide +kernel
theorem dL_law_180 : decode cL_law 180 = .ok (.iconst 0, 1) := by decide +kernel
theorem dL_law_181 : decode cL_law 181 = .ok (.ireturn, 1) := by decide +kernel
theorem dL_law_182 : decode cL_law 182 = .ok (.aload_n 1, 1) := by decide +kernel
theorem dL_law_183 : decode cL_law 183 = .ok (.invokevirtual 23, 3) := by decide +kernel
theorem dL_law_186 : decode cL_law 186 = .ok (.aload_n 2, 1) := by decide +kernel
theorem dL_law_187 : decode cL_law 187 = .ok (.invokevirtual 27, 3) := by decide +kernel
theorem dL_law_190 : decode cL_law 190 = .ok (.if_icmp .eq 176, 3) := by decide +kernel
theorem dL_law_193 : decode cL_law 193 = .ok (.iconst 0, 1) := by decide +kernel
theorem dL_law_194 : decode cL_law 194 = .ok (.ireturn, 1) := by decide +kernel
theorem dL_law_195 : decode cL_law 195 = .ok (.aload_n 1, 1) := by decide +kernel
theorem dL_law_196 : decode cL_law 196 = .ok (.aload_n 0, 1) := by decide +kernel
theorem dL_law_197 : decode cL_law 197 = .ok (.iload_n 3, 1) := by decide +kernel
theorem dL_law_198 : decode cL_law 198 = .ok (.iconst 1, 1) := by decide +kernel
theorem dL_law_199 : decode cL_law 199 = .ok (.iadd, 1) := by decide +kernel
theorem dL_law_200 : decode cL_law 200 = .ok (.iaload, 1) := by decide +kernel
theorem dL_law_201 : decode cL_law 201 = .ok (.invokevirtual 28, 3) := by decide +kernel
theorem dL_law_204 : decode cL_law 204 = .ok (.aload_n 2, 1) := by decide +kernel
theorem dL_law_205 : decode cL_law 205 = .ok (.aload_n 0, 1) := by decide +kernel
theorem dL_law_206 : decode cL_law 206 = .ok (.iload_n 3, 1) := by decide +kernel
theorem dL_law_207 : decode cL_law 207 = .ok (.iconst 1, 1) := by decide +kernel
theorem dL_law_208 : decode cL_law 208 = .ok (.iadd, 1) := by decide +kernel
theorem dL_law_209 : decode cL_law 209 = .ok (.iaload, 1) := by decide +kernel
theorem dL_law_210 : decode cL_law 210 = .ok (.invokevirtual 31, 3) := by decide +kernel
theorem dL_law_213 : decode cL_law 213 = .ok (.if_icmp .eq 153, 3) := by decide +kernel
theorem dL_law_216 : decode cL_law 216 = .ok (.iconst 0, 1) := by decide +kernel
theorem dL_law_217 : decode cL_law 217 = .ok (.ireturn, 1) := by decide +kernel
theorem dL_law_218 : decode cL_law 218 = .ok (.aload_n 1, 1) := by decide +kernel
theorem dL_law_219 : decode cL_law 219 = .ok (.aload_n 0, 1) := by decide +kernel
theorem dL_law_220 : decode cL_law 220 = .ok (.iload_n 3, 1) := by decide +kernel
theorem dL_law_221 : decode cL_law 221 = .ok (.iconst 1, 1) := by decide +kernel
theorem dL_law_222 : decode cL_law 222 = .ok (.iadd, 1) := by decide +kernel
theorem dL_law_223 : decode cL_law 223 = .ok (.iaload, 1) := by decide +kernel
theorem dL_law_224 : decode cL_law 224 = .ok (.aload_n 0, 1) := by decide +kernel
theorem dL_law_225 : decode cL_law 225 = .ok (.iload_n 3, 1) := by decide +kernel
theorem dL_law_226 : decode cL_law 226 = .ok (.iconst 2, 1) := by decide +kernel
theorem dL_law_227 : decode cL_law 227 = .ok (.iadd, 1) := by decide +kernel
theorem dL_law_228 : decode cL_law 228 = .ok (.iaload, 1) := by decide +kernel
theorem dL_law_229 : decode cL_law 229 = .ok (.ifCond .eq 7, 3) := by decide +kernel
theorem dL_law_232 : decode cL_law 232 = .ok (.iconst 1, 1) := by decide +kernel
theorem dL_law_233 : decode cL_law 233 = .ok (.goto 4, 3) := by decide +kernel
theorem dL_law_236 : decode cL_law 236 = .ok (.iconst 0, 1) := by decide +kernel
theorem dL_law_237 : decode cL_law 237 = .ok (.invokevirtual 32, 3) := by decide +kernel
theorem dL_law_240 : decode cL_law 240 = .ok (.aload_n 2, 1) := by decide +kernel
theorem dL_law_241 : decode cL_law 241 = .ok (.aload_n 0, 1) := by decide +kernel
theorem dL_law_242 : decode cL_law 242 = .ok (.iload_n 3, 1) := by decide +kernel
theorem dL_law_243 : decode cL_law 243 = .ok (.iconst 1, 1) := by decide +kernel
theorem dL_law_244 : decode cL_law 244 = .ok (.iadd, 1) := by decide +kernel
theorem dL_law_245 : decode cL_law 245 = .ok (.iaload, 1) := by decide +kernel
theorem dL_law_246 : decode cL_law 246 = .ok (.aload_n 0, 1) := by decide +kernel
theorem dL_law_247 : decode cL_law 247 = .ok (.iload_n 3, 1) := by decide +kernel
theorem dL_law_248 : decode cL_law 248 = .ok (.iconst 2, 1) := by decide +kernel
theorem dL_law_249 : decode cL_law 249 = .ok (.iadd, 1) := by decide +kernel
theorem dL_law_250 : decode cL_law 250 = .ok (.iaload, 1) := by decide +kernel
theorem dL_law_251 : decode cL_law 251 = .ok (.ifCond .eq 7, 3) := by decide +kernel
theorem dL_law_254 : decode cL_law 254 = .ok (.iconst 1, 1) := by decide +kernel
theorem dL_law_255 : decode cL_law 255 = .ok (.goto 4, 3) := by decide +kernel
theorem dL_law_258 : decode cL_law 258 = .ok (.iconst 0, 1) := by decide +kernel
theorem dL_law_259 : decode cL_law 259 = .ok (.invokevirtual 36, 3) := by decide +kernel
theorem dL_law_262 : decode cL_law 262 = .ok (.if_icmp .eq 104, 3) := by decide +kernel
theorem dL_law_265 : decode cL_law 265 = .ok (.iconst 0, 1) := by decide +kernel
theorem dL_law_266 : decode cL_law 266 = .ok (.ireturn, 1) := by decide +kernel
theorem dL_law_267 : decode cL_law 267 = .ok (.aload_n 1, 1) := by decide +kernel
theorem dL_law_268 : decode cL_law 268 = .ok (.aload_n 0, 1) := by decide +kernel
theorem dL_law_269 : decode cL_law 269 = .ok (.iload_n 3, 1) := by decide +kernel
theorem dL_law_270 : decode cL_law 270 = .ok (.iconst 1, 1) := by decide +kernel
theorem dL_law_271 : decode cL_law 271 = .ok (.iadd, 1) := by decide +kernel
theorem dL_law_272 : decode cL_law 272 = .ok (.iaload, 1) := by decide +kernel
theorem dL_law_273 : decode cL_law 273 = .ok (.aload_n 0, 1) := by decide +kernel
theorem dL_law_274 : decode cL_law 274 = .ok (.iload_n 3, 1) := by decide +kernel
theorem dL_law_275 : decode cL_law 275 = .ok (.iconst 2, 1) := by decide +kernel
theorem dL_law_276 : decode cL_law 276 = .ok (.iadd, 1) := by decide +kernel
theorem dL_law_277 : decode cL_law 277 = .ok (.iaload, 1) := by decide +kernel
theorem dL_law_278 : decode cL_law 278 = .ok (.invokevirtual 37, 3) := by decide +kernel
theorem dL_law_281 : decode cL_law 281 = .ok (.aload_n 2, 1) := by decide +kernel
theorem dL_law_282 : decode cL_law 282 = .ok (.aload_n 0, 1) := by decide +kernel
theorem dL_law_283 : decode cL_law 283 = .ok (.iload_n 3, 1) := by decide +kernel
theorem dL_law_284 : decode cL_law 284 = .ok (.iconst 1, 1) := by decide +kernel
theorem dL_law_285 : decode cL_law 285 = .ok (.iadd, 1) := by decide +kernel
theorem dL_law_286 : decode cL_law 286 = .ok (.iaload, 1) := by decide +kernel
theorem dL_law_287 : decode cL_law 287 = .ok (.aload_n 0, 1) := by decide +kernel
theorem dL_law_288 : decode cL_law 288 = .ok (.iload_n 3, 1) := by decide +kernel
theorem dL_law_289 : decode cL_law 289 = .ok (.iconst 2, 1) := by decide +kernel
theorem dL_law_290 : decode cL_law 290 = .ok (.iadd, 1) := by decide +kernel
theorem dL_law_291 : decode cL_law 291 = .ok (.iaload, 1) := by decide +kernel
theorem dL_law_292 : decode cL_law 292 = .ok (.invokevirtual 41, 3) := by decide +kernel
theorem dL_law_295 : decode cL_law 295 = .ok (.if_icmp .eq 71, 3) := by decide +kernel
theorem dL_law_298 : decode cL_law 298 = .ok (.iconst 0, 1) := by decide +kernel
theorem dL_law_299 : decode cL_law 299 = .ok (.ireturn, 1) := by decide +kernel
theorem dL_law_300 : decode cL_law 300 = .ok (.aload_n 1, 1) := by decide +kernel
theorem dL_law_301 : decode cL_law 301 = .ok (.aload_n 0, 1) := by decide +kernel
theorem dL_law_302 : decode cL_law 302 = .ok (.iload_n 3, 1) := by decide +kernel
theorem dL_law_303 : decode cL_law 303 = .ok (.iconst 1, 1) := by decide +kernel
theorem dL_law_304 : decode cL_law 304 = .ok (.iadd, 1) := by decide +kernel
theorem dL_law_305 : decode cL_law 305 = .ok (.iaload, 1) := by decide +kernel
theorem dL_law_306 : decode cL_law 306 = .ok (.aload_n 0, 1) := by decide +kernel
theorem dL_law_307 : decode cL_law 307 = .ok (.iload_n 3, 1) := by decide +kernel
theorem dL_law_308 : decode cL_law 308 = .ok (.iconst 2, 1) := by decide +kernel
theorem dL_law_309 : decode cL_law 309 = .ok (.iadd, 1) := by decide +kernel
theorem dL_law_310 : decode cL_law 310 = .ok (.iaload, 1) := by decide +kernel
theorem dL_law_311 : decode cL_law 311 = .ok (.aload_n 0, 1) := by decide +kernel
theorem dL_law_312 : decode cL_law 312 = .ok (.iload_n 3, 1) := by decide +kernel
theorem dL_law_313 : decode cL_law 313 = .ok (.iconst 3, 1) := by decide +kernel
theorem dL_law_314 : decode cL_law 314 = .ok (.iadd, 1) := by decide +kernel
theorem dL_law_315 : decode cL_law 315 = .ok (.iaload, 1) := by decide +kernel
theorem dL_law_316 : decode cL_law 316 = .ok (.aload_n 0, 1) := by decide +kernel
theorem dL_law_317 : decode cL_law 317 = .ok (.iload_n 3, 1) := by decide +kernel
theorem dL_law_318 : decode cL_law 318 = .ok (.iconst 4, 1) := by decide +kernel
theorem dL_law_319 : decode cL_law 319 = .ok (.iadd, 1) := by decide +kernel
theorem dL_law_320 : decode cL_law 320 = .ok (.iaload, 1) := by decide +kernel
theorem dL_law_321 : decode cL_law 321 = .ok (.invokevirtual 42, 3) := by decide +kernel
theorem dL_law_324 : decode cL_law 324 = .ok (.aload_n 2, 1) := by decide +kernel
theorem dL_law_325 : decode cL_law 325 = .ok (.aload_n 0, 1) := by decide +kernel
theorem dL_law_326 : decode cL_law 326 = .ok (.iload_n 3, 1) := by decide +kernel
theorem dL_law_327 : decode cL_law 327 = .ok (.iconst 1, 1) := by decide +kernel
theorem dL_law_328 : decode cL_law 328 = .ok (.iadd, 1) := by decide +kernel
theorem dL_law_329 : decode cL_law 329 = .ok (.iaload, 1) := by decide +kernel
theorem dL_law_330 : decode cL_law 330 = .ok (.aload_n 0, 1) := by decide +kernel
theorem dL_law_331 : decode cL_law 331 = .ok (.iload_n 3, 1) := by decide +kernel
theorem dL_law_332 : decode cL_law 332 = .ok (.iconst 2, 1) := by decide +kernel
theorem dL_law_333 : decode cL_law 333 = .ok (.iadd, 1) := by decide +kernel
theorem dL_law_334 : decode cL_law 334 = .ok (.iaload, 1) := by decide +kernel
theorem dL_law_335 : decode cL_law 335 = .ok (.aload_n 0, 1) := by decide +kernel
theorem dL_law_336 : decode cL_law 336 = .ok (.iload_n 3, 1) := by decide +kernel
theorem dL_law_337 : decode cL_law 337 = .ok (.iconst 3, 1) := by decide +kernel
theorem dL_law_338 : decode cL_law 338 = .ok (.iadd, 1) := by decide +kernel
theorem dL_law_339 : decode cL_law 339 = .ok (.iaload, 1) := by decide +kernel
theorem dL_law_340 : decode cL_law 340 = .ok (.aload_n 0, 1) := by decide +kernel
theorem dL_law_341 : decode cL_law 341 = .ok (.iload_n 3, 1) := by decide +kernel
theorem dL_law_342 : decode cL_law 342 = .ok (.iconst 4, 1) := by decide +kernel
theorem dL_law_343 : decode cL_law 343 = .ok (.iadd, 1) := by decide +kernel
theorem dL_law_344 : decode cL_law 344 = .ok (.iaload, 1) := by decide +kernel
theorem dL_law_345 : decode cL_law 345 = .ok (.invokevirtual 46, 3) := by decide +kernel
theorem dL_law_348 : decode cL_law 348 = .ok (.if_icmp .eq 18, 3) := by decide +kernel
theorem dL_law_351 : decode cL_law 351 = .ok (.iconst 0, 1) := by decide +kernel
theorem dL_law_352 : decode cL_law 352 = .ok (.ireturn, 1) := by decide +kernel
theorem dL_law_353 : decode cL_law 353 = .ok (.aload_n 1, 1) := by decide +kernel
theorem dL_law_354 : decode cL_law 354 = .ok (.invokevirtual 47, 3) := by decide +kernel
theorem dL_law_357 : decode cL_law 357 = .ok (.aload_n 2, 1) := by decide +kernel
theorem dL_law_358 : decode cL_law 358 = .ok (.invokevirtual 50, 3) := by decide +kernel
theorem dL_law_361 : decode cL_law 361 = .ok (.if_icmp .eq 5, 3) := by decide +kernel
theorem dL_law_364 : decode cL_law 364 = .ok (.iconst 0, 1) := by decide +kernel
theorem dL_law_365 : decode cL_law 365 = .ok (.ireturn, 1) := by decide +kernel
theorem dL_law_366 : decode cL_law 366 = .ok (.iinc 3 6, 3) := by decide +kernel
theorem dL_law_369 : decode cL_law 369 = .ok (.goto (-351), 3) := by decide +kernel
theorem dL_law_372 : decode cL_law 372 = .ok (.iconst 1, 1) := by decide +kernel
theorem dL_law_373 : decode cL_law 373 = .ok (.ireturn, 1) := by decide +kernel

theorem q17 : (Jvm.Cond.initialized "OmegaDeskLaw") ∈ lw_all := lw_g (lw_at lw_m0 0 rfl) rfl
theorem q20 : (Jvm.Cond.classLink "OmegaDeskLaw" (7 : Nat) "OmegaDesk") ∈ lw_all := lw_g (lw_at lw_m0 3 rfl) rfl
theorem q22 : (Jvm.Cond.methodLink "OmegaDeskLaw" (9 : Nat) ({ cls := "OmegaDesk", name := "<init>", desc := "()V" } : Jvm.MethodName)) ∈ lw_all := lw_g (lw_at lw_m0 5 rfl) rfl
theorem q67 : (Jvm.Cond.methodLink "OmegaDeskLaw" (13 : Nat) ({ cls := "OmegaDesk", name := "add", desc := "(IIIIZ)I" } : Jvm.MethodName)) ∈ lw_all := lw_g (lw_at lw_m0 50 rfl) rfl
theorem q74 : (Jvm.Cond.methodLink "OmegaDeskLaw" (18 : Nat) ({ cls := "OmegaDesk", name := "drop", desc := "(I)I" } : Jvm.MethodName)) ∈ lw_all := lw_g (lw_at lw_m0 57 rfl) rfl
theorem q78 : (Jvm.Cond.methodLink "OmegaDeskLaw" (23 : Nat) ({ cls := "OmegaDesk", name := "possible", desc := "()I" } : Jvm.MethodName)) ∈ lw_all := lw_g (lw_at lw_m0 61 rfl) rfl
theorem q135 : (Jvm.Cond.methodLink "OmegaDeskLaw" (28 : Nat) ({ cls := "OmegaDesk", name := "first", desc := "(I)I" } : Jvm.MethodName)) ∈ lw_all := lw_g (lw_at lw_m0 118 rfl) rfl
theorem q143 : (Jvm.Cond.methodLink "OmegaDeskLaw" (32 : Nat) ({ cls := "OmegaDesk", name := "extreme", desc := "(IZ)I" } : Jvm.MethodName)) ∈ lw_all := lw_g (lw_at lw_m0 126 rfl) rfl
theorem q147 : (Jvm.Cond.methodLink "OmegaDeskLaw" (37 : Nat) ({ cls := "OmegaDesk", name := "with", desc := "(II)I" } : Jvm.MethodName)) ∈ lw_all := lw_g (lw_at lw_m0 130 rfl) rfl
theorem q151 : (Jvm.Cond.methodLink "OmegaDeskLaw" (42 : Nat) ({ cls := "OmegaDesk", name := "follows", desc := "(IIII)I" } : Jvm.MethodName)) ∈ lw_all := lw_g (lw_at lw_m0 134 rfl) rfl
theorem q155 : (Jvm.Cond.methodLink "OmegaDeskLaw" (47 : Nat) ({ cls := "OmegaDesk", name := "spare", desc := "()I" } : Jvm.MethodName)) ∈ lw_all := lw_g (lw_at lw_m0 138 rfl) rfl
theorem q163 : (Jvm.Cond.classLink "OmegaDeskLaw" (10 : Nat) "OmegaDeskModel") ∈ lw_all := lw_g (lw_at lw_m0 146 rfl) rfl
theorem q165 : (Jvm.Cond.methodLink "OmegaDeskLaw" (12 : Nat) ({ cls := "OmegaDeskModel", name := "<init>", desc := "()V" } : Jvm.MethodName)) ∈ lw_all := lw_g (lw_at lw_m0 148 rfl) rfl
theorem q188 : (Jvm.Cond.methodLink "OmegaDeskLaw" (17 : Nat) ({ cls := "OmegaDeskModel", name := "add", desc := "(IIIIZ)I" } : Jvm.MethodName)) ∈ lw_all := lw_g (lw_at lw_m0 171 rfl) rfl
theorem q195 : (Jvm.Cond.methodLink "OmegaDeskLaw" (22 : Nat) ({ cls := "OmegaDeskModel", name := "drop", desc := "(I)I" } : Jvm.MethodName)) ∈ lw_all := lw_g (lw_at lw_m0 178 rfl) rfl
theorem q199 : (Jvm.Cond.methodLink "OmegaDeskLaw" (27 : Nat) ({ cls := "OmegaDeskModel", name := "possible", desc := "()I" } : Jvm.MethodName)) ∈ lw_all := lw_g (lw_at lw_m0 182 rfl) rfl
theorem q218 : (Jvm.Cond.methodLink "OmegaDeskLaw" (31 : Nat) ({ cls := "OmegaDeskModel", name := "first", desc := "(I)I" } : Jvm.MethodName)) ∈ lw_all := lw_g (lw_at lw_m0 201 rfl) rfl
theorem q225 : (Jvm.Cond.methodLink "OmegaDeskLaw" (36 : Nat) ({ cls := "OmegaDeskModel", name := "extreme", desc := "(IZ)I" } : Jvm.MethodName)) ∈ lw_all := lw_g (lw_at lw_m0 208 rfl) rfl
theorem q229 : (Jvm.Cond.methodLink "OmegaDeskLaw" (41 : Nat) ({ cls := "OmegaDeskModel", name := "with", desc := "(II)I" } : Jvm.MethodName)) ∈ lw_all := lw_g (lw_at lw_m0 212 rfl) rfl
theorem q233 : (Jvm.Cond.methodLink "OmegaDeskLaw" (46 : Nat) ({ cls := "OmegaDeskModel", name := "follows", desc := "(IIII)I" } : Jvm.MethodName)) ∈ lw_all := lw_g (lw_at lw_m0 216 rfl) rfl
theorem q237 : (Jvm.Cond.methodLink "OmegaDeskLaw" (50 : Nat) ({ cls := "OmegaDeskModel", name := "spare", desc := "()I" } : Jvm.MethodName)) ∈ lw_all := lw_g (lw_at lw_m0 220 rfl) rfl
end
section
set_option maxRecDepth 100000
abbrev vwCl : List vw_C := [(RX0, TX0, 12), (RX1, TX1, 6)]
/-- an Int32 by its integer -/
def iI (z : Int) : Int32 := Int32.ofInt z
abbrev Rg (z : Int) : Prop := -2147483648 ≤ z ∧ z < 2147483648
theorem iI_add (a b : Int) : iI a + iI b = iI (a + b) := (Int32.ofInt_add a b).symm
theorem iI_sub (a b : Int) : iI a - iI b = iI (a - b) := (Int32.ofInt_sub a b).symm
theorem iI_mul (a b : Int) : iI a * iI b = iI (a * b) := (Int32.ofInt_mul a b).symm
theorem iI_neg (a : Int) : -iI a = iI (-a) := (Int32.ofInt_neg a).symm
theorem iI_toInt {z : Int} (h : Rg z) : (iI z).toInt = z := Int32.toInt_ofInt_of_le (by have := h.1; omega) (by have := h.2; omega)
theorem iI_of (x : Int32) : iI x.toInt = x := Int32.ofInt_toInt x
theorem iI_rg (x : Int32) : Rg x.toInt := by
  have h1 := x.le_toInt
  have h2 := x.toInt_lt
  exact ⟨by omega, by omega⟩
theorem iI_lt {a b : Int} (ha : Rg a) (hb : Rg b) : iI a < iI b ↔ a < b := by rw [Int32.lt_iff_toInt_lt, iI_toInt ha, iI_toInt hb]
theorem iI_le {a b : Int} (ha : Rg a) (hb : Rg b) : iI a ≤ iI b ↔ a ≤ b := by rw [Int32.le_iff_toInt_le, iI_toInt ha, iI_toInt hb]
theorem iI_eq {a b : Int} (ha : Rg a) (hb : Rg b) : iI a = iI b ↔ a = b := by rw [← Int32.toInt_inj, iI_toInt ha, iI_toInt hb]
theorem iI_0 : iI 0 = 0 := by decide +kernel
theorem iI_nat (n : Nat) : iI (n : Int) = nI n := Int32.ofInt_eq_ofNat
theorem iI_tdiv {a b : Int} (ha : Rg a) (hb : Rg b) : iI a / iI b = iI (a.tdiv b) := by
  have h1 := Int32.toInt_minValue
  have h2 := Int32.toInt_maxValue
  exact (Int32.ofInt_tdiv (by rw [h1]; have := ha.1; omega) (by rw [h2]; have := ha.2; omega) (by rw [h1]; have := hb.1; omega) (by rw [h2]; have := hb.2; omega)).symm
theorem iI_tmod {a b : Int} (ha : Rg a) (hb : Rg b) : iI a - iI a / iI b * iI b = iI (a.tmod b) := by
  rw [iI_tdiv ha hb, iI_mul, iI_sub, Int.tmod_def, Int.mul_comm b]
theorem iI_ne0 {b : Int} (hb : Rg b) (h : b ≠ 0) : ¬ iI b = 0 := by
  rw [← iI_0, iI_eq hb ⟨by omega, by omega⟩]
  exact h
theorem iI_lt0 {a : Int} (ha : Rg a) : iI a < 0 ↔ a < 0 := by rw [← iI_0, iI_lt ha ⟨by omega, by omega⟩]
theorem iI_0le {a : Int} (ha : Rg a) : 0 ≤ iI a ↔ 0 ≤ a := by rw [← iI_0, iI_le ⟨by omega, by omega⟩ ha]
theorem iI_0lt {a : Int} (ha : Rg a) : 0 < iI a ↔ 0 < a := by rw [← iI_0, iI_lt ⟨by omega, by omega⟩ ha]
theorem iI_le0 {a : Int} (ha : Rg a) : iI a ≤ 0 ↔ a ≤ 0 := by rw [← iI_0, iI_le ha ⟨by omega, by omega⟩]
theorem iI_eq0 {a : Int} (ha : Rg a) : iI a = 0 ↔ a = 0 := by rw [← iI_0, iI_eq ha ⟨by omega, by omega⟩]
/-! the slots of a frame as a list of values; null: not known -/
def LV (ls : Array Slot) (nL : Nat) (lv : List Value) : Prop := ∃ l : List (Nat × Value), lv_has ls nL l ∧ (∀ q ∈ l, q.2.category = 1) ∧ ∀ (i : Nat) (v : Value), lv[i]? = some v → v ≠ .null → (i, v) ∈ l
theorem LV.size {ls : Array Slot} {nL : Nat} {lv : List Value} (h : LV ls nL lv) : ls.size = nL := by
  obtain ⟨l, h1, -⟩ := h
  exact h1.1
theorem LV.get {ls : Array Slot} {nL : Nat} {lv : List Value} (h : LV ls nL lv) {i : Nat} {v : Value} (hi : lv[i]? = some v) (hv : v ≠ .null) : ls[i]? = some (.val v) := by
  obtain ⟨l, h1, -, h3⟩ := h
  exact h1.2.2 (i, v) (h3 i v hi hv)
theorem LV.put {ls' : Array Slot} {nL : Nat} {lv : List Value} {l : List (Nat × Value)} {i : Nat} {v : Value} (h2 : ∀ q ∈ l, q.2.category = 1) (h3 : ∀ (i : Nat) (v : Value), lv[i]? = some v → v ≠ .null → (i, v) ∈ l) (hc : v.category = 1)
    (h : lv_has ls' nL ((i, v) :: l.filter (fun q => !(q.1 == i) && !(q.1 + 1 == i && q.2.category == 2)))) : LV ls' nL (lv.set i v) := by
  refine ⟨_, h, fun q hq => ?_, fun j x hj hx => ?_⟩
  · rcases List.mem_cons.mp hq with e | e
    · rw [e]; exact hc
    · exact h2 q (List.mem_filter.mp e).1
  · by_cases hji : j = i
    · subst hji
      rw [List.getElem?_set] at hj
      split at hj
      · split at hj
        · cases hj; exact List.mem_cons_self
        · cases hj
      · rename_i hne; exact absurd rfl hne
    · rw [List.getElem?_set_ne (fun e => hji e.symm)] at hj
      refine List.mem_cons_of_mem _ (List.mem_filter.mpr ⟨h3 j x hj hx, ?_⟩)
      have hcx := h2 _ (h3 j x hj hx)
      simp [hji, hcx]
theorem LV.weak {ls : Array Slot} {nL : Nat} {lv lv' : List Value} (h : LV ls nL lv) (hw : ∀ (i : Nat) (v : Value), lv'[i]? = some v → v ≠ .null → lv[i]? = some v) : LV ls nL lv' := by
  obtain ⟨l, h1, h2, h3⟩ := h
  exact ⟨l, h1, h2, fun i v hi hv => h3 i v (hw i v hi hv) hv⟩
theorem LV.forget {ls : Array Slot} {nL : Nat} {lv : List Value} (h : LV ls nL lv) (k : Nat) : LV ls nL (lv.set k .null) := by
  refine h.weak fun i v hi hv => ?_
  rw [List.getElem?_set] at hi
  split at hi
  · split at hi
    · cases hi; exact absurd rfl hv
    · cases hi
  · exact hi
theorem lv_args_mem : ∀ (vs : List Value) (k : Nat), (∀ v ∈ vs, v.category = 1) → ∀ (i : Nat) (v : Value), vs[i]? = some v → (k + i, v) ∈ lv_args k vs
  | [], _, _, i, v, h => by simp at h
  | x :: vs, k, hc, 0, v, h => by
    simp at h
    subst h
    simp [lv_args]
  | x :: vs, k, hc, i + 1, v, h => by
    have hx : ¬ x.category = 2 := by have := hc x List.mem_cons_self; omega
    have h1 := lv_args_mem vs (k + 1) (fun v hv => hc v (List.mem_cons_of_mem _ hv)) i v (by simpa using h)
    simp only [lv_args, hx, if_false]
    refine List.mem_cons_of_mem _ ?_
    have e : k + (i + 1) = k + 1 + i := by omega
    rw [e]
    exact h1
theorem lv_args_cat : ∀ (vs : List Value) (k : Nat), (∀ v ∈ vs, v.category = 1) → ∀ q ∈ lv_args k vs, q.2.category = 1
  | [], _, _, q, h => by simp [lv_args] at h
  | x :: vs, k, hc, q, h => by
    simp only [lv_args] at h
    rcases List.mem_cons.mp h with e | e
    · rw [e]; exact hc x List.mem_cons_self
    · exact lv_args_cat vs _ (fun v hv => hc v (List.mem_cons_of_mem _ hv)) q e
theorem LV.entry {ls : Array Slot} {nL : Nat} {vs : List Value} (hc : ∀ v ∈ vs, v.category = 1) (h : lv_has ls nL (lv_args 0 vs)) (n : Nat) : LV ls nL (vs ++ List.replicate n .null) := by
  refine ⟨_, h, lv_args_cat vs 0 hc, fun i v hi hv => ?_⟩
  by_cases hl : i < vs.length
  · rw [List.getElem?_append_left hl] at hi
    have := lv_args_mem vs 0 hc i v hi
    simpa using this
  · rw [List.getElem?_append_right (by omega)] at hi
    have h1 := List.eq_of_mem_replicate (List.mem_of_getElem? hi)
    exact absurd h1 hv
/-! the state of an object: field, place, number -/
abbrev DS : Type := Nat → Nat → Int
def up2 (u : DS) (k j : Nat) (z : Int) : DS := fun k' j' => if k' = k then (if j' = j then z else u k' j') else u k' j'
theorem up2_ne {u : DS} {k j k' : Nat} {z : Int} (h : k' ≠ k) : up2 u k j z k' = u k' := by
  funext j'
  simp [up2, h]
theorem up2_same {u : DS} {k j : Nat} {z : Int} : up2 u k j z k j = z := by simp [up2]
theorem up2_off {u : DS} {k j j' : Nat} {z : Int} (h : j' ≠ j) : up2 u k j z k j' = u k j' := by simp [up2, h]
theorem up2_iI (u : DS) (k j : Nat) (z : Int) : (fun i => iI (up2 u k j z k i)) = upd (fun i => iI (u k i)) j (iI z) := by
  funext i
  unfold upd up2
  by_cases h : i = j
  · simp [h]
  · simp [h]
def xc (dA dZ : ClassId) (ad : Nat → Nat) (u : DS) : va_W :=
  [(ad 0, .inr (0, [.int (iI (u 0 0)), .ref (ad 1), .ref (ad 2), .ref (ad 3), .int (iI (u 4 0)), .ref (ad 5), .ref (ad 6), .int (iI (u 7 0)), .ref (ad 8), .ref (ad 9), .ref (ad 10), .int (iI (u 11 0))])),
   (ad 1, .inl (dA, 24, .inl (fun i => iI (u 1 i)))), (ad 2, .inl (dA, 8, .inl (fun i => iI (u 2 i)))), (ad 3, .inl (dZ, 8, .inl (fun i => iI (u 3 i)))),
   (ad 5, .inl (dA, 75, .inl (fun i => iI (u 5 i)))), (ad 6, .inl (dA, 25, .inl (fun i => iI (u 6 i)))), (ad 8, .inl (dA, 480, .inl (fun i => iI (u 8 i)))), (ad 9, .inl (dA, 160, .inl (fun i => iI (u 9 i)))), (ad 10, .inl (dA, 3, .inl (fun i => iI (u 10 i))))]
def mc (dA dZ : ClassId) (bd : Nat → Nat) (u : DS) : va_W :=
  [(bd 0, .inr (1, [.int (iI (u 0 0)), .ref (bd 1), .ref (bd 2), .ref (bd 3), .ref (bd 4), .ref (bd 5)])),
   (bd 1, .inl (dA, 8, .inl (fun i => iI (u 1 i)))), (bd 2, .inl (dA, 8, .inl (fun i => iI (u 2 i)))), (bd 3, .inl (dA, 8, .inl (fun i => iI (u 3 i)))), (bd 4, .inl (dA, 8, .inl (fun i => iI (u 4 i)))), (bd 5, .inl (dZ, 8, .inl (fun i => iI (u 5 i))))]
def nc (_ : DS) : va_W := []
/-! the judgement -/
abbrev Cxt := Program × Launch × Env × State × MethodId × Array Value × List Frame × Method × Code × (Nat → ClassId) × (Nat → Nat → Nat) × (Nat → Prop) × Nat × Nat × (State → Prop) × Option FieldType
def Fx (p : Program) (s : State) (m : MethodId) (args : Array Value) (meth : Method) (c : Code) (cc : ByteArray) (nL : Nat) (R : Room) (ret : Option FieldType) (own : String) (dC : Nat → ClassId) (dI : Nat → Nat → Nat) (dA dZ : ClassId) (A : Nat → Prop) (cells slots : Nat) : Prop :=
  p.tables.exec = Jvm.exec ∧ c.code = cc ∧ c.maxLocals = nL ∧ meth.locks = false ∧ meth.sig.returnType = ret ∧ s.vm.findClass own = some m.cls ∧ (∀ w ∈ lw_all, w.before args s = true) ∧ va_K (dC, dI) vwCl [(dA, .int), (dZ, .boolean)] s ∧ (∀ q : Nat, s.heap.size ≤ q → A q) ∧ cells ≤ R.cells ∧ slots ≤ R.slots
def Wd (dC : Nat → ClassId) (dI : Nat → Nat → Nat) (A : Nat → Prop) (s : State) (ws : va_W) (H : Heap) (locs : List Loc) : Prop := va_P (dC, dI) vwCl ws H ∧ va_D A ws ∧ va_S A s.heap H locs
def od_G (Γ : Cxt) (own : String) (cc : ByteArray) (nL : Nat) (R : Room) (dA dZ : ClassId) (ws : va_W) (lv : List Value) (pc : Nat) (st : List Value) : Prop :=
  match Γ with
  | (p, l, e, s, m, args, below, meth, c, dC, dI, A, cells, slots, Q, ret) =>
    Fx p s m args meth c cc nL R ret own dC dI dA dZ A cells slots → ∀ (H : Heap) (locs : List Loc) (ls : Array Slot), Wd dC dI A s ws H locs → LV ls nL lv → W p l e R s m args below meth c H locs cells slots Q (F0 m pc ls st)
section OG
variable {Γ : Cxt} {own : String} {cc : ByteArray} {nL : Nat} {R : Room} {dA dZ : ClassId} {ws : va_W} {lv : List Value} {pc : Nat} {st : List Value}
theorem og_weak {lv' : List Value} (hw : ∀ (i : Nat) (v : Value), lv'[i]? = some v → v ≠ .null → lv[i]? = some v) (k : od_G Γ own cc nL R dA dZ ws lv' pc st) : od_G Γ own cc nL R dA dZ ws lv pc st := by
  obtain ⟨p, l, e, s, m, args, below, meth, c, dC, dI, A, cells, slots, Q, ret⟩ := Γ
  intro F H locs ls hW hL
  exact k F H locs ls hW (hL.weak hw)
theorem og_iload_0 {x : Int} {t : List Value} (hd : decode cc pc = .ok (.iload_n 0, 1)) (k : od_G Γ own cc nL R dA dZ ws (.int (iI x) :: t) (pc + 1) (.int (iI x) :: st)) : od_G Γ own cc nL R dA dZ ws (.int (iI x) :: t) pc st := by
  obtain ⟨p, l, e, s, m, args, below, meth, c, dC, dI, A, cells, slots, Q, ret⟩ := Γ
  intro F H locs ls hW hL
  exact lv_iload_n F.1 F.2.1 hd rfl (hL.get (i := 0) rfl (fun h => by cases h)) (k F H locs ls hW hL)
theorem og_istore_0 {v0 : Value} {x : Int} {t : List Value} (hd : decode cc pc = .ok (.istore_n 0, 1)) (hn : 0 < nL) (k : od_G Γ own cc nL R dA dZ ws (.int (iI x) :: t) (pc + 1) st) : od_G Γ own cc nL R dA dZ ws (v0 :: t) pc (.int (iI x) :: st) := by
  obtain ⟨p, l, e, s, m, args, below, meth, c, dC, dI, A, cells, slots, Q, ret⟩ := Γ
  intro F H locs ls hW hL
  obtain ⟨l0, h1, h2, h3⟩ := hL
  exact lv_istore_n F.1 F.2.1 hd rfl h1 hn rfl (fun ls' hl => k F H locs ls' hW (LV.put (lv := (v0 :: t)) h2 h3 rfl hl))
theorem og_iinc_0 {x n : Int} {t : List Value} (hd : decode cc pc = .ok (.iinc 0 n, 3)) (hn : 0 < nL) (k : od_G Γ own cc nL R dA dZ ws (.int (iI (x + n)) :: t) (pc + 3) st) : od_G Γ own cc nL R dA dZ ws (.int (iI x) :: t) pc st := by
  obtain ⟨p, l, e, s, m, args, below, meth, c, dC, dI, A, cells, slots, Q, ret⟩ := Γ
  intro F H locs ls hW hL
  have hg := hL.get (i := 0) (v := .int (iI x)) rfl (fun h => by cases h)
  obtain ⟨l0, h1, h2, h3⟩ := hL
  have hm := h3 0 (.int (iI x)) rfl (fun h => by cases h)
  obtain ⟨k0, hk0⟩ := List.getElem?_of_mem hm
  exact lv_iinc (v := iI (x + n)) F.1 F.2.1 hd h1 hk0 (iI_add x n) hn rfl (fun ls' hl => k F H locs ls' hW (LV.put (lv := (.int (iI x) :: t)) h2 h3 rfl hl))
theorem og_iload_1 {v0 : Value} {x : Int} {t : List Value} (hd : decode cc pc = .ok (.iload_n 1, 1)) (k : od_G Γ own cc nL R dA dZ ws (v0 :: .int (iI x) :: t) (pc + 1) (.int (iI x) :: st)) : od_G Γ own cc nL R dA dZ ws (v0 :: .int (iI x) :: t) pc st := by
  obtain ⟨p, l, e, s, m, args, below, meth, c, dC, dI, A, cells, slots, Q, ret⟩ := Γ
  intro F H locs ls hW hL
  exact lv_iload_n F.1 F.2.1 hd rfl (hL.get (i := 1) rfl (fun h => by cases h)) (k F H locs ls hW hL)
theorem og_istore_1 {v0 v1 : Value} {x : Int} {t : List Value} (hd : decode cc pc = .ok (.istore_n 1, 1)) (hn : 1 < nL) (k : od_G Γ own cc nL R dA dZ ws (v0 :: .int (iI x) :: t) (pc + 1) st) : od_G Γ own cc nL R dA dZ ws (v0 :: v1 :: t) pc (.int (iI x) :: st) := by
  obtain ⟨p, l, e, s, m, args, below, meth, c, dC, dI, A, cells, slots, Q, ret⟩ := Γ
  intro F H locs ls hW hL
  obtain ⟨l0, h1, h2, h3⟩ := hL
  exact lv_istore_n F.1 F.2.1 hd rfl h1 hn rfl (fun ls' hl => k F H locs ls' hW (LV.put (lv := (v0 :: v1 :: t)) h2 h3 rfl hl))
theorem og_iinc_1 {v0 : Value} {x n : Int} {t : List Value} (hd : decode cc pc = .ok (.iinc 1 n, 3)) (hn : 1 < nL) (k : od_G Γ own cc nL R dA dZ ws (v0 :: .int (iI (x + n)) :: t) (pc + 3) st) : od_G Γ own cc nL R dA dZ ws (v0 :: .int (iI x) :: t) pc st := by
  obtain ⟨p, l, e, s, m, args, below, meth, c, dC, dI, A, cells, slots, Q, ret⟩ := Γ
  intro F H locs ls hW hL
  have hg := hL.get (i := 1) (v := .int (iI x)) rfl (fun h => by cases h)
  obtain ⟨l0, h1, h2, h3⟩ := hL
  have hm := h3 1 (.int (iI x)) rfl (fun h => by cases h)
  obtain ⟨k0, hk0⟩ := List.getElem?_of_mem hm
  exact lv_iinc (v := iI (x + n)) F.1 F.2.1 hd h1 hk0 (iI_add x n) hn rfl (fun ls' hl => k F H locs ls' hW (LV.put (lv := (v0 :: .int (iI x) :: t)) h2 h3 rfl hl))
theorem og_iload_2 {v0 v1 : Value} {x : Int} {t : List Value} (hd : decode cc pc = .ok (.iload_n 2, 1)) (k : od_G Γ own cc nL R dA dZ ws (v0 :: v1 :: .int (iI x) :: t) (pc + 1) (.int (iI x) :: st)) : od_G Γ own cc nL R dA dZ ws (v0 :: v1 :: .int (iI x) :: t) pc st := by
  obtain ⟨p, l, e, s, m, args, below, meth, c, dC, dI, A, cells, slots, Q, ret⟩ := Γ
  intro F H locs ls hW hL
  exact lv_iload_n F.1 F.2.1 hd rfl (hL.get (i := 2) rfl (fun h => by cases h)) (k F H locs ls hW hL)
theorem og_istore_2 {v0 v1 v2 : Value} {x : Int} {t : List Value} (hd : decode cc pc = .ok (.istore_n 2, 1)) (hn : 2 < nL) (k : od_G Γ own cc nL R dA dZ ws (v0 :: v1 :: .int (iI x) :: t) (pc + 1) st) : od_G Γ own cc nL R dA dZ ws (v0 :: v1 :: v2 :: t) pc (.int (iI x) :: st) := by
  obtain ⟨p, l, e, s, m, args, below, meth, c, dC, dI, A, cells, slots, Q, ret⟩ := Γ
  intro F H locs ls hW hL
  obtain ⟨l0, h1, h2, h3⟩ := hL
  exact lv_istore_n F.1 F.2.1 hd rfl h1 hn rfl (fun ls' hl => k F H locs ls' hW (LV.put (lv := (v0 :: v1 :: v2 :: t)) h2 h3 rfl hl))
theorem og_iinc_2 {v0 v1 : Value} {x n : Int} {t : List Value} (hd : decode cc pc = .ok (.iinc 2 n, 3)) (hn : 2 < nL) (k : od_G Γ own cc nL R dA dZ ws (v0 :: v1 :: .int (iI (x + n)) :: t) (pc + 3) st) : od_G Γ own cc nL R dA dZ ws (v0 :: v1 :: .int (iI x) :: t) pc st := by
  obtain ⟨p, l, e, s, m, args, below, meth, c, dC, dI, A, cells, slots, Q, ret⟩ := Γ
  intro F H locs ls hW hL
  have hg := hL.get (i := 2) (v := .int (iI x)) rfl (fun h => by cases h)
  obtain ⟨l0, h1, h2, h3⟩ := hL
  have hm := h3 2 (.int (iI x)) rfl (fun h => by cases h)
  obtain ⟨k0, hk0⟩ := List.getElem?_of_mem hm
  exact lv_iinc (v := iI (x + n)) F.1 F.2.1 hd h1 hk0 (iI_add x n) hn rfl (fun ls' hl => k F H locs ls' hW (LV.put (lv := (v0 :: v1 :: .int (iI x) :: t)) h2 h3 rfl hl))
theorem og_iload_3 {v0 v1 v2 : Value} {x : Int} {t : List Value} (hd : decode cc pc = .ok (.iload_n 3, 1)) (k : od_G Γ own cc nL R dA dZ ws (v0 :: v1 :: v2 :: .int (iI x) :: t) (pc + 1) (.int (iI x) :: st)) : od_G Γ own cc nL R dA dZ ws (v0 :: v1 :: v2 :: .int (iI x) :: t) pc st := by
  obtain ⟨p, l, e, s, m, args, below, meth, c, dC, dI, A, cells, slots, Q, ret⟩ := Γ
  intro F H locs ls hW hL
  exact lv_iload_n F.1 F.2.1 hd rfl (hL.get (i := 3) rfl (fun h => by cases h)) (k F H locs ls hW hL)
theorem og_istore_3 {v0 v1 v2 v3 : Value} {x : Int} {t : List Value} (hd : decode cc pc = .ok (.istore_n 3, 1)) (hn : 3 < nL) (k : od_G Γ own cc nL R dA dZ ws (v0 :: v1 :: v2 :: .int (iI x) :: t) (pc + 1) st) : od_G Γ own cc nL R dA dZ ws (v0 :: v1 :: v2 :: v3 :: t) pc (.int (iI x) :: st) := by
  obtain ⟨p, l, e, s, m, args, below, meth, c, dC, dI, A, cells, slots, Q, ret⟩ := Γ
  intro F H locs ls hW hL
  obtain ⟨l0, h1, h2, h3⟩ := hL
  exact lv_istore_n F.1 F.2.1 hd rfl h1 hn rfl (fun ls' hl => k F H locs ls' hW (LV.put (lv := (v0 :: v1 :: v2 :: v3 :: t)) h2 h3 rfl hl))
theorem og_iinc_3 {v0 v1 v2 : Value} {x n : Int} {t : List Value} (hd : decode cc pc = .ok (.iinc 3 n, 3)) (hn : 3 < nL) (k : od_G Γ own cc nL R dA dZ ws (v0 :: v1 :: v2 :: .int (iI (x + n)) :: t) (pc + 3) st) : od_G Γ own cc nL R dA dZ ws (v0 :: v1 :: v2 :: .int (iI x) :: t) pc st := by
  obtain ⟨p, l, e, s, m, args, below, meth, c, dC, dI, A, cells, slots, Q, ret⟩ := Γ
  intro F H locs ls hW hL
  have hg := hL.get (i := 3) (v := .int (iI x)) rfl (fun h => by cases h)
  obtain ⟨l0, h1, h2, h3⟩ := hL
  have hm := h3 3 (.int (iI x)) rfl (fun h => by cases h)
  obtain ⟨k0, hk0⟩ := List.getElem?_of_mem hm
  exact lv_iinc (v := iI (x + n)) F.1 F.2.1 hd h1 hk0 (iI_add x n) hn rfl (fun ls' hl => k F H locs ls' hW (LV.put (lv := (v0 :: v1 :: v2 :: .int (iI x) :: t)) h2 h3 rfl hl))
theorem og_iload_4 {v0 v1 v2 v3 : Value} {x : Int} {t : List Value} (hd : decode cc pc = .ok (.iload 4, 2)) (k : od_G Γ own cc nL R dA dZ ws (v0 :: v1 :: v2 :: v3 :: .int (iI x) :: t) (pc + 2) (.int (iI x) :: st)) : od_G Γ own cc nL R dA dZ ws (v0 :: v1 :: v2 :: v3 :: .int (iI x) :: t) pc st := by
  obtain ⟨p, l, e, s, m, args, below, meth, c, dC, dI, A, cells, slots, Q, ret⟩ := Γ
  intro F H locs ls hW hL
  exact lv_iload F.1 F.2.1 hd (hL.get (i := 4) rfl (fun h => by cases h)) (k F H locs ls hW hL)
theorem og_istore_4 {v0 v1 v2 v3 v4 : Value} {x : Int} {t : List Value} (hd : decode cc pc = .ok (.istore 4, 2)) (hn : 4 < nL) (k : od_G Γ own cc nL R dA dZ ws (v0 :: v1 :: v2 :: v3 :: .int (iI x) :: t) (pc + 2) st) : od_G Γ own cc nL R dA dZ ws (v0 :: v1 :: v2 :: v3 :: v4 :: t) pc (.int (iI x) :: st) := by
  obtain ⟨p, l, e, s, m, args, below, meth, c, dC, dI, A, cells, slots, Q, ret⟩ := Γ
  intro F H locs ls hW hL
  obtain ⟨l0, h1, h2, h3⟩ := hL
  exact lv_istore F.1 F.2.1 hd h1 hn rfl (fun ls' hl => k F H locs ls' hW (LV.put (lv := (v0 :: v1 :: v2 :: v3 :: v4 :: t)) h2 h3 rfl hl))
theorem og_iinc_4 {v0 v1 v2 v3 : Value} {x n : Int} {t : List Value} (hd : decode cc pc = .ok (.iinc 4 n, 3)) (hn : 4 < nL) (k : od_G Γ own cc nL R dA dZ ws (v0 :: v1 :: v2 :: v3 :: .int (iI (x + n)) :: t) (pc + 3) st) : od_G Γ own cc nL R dA dZ ws (v0 :: v1 :: v2 :: v3 :: .int (iI x) :: t) pc st := by
  obtain ⟨p, l, e, s, m, args, below, meth, c, dC, dI, A, cells, slots, Q, ret⟩ := Γ
  intro F H locs ls hW hL
  have hg := hL.get (i := 4) (v := .int (iI x)) rfl (fun h => by cases h)
  obtain ⟨l0, h1, h2, h3⟩ := hL
  have hm := h3 4 (.int (iI x)) rfl (fun h => by cases h)
  obtain ⟨k0, hk0⟩ := List.getElem?_of_mem hm
  exact lv_iinc (v := iI (x + n)) F.1 F.2.1 hd h1 hk0 (iI_add x n) hn rfl (fun ls' hl => k F H locs ls' hW (LV.put (lv := (v0 :: v1 :: v2 :: v3 :: .int (iI x) :: t)) h2 h3 rfl hl))
theorem og_iload_5 {v0 v1 v2 v3 v4 : Value} {x : Int} {t : List Value} (hd : decode cc pc = .ok (.iload 5, 2)) (k : od_G Γ own cc nL R dA dZ ws (v0 :: v1 :: v2 :: v3 :: v4 :: .int (iI x) :: t) (pc + 2) (.int (iI x) :: st)) : od_G Γ own cc nL R dA dZ ws (v0 :: v1 :: v2 :: v3 :: v4 :: .int (iI x) :: t) pc st := by
  obtain ⟨p, l, e, s, m, args, below, meth, c, dC, dI, A, cells, slots, Q, ret⟩ := Γ
  intro F H locs ls hW hL
  exact lv_iload F.1 F.2.1 hd (hL.get (i := 5) rfl (fun h => by cases h)) (k F H locs ls hW hL)
theorem og_istore_5 {v0 v1 v2 v3 v4 v5 : Value} {x : Int} {t : List Value} (hd : decode cc pc = .ok (.istore 5, 2)) (hn : 5 < nL) (k : od_G Γ own cc nL R dA dZ ws (v0 :: v1 :: v2 :: v3 :: v4 :: .int (iI x) :: t) (pc + 2) st) : od_G Γ own cc nL R dA dZ ws (v0 :: v1 :: v2 :: v3 :: v4 :: v5 :: t) pc (.int (iI x) :: st) := by
  obtain ⟨p, l, e, s, m, args, below, meth, c, dC, dI, A, cells, slots, Q, ret⟩ := Γ
  intro F H locs ls hW hL
  obtain ⟨l0, h1, h2, h3⟩ := hL
  exact lv_istore F.1 F.2.1 hd h1 hn rfl (fun ls' hl => k F H locs ls' hW (LV.put (lv := (v0 :: v1 :: v2 :: v3 :: v4 :: v5 :: t)) h2 h3 rfl hl))
theorem og_iinc_5 {v0 v1 v2 v3 v4 : Value} {x n : Int} {t : List Value} (hd : decode cc pc = .ok (.iinc 5 n, 3)) (hn : 5 < nL) (k : od_G Γ own cc nL R dA dZ ws (v0 :: v1 :: v2 :: v3 :: v4 :: .int (iI (x + n)) :: t) (pc + 3) st) : od_G Γ own cc nL R dA dZ ws (v0 :: v1 :: v2 :: v3 :: v4 :: .int (iI x) :: t) pc st := by
  obtain ⟨p, l, e, s, m, args, below, meth, c, dC, dI, A, cells, slots, Q, ret⟩ := Γ
  intro F H locs ls hW hL
  have hg := hL.get (i := 5) (v := .int (iI x)) rfl (fun h => by cases h)
  obtain ⟨l0, h1, h2, h3⟩ := hL
  have hm := h3 5 (.int (iI x)) rfl (fun h => by cases h)
  obtain ⟨k0, hk0⟩ := List.getElem?_of_mem hm
  exact lv_iinc (v := iI (x + n)) F.1 F.2.1 hd h1 hk0 (iI_add x n) hn rfl (fun ls' hl => k F H locs ls' hW (LV.put (lv := (v0 :: v1 :: v2 :: v3 :: v4 :: .int (iI x) :: t)) h2 h3 rfl hl))
theorem og_iload_6 {v0 v1 v2 v3 v4 v5 : Value} {x : Int} {t : List Value} (hd : decode cc pc = .ok (.iload 6, 2)) (k : od_G Γ own cc nL R dA dZ ws (v0 :: v1 :: v2 :: v3 :: v4 :: v5 :: .int (iI x) :: t) (pc + 2) (.int (iI x) :: st)) : od_G Γ own cc nL R dA dZ ws (v0 :: v1 :: v2 :: v3 :: v4 :: v5 :: .int (iI x) :: t) pc st := by
  obtain ⟨p, l, e, s, m, args, below, meth, c, dC, dI, A, cells, slots, Q, ret⟩ := Γ
  intro F H locs ls hW hL
  exact lv_iload F.1 F.2.1 hd (hL.get (i := 6) rfl (fun h => by cases h)) (k F H locs ls hW hL)
theorem og_istore_6 {v0 v1 v2 v3 v4 v5 v6 : Value} {x : Int} {t : List Value} (hd : decode cc pc = .ok (.istore 6, 2)) (hn : 6 < nL) (k : od_G Γ own cc nL R dA dZ ws (v0 :: v1 :: v2 :: v3 :: v4 :: v5 :: .int (iI x) :: t) (pc + 2) st) : od_G Γ own cc nL R dA dZ ws (v0 :: v1 :: v2 :: v3 :: v4 :: v5 :: v6 :: t) pc (.int (iI x) :: st) := by
  obtain ⟨p, l, e, s, m, args, below, meth, c, dC, dI, A, cells, slots, Q, ret⟩ := Γ
  intro F H locs ls hW hL
  obtain ⟨l0, h1, h2, h3⟩ := hL
  exact lv_istore F.1 F.2.1 hd h1 hn rfl (fun ls' hl => k F H locs ls' hW (LV.put (lv := (v0 :: v1 :: v2 :: v3 :: v4 :: v5 :: v6 :: t)) h2 h3 rfl hl))
theorem og_iinc_6 {v0 v1 v2 v3 v4 v5 : Value} {x n : Int} {t : List Value} (hd : decode cc pc = .ok (.iinc 6 n, 3)) (hn : 6 < nL) (k : od_G Γ own cc nL R dA dZ ws (v0 :: v1 :: v2 :: v3 :: v4 :: v5 :: .int (iI (x + n)) :: t) (pc + 3) st) : od_G Γ own cc nL R dA dZ ws (v0 :: v1 :: v2 :: v3 :: v4 :: v5 :: .int (iI x) :: t) pc st := by
  obtain ⟨p, l, e, s, m, args, below, meth, c, dC, dI, A, cells, slots, Q, ret⟩ := Γ
  intro F H locs ls hW hL
  have hg := hL.get (i := 6) (v := .int (iI x)) rfl (fun h => by cases h)
  obtain ⟨l0, h1, h2, h3⟩ := hL
  have hm := h3 6 (.int (iI x)) rfl (fun h => by cases h)
  obtain ⟨k0, hk0⟩ := List.getElem?_of_mem hm
  exact lv_iinc (v := iI (x + n)) F.1 F.2.1 hd h1 hk0 (iI_add x n) hn rfl (fun ls' hl => k F H locs ls' hW (LV.put (lv := (v0 :: v1 :: v2 :: v3 :: v4 :: v5 :: .int (iI x) :: t)) h2 h3 rfl hl))
theorem og_iload_7 {v0 v1 v2 v3 v4 v5 v6 : Value} {x : Int} {t : List Value} (hd : decode cc pc = .ok (.iload 7, 2)) (k : od_G Γ own cc nL R dA dZ ws (v0 :: v1 :: v2 :: v3 :: v4 :: v5 :: v6 :: .int (iI x) :: t) (pc + 2) (.int (iI x) :: st)) : od_G Γ own cc nL R dA dZ ws (v0 :: v1 :: v2 :: v3 :: v4 :: v5 :: v6 :: .int (iI x) :: t) pc st := by
  obtain ⟨p, l, e, s, m, args, below, meth, c, dC, dI, A, cells, slots, Q, ret⟩ := Γ
  intro F H locs ls hW hL
  exact lv_iload F.1 F.2.1 hd (hL.get (i := 7) rfl (fun h => by cases h)) (k F H locs ls hW hL)
theorem og_istore_7 {v0 v1 v2 v3 v4 v5 v6 v7 : Value} {x : Int} {t : List Value} (hd : decode cc pc = .ok (.istore 7, 2)) (hn : 7 < nL) (k : od_G Γ own cc nL R dA dZ ws (v0 :: v1 :: v2 :: v3 :: v4 :: v5 :: v6 :: .int (iI x) :: t) (pc + 2) st) : od_G Γ own cc nL R dA dZ ws (v0 :: v1 :: v2 :: v3 :: v4 :: v5 :: v6 :: v7 :: t) pc (.int (iI x) :: st) := by
  obtain ⟨p, l, e, s, m, args, below, meth, c, dC, dI, A, cells, slots, Q, ret⟩ := Γ
  intro F H locs ls hW hL
  obtain ⟨l0, h1, h2, h3⟩ := hL
  exact lv_istore F.1 F.2.1 hd h1 hn rfl (fun ls' hl => k F H locs ls' hW (LV.put (lv := (v0 :: v1 :: v2 :: v3 :: v4 :: v5 :: v6 :: v7 :: t)) h2 h3 rfl hl))
theorem og_iinc_7 {v0 v1 v2 v3 v4 v5 v6 : Value} {x n : Int} {t : List Value} (hd : decode cc pc = .ok (.iinc 7 n, 3)) (hn : 7 < nL) (k : od_G Γ own cc nL R dA dZ ws (v0 :: v1 :: v2 :: v3 :: v4 :: v5 :: v6 :: .int (iI (x + n)) :: t) (pc + 3) st) : od_G Γ own cc nL R dA dZ ws (v0 :: v1 :: v2 :: v3 :: v4 :: v5 :: v6 :: .int (iI x) :: t) pc st := by
  obtain ⟨p, l, e, s, m, args, below, meth, c, dC, dI, A, cells, slots, Q, ret⟩ := Γ
  intro F H locs ls hW hL
  have hg := hL.get (i := 7) (v := .int (iI x)) rfl (fun h => by cases h)
  obtain ⟨l0, h1, h2, h3⟩ := hL
  have hm := h3 7 (.int (iI x)) rfl (fun h => by cases h)
  obtain ⟨k0, hk0⟩ := List.getElem?_of_mem hm
  exact lv_iinc (v := iI (x + n)) F.1 F.2.1 hd h1 hk0 (iI_add x n) hn rfl (fun ls' hl => k F H locs ls' hW (LV.put (lv := (v0 :: v1 :: v2 :: v3 :: v4 :: v5 :: v6 :: .int (iI x) :: t)) h2 h3 rfl hl))
theorem og_iload_8 {v0 v1 v2 v3 v4 v5 v6 v7 : Value} {x : Int} {t : List Value} (hd : decode cc pc = .ok (.iload 8, 2)) (k : od_G Γ own cc nL R dA dZ ws (v0 :: v1 :: v2 :: v3 :: v4 :: v5 :: v6 :: v7 :: .int (iI x) :: t) (pc + 2) (.int (iI x) :: st)) : od_G Γ own cc nL R dA dZ ws (v0 :: v1 :: v2 :: v3 :: v4 :: v5 :: v6 :: v7 :: .int (iI x) :: t) pc st := by
  obtain ⟨p, l, e, s, m, args, below, meth, c, dC, dI, A, cells, slots, Q, ret⟩ := Γ
  intro F H locs ls hW hL
  exact lv_iload F.1 F.2.1 hd (hL.get (i := 8) rfl (fun h => by cases h)) (k F H locs ls hW hL)
theorem og_istore_8 {v0 v1 v2 v3 v4 v5 v6 v7 v8 : Value} {x : Int} {t : List Value} (hd : decode cc pc = .ok (.istore 8, 2)) (hn : 8 < nL) (k : od_G Γ own cc nL R dA dZ ws (v0 :: v1 :: v2 :: v3 :: v4 :: v5 :: v6 :: v7 :: .int (iI x) :: t) (pc + 2) st) : od_G Γ own cc nL R dA dZ ws (v0 :: v1 :: v2 :: v3 :: v4 :: v5 :: v6 :: v7 :: v8 :: t) pc (.int (iI x) :: st) := by
  obtain ⟨p, l, e, s, m, args, below, meth, c, dC, dI, A, cells, slots, Q, ret⟩ := Γ
  intro F H locs ls hW hL
  obtain ⟨l0, h1, h2, h3⟩ := hL
  exact lv_istore F.1 F.2.1 hd h1 hn rfl (fun ls' hl => k F H locs ls' hW (LV.put (lv := (v0 :: v1 :: v2 :: v3 :: v4 :: v5 :: v6 :: v7 :: v8 :: t)) h2 h3 rfl hl))
theorem og_iinc_8 {v0 v1 v2 v3 v4 v5 v6 v7 : Value} {x n : Int} {t : List Value} (hd : decode cc pc = .ok (.iinc 8 n, 3)) (hn : 8 < nL) (k : od_G Γ own cc nL R dA dZ ws (v0 :: v1 :: v2 :: v3 :: v4 :: v5 :: v6 :: v7 :: .int (iI (x + n)) :: t) (pc + 3) st) : od_G Γ own cc nL R dA dZ ws (v0 :: v1 :: v2 :: v3 :: v4 :: v5 :: v6 :: v7 :: .int (iI x) :: t) pc st := by
  obtain ⟨p, l, e, s, m, args, below, meth, c, dC, dI, A, cells, slots, Q, ret⟩ := Γ
  intro F H locs ls hW hL
  have hg := hL.get (i := 8) (v := .int (iI x)) rfl (fun h => by cases h)
  obtain ⟨l0, h1, h2, h3⟩ := hL
  have hm := h3 8 (.int (iI x)) rfl (fun h => by cases h)
  obtain ⟨k0, hk0⟩ := List.getElem?_of_mem hm
  exact lv_iinc (v := iI (x + n)) F.1 F.2.1 hd h1 hk0 (iI_add x n) hn rfl (fun ls' hl => k F H locs ls' hW (LV.put (lv := (v0 :: v1 :: v2 :: v3 :: v4 :: v5 :: v6 :: v7 :: .int (iI x) :: t)) h2 h3 rfl hl))
theorem og_iload_9 {v0 v1 v2 v3 v4 v5 v6 v7 v8 : Value} {x : Int} {t : List Value} (hd : decode cc pc = .ok (.iload 9, 2)) (k : od_G Γ own cc nL R dA dZ ws (v0 :: v1 :: v2 :: v3 :: v4 :: v5 :: v6 :: v7 :: v8 :: .int (iI x) :: t) (pc + 2) (.int (iI x) :: st)) : od_G Γ own cc nL R dA dZ ws (v0 :: v1 :: v2 :: v3 :: v4 :: v5 :: v6 :: v7 :: v8 :: .int (iI x) :: t) pc st := by
  obtain ⟨p, l, e, s, m, args, below, meth, c, dC, dI, A, cells, slots, Q, ret⟩ := Γ
  intro F H locs ls hW hL
  exact lv_iload F.1 F.2.1 hd (hL.get (i := 9) rfl (fun h => by cases h)) (k F H locs ls hW hL)
theorem og_istore_9 {v0 v1 v2 v3 v4 v5 v6 v7 v8 v9 : Value} {x : Int} {t : List Value} (hd : decode cc pc = .ok (.istore 9, 2)) (hn : 9 < nL) (k : od_G Γ own cc nL R dA dZ ws (v0 :: v1 :: v2 :: v3 :: v4 :: v5 :: v6 :: v7 :: v8 :: .int (iI x) :: t) (pc + 2) st) : od_G Γ own cc nL R dA dZ ws (v0 :: v1 :: v2 :: v3 :: v4 :: v5 :: v6 :: v7 :: v8 :: v9 :: t) pc (.int (iI x) :: st) := by
  obtain ⟨p, l, e, s, m, args, below, meth, c, dC, dI, A, cells, slots, Q, ret⟩ := Γ
  intro F H locs ls hW hL
  obtain ⟨l0, h1, h2, h3⟩ := hL
  exact lv_istore F.1 F.2.1 hd h1 hn rfl (fun ls' hl => k F H locs ls' hW (LV.put (lv := (v0 :: v1 :: v2 :: v3 :: v4 :: v5 :: v6 :: v7 :: v8 :: v9 :: t)) h2 h3 rfl hl))
theorem og_iinc_9 {v0 v1 v2 v3 v4 v5 v6 v7 v8 : Value} {x n : Int} {t : List Value} (hd : decode cc pc = .ok (.iinc 9 n, 3)) (hn : 9 < nL) (k : od_G Γ own cc nL R dA dZ ws (v0 :: v1 :: v2 :: v3 :: v4 :: v5 :: v6 :: v7 :: v8 :: .int (iI (x + n)) :: t) (pc + 3) st) : od_G Γ own cc nL R dA dZ ws (v0 :: v1 :: v2 :: v3 :: v4 :: v5 :: v6 :: v7 :: v8 :: .int (iI x) :: t) pc st := by
  obtain ⟨p, l, e, s, m, args, below, meth, c, dC, dI, A, cells, slots, Q, ret⟩ := Γ
  intro F H locs ls hW hL
  have hg := hL.get (i := 9) (v := .int (iI x)) rfl (fun h => by cases h)
  obtain ⟨l0, h1, h2, h3⟩ := hL
  have hm := h3 9 (.int (iI x)) rfl (fun h => by cases h)
  obtain ⟨k0, hk0⟩ := List.getElem?_of_mem hm
  exact lv_iinc (v := iI (x + n)) F.1 F.2.1 hd h1 hk0 (iI_add x n) hn rfl (fun ls' hl => k F H locs ls' hW (LV.put (lv := (v0 :: v1 :: v2 :: v3 :: v4 :: v5 :: v6 :: v7 :: v8 :: .int (iI x) :: t)) h2 h3 rfl hl))
theorem og_aload_0 {a : Nat} {t : List Value} (hd : decode cc pc = .ok (.aload_n 0, 1)) (k : od_G Γ own cc nL R dA dZ ws (.ref a :: t) (pc + 1) (.ref a :: st)) : od_G Γ own cc nL R dA dZ ws (.ref a :: t) pc st := by
  obtain ⟨p, l, e, s, m, args, below, meth, c, dC, dI, A, cells, slots, Q, ret⟩ := Γ
  intro F H locs ls hW hL
  exact lv_aload_n F.1 F.2.1 hd rfl (hL.get (i := 0) rfl (fun h => by cases h)) (k F H locs ls hW hL)
theorem og_aload_1 {v0 : Value} {a : Nat} {t : List Value} (hd : decode cc pc = .ok (.aload_n 1, 1)) (k : od_G Γ own cc nL R dA dZ ws (v0 :: .ref a :: t) (pc + 1) (.ref a :: st)) : od_G Γ own cc nL R dA dZ ws (v0 :: .ref a :: t) pc st := by
  obtain ⟨p, l, e, s, m, args, below, meth, c, dC, dI, A, cells, slots, Q, ret⟩ := Γ
  intro F H locs ls hW hL
  exact lv_aload_n F.1 F.2.1 hd rfl (hL.get (i := 1) rfl (fun h => by cases h)) (k F H locs ls hW hL)
theorem og_aload_2 {v0 v1 : Value} {a : Nat} {t : List Value} (hd : decode cc pc = .ok (.aload_n 2, 1)) (k : od_G Γ own cc nL R dA dZ ws (v0 :: v1 :: .ref a :: t) (pc + 1) (.ref a :: st)) : od_G Γ own cc nL R dA dZ ws (v0 :: v1 :: .ref a :: t) pc st := by
  obtain ⟨p, l, e, s, m, args, below, meth, c, dC, dI, A, cells, slots, Q, ret⟩ := Γ
  intro F H locs ls hW hL
  exact lv_aload_n F.1 F.2.1 hd rfl (hL.get (i := 2) rfl (fun h => by cases h)) (k F H locs ls hW hL)
theorem og_iconst {n : Int} (hd : decode cc pc = .ok (.iconst n, 1)) (k : od_G Γ own cc nL R dA dZ ws lv (pc + 1) (.int (iI n) :: st)) : od_G Γ own cc nL R dA dZ ws lv pc st := by
  obtain ⟨p, l, e, s, m, args, below, meth, c, dC, dI, A, cells, slots, Q, ret⟩ := Γ
  intro F H locs ls hW hL
  exact lv_iconst F.1 F.2.1 hd rfl (k F H locs ls hW hL)
theorem og_bipush {n : Int} (hd : decode cc pc = .ok (.bipush n, 2)) (hv : (Int8.ofInt n).toInt32 = iI n) (k : od_G Γ own cc nL R dA dZ ws lv (pc + 2) (.int (iI n) :: st)) : od_G Γ own cc nL R dA dZ ws lv pc st := by
  obtain ⟨p, l, e, s, m, args, below, meth, c, dC, dI, A, cells, slots, Q, ret⟩ := Γ
  intro F H locs ls hW hL
  exact lv_bipush F.1 F.2.1 hd hv (k F H locs ls hW hL)
theorem og_sipush {n : Int} (hd : decode cc pc = .ok (.sipush n, 3)) (hv : (Int16.ofInt n).toInt32 = iI n) (k : od_G Γ own cc nL R dA dZ ws lv (pc + 3) (.int (iI n) :: st)) : od_G Γ own cc nL R dA dZ ws lv pc st := by
  obtain ⟨p, l, e, s, m, args, below, meth, c, dC, dI, A, cells, slots, Q, ret⟩ := Γ
  intro F H locs ls hW hL
  exact lv_sipush F.1 F.2.1 hd hv (k F H locs ls hW hL)
theorem og_iadd {a b : Int} (hd : decode cc pc = .ok (.iadd, 1)) (k : od_G Γ own cc nL R dA dZ ws lv (pc + 1) (.int (iI (a + b)) :: st)) : od_G Γ own cc nL R dA dZ ws lv pc (.int (iI b) :: .int (iI a) :: st) := by
  obtain ⟨p, l, e, s, m, args, below, meth, c, dC, dI, A, cells, slots, Q, ret⟩ := Γ
  intro F H locs ls hW hL
  exact lv_iadd F.1 F.2.1 hd (by rw [iI_add]; exact k F H locs ls hW hL)
theorem og_isub {a b : Int} (hd : decode cc pc = .ok (.isub, 1)) (k : od_G Γ own cc nL R dA dZ ws lv (pc + 1) (.int (iI (a - b)) :: st)) : od_G Γ own cc nL R dA dZ ws lv pc (.int (iI b) :: .int (iI a) :: st) := by
  obtain ⟨p, l, e, s, m, args, below, meth, c, dC, dI, A, cells, slots, Q, ret⟩ := Γ
  intro F H locs ls hW hL
  exact lv_isub F.1 F.2.1 hd (by rw [iI_sub]; exact k F H locs ls hW hL)
theorem og_imul {a b : Int} (hd : decode cc pc = .ok (.imul, 1)) (k : od_G Γ own cc nL R dA dZ ws lv (pc + 1) (.int (iI (a * b)) :: st)) : od_G Γ own cc nL R dA dZ ws lv pc (.int (iI b) :: .int (iI a) :: st) := by
  obtain ⟨p, l, e, s, m, args, below, meth, c, dC, dI, A, cells, slots, Q, ret⟩ := Γ
  intro F H locs ls hW hL
  exact lv_imul F.1 F.2.1 hd (by rw [iI_mul]; exact k F H locs ls hW hL)
theorem og_ineg {a : Int} (hd : decode cc pc = .ok (.ineg, 1)) (k : od_G Γ own cc nL R dA dZ ws lv (pc + 1) (.int (iI (-a)) :: st)) : od_G Γ own cc nL R dA dZ ws lv pc (.int (iI a) :: st) := by
  obtain ⟨p, l, e, s, m, args, below, meth, c, dC, dI, A, cells, slots, Q, ret⟩ := Γ
  intro F H locs ls hW hL
  exact lv_ineg F.1 F.2.1 hd (by rw [iI_neg]; exact k F H locs ls hW hL)
theorem og_idiv {a b : Int} (hd : decode cc pc = .ok (.idiv, 1)) (ha : Rg a) (hb : Rg b) (h0 : b ≠ 0) (k : od_G Γ own cc nL R dA dZ ws lv (pc + 1) (.int (iI (a.tdiv b)) :: st)) : od_G Γ own cc nL R dA dZ ws lv pc (.int (iI b) :: .int (iI a) :: st) := by
  obtain ⟨p, l, e, s, m, args, below, meth, c, dC, dI, A, cells, slots, Q, ret⟩ := Γ
  intro F H locs ls hW hL
  exact lv_idiv F.1 F.2.1 hd (iI_ne0 hb h0) (by rw [iI_tdiv ha hb]; exact k F H locs ls hW hL)
theorem og_irem {a b : Int} (hd : decode cc pc = .ok (.irem, 1)) (ha : Rg a) (hb : Rg b) (h0 : b ≠ 0) (k : od_G Γ own cc nL R dA dZ ws lv (pc + 1) (.int (iI (a.tmod b)) :: st)) : od_G Γ own cc nL R dA dZ ws lv pc (.int (iI b) :: .int (iI a) :: st) := by
  obtain ⟨p, l, e, s, m, args, below, meth, c, dC, dI, A, cells, slots, Q, ret⟩ := Γ
  intro F H locs ls hW hL
  exact lv_irem F.1 F.2.1 hd (iI_ne0 hb h0) (by rw [iI_tmod ha hb]; exact k F H locs ls hW hL)
theorem og_dupr {a : Nat} (hd : decode cc pc = .ok (.dup, 1)) (k : od_G Γ own cc nL R dA dZ ws lv (pc + 1) (.ref a :: .ref a :: st)) : od_G Γ own cc nL R dA dZ ws lv pc (.ref a :: st) := by
  obtain ⟨p, l, e, s, m, args, below, meth, c, dC, dI, A, cells, slots, Q, ret⟩ := Γ
  intro F H locs ls hW hL
  exact lv_dup F.1 F.2.1 hd rfl (k F H locs ls hW hL)
theorem og_goto {off : Int} {tgt : Nat} (hd : decode cc pc = .ok (.goto off, 3)) (ht : (pc : Int) + off = (tgt : Int)) (k : od_G Γ own cc nL R dA dZ ws lv tgt st) : od_G Γ own cc nL R dA dZ ws lv pc st := by
  obtain ⟨p, l, e, s, m, args, below, meth, c, dC, dI, A, cells, slots, Q, ret⟩ := Γ
  intro F H locs ls hW hL
  exact lv_goto F.1 F.2.1 hd ht (k F H locs ls hW hL)
theorem og_if_eq {a off : Int} {tgt : Nat} (hd : decode cc pc = .ok (.ifCond .eq off, 3)) (ht : (pc : Int) + off = (tgt : Int)) (ha : Rg a) (kt : a = 0 → od_G Γ own cc nL R dA dZ ws lv tgt st) (kf : a ≠ 0 → od_G Γ own cc nL R dA dZ ws lv (pc + 3) st) : od_G Γ own cc nL R dA dZ ws lv pc (.int (iI a) :: st) := by
  obtain ⟨p, l, e, s, m, args, below, meth, c, dC, dI, A, cells, slots, Q, ret⟩ := Γ
  intro F H locs ls hW hL
  have hq := iI_eq0 ha
  exact lv_if_eq F.1 F.2.1 hd ht (fun h => kt (by rw [hq] at h; omega) F H locs ls hW hL) (fun h => kf (by rw [hq] at h; omega) F H locs ls hW hL)
theorem og_if_ne {a off : Int} {tgt : Nat} (hd : decode cc pc = .ok (.ifCond .ne off, 3)) (ht : (pc : Int) + off = (tgt : Int)) (ha : Rg a) (kt : a ≠ 0 → od_G Γ own cc nL R dA dZ ws lv tgt st) (kf : a = 0 → od_G Γ own cc nL R dA dZ ws lv (pc + 3) st) : od_G Γ own cc nL R dA dZ ws lv pc (.int (iI a) :: st) := by
  obtain ⟨p, l, e, s, m, args, below, meth, c, dC, dI, A, cells, slots, Q, ret⟩ := Γ
  intro F H locs ls hW hL
  have hq := iI_eq0 ha
  exact lv_if_ne F.1 F.2.1 hd ht (fun h => kt (by rw [hq] at h; omega) F H locs ls hW hL) (fun h => kf (by rw [hq] at h; omega) F H locs ls hW hL)
theorem og_if_lt {a off : Int} {tgt : Nat} (hd : decode cc pc = .ok (.ifCond .lt off, 3)) (ht : (pc : Int) + off = (tgt : Int)) (ha : Rg a) (kt : a < 0 → od_G Γ own cc nL R dA dZ ws lv tgt st) (kf : 0 ≤ a → od_G Γ own cc nL R dA dZ ws lv (pc + 3) st) : od_G Γ own cc nL R dA dZ ws lv pc (.int (iI a) :: st) := by
  obtain ⟨p, l, e, s, m, args, below, meth, c, dC, dI, A, cells, slots, Q, ret⟩ := Γ
  intro F H locs ls hW hL
  have hq := iI_lt0 ha
  exact lv_if_lt F.1 F.2.1 hd ht (fun h => kt (by rw [hq] at h; omega) F H locs ls hW hL) (fun h => kf (by rw [hq] at h; omega) F H locs ls hW hL)
theorem og_if_ge {a off : Int} {tgt : Nat} (hd : decode cc pc = .ok (.ifCond .ge off, 3)) (ht : (pc : Int) + off = (tgt : Int)) (ha : Rg a) (kt : 0 ≤ a → od_G Γ own cc nL R dA dZ ws lv tgt st) (kf : a < 0 → od_G Γ own cc nL R dA dZ ws lv (pc + 3) st) : od_G Γ own cc nL R dA dZ ws lv pc (.int (iI a) :: st) := by
  obtain ⟨p, l, e, s, m, args, below, meth, c, dC, dI, A, cells, slots, Q, ret⟩ := Γ
  intro F H locs ls hW hL
  have hq := iI_0le ha
  exact lv_if_ge F.1 F.2.1 hd ht (fun h => kt (by rw [hq] at h; omega) F H locs ls hW hL) (fun h => kf (by rw [hq] at h; omega) F H locs ls hW hL)
theorem og_if_gt {a off : Int} {tgt : Nat} (hd : decode cc pc = .ok (.ifCond .gt off, 3)) (ht : (pc : Int) + off = (tgt : Int)) (ha : Rg a) (kt : 0 < a → od_G Γ own cc nL R dA dZ ws lv tgt st) (kf : a ≤ 0 → od_G Γ own cc nL R dA dZ ws lv (pc + 3) st) : od_G Γ own cc nL R dA dZ ws lv pc (.int (iI a) :: st) := by
  obtain ⟨p, l, e, s, m, args, below, meth, c, dC, dI, A, cells, slots, Q, ret⟩ := Γ
  intro F H locs ls hW hL
  have hq := iI_0lt ha
  exact lv_if_gt F.1 F.2.1 hd ht (fun h => kt (by rw [hq] at h; omega) F H locs ls hW hL) (fun h => kf (by rw [hq] at h; omega) F H locs ls hW hL)
theorem og_if_le {a off : Int} {tgt : Nat} (hd : decode cc pc = .ok (.ifCond .le off, 3)) (ht : (pc : Int) + off = (tgt : Int)) (ha : Rg a) (kt : a ≤ 0 → od_G Γ own cc nL R dA dZ ws lv tgt st) (kf : 0 < a → od_G Γ own cc nL R dA dZ ws lv (pc + 3) st) : od_G Γ own cc nL R dA dZ ws lv pc (.int (iI a) :: st) := by
  obtain ⟨p, l, e, s, m, args, below, meth, c, dC, dI, A, cells, slots, Q, ret⟩ := Γ
  intro F H locs ls hW hL
  have hq := iI_le0 ha
  exact lv_if_le F.1 F.2.1 hd ht (fun h => kt (by rw [hq] at h; omega) F H locs ls hW hL) (fun h => kf (by rw [hq] at h; omega) F H locs ls hW hL)
theorem og_icmp_eq {a b off : Int} {tgt : Nat} (hd : decode cc pc = .ok (.if_icmp .eq off, 3)) (ht : (pc : Int) + off = (tgt : Int)) (ha : Rg a) (hb : Rg b) (kt : a = b → od_G Γ own cc nL R dA dZ ws lv tgt st) (kf : a ≠ b → od_G Γ own cc nL R dA dZ ws lv (pc + 3) st) : od_G Γ own cc nL R dA dZ ws lv pc (.int (iI b) :: .int (iI a) :: st) := by
  obtain ⟨p, l, e, s, m, args, below, meth, c, dC, dI, A, cells, slots, Q, ret⟩ := Γ
  intro F H locs ls hW hL
  have hq := iI_eq ha hb
  exact lv_icmp_eq F.1 F.2.1 hd ht (fun h => kt (by rw [hq] at h; omega) F H locs ls hW hL) (fun h => kf (by rw [hq] at h; omega) F H locs ls hW hL)
theorem og_icmp_ne {a b off : Int} {tgt : Nat} (hd : decode cc pc = .ok (.if_icmp .ne off, 3)) (ht : (pc : Int) + off = (tgt : Int)) (ha : Rg a) (hb : Rg b) (kt : a ≠ b → od_G Γ own cc nL R dA dZ ws lv tgt st) (kf : a = b → od_G Γ own cc nL R dA dZ ws lv (pc + 3) st) : od_G Γ own cc nL R dA dZ ws lv pc (.int (iI b) :: .int (iI a) :: st) := by
  obtain ⟨p, l, e, s, m, args, below, meth, c, dC, dI, A, cells, slots, Q, ret⟩ := Γ
  intro F H locs ls hW hL
  have hq := iI_eq ha hb
  exact lv_icmp_ne F.1 F.2.1 hd ht (fun h => kt (by rw [hq] at h; omega) F H locs ls hW hL) (fun h => kf (by rw [hq] at h; omega) F H locs ls hW hL)
theorem og_icmp_lt {a b off : Int} {tgt : Nat} (hd : decode cc pc = .ok (.if_icmp .lt off, 3)) (ht : (pc : Int) + off = (tgt : Int)) (ha : Rg a) (hb : Rg b) (kt : a < b → od_G Γ own cc nL R dA dZ ws lv tgt st) (kf : b ≤ a → od_G Γ own cc nL R dA dZ ws lv (pc + 3) st) : od_G Γ own cc nL R dA dZ ws lv pc (.int (iI b) :: .int (iI a) :: st) := by
  obtain ⟨p, l, e, s, m, args, below, meth, c, dC, dI, A, cells, slots, Q, ret⟩ := Γ
  intro F H locs ls hW hL
  have hq := iI_lt ha hb
  exact lv_icmp_lt F.1 F.2.1 hd ht (fun h => kt (by rw [hq] at h; omega) F H locs ls hW hL) (fun h => kf (by rw [hq] at h; omega) F H locs ls hW hL)
theorem og_icmp_ge {a b off : Int} {tgt : Nat} (hd : decode cc pc = .ok (.if_icmp .ge off, 3)) (ht : (pc : Int) + off = (tgt : Int)) (ha : Rg a) (hb : Rg b) (kt : b ≤ a → od_G Γ own cc nL R dA dZ ws lv tgt st) (kf : a < b → od_G Γ own cc nL R dA dZ ws lv (pc + 3) st) : od_G Γ own cc nL R dA dZ ws lv pc (.int (iI b) :: .int (iI a) :: st) := by
  obtain ⟨p, l, e, s, m, args, below, meth, c, dC, dI, A, cells, slots, Q, ret⟩ := Γ
  intro F H locs ls hW hL
  have hq := iI_le hb ha
  exact lv_icmp_ge F.1 F.2.1 hd ht (fun h => kt (by rw [hq] at h; omega) F H locs ls hW hL) (fun h => kf (by rw [hq] at h; omega) F H locs ls hW hL)
theorem og_icmp_gt {a b off : Int} {tgt : Nat} (hd : decode cc pc = .ok (.if_icmp .gt off, 3)) (ht : (pc : Int) + off = (tgt : Int)) (ha : Rg a) (hb : Rg b) (kt : b < a → od_G Γ own cc nL R dA dZ ws lv tgt st) (kf : a ≤ b → od_G Γ own cc nL R dA dZ ws lv (pc + 3) st) : od_G Γ own cc nL R dA dZ ws lv pc (.int (iI b) :: .int (iI a) :: st) := by
  obtain ⟨p, l, e, s, m, args, below, meth, c, dC, dI, A, cells, slots, Q, ret⟩ := Γ
  intro F H locs ls hW hL
  have hq := iI_lt hb ha
  exact lv_icmp_gt F.1 F.2.1 hd ht (fun h => kt (by rw [hq] at h; omega) F H locs ls hW hL) (fun h => kf (by rw [hq] at h; omega) F H locs ls hW hL)
theorem og_icmp_le {a b off : Int} {tgt : Nat} (hd : decode cc pc = .ok (.if_icmp .le off, 3)) (ht : (pc : Int) + off = (tgt : Int)) (ha : Rg a) (hb : Rg b) (kt : a ≤ b → od_G Γ own cc nL R dA dZ ws lv tgt st) (kf : b < a → od_G Γ own cc nL R dA dZ ws lv (pc + 3) st) : od_G Γ own cc nL R dA dZ ws lv pc (.int (iI b) :: .int (iI a) :: st) := by
  obtain ⟨p, l, e, s, m, args, below, meth, c, dC, dI, A, cells, slots, Q, ret⟩ := Γ
  intro F H locs ls hW hL
  have hq := iI_le ha hb
  exact lv_icmp_le F.1 F.2.1 hd ht (fun h => kt (by rw [hq] at h; omega) F H locs ls hW hL) (fun h => kf (by rw [hq] at h; omega) F H locs ls hW hL)
theorem og_forget_0 {v0 : Value} {t : List Value} (k : od_G Γ own cc nL R dA dZ ws (.null :: t) pc st) : od_G Γ own cc nL R dA dZ ws (v0 :: t) pc st := by
  obtain ⟨p, l, e, s, m, args, below, meth, c, dC, dI, A, cells, slots, Q, ret⟩ := Γ
  intro F H locs ls hW hL
  exact k F H locs ls hW (hL.forget 0)
theorem og_forget_1 {v0 v1 : Value} {t : List Value} (k : od_G Γ own cc nL R dA dZ ws (v0 :: .null :: t) pc st) : od_G Γ own cc nL R dA dZ ws (v0 :: v1 :: t) pc st := by
  obtain ⟨p, l, e, s, m, args, below, meth, c, dC, dI, A, cells, slots, Q, ret⟩ := Γ
  intro F H locs ls hW hL
  exact k F H locs ls hW (hL.forget 1)
theorem og_forget_2 {v0 v1 v2 : Value} {t : List Value} (k : od_G Γ own cc nL R dA dZ ws (v0 :: v1 :: .null :: t) pc st) : od_G Γ own cc nL R dA dZ ws (v0 :: v1 :: v2 :: t) pc st := by
  obtain ⟨p, l, e, s, m, args, below, meth, c, dC, dI, A, cells, slots, Q, ret⟩ := Γ
  intro F H locs ls hW hL
  exact k F H locs ls hW (hL.forget 2)
theorem og_forget_3 {v0 v1 v2 v3 : Value} {t : List Value} (k : od_G Γ own cc nL R dA dZ ws (v0 :: v1 :: v2 :: .null :: t) pc st) : od_G Γ own cc nL R dA dZ ws (v0 :: v1 :: v2 :: v3 :: t) pc st := by
  obtain ⟨p, l, e, s, m, args, below, meth, c, dC, dI, A, cells, slots, Q, ret⟩ := Γ
  intro F H locs ls hW hL
  exact k F H locs ls hW (hL.forget 3)
theorem og_forget_4 {v0 v1 v2 v3 v4 : Value} {t : List Value} (k : od_G Γ own cc nL R dA dZ ws (v0 :: v1 :: v2 :: v3 :: .null :: t) pc st) : od_G Γ own cc nL R dA dZ ws (v0 :: v1 :: v2 :: v3 :: v4 :: t) pc st := by
  obtain ⟨p, l, e, s, m, args, below, meth, c, dC, dI, A, cells, slots, Q, ret⟩ := Γ
  intro F H locs ls hW hL
  exact k F H locs ls hW (hL.forget 4)
theorem og_forget_5 {v0 v1 v2 v3 v4 v5 : Value} {t : List Value} (k : od_G Γ own cc nL R dA dZ ws (v0 :: v1 :: v2 :: v3 :: v4 :: .null :: t) pc st) : od_G Γ own cc nL R dA dZ ws (v0 :: v1 :: v2 :: v3 :: v4 :: v5 :: t) pc st := by
  obtain ⟨p, l, e, s, m, args, below, meth, c, dC, dI, A, cells, slots, Q, ret⟩ := Γ
  intro F H locs ls hW hL
  exact k F H locs ls hW (hL.forget 5)
theorem og_forget_6 {v0 v1 v2 v3 v4 v5 v6 : Value} {t : List Value} (k : od_G Γ own cc nL R dA dZ ws (v0 :: v1 :: v2 :: v3 :: v4 :: v5 :: .null :: t) pc st) : od_G Γ own cc nL R dA dZ ws (v0 :: v1 :: v2 :: v3 :: v4 :: v5 :: v6 :: t) pc st := by
  obtain ⟨p, l, e, s, m, args, below, meth, c, dC, dI, A, cells, slots, Q, ret⟩ := Γ
  intro F H locs ls hW hL
  exact k F H locs ls hW (hL.forget 6)
theorem og_forget_7 {v0 v1 v2 v3 v4 v5 v6 v7 : Value} {t : List Value} (k : od_G Γ own cc nL R dA dZ ws (v0 :: v1 :: v2 :: v3 :: v4 :: v5 :: v6 :: .null :: t) pc st) : od_G Γ own cc nL R dA dZ ws (v0 :: v1 :: v2 :: v3 :: v4 :: v5 :: v6 :: v7 :: t) pc st := by
  obtain ⟨p, l, e, s, m, args, below, meth, c, dC, dI, A, cells, slots, Q, ret⟩ := Γ
  intro F H locs ls hW hL
  exact k F H locs ls hW (hL.forget 7)
theorem og_forget_8 {v0 v1 v2 v3 v4 v5 v6 v7 v8 : Value} {t : List Value} (k : od_G Γ own cc nL R dA dZ ws (v0 :: v1 :: v2 :: v3 :: v4 :: v5 :: v6 :: v7 :: .null :: t) pc st) : od_G Γ own cc nL R dA dZ ws (v0 :: v1 :: v2 :: v3 :: v4 :: v5 :: v6 :: v7 :: v8 :: t) pc st := by
  obtain ⟨p, l, e, s, m, args, below, meth, c, dC, dI, A, cells, slots, Q, ret⟩ := Γ
  intro F H locs ls hW hL
  exact k F H locs ls hW (hL.forget 8)
theorem og_forget_9 {v0 v1 v2 v3 v4 v5 v6 v7 v8 v9 : Value} {t : List Value} (k : od_G Γ own cc nL R dA dZ ws (v0 :: v1 :: v2 :: v3 :: v4 :: v5 :: v6 :: v7 :: v8 :: .null :: t) pc st) : od_G Γ own cc nL R dA dZ ws (v0 :: v1 :: v2 :: v3 :: v4 :: v5 :: v6 :: v7 :: v8 :: v9 :: t) pc st := by
  obtain ⟨p, l, e, s, m, args, below, meth, c, dC, dI, A, cells, slots, Q, ret⟩ := Γ
  intro F H locs ls hW hL
  exact k F H locs ls hW (hL.forget 9)
theorem og_top {x y : Int} (h : x = y) (k : od_G Γ own cc nL R dA dZ ws lv pc (.int (iI y) :: st)) : od_G Γ own cc nL R dA dZ ws lv pc (.int (iI x) :: st) := by
  rw [h]
  exact k
end OG
section OFx
variable {Γ : Cxt} {cc : ByteArray} {nL : Nat} {R : Room} {dA dZ : ClassId} {lv : List Value} {pc : Nat} {st : List Value} {ad : Nat → Nat} {u : DS}
theorem og_xg0 {z : Int} (hd : decode cc pc = .ok (.getfield 43, 3)) (hz : u 0 0 = z) (k : od_G Γ RX0 cc nL R dA dZ (xc dA dZ ad u) lv (pc + 3) (.int (iI z) :: st)) : od_G Γ RX0 cc nL R dA dZ (xc dA dZ ad u) lv pc (.ref (ad 0) :: st) := by
  subst hz
  obtain ⟨p, l, e, s, m, args, below, meth, c, dC, dI, A, cells, slots, Q, ret⟩ := Γ
  intro F H locs ls hW hL
  obtain ⟨hx, hb, hml, hlk, hrt, hown, hts, hK, hA, hcl, hsl⟩ := id F
  exact va_get (D := (dC, dI)) (ci := 0) (C := RX0) (T := TX0) (N := 12) hx hb hts in_X0 hown hK hW.1 0 rfl rfl 0 (by decide) (hts _ q28) (fun _ h9 => h9) rfl hd (k F H locs ls hW hL)
theorem og_xp0 {z : Int} (hd : decode cc pc = .ok (.putfield 43, 3)) (k : od_G Γ RX0 cc nL R dA dZ (xc dA dZ ad (up2 u 0 0 z)) lv (pc + 3) st) : od_G Γ RX0 cc nL R dA dZ (xc dA dZ ad u) lv pc (.int (iI z) :: .ref (ad 0) :: st) := by
  obtain ⟨p, l, e, s, m, args, below, meth, c, dC, dI, A, cells, slots, Q, ret⟩ := Γ
  intro F H locs ls hW hL
  obtain ⟨hx, hb, hml, hlk, hrt, hown, hts, hK, hA, hcl, hsl⟩ := id F
  refine va_put (D := (dC, dI)) (ci := 0) (v := .int (iI z)) (ty := .int) (C := RX0) (T := TX0) (N := 12) hx hb hts in_X0 tyX0 tyX0_ok nmX0 hown hK hW.1 hW.2.1 hW.2.2 0 rfl rfl 0 (by decide) (hts _ q28) (fun _ h9 => h9) rfl (by decide +kernel) rfl rfl (Nat.le_of_ble_eq_true rfl) hd (fun H1 locs1 hP hD hS => ?_)
  exact k F H1 locs1 ls ⟨hP, hD, hS⟩ hL
theorem og_xg4 {z : Int} (hd : decode cc pc = .ok (.getfield 68, 3)) (hz : u 4 0 = z) (k : od_G Γ RX0 cc nL R dA dZ (xc dA dZ ad u) lv (pc + 3) (.int (iI z) :: st)) : od_G Γ RX0 cc nL R dA dZ (xc dA dZ ad u) lv pc (.ref (ad 0) :: st) := by
  subst hz
  obtain ⟨p, l, e, s, m, args, below, meth, c, dC, dI, A, cells, slots, Q, ret⟩ := Γ
  intro F H locs ls hW hL
  obtain ⟨hx, hb, hml, hlk, hrt, hown, hts, hK, hA, hcl, hsl⟩ := id F
  exact va_get (D := (dC, dI)) (ci := 0) (C := RX0) (T := TX0) (N := 12) hx hb hts in_X0 hown hK hW.1 0 rfl rfl 4 (by decide) (hts _ q32) (fun _ h9 => h9) rfl hd (k F H locs ls hW hL)
theorem og_xp4 {z : Int} (hd : decode cc pc = .ok (.putfield 68, 3)) (k : od_G Γ RX0 cc nL R dA dZ (xc dA dZ ad (up2 u 4 0 z)) lv (pc + 3) st) : od_G Γ RX0 cc nL R dA dZ (xc dA dZ ad u) lv pc (.int (iI z) :: .ref (ad 0) :: st) := by
  obtain ⟨p, l, e, s, m, args, below, meth, c, dC, dI, A, cells, slots, Q, ret⟩ := Γ
  intro F H locs ls hW hL
  obtain ⟨hx, hb, hml, hlk, hrt, hown, hts, hK, hA, hcl, hsl⟩ := id F
  refine va_put (D := (dC, dI)) (ci := 0) (v := .int (iI z)) (ty := .int) (C := RX0) (T := TX0) (N := 12) hx hb hts in_X0 tyX0 tyX0_ok nmX0 hown hK hW.1 hW.2.1 hW.2.2 0 rfl rfl 4 (by decide) (hts _ q32) (fun _ h9 => h9) rfl (by decide +kernel) rfl rfl (Nat.le_of_ble_eq_true rfl) hd (fun H1 locs1 hP hD hS => ?_)
  exact k F H1 locs1 ls ⟨hP, hD, hS⟩ hL
theorem og_xg7 {z : Int} (hd : decode cc pc = .ok (.getfield 89, 3)) (hz : u 7 0 = z) (k : od_G Γ RX0 cc nL R dA dZ (xc dA dZ ad u) lv (pc + 3) (.int (iI z) :: st)) : od_G Γ RX0 cc nL R dA dZ (xc dA dZ ad u) lv pc (.ref (ad 0) :: st) := by
  subst hz
  obtain ⟨p, l, e, s, m, args, below, meth, c, dC, dI, A, cells, slots, Q, ret⟩ := Γ
  intro F H locs ls hW hL
  obtain ⟨hx, hb, hml, hlk, hrt, hown, hts, hK, hA, hcl, hsl⟩ := id F
  exact va_get (D := (dC, dI)) (ci := 0) (C := RX0) (T := TX0) (N := 12) hx hb hts in_X0 hown hK hW.1 0 rfl rfl 7 (by decide) (hts _ q35) (fun _ h9 => h9) rfl hd (k F H locs ls hW hL)
theorem og_xp7 {z : Int} (hd : decode cc pc = .ok (.putfield 89, 3)) (k : od_G Γ RX0 cc nL R dA dZ (xc dA dZ ad (up2 u 7 0 z)) lv (pc + 3) st) : od_G Γ RX0 cc nL R dA dZ (xc dA dZ ad u) lv pc (.int (iI z) :: .ref (ad 0) :: st) := by
  obtain ⟨p, l, e, s, m, args, below, meth, c, dC, dI, A, cells, slots, Q, ret⟩ := Γ
  intro F H locs ls hW hL
  obtain ⟨hx, hb, hml, hlk, hrt, hown, hts, hK, hA, hcl, hsl⟩ := id F
  refine va_put (D := (dC, dI)) (ci := 0) (v := .int (iI z)) (ty := .int) (C := RX0) (T := TX0) (N := 12) hx hb hts in_X0 tyX0 tyX0_ok nmX0 hown hK hW.1 hW.2.1 hW.2.2 0 rfl rfl 7 (by decide) (hts _ q35) (fun _ h9 => h9) rfl (by decide +kernel) rfl rfl (Nat.le_of_ble_eq_true rfl) hd (fun H1 locs1 hP hD hS => ?_)
  exact k F H1 locs1 ls ⟨hP, hD, hS⟩ hL
theorem og_xg11 {z : Int} (hd : decode cc pc = .ok (.getfield 35, 3)) (hz : u 11 0 = z) (k : od_G Γ RX0 cc nL R dA dZ (xc dA dZ ad u) lv (pc + 3) (.int (iI z) :: st)) : od_G Γ RX0 cc nL R dA dZ (xc dA dZ ad u) lv pc (.ref (ad 0) :: st) := by
  subst hz
  obtain ⟨p, l, e, s, m, args, below, meth, c, dC, dI, A, cells, slots, Q, ret⟩ := Γ
  intro F H locs ls hW hL
  obtain ⟨hx, hb, hml, hlk, hrt, hown, hts, hK, hA, hcl, hsl⟩ := id F
  exact va_get (D := (dC, dI)) (ci := 0) (C := RX0) (T := TX0) (N := 12) hx hb hts in_X0 hown hK hW.1 0 rfl rfl 11 (by decide) (hts _ q39) (fun _ h9 => h9) rfl hd (k F H locs ls hW hL)
theorem og_xp11 {z : Int} (hd : decode cc pc = .ok (.putfield 35, 3)) (k : od_G Γ RX0 cc nL R dA dZ (xc dA dZ ad (up2 u 11 0 z)) lv (pc + 3) st) : od_G Γ RX0 cc nL R dA dZ (xc dA dZ ad u) lv pc (.int (iI z) :: .ref (ad 0) :: st) := by
  obtain ⟨p, l, e, s, m, args, below, meth, c, dC, dI, A, cells, slots, Q, ret⟩ := Γ
  intro F H locs ls hW hL
  obtain ⟨hx, hb, hml, hlk, hrt, hown, hts, hK, hA, hcl, hsl⟩ := id F
  refine va_put (D := (dC, dI)) (ci := 0) (v := .int (iI z)) (ty := .int) (C := RX0) (T := TX0) (N := 12) hx hb hts in_X0 tyX0 tyX0_ok nmX0 hown hK hW.1 hW.2.1 hW.2.2 0 rfl rfl 11 (by decide) (hts _ q39) (fun _ h9 => h9) rfl (by decide +kernel) rfl rfl (Nat.le_of_ble_eq_true rfl) hd (fun H1 locs1 hP hD hS => ?_)
  exact k F H1 locs1 ls ⟨hP, hD, hS⟩ hL
theorem og_xr1 (hd : decode cc pc = .ok (.getfield 7, 3)) (k : od_G Γ RX0 cc nL R dA dZ (xc dA dZ ad u) lv (pc + 3) (.ref (ad 1) :: st)) : od_G Γ RX0 cc nL R dA dZ (xc dA dZ ad u) lv pc (.ref (ad 0) :: st) := by
  obtain ⟨p, l, e, s, m, args, below, meth, c, dC, dI, A, cells, slots, Q, ret⟩ := Γ
  intro F H locs ls hW hL
  obtain ⟨hx, hb, hml, hlk, hrt, hown, hts, hK, hA, hcl, hsl⟩ := id F
  exact va_get (D := (dC, dI)) (ci := 0) (C := RX0) (T := TX0) (N := 12) hx hb hts in_X0 hown hK hW.1 0 rfl rfl 1 (by decide) (hts _ q29) (fun _ h9 => h9) rfl hd (k F H locs ls hW hL)
theorem og_xl1 {t z : Int} (j : Nat) (hd : decode cc pc = .ok (.iaload, 1)) (hj : t = (j : Int)) (hlt : j < 24) (hz : u 1 j = z) (k : od_G Γ RX0 cc nL R dA dZ (xc dA dZ ad u) lv (pc + 1) (.int (iI z) :: st)) : od_G Γ RX0 cc nL R dA dZ (xc dA dZ ad u) lv pc (.int (iI t) :: .ref (ad 1) :: st) := by
  subst hz
  subst hj
  obtain ⟨p, l, e, s, m, args, below, meth, c, dC, dI, A, cells, slots, Q, ret⟩ := Γ
  intro F H locs ls hW hL
  obtain ⟨hx, hb, hml, hlk, hrt, hown, hts, hK, hA, hcl, hsl⟩ := id F
  refine va_iald hx hb hK hW.1 1 0 rfl rfl (by rw [iI_nat]; exact vp_in_nI hlt (by decide)) hd ?_
  have e : (iI (j : Int)).toNatClampNeg = j := by rw [iI_nat]; exact nI_clamp (by omega)
  rw [e]
  exact k F H locs ls hW hL
theorem og_xs1 {t z : Int} (j : Nat) (hd : decode cc pc = .ok (.iastore, 1)) (hj : t = (j : Int)) (hlt : j < 24) (k : od_G Γ RX0 cc nL R dA dZ (xc dA dZ ad (up2 u 1 j z)) lv (pc + 1) st) : od_G Γ RX0 cc nL R dA dZ (xc dA dZ ad u) lv pc (.int (iI z) :: .int (iI t) :: .ref (ad 1) :: st) := by
  subst hj
  obtain ⟨p, l, e, s, m, args, below, meth, c, dC, dI, A, cells, slots, Q, ret⟩ := Γ
  intro F H locs ls hW hL
  obtain ⟨hx, hb, hml, hlk, hrt, hown, hts, hK, hA, hcl, hsl⟩ := id F
  refine va_iast hx hb hK hW.1 hW.2.1 hW.2.2 1 0 rfl rfl (by rw [iI_nat]; exact vp_in_nI hlt (by decide)) hd (fun H1 locs1 hP hD hS => ?_)
  have e : (iI (j : Int)).toNatClampNeg = j := by rw [iI_nat]; exact nI_clamp (by omega)
  rw [e] at hP hD
  rw [← up2_iI u 1 j z] at hP hD
  exact k F H1 locs1 ls ⟨hP, hD, hS⟩ hL
theorem og_xr2 (hd : decode cc pc = .ok (.getfield 13, 3)) (k : od_G Γ RX0 cc nL R dA dZ (xc dA dZ ad u) lv (pc + 3) (.ref (ad 2) :: st)) : od_G Γ RX0 cc nL R dA dZ (xc dA dZ ad u) lv pc (.ref (ad 0) :: st) := by
  obtain ⟨p, l, e, s, m, args, below, meth, c, dC, dI, A, cells, slots, Q, ret⟩ := Γ
  intro F H locs ls hW hL
  obtain ⟨hx, hb, hml, hlk, hrt, hown, hts, hK, hA, hcl, hsl⟩ := id F
  exact va_get (D := (dC, dI)) (ci := 0) (C := RX0) (T := TX0) (N := 12) hx hb hts in_X0 hown hK hW.1 0 rfl rfl 2 (by decide) (hts _ q30) (fun _ h9 => h9) rfl hd (k F H locs ls hW hL)
theorem og_xl2 {t z : Int} (j : Nat) (hd : decode cc pc = .ok (.iaload, 1)) (hj : t = (j : Int)) (hlt : j < 8) (hz : u 2 j = z) (k : od_G Γ RX0 cc nL R dA dZ (xc dA dZ ad u) lv (pc + 1) (.int (iI z) :: st)) : od_G Γ RX0 cc nL R dA dZ (xc dA dZ ad u) lv pc (.int (iI t) :: .ref (ad 2) :: st) := by
  subst hz
  subst hj
  obtain ⟨p, l, e, s, m, args, below, meth, c, dC, dI, A, cells, slots, Q, ret⟩ := Γ
  intro F H locs ls hW hL
  obtain ⟨hx, hb, hml, hlk, hrt, hown, hts, hK, hA, hcl, hsl⟩ := id F
  refine va_iald hx hb hK hW.1 2 0 rfl rfl (by rw [iI_nat]; exact vp_in_nI hlt (by decide)) hd ?_
  have e : (iI (j : Int)).toNatClampNeg = j := by rw [iI_nat]; exact nI_clamp (by omega)
  rw [e]
  exact k F H locs ls hW hL
theorem og_xs2 {t z : Int} (j : Nat) (hd : decode cc pc = .ok (.iastore, 1)) (hj : t = (j : Int)) (hlt : j < 8) (k : od_G Γ RX0 cc nL R dA dZ (xc dA dZ ad (up2 u 2 j z)) lv (pc + 1) st) : od_G Γ RX0 cc nL R dA dZ (xc dA dZ ad u) lv pc (.int (iI z) :: .int (iI t) :: .ref (ad 2) :: st) := by
  subst hj
  obtain ⟨p, l, e, s, m, args, below, meth, c, dC, dI, A, cells, slots, Q, ret⟩ := Γ
  intro F H locs ls hW hL
  obtain ⟨hx, hb, hml, hlk, hrt, hown, hts, hK, hA, hcl, hsl⟩ := id F
  refine va_iast hx hb hK hW.1 hW.2.1 hW.2.2 2 0 rfl rfl (by rw [iI_nat]; exact vp_in_nI hlt (by decide)) hd (fun H1 locs1 hP hD hS => ?_)
  have e : (iI (j : Int)).toNatClampNeg = j := by rw [iI_nat]; exact nI_clamp (by omega)
  rw [e] at hP hD
  rw [← up2_iI u 2 j z] at hP hD
  exact k F H1 locs1 ls ⟨hP, hD, hS⟩ hL
theorem og_xr3 (hd : decode cc pc = .ok (.getfield 16, 3)) (k : od_G Γ RX0 cc nL R dA dZ (xc dA dZ ad u) lv (pc + 3) (.ref (ad 3) :: st)) : od_G Γ RX0 cc nL R dA dZ (xc dA dZ ad u) lv pc (.ref (ad 0) :: st) := by
  obtain ⟨p, l, e, s, m, args, below, meth, c, dC, dI, A, cells, slots, Q, ret⟩ := Γ
  intro F H locs ls hW hL
  obtain ⟨hx, hb, hml, hlk, hrt, hown, hts, hK, hA, hcl, hsl⟩ := id F
  exact va_get (D := (dC, dI)) (ci := 0) (C := RX0) (T := TX0) (N := 12) hx hb hts in_X0 hown hK hW.1 0 rfl rfl 3 (by decide) (hts _ q31) (fun _ h9 => h9) rfl hd (k F H locs ls hW hL)
theorem og_xl3 {t z : Int} (j : Nat) (hd : decode cc pc = .ok (.baload, 1)) (hj : t = (j : Int)) (hlt : j < 8) (hz : u 3 j = z) (k : od_G Γ RX0 cc nL R dA dZ (xc dA dZ ad u) lv (pc + 1) (.int (iI z) :: st)) : od_G Γ RX0 cc nL R dA dZ (xc dA dZ ad u) lv pc (.int (iI t) :: .ref (ad 3) :: st) := by
  subst hz
  subst hj
  obtain ⟨p, l, e, s, m, args, below, meth, c, dC, dI, A, cells, slots, Q, ret⟩ := Γ
  intro F H locs ls hW hL
  obtain ⟨hx, hb, hml, hlk, hrt, hown, hts, hK, hA, hcl, hsl⟩ := id F
  refine va_zald hx hb hK hW.1 3 1 rfl rfl (by rw [iI_nat]; exact vp_in_nI hlt (by decide)) hd ?_
  have e : (iI (j : Int)).toNatClampNeg = j := by rw [iI_nat]; exact nI_clamp (by omega)
  rw [e]
  exact k F H locs ls hW hL
theorem og_xs3 {t z : Int} (j : Nat) (hd : decode cc pc = .ok (.bastore, 1)) (hj : t = (j : Int)) (hlt : j < 8) (h01 : z = 0 ∨ z = 1) (k : od_G Γ RX0 cc nL R dA dZ (xc dA dZ ad (up2 u 3 j z)) lv (pc + 1) st) : od_G Γ RX0 cc nL R dA dZ (xc dA dZ ad u) lv pc (.int (iI z) :: .int (iI t) :: .ref (ad 3) :: st) := by
  subst hj
  obtain ⟨p, l, e, s, m, args, below, meth, c, dC, dI, A, cells, slots, Q, ret⟩ := Γ
  intro F H locs ls hW hL
  obtain ⟨hx, hb, hml, hlk, hrt, hown, hts, hK, hA, hcl, hsl⟩ := id F
  refine va_zast hx hb hK hW.1 hW.2.1 hW.2.2 3 1 rfl rfl (by rw [iI_nat]; exact vp_in_nI hlt (by decide)) hd (fun H1 locs1 hP hD hS => ?_)
  have e : (iI (j : Int)).toNatClampNeg = j := by rw [iI_nat]; exact nI_clamp (by omega)
  rw [e] at hP hD
  have en : vp_nar .boolean (iI z) = iI z := by rcases h01 with h | h <;> rw [h] <;> decide +kernel
  rw [en] at hP hD
  rw [← up2_iI u 3 j z] at hP hD
  exact k F H1 locs1 ls ⟨hP, hD, hS⟩ hL
theorem og_xr5 (hd : decode cc pc = .ok (.getfield 20, 3)) (k : od_G Γ RX0 cc nL R dA dZ (xc dA dZ ad u) lv (pc + 3) (.ref (ad 5) :: st)) : od_G Γ RX0 cc nL R dA dZ (xc dA dZ ad u) lv pc (.ref (ad 0) :: st) := by
  obtain ⟨p, l, e, s, m, args, below, meth, c, dC, dI, A, cells, slots, Q, ret⟩ := Γ
  intro F H locs ls hW hL
  obtain ⟨hx, hb, hml, hlk, hrt, hown, hts, hK, hA, hcl, hsl⟩ := id F
  exact va_get (D := (dC, dI)) (ci := 0) (C := RX0) (T := TX0) (N := 12) hx hb hts in_X0 hown hK hW.1 0 rfl rfl 5 (by decide) (hts _ q33) (fun _ h9 => h9) rfl hd (k F H locs ls hW hL)
theorem og_xl5 {t z : Int} (j : Nat) (hd : decode cc pc = .ok (.iaload, 1)) (hj : t = (j : Int)) (hlt : j < 75) (hz : u 5 j = z) (k : od_G Γ RX0 cc nL R dA dZ (xc dA dZ ad u) lv (pc + 1) (.int (iI z) :: st)) : od_G Γ RX0 cc nL R dA dZ (xc dA dZ ad u) lv pc (.int (iI t) :: .ref (ad 5) :: st) := by
  subst hz
  subst hj
  obtain ⟨p, l, e, s, m, args, below, meth, c, dC, dI, A, cells, slots, Q, ret⟩ := Γ
  intro F H locs ls hW hL
  obtain ⟨hx, hb, hml, hlk, hrt, hown, hts, hK, hA, hcl, hsl⟩ := id F
  refine va_iald hx hb hK hW.1 4 0 rfl rfl (by rw [iI_nat]; exact vp_in_nI hlt (by decide)) hd ?_
  have e : (iI (j : Int)).toNatClampNeg = j := by rw [iI_nat]; exact nI_clamp (by omega)
  rw [e]
  exact k F H locs ls hW hL
theorem og_xs5 {t z : Int} (j : Nat) (hd : decode cc pc = .ok (.iastore, 1)) (hj : t = (j : Int)) (hlt : j < 75) (k : od_G Γ RX0 cc nL R dA dZ (xc dA dZ ad (up2 u 5 j z)) lv (pc + 1) st) : od_G Γ RX0 cc nL R dA dZ (xc dA dZ ad u) lv pc (.int (iI z) :: .int (iI t) :: .ref (ad 5) :: st) := by
  subst hj
  obtain ⟨p, l, e, s, m, args, below, meth, c, dC, dI, A, cells, slots, Q, ret⟩ := Γ
  intro F H locs ls hW hL
  obtain ⟨hx, hb, hml, hlk, hrt, hown, hts, hK, hA, hcl, hsl⟩ := id F
  refine va_iast hx hb hK hW.1 hW.2.1 hW.2.2 4 0 rfl rfl (by rw [iI_nat]; exact vp_in_nI hlt (by decide)) hd (fun H1 locs1 hP hD hS => ?_)
  have e : (iI (j : Int)).toNatClampNeg = j := by rw [iI_nat]; exact nI_clamp (by omega)
  rw [e] at hP hD
  rw [← up2_iI u 5 j z] at hP hD
  exact k F H1 locs1 ls ⟨hP, hD, hS⟩ hL
theorem og_xr6 (hd : decode cc pc = .ok (.getfield 23, 3)) (k : od_G Γ RX0 cc nL R dA dZ (xc dA dZ ad u) lv (pc + 3) (.ref (ad 6) :: st)) : od_G Γ RX0 cc nL R dA dZ (xc dA dZ ad u) lv pc (.ref (ad 0) :: st) := by
  obtain ⟨p, l, e, s, m, args, below, meth, c, dC, dI, A, cells, slots, Q, ret⟩ := Γ
  intro F H locs ls hW hL
  obtain ⟨hx, hb, hml, hlk, hrt, hown, hts, hK, hA, hcl, hsl⟩ := id F
  exact va_get (D := (dC, dI)) (ci := 0) (C := RX0) (T := TX0) (N := 12) hx hb hts in_X0 hown hK hW.1 0 rfl rfl 6 (by decide) (hts _ q34) (fun _ h9 => h9) rfl hd (k F H locs ls hW hL)
theorem og_xl6 {t z : Int} (j : Nat) (hd : decode cc pc = .ok (.iaload, 1)) (hj : t = (j : Int)) (hlt : j < 25) (hz : u 6 j = z) (k : od_G Γ RX0 cc nL R dA dZ (xc dA dZ ad u) lv (pc + 1) (.int (iI z) :: st)) : od_G Γ RX0 cc nL R dA dZ (xc dA dZ ad u) lv pc (.int (iI t) :: .ref (ad 6) :: st) := by
  subst hz
  subst hj
  obtain ⟨p, l, e, s, m, args, below, meth, c, dC, dI, A, cells, slots, Q, ret⟩ := Γ
  intro F H locs ls hW hL
  obtain ⟨hx, hb, hml, hlk, hrt, hown, hts, hK, hA, hcl, hsl⟩ := id F
  refine va_iald hx hb hK hW.1 5 0 rfl rfl (by rw [iI_nat]; exact vp_in_nI hlt (by decide)) hd ?_
  have e : (iI (j : Int)).toNatClampNeg = j := by rw [iI_nat]; exact nI_clamp (by omega)
  rw [e]
  exact k F H locs ls hW hL
theorem og_xs6 {t z : Int} (j : Nat) (hd : decode cc pc = .ok (.iastore, 1)) (hj : t = (j : Int)) (hlt : j < 25) (k : od_G Γ RX0 cc nL R dA dZ (xc dA dZ ad (up2 u 6 j z)) lv (pc + 1) st) : od_G Γ RX0 cc nL R dA dZ (xc dA dZ ad u) lv pc (.int (iI z) :: .int (iI t) :: .ref (ad 6) :: st) := by
  subst hj
  obtain ⟨p, l, e, s, m, args, below, meth, c, dC, dI, A, cells, slots, Q, ret⟩ := Γ
  intro F H locs ls hW hL
  obtain ⟨hx, hb, hml, hlk, hrt, hown, hts, hK, hA, hcl, hsl⟩ := id F
  refine va_iast hx hb hK hW.1 hW.2.1 hW.2.2 5 0 rfl rfl (by rw [iI_nat]; exact vp_in_nI hlt (by decide)) hd (fun H1 locs1 hP hD hS => ?_)
  have e : (iI (j : Int)).toNatClampNeg = j := by rw [iI_nat]; exact nI_clamp (by omega)
  rw [e] at hP hD
  rw [← up2_iI u 6 j z] at hP hD
  exact k F H1 locs1 ls ⟨hP, hD, hS⟩ hL
theorem og_xr8 (hd : decode cc pc = .ok (.getfield 26, 3)) (k : od_G Γ RX0 cc nL R dA dZ (xc dA dZ ad u) lv (pc + 3) (.ref (ad 8) :: st)) : od_G Γ RX0 cc nL R dA dZ (xc dA dZ ad u) lv pc (.ref (ad 0) :: st) := by
  obtain ⟨p, l, e, s, m, args, below, meth, c, dC, dI, A, cells, slots, Q, ret⟩ := Γ
  intro F H locs ls hW hL
  obtain ⟨hx, hb, hml, hlk, hrt, hown, hts, hK, hA, hcl, hsl⟩ := id F
  exact va_get (D := (dC, dI)) (ci := 0) (C := RX0) (T := TX0) (N := 12) hx hb hts in_X0 hown hK hW.1 0 rfl rfl 8 (by decide) (hts _ q36) (fun _ h9 => h9) rfl hd (k F H locs ls hW hL)
theorem og_xl8 {t z : Int} (j : Nat) (hd : decode cc pc = .ok (.iaload, 1)) (hj : t = (j : Int)) (hlt : j < 480) (hz : u 8 j = z) (k : od_G Γ RX0 cc nL R dA dZ (xc dA dZ ad u) lv (pc + 1) (.int (iI z) :: st)) : od_G Γ RX0 cc nL R dA dZ (xc dA dZ ad u) lv pc (.int (iI t) :: .ref (ad 8) :: st) := by
  subst hz
  subst hj
  obtain ⟨p, l, e, s, m, args, below, meth, c, dC, dI, A, cells, slots, Q, ret⟩ := Γ
  intro F H locs ls hW hL
  obtain ⟨hx, hb, hml, hlk, hrt, hown, hts, hK, hA, hcl, hsl⟩ := id F
  refine va_iald hx hb hK hW.1 6 0 rfl rfl (by rw [iI_nat]; exact vp_in_nI hlt (by decide)) hd ?_
  have e : (iI (j : Int)).toNatClampNeg = j := by rw [iI_nat]; exact nI_clamp (by omega)
  rw [e]
  exact k F H locs ls hW hL
theorem og_xs8 {t z : Int} (j : Nat) (hd : decode cc pc = .ok (.iastore, 1)) (hj : t = (j : Int)) (hlt : j < 480) (k : od_G Γ RX0 cc nL R dA dZ (xc dA dZ ad (up2 u 8 j z)) lv (pc + 1) st) : od_G Γ RX0 cc nL R dA dZ (xc dA dZ ad u) lv pc (.int (iI z) :: .int (iI t) :: .ref (ad 8) :: st) := by
  subst hj
  obtain ⟨p, l, e, s, m, args, below, meth, c, dC, dI, A, cells, slots, Q, ret⟩ := Γ
  intro F H locs ls hW hL
  obtain ⟨hx, hb, hml, hlk, hrt, hown, hts, hK, hA, hcl, hsl⟩ := id F
  refine va_iast hx hb hK hW.1 hW.2.1 hW.2.2 6 0 rfl rfl (by rw [iI_nat]; exact vp_in_nI hlt (by decide)) hd (fun H1 locs1 hP hD hS => ?_)
  have e : (iI (j : Int)).toNatClampNeg = j := by rw [iI_nat]; exact nI_clamp (by omega)
  rw [e] at hP hD
  rw [← up2_iI u 8 j z] at hP hD
  exact k F H1 locs1 ls ⟨hP, hD, hS⟩ hL
theorem og_xr9 (hd : decode cc pc = .ok (.getfield 29, 3)) (k : od_G Γ RX0 cc nL R dA dZ (xc dA dZ ad u) lv (pc + 3) (.ref (ad 9) :: st)) : od_G Γ RX0 cc nL R dA dZ (xc dA dZ ad u) lv pc (.ref (ad 0) :: st) := by
  obtain ⟨p, l, e, s, m, args, below, meth, c, dC, dI, A, cells, slots, Q, ret⟩ := Γ
  intro F H locs ls hW hL
  obtain ⟨hx, hb, hml, hlk, hrt, hown, hts, hK, hA, hcl, hsl⟩ := id F
  exact va_get (D := (dC, dI)) (ci := 0) (C := RX0) (T := TX0) (N := 12) hx hb hts in_X0 hown hK hW.1 0 rfl rfl 9 (by decide) (hts _ q37) (fun _ h9 => h9) rfl hd (k F H locs ls hW hL)
theorem og_xl9 {t z : Int} (j : Nat) (hd : decode cc pc = .ok (.iaload, 1)) (hj : t = (j : Int)) (hlt : j < 160) (hz : u 9 j = z) (k : od_G Γ RX0 cc nL R dA dZ (xc dA dZ ad u) lv (pc + 1) (.int (iI z) :: st)) : od_G Γ RX0 cc nL R dA dZ (xc dA dZ ad u) lv pc (.int (iI t) :: .ref (ad 9) :: st) := by
  subst hz
  subst hj
  obtain ⟨p, l, e, s, m, args, below, meth, c, dC, dI, A, cells, slots, Q, ret⟩ := Γ
  intro F H locs ls hW hL
  obtain ⟨hx, hb, hml, hlk, hrt, hown, hts, hK, hA, hcl, hsl⟩ := id F
  refine va_iald hx hb hK hW.1 7 0 rfl rfl (by rw [iI_nat]; exact vp_in_nI hlt (by decide)) hd ?_
  have e : (iI (j : Int)).toNatClampNeg = j := by rw [iI_nat]; exact nI_clamp (by omega)
  rw [e]
  exact k F H locs ls hW hL
theorem og_xs9 {t z : Int} (j : Nat) (hd : decode cc pc = .ok (.iastore, 1)) (hj : t = (j : Int)) (hlt : j < 160) (k : od_G Γ RX0 cc nL R dA dZ (xc dA dZ ad (up2 u 9 j z)) lv (pc + 1) st) : od_G Γ RX0 cc nL R dA dZ (xc dA dZ ad u) lv pc (.int (iI z) :: .int (iI t) :: .ref (ad 9) :: st) := by
  subst hj
  obtain ⟨p, l, e, s, m, args, below, meth, c, dC, dI, A, cells, slots, Q, ret⟩ := Γ
  intro F H locs ls hW hL
  obtain ⟨hx, hb, hml, hlk, hrt, hown, hts, hK, hA, hcl, hsl⟩ := id F
  refine va_iast hx hb hK hW.1 hW.2.1 hW.2.2 7 0 rfl rfl (by rw [iI_nat]; exact vp_in_nI hlt (by decide)) hd (fun H1 locs1 hP hD hS => ?_)
  have e : (iI (j : Int)).toNatClampNeg = j := by rw [iI_nat]; exact nI_clamp (by omega)
  rw [e] at hP hD
  rw [← up2_iI u 9 j z] at hP hD
  exact k F H1 locs1 ls ⟨hP, hD, hS⟩ hL
theorem og_xr10 (hd : decode cc pc = .ok (.getfield 32, 3)) (k : od_G Γ RX0 cc nL R dA dZ (xc dA dZ ad u) lv (pc + 3) (.ref (ad 10) :: st)) : od_G Γ RX0 cc nL R dA dZ (xc dA dZ ad u) lv pc (.ref (ad 0) :: st) := by
  obtain ⟨p, l, e, s, m, args, below, meth, c, dC, dI, A, cells, slots, Q, ret⟩ := Γ
  intro F H locs ls hW hL
  obtain ⟨hx, hb, hml, hlk, hrt, hown, hts, hK, hA, hcl, hsl⟩ := id F
  exact va_get (D := (dC, dI)) (ci := 0) (C := RX0) (T := TX0) (N := 12) hx hb hts in_X0 hown hK hW.1 0 rfl rfl 10 (by decide) (hts _ q38) (fun _ h9 => h9) rfl hd (k F H locs ls hW hL)
theorem og_xl10 {t z : Int} (j : Nat) (hd : decode cc pc = .ok (.iaload, 1)) (hj : t = (j : Int)) (hlt : j < 3) (hz : u 10 j = z) (k : od_G Γ RX0 cc nL R dA dZ (xc dA dZ ad u) lv (pc + 1) (.int (iI z) :: st)) : od_G Γ RX0 cc nL R dA dZ (xc dA dZ ad u) lv pc (.int (iI t) :: .ref (ad 10) :: st) := by
  subst hz
  subst hj
  obtain ⟨p, l, e, s, m, args, below, meth, c, dC, dI, A, cells, slots, Q, ret⟩ := Γ
  intro F H locs ls hW hL
  obtain ⟨hx, hb, hml, hlk, hrt, hown, hts, hK, hA, hcl, hsl⟩ := id F
  refine va_iald hx hb hK hW.1 8 0 rfl rfl (by rw [iI_nat]; exact vp_in_nI hlt (by decide)) hd ?_
  have e : (iI (j : Int)).toNatClampNeg = j := by rw [iI_nat]; exact nI_clamp (by omega)
  rw [e]
  exact k F H locs ls hW hL
theorem og_xs10 {t z : Int} (j : Nat) (hd : decode cc pc = .ok (.iastore, 1)) (hj : t = (j : Int)) (hlt : j < 3) (k : od_G Γ RX0 cc nL R dA dZ (xc dA dZ ad (up2 u 10 j z)) lv (pc + 1) st) : od_G Γ RX0 cc nL R dA dZ (xc dA dZ ad u) lv pc (.int (iI z) :: .int (iI t) :: .ref (ad 10) :: st) := by
  subst hj
  obtain ⟨p, l, e, s, m, args, below, meth, c, dC, dI, A, cells, slots, Q, ret⟩ := Γ
  intro F H locs ls hW hL
  obtain ⟨hx, hb, hml, hlk, hrt, hown, hts, hK, hA, hcl, hsl⟩ := id F
  refine va_iast hx hb hK hW.1 hW.2.1 hW.2.2 8 0 rfl rfl (by rw [iI_nat]; exact vp_in_nI hlt (by decide)) hd (fun H1 locs1 hP hD hS => ?_)
  have e : (iI (j : Int)).toNatClampNeg = j := by rw [iI_nat]; exact nI_clamp (by omega)
  rw [e] at hP hD
  rw [← up2_iI u 10 j z] at hP hD
  exact k F H1 locs1 ls ⟨hP, hD, hS⟩ hL
end OFx
section OFm
variable {Γ : Cxt} {cc : ByteArray} {nL : Nat} {R : Room} {dA dZ : ClassId} {lv : List Value} {pc : Nat} {st : List Value} {bd : Nat → Nat} {u : DS}
theorem og_mg0 {z : Int} (hd : decode cc pc = .ok (.getfield 30, 3)) (hz : u 0 0 = z) (k : od_G Γ RX1 cc nL R dA dZ (mc dA dZ bd u) lv (pc + 3) (.int (iI z) :: st)) : od_G Γ RX1 cc nL R dA dZ (mc dA dZ bd u) lv pc (.ref (bd 0) :: st) := by
  subst hz
  obtain ⟨p, l, e, s, m, args, below, meth, c, dC, dI, A, cells, slots, Q, ret⟩ := Γ
  intro F H locs ls hW hL
  obtain ⟨hx, hb, hml, hlk, hrt, hown, hts, hK, hA, hcl, hsl⟩ := id F
  exact va_get (D := (dC, dI)) (ci := 1) (C := RX1) (T := TX1) (N := 6) hx hb hts in_X1 hown hK hW.1 0 rfl rfl 0 (by decide) (hts _ q169) (fun _ h9 => h9) rfl hd (k F H locs ls hW hL)
theorem og_mp0 {z : Int} (hd : decode cc pc = .ok (.putfield 30, 3)) (k : od_G Γ RX1 cc nL R dA dZ (mc dA dZ bd (up2 u 0 0 z)) lv (pc + 3) st) : od_G Γ RX1 cc nL R dA dZ (mc dA dZ bd u) lv pc (.int (iI z) :: .ref (bd 0) :: st) := by
  obtain ⟨p, l, e, s, m, args, below, meth, c, dC, dI, A, cells, slots, Q, ret⟩ := Γ
  intro F H locs ls hW hL
  obtain ⟨hx, hb, hml, hlk, hrt, hown, hts, hK, hA, hcl, hsl⟩ := id F
  refine va_put (D := (dC, dI)) (ci := 1) (v := .int (iI z)) (ty := .int) (C := RX1) (T := TX1) (N := 6) hx hb hts in_X1 tyX1 tyX1_ok nmX1 hown hK hW.1 hW.2.1 hW.2.2 0 rfl rfl 0 (by decide) (hts _ q169) (fun _ h9 => h9) rfl (by decide +kernel) rfl rfl (Nat.le_of_ble_eq_true rfl) hd (fun H1 locs1 hP hD hS => ?_)
  exact k F H1 locs1 ls ⟨hP, hD, hS⟩ hL
theorem og_mr1 (hd : decode cc pc = .ok (.getfield 7, 3)) (k : od_G Γ RX1 cc nL R dA dZ (mc dA dZ bd u) lv (pc + 3) (.ref (bd 1) :: st)) : od_G Γ RX1 cc nL R dA dZ (mc dA dZ bd u) lv pc (.ref (bd 0) :: st) := by
  obtain ⟨p, l, e, s, m, args, below, meth, c, dC, dI, A, cells, slots, Q, ret⟩ := Γ
  intro F H locs ls hW hL
  obtain ⟨hx, hb, hml, hlk, hrt, hown, hts, hK, hA, hcl, hsl⟩ := id F
  exact va_get (D := (dC, dI)) (ci := 1) (C := RX1) (T := TX1) (N := 6) hx hb hts in_X1 hown hK hW.1 0 rfl rfl 1 (by decide) (hts _ q170) (fun _ h9 => h9) rfl hd (k F H locs ls hW hL)
theorem og_ml1 {t z : Int} (j : Nat) (hd : decode cc pc = .ok (.iaload, 1)) (hj : t = (j : Int)) (hlt : j < 8) (hz : u 1 j = z) (k : od_G Γ RX1 cc nL R dA dZ (mc dA dZ bd u) lv (pc + 1) (.int (iI z) :: st)) : od_G Γ RX1 cc nL R dA dZ (mc dA dZ bd u) lv pc (.int (iI t) :: .ref (bd 1) :: st) := by
  subst hz
  subst hj
  obtain ⟨p, l, e, s, m, args, below, meth, c, dC, dI, A, cells, slots, Q, ret⟩ := Γ
  intro F H locs ls hW hL
  obtain ⟨hx, hb, hml, hlk, hrt, hown, hts, hK, hA, hcl, hsl⟩ := id F
  refine va_iald hx hb hK hW.1 1 0 rfl rfl (by rw [iI_nat]; exact vp_in_nI hlt (by decide)) hd ?_
  have e : (iI (j : Int)).toNatClampNeg = j := by rw [iI_nat]; exact nI_clamp (by omega)
  rw [e]
  exact k F H locs ls hW hL
theorem og_ms1 {t z : Int} (j : Nat) (hd : decode cc pc = .ok (.iastore, 1)) (hj : t = (j : Int)) (hlt : j < 8) (k : od_G Γ RX1 cc nL R dA dZ (mc dA dZ bd (up2 u 1 j z)) lv (pc + 1) st) : od_G Γ RX1 cc nL R dA dZ (mc dA dZ bd u) lv pc (.int (iI z) :: .int (iI t) :: .ref (bd 1) :: st) := by
  subst hj
  obtain ⟨p, l, e, s, m, args, below, meth, c, dC, dI, A, cells, slots, Q, ret⟩ := Γ
  intro F H locs ls hW hL
  obtain ⟨hx, hb, hml, hlk, hrt, hown, hts, hK, hA, hcl, hsl⟩ := id F
  refine va_iast hx hb hK hW.1 hW.2.1 hW.2.2 1 0 rfl rfl (by rw [iI_nat]; exact vp_in_nI hlt (by decide)) hd (fun H1 locs1 hP hD hS => ?_)
  have e : (iI (j : Int)).toNatClampNeg = j := by rw [iI_nat]; exact nI_clamp (by omega)
  rw [e] at hP hD
  rw [← up2_iI u 1 j z] at hP hD
  exact k F H1 locs1 ls ⟨hP, hD, hS⟩ hL
theorem og_mr2 (hd : decode cc pc = .ok (.getfield 13, 3)) (k : od_G Γ RX1 cc nL R dA dZ (mc dA dZ bd u) lv (pc + 3) (.ref (bd 2) :: st)) : od_G Γ RX1 cc nL R dA dZ (mc dA dZ bd u) lv pc (.ref (bd 0) :: st) := by
  obtain ⟨p, l, e, s, m, args, below, meth, c, dC, dI, A, cells, slots, Q, ret⟩ := Γ
  intro F H locs ls hW hL
  obtain ⟨hx, hb, hml, hlk, hrt, hown, hts, hK, hA, hcl, hsl⟩ := id F
  exact va_get (D := (dC, dI)) (ci := 1) (C := RX1) (T := TX1) (N := 6) hx hb hts in_X1 hown hK hW.1 0 rfl rfl 2 (by decide) (hts _ q171) (fun _ h9 => h9) rfl hd (k F H locs ls hW hL)
theorem og_ml2 {t z : Int} (j : Nat) (hd : decode cc pc = .ok (.iaload, 1)) (hj : t = (j : Int)) (hlt : j < 8) (hz : u 2 j = z) (k : od_G Γ RX1 cc nL R dA dZ (mc dA dZ bd u) lv (pc + 1) (.int (iI z) :: st)) : od_G Γ RX1 cc nL R dA dZ (mc dA dZ bd u) lv pc (.int (iI t) :: .ref (bd 2) :: st) := by
  subst hz
  subst hj
  obtain ⟨p, l, e, s, m, args, below, meth, c, dC, dI, A, cells, slots, Q, ret⟩ := Γ
  intro F H locs ls hW hL
  obtain ⟨hx, hb, hml, hlk, hrt, hown, hts, hK, hA, hcl, hsl⟩ := id F
  refine va_iald hx hb hK hW.1 2 0 rfl rfl (by rw [iI_nat]; exact vp_in_nI hlt (by decide)) hd ?_
  have e : (iI (j : Int)).toNatClampNeg = j := by rw [iI_nat]; exact nI_clamp (by omega)
  rw [e]
  exact k F H locs ls hW hL
theorem og_ms2 {t z : Int} (j : Nat) (hd : decode cc pc = .ok (.iastore, 1)) (hj : t = (j : Int)) (hlt : j < 8) (k : od_G Γ RX1 cc nL R dA dZ (mc dA dZ bd (up2 u 2 j z)) lv (pc + 1) st) : od_G Γ RX1 cc nL R dA dZ (mc dA dZ bd u) lv pc (.int (iI z) :: .int (iI t) :: .ref (bd 2) :: st) := by
  subst hj
  obtain ⟨p, l, e, s, m, args, below, meth, c, dC, dI, A, cells, slots, Q, ret⟩ := Γ
  intro F H locs ls hW hL
  obtain ⟨hx, hb, hml, hlk, hrt, hown, hts, hK, hA, hcl, hsl⟩ := id F
  refine va_iast hx hb hK hW.1 hW.2.1 hW.2.2 2 0 rfl rfl (by rw [iI_nat]; exact vp_in_nI hlt (by decide)) hd (fun H1 locs1 hP hD hS => ?_)
  have e : (iI (j : Int)).toNatClampNeg = j := by rw [iI_nat]; exact nI_clamp (by omega)
  rw [e] at hP hD
  rw [← up2_iI u 2 j z] at hP hD
  exact k F H1 locs1 ls ⟨hP, hD, hS⟩ hL
theorem og_mr3 (hd : decode cc pc = .ok (.getfield 16, 3)) (k : od_G Γ RX1 cc nL R dA dZ (mc dA dZ bd u) lv (pc + 3) (.ref (bd 3) :: st)) : od_G Γ RX1 cc nL R dA dZ (mc dA dZ bd u) lv pc (.ref (bd 0) :: st) := by
  obtain ⟨p, l, e, s, m, args, below, meth, c, dC, dI, A, cells, slots, Q, ret⟩ := Γ
  intro F H locs ls hW hL
  obtain ⟨hx, hb, hml, hlk, hrt, hown, hts, hK, hA, hcl, hsl⟩ := id F
  exact va_get (D := (dC, dI)) (ci := 1) (C := RX1) (T := TX1) (N := 6) hx hb hts in_X1 hown hK hW.1 0 rfl rfl 3 (by decide) (hts _ q172) (fun _ h9 => h9) rfl hd (k F H locs ls hW hL)
theorem og_ml3 {t z : Int} (j : Nat) (hd : decode cc pc = .ok (.iaload, 1)) (hj : t = (j : Int)) (hlt : j < 8) (hz : u 3 j = z) (k : od_G Γ RX1 cc nL R dA dZ (mc dA dZ bd u) lv (pc + 1) (.int (iI z) :: st)) : od_G Γ RX1 cc nL R dA dZ (mc dA dZ bd u) lv pc (.int (iI t) :: .ref (bd 3) :: st) := by
  subst hz
  subst hj
  obtain ⟨p, l, e, s, m, args, below, meth, c, dC, dI, A, cells, slots, Q, ret⟩ := Γ
  intro F H locs ls hW hL
  obtain ⟨hx, hb, hml, hlk, hrt, hown, hts, hK, hA, hcl, hsl⟩ := id F
  refine va_iald hx hb hK hW.1 3 0 rfl rfl (by rw [iI_nat]; exact vp_in_nI hlt (by decide)) hd ?_
  have e : (iI (j : Int)).toNatClampNeg = j := by rw [iI_nat]; exact nI_clamp (by omega)
  rw [e]
  exact k F H locs ls hW hL
theorem og_ms3 {t z : Int} (j : Nat) (hd : decode cc pc = .ok (.iastore, 1)) (hj : t = (j : Int)) (hlt : j < 8) (k : od_G Γ RX1 cc nL R dA dZ (mc dA dZ bd (up2 u 3 j z)) lv (pc + 1) st) : od_G Γ RX1 cc nL R dA dZ (mc dA dZ bd u) lv pc (.int (iI z) :: .int (iI t) :: .ref (bd 3) :: st) := by
  subst hj
  obtain ⟨p, l, e, s, m, args, below, meth, c, dC, dI, A, cells, slots, Q, ret⟩ := Γ
  intro F H locs ls hW hL
  obtain ⟨hx, hb, hml, hlk, hrt, hown, hts, hK, hA, hcl, hsl⟩ := id F
  refine va_iast hx hb hK hW.1 hW.2.1 hW.2.2 3 0 rfl rfl (by rw [iI_nat]; exact vp_in_nI hlt (by decide)) hd (fun H1 locs1 hP hD hS => ?_)
  have e : (iI (j : Int)).toNatClampNeg = j := by rw [iI_nat]; exact nI_clamp (by omega)
  rw [e] at hP hD
  rw [← up2_iI u 3 j z] at hP hD
  exact k F H1 locs1 ls ⟨hP, hD, hS⟩ hL
theorem og_mr4 (hd : decode cc pc = .ok (.getfield 19, 3)) (k : od_G Γ RX1 cc nL R dA dZ (mc dA dZ bd u) lv (pc + 3) (.ref (bd 4) :: st)) : od_G Γ RX1 cc nL R dA dZ (mc dA dZ bd u) lv pc (.ref (bd 0) :: st) := by
  obtain ⟨p, l, e, s, m, args, below, meth, c, dC, dI, A, cells, slots, Q, ret⟩ := Γ
  intro F H locs ls hW hL
  obtain ⟨hx, hb, hml, hlk, hrt, hown, hts, hK, hA, hcl, hsl⟩ := id F
  exact va_get (D := (dC, dI)) (ci := 1) (C := RX1) (T := TX1) (N := 6) hx hb hts in_X1 hown hK hW.1 0 rfl rfl 4 (by decide) (hts _ q173) (fun _ h9 => h9) rfl hd (k F H locs ls hW hL)
theorem og_ml4 {t z : Int} (j : Nat) (hd : decode cc pc = .ok (.iaload, 1)) (hj : t = (j : Int)) (hlt : j < 8) (hz : u 4 j = z) (k : od_G Γ RX1 cc nL R dA dZ (mc dA dZ bd u) lv (pc + 1) (.int (iI z) :: st)) : od_G Γ RX1 cc nL R dA dZ (mc dA dZ bd u) lv pc (.int (iI t) :: .ref (bd 4) :: st) := by
  subst hz
  subst hj
  obtain ⟨p, l, e, s, m, args, below, meth, c, dC, dI, A, cells, slots, Q, ret⟩ := Γ
  intro F H locs ls hW hL
  obtain ⟨hx, hb, hml, hlk, hrt, hown, hts, hK, hA, hcl, hsl⟩ := id F
  refine va_iald hx hb hK hW.1 4 0 rfl rfl (by rw [iI_nat]; exact vp_in_nI hlt (by decide)) hd ?_
  have e : (iI (j : Int)).toNatClampNeg = j := by rw [iI_nat]; exact nI_clamp (by omega)
  rw [e]
  exact k F H locs ls hW hL
theorem og_ms4 {t z : Int} (j : Nat) (hd : decode cc pc = .ok (.iastore, 1)) (hj : t = (j : Int)) (hlt : j < 8) (k : od_G Γ RX1 cc nL R dA dZ (mc dA dZ bd (up2 u 4 j z)) lv (pc + 1) st) : od_G Γ RX1 cc nL R dA dZ (mc dA dZ bd u) lv pc (.int (iI z) :: .int (iI t) :: .ref (bd 4) :: st) := by
  subst hj
  obtain ⟨p, l, e, s, m, args, below, meth, c, dC, dI, A, cells, slots, Q, ret⟩ := Γ
  intro F H locs ls hW hL
  obtain ⟨hx, hb, hml, hlk, hrt, hown, hts, hK, hA, hcl, hsl⟩ := id F
  refine va_iast hx hb hK hW.1 hW.2.1 hW.2.2 4 0 rfl rfl (by rw [iI_nat]; exact vp_in_nI hlt (by decide)) hd (fun H1 locs1 hP hD hS => ?_)
  have e : (iI (j : Int)).toNatClampNeg = j := by rw [iI_nat]; exact nI_clamp (by omega)
  rw [e] at hP hD
  rw [← up2_iI u 4 j z] at hP hD
  exact k F H1 locs1 ls ⟨hP, hD, hS⟩ hL
theorem og_mr5 (hd : decode cc pc = .ok (.getfield 22, 3)) (k : od_G Γ RX1 cc nL R dA dZ (mc dA dZ bd u) lv (pc + 3) (.ref (bd 5) :: st)) : od_G Γ RX1 cc nL R dA dZ (mc dA dZ bd u) lv pc (.ref (bd 0) :: st) := by
  obtain ⟨p, l, e, s, m, args, below, meth, c, dC, dI, A, cells, slots, Q, ret⟩ := Γ
  intro F H locs ls hW hL
  obtain ⟨hx, hb, hml, hlk, hrt, hown, hts, hK, hA, hcl, hsl⟩ := id F
  exact va_get (D := (dC, dI)) (ci := 1) (C := RX1) (T := TX1) (N := 6) hx hb hts in_X1 hown hK hW.1 0 rfl rfl 5 (by decide) (hts _ q174) (fun _ h9 => h9) rfl hd (k F H locs ls hW hL)
theorem og_ml5 {t z : Int} (j : Nat) (hd : decode cc pc = .ok (.baload, 1)) (hj : t = (j : Int)) (hlt : j < 8) (hz : u 5 j = z) (k : od_G Γ RX1 cc nL R dA dZ (mc dA dZ bd u) lv (pc + 1) (.int (iI z) :: st)) : od_G Γ RX1 cc nL R dA dZ (mc dA dZ bd u) lv pc (.int (iI t) :: .ref (bd 5) :: st) := by
  subst hz
  subst hj
  obtain ⟨p, l, e, s, m, args, below, meth, c, dC, dI, A, cells, slots, Q, ret⟩ := Γ
  intro F H locs ls hW hL
  obtain ⟨hx, hb, hml, hlk, hrt, hown, hts, hK, hA, hcl, hsl⟩ := id F
  refine va_zald hx hb hK hW.1 5 1 rfl rfl (by rw [iI_nat]; exact vp_in_nI hlt (by decide)) hd ?_
  have e : (iI (j : Int)).toNatClampNeg = j := by rw [iI_nat]; exact nI_clamp (by omega)
  rw [e]
  exact k F H locs ls hW hL
theorem og_ms5 {t z : Int} (j : Nat) (hd : decode cc pc = .ok (.bastore, 1)) (hj : t = (j : Int)) (hlt : j < 8) (h01 : z = 0 ∨ z = 1) (k : od_G Γ RX1 cc nL R dA dZ (mc dA dZ bd (up2 u 5 j z)) lv (pc + 1) st) : od_G Γ RX1 cc nL R dA dZ (mc dA dZ bd u) lv pc (.int (iI z) :: .int (iI t) :: .ref (bd 5) :: st) := by
  subst hj
  obtain ⟨p, l, e, s, m, args, below, meth, c, dC, dI, A, cells, slots, Q, ret⟩ := Γ
  intro F H locs ls hW hL
  obtain ⟨hx, hb, hml, hlk, hrt, hown, hts, hK, hA, hcl, hsl⟩ := id F
  refine va_zast hx hb hK hW.1 hW.2.1 hW.2.2 5 1 rfl rfl (by rw [iI_nat]; exact vp_in_nI hlt (by decide)) hd (fun H1 locs1 hP hD hS => ?_)
  have e : (iI (j : Int)).toNatClampNeg = j := by rw [iI_nat]; exact nI_clamp (by omega)
  rw [e] at hP hD
  have en : vp_nar .boolean (iI z) = iI z := by rcases h01 with h | h <;> rw [h] <;> decide +kernel
  rw [en] at hP hD
  rw [← up2_iI u 5 j z] at hP hD
  exact k F H1 locs1 ls ⟨hP, hD, hS⟩ hL
end OFm
/-! contracts -/
def od_Pc (dC : Nat → ClassId) (dI : Nat → Nat → Nat) (dA dZ : ClassId) (ws : va_W) (sz : Nat) (av : List Value) : Array Value → State → Prop := va_Pc av (fun U => U.heap.size = sz ∧ va_P (dC, dI) vwCl ws U.heap ∧ va_K (dC, dI) vwCl [(dA, .int), (dZ, .boolean)] U ∧ va_D (fun _ => True) ws)
def od_B (dC : Nat → ClassId) (dI : Nat → Nat → Nat) (dA dZ : ClassId) (cs : DS → va_W) (A : Nat → Prop) (u' : DS) (t : State) : Prop := va_P (dC, dI) vwCl (cs u') t.heap ∧ va_K (dC, dI) vwCl [(dA, .int), (dZ, .boolean)] t ∧ va_D A (cs u')
/-- y, called with av on the cells cs u, answers an int r and leaves cs u', with post r u' -/
def od_MI (dA dZ : ClassId) (cs : DS → va_W) (y : MethodName) (b : ByteArray) (L : Nat) (rt : Option FieldType) (rm : Room) (av : List Value) (u : DS) (post : Int → DS → Prop) : Prop :=
  ∀ (l : Launch) (dC : Nat → ClassId) (dI : Nat → Nat → Nat) (sz : Nat), Met l y (ws_ y b L rt) rm (od_Pc dC dI dA dZ (cs u) sz av)
    (va_Qi (fun (r : Int32) (u' : DS) => ∃ z : Int, r = iI z ∧ post z u') (od_B dC dI dA dZ cs (va_A (cs u) sz)) (va_A (cs u) sz)) 0 0 (va_A (cs u) sz)
def od_MV (dA dZ : ClassId) (cs : DS → va_W) (y : MethodName) (b : ByteArray) (L : Nat) (rm : Room) (av : List Value) (u : DS) (post : DS → Prop) : Prop :=
  ∀ (l : Launch) (dC : Nat → ClassId) (dI : Nat → Nat → Nat) (sz : Nat), Met l y (ws_ y b L none) rm (od_Pc dC dI dA dZ (cs u) sz av)
    (va_Qv (fun u' : DS => post u') (od_B dC dI dA dZ cs (va_A (cs u) sz)) (va_A (cs u) sz)) 0 0 (va_A (cs u) sz)
theorem od_blind {dC : Nat → ClassId} {dI : Nat → Nat → Nat} {dA dZ : ClassId} {ws : va_W} {sz : Nat} {av : List Value} : FrameBlind (od_Pc dC dI dA dZ ws sz av) := by
  intro a U g mk q
  obtain ⟨q0, q1, qP, qK, qD⟩ := q
  exact ⟨q0, q1, qP, va_K.moved (u := U) (U := U.calling g mk a) (Vm.Alike.refl U.vm) qK, qD⟩
theorem od_nar {r : Int} (h : r = 0 ∨ r = 1) : narrow .boolean (.int (iI r)) = .int (iI r) := by
  rcases h with h | h <;> rw [h] <;> decide +kernel
def rmL (k : Nat) : Room := { frames := k, cells := 0, slots := 0, locals := 30 * k }
theorem od_c1 : ∀ v ∈ ([] : List Value), v.category = 1 := fun v h => by cases h
theorem od_cc {x : Value} {vs : List Value} (hx : x.category = 1) (h : ∀ v ∈ vs, v.category = 1) : ∀ v ∈ x :: vs, v.category = 1 := fun v hv => by
  rcases List.mem_cons.mp hv with e | e
  · rw [e]; exact hx
  · exact h v e
section OM
variable {dA dZ : ClassId} {cs : DS → va_W} {y : MethodName} {b : ByteArray} {L : Nat} {rm : Room} {av : List Value} {u : DS}
theorem od_MI.ofI {post : Int → DS → Prop} {own : String} (n : Nat) (hy : plainName y.cls = true) (ho : y.cls = own) (hc : ∀ v ∈ av, v.category = 1) (hl : (lg_sl av).length ≤ L)
    (body : ∀ Γ : Cxt, (∀ (r : Int) (u' : DS), post r u' → ∀ (pc : Nat) (lv : List Value), decode b pc = .ok (.ireturn, 1) → od_G Γ own b L rm dA dZ (cs u') lv pc [.int (iI r)]) → od_G Γ own b L rm dA dZ (cs u) (av ++ List.replicate n .null) 0 []) :
    od_MI dA dZ cs y b L (some .int) rm av u post := by
  intro l dC dI sz
  refine Met.ofW (cc := b) (maxL := L) (ret := some .int) hy rfl ?_
  intro p e s m args below meth c s₁ B hml hv
  obtain ⟨rfl, hsz, hP, hK, hD0⟩ := hv
  have hts := atoms_spec (ws := ws_ y b L (some .int)) B.pre
  have hts : ∀ w ∈ lw_all, w.before _ s = true := fun w h => hts w (List.mem_cons_of_mem _ h)
  have hown : s.vm.findClass y.cls = some m.cls := findClass_of_methodNamed B.named
  subst hsz
  subst ho
  have hD := hD0.self (sz := s.heap.size)
  have hle := lv_entry av (n := L) hl
  rw [lg_entry_eq]
  refine body (p, l, e, s, m, av.toArray, below, meth, c, dC, dI, va_A (cs u) s.heap.size, 0, 0, MQ below (va_Qi (fun (r : Int32) (u' : DS) => ∃ z : Int, r = iI z ∧ post z u') (od_B dC dI dA dZ cs (va_A (cs u) s.heap.size)) (va_A (cs u) s.heap.size)) av.toArray s 0 0 (va_A (cs u) s.heap.size), some .int) ?_ ⟨B.exec, B.bytes, hml, B.notSynchronized, B.returns, hown, hts, hK, fun q h => Or.inr h, Nat.zero_le _, Nat.zero_le _⟩ s.heap [] _ ⟨hP, hD, va_S.rf⟩ (LV.entry hc hle n)
  intro r u' hpost pc lv hd F H locs ls hW hL
  exact W.iret F.1 F.2.1 F.2.2.2.2.1 (fun t ht hWm => ⟨⟨iI r, u', rfl, ⟨r, rfl, hpost⟩, by rw [ht]; exact hW.1, va_K.moved hWm.alike F.2.2.2.2.2.2.2.1, hW.2.1⟩, hW.2.2.F ht⟩) hW.2.2.2.2 hd F.2.2.2.1
theorem od_MI.ofZ {post : Int → DS → Prop} {own : String} (n : Nat) (hy : plainName y.cls = true) (ho : y.cls = own) (hc : ∀ v ∈ av, v.category = 1) (hl : (lg_sl av).length ≤ L) (hz : ∀ (r : Int) (u' : DS), post r u' → r = 0 ∨ r = 1)
    (body : ∀ Γ : Cxt, (∀ (r : Int) (u' : DS), post r u' → ∀ (pc : Nat) (lv : List Value), decode b pc = .ok (.ireturn, 1) → od_G Γ own b L rm dA dZ (cs u') lv pc [.int (iI r)]) → od_G Γ own b L rm dA dZ (cs u) (av ++ List.replicate n .null) 0 []) :
    od_MI dA dZ cs y b L (some .boolean) rm av u post := by
  intro l dC dI sz
  refine Met.ofW (cc := b) (maxL := L) (ret := some .boolean) hy rfl ?_
  intro p e s m args below meth c s₁ B hml hv
  obtain ⟨rfl, hsz, hP, hK, hD0⟩ := hv
  have hts := atoms_spec (ws := ws_ y b L (some .boolean)) B.pre
  have hts : ∀ w ∈ lw_all, w.before _ s = true := fun w h => hts w (List.mem_cons_of_mem _ h)
  have hown : s.vm.findClass y.cls = some m.cls := findClass_of_methodNamed B.named
  subst hsz
  subst ho
  have hD := hD0.self (sz := s.heap.size)
  have hle := lv_entry av (n := L) hl
  rw [lg_entry_eq]
  refine body (p, l, e, s, m, av.toArray, below, meth, c, dC, dI, va_A (cs u) s.heap.size, 0, 0, MQ below (va_Qi (fun (r : Int32) (u' : DS) => ∃ z : Int, r = iI z ∧ post z u') (od_B dC dI dA dZ cs (va_A (cs u) s.heap.size)) (va_A (cs u) s.heap.size)) av.toArray s 0 0 (va_A (cs u) s.heap.size), some .boolean) ?_ ⟨B.exec, B.bytes, hml, B.notSynchronized, B.returns, hown, hts, hK, fun q h => Or.inr h, Nat.zero_le _, Nat.zero_le _⟩ s.heap [] _ ⟨hP, hD, va_S.rf⟩ (LV.entry hc hle n)
  intro r u' hpost pc lv hd F H locs ls hW hL
  exact W.zret F.1 F.2.1 F.2.2.2.2.1 (od_nar (hz r u' hpost)) (fun t ht hWm => ⟨⟨iI r, u', rfl, ⟨r, rfl, hpost⟩, by rw [ht]; exact hW.1, va_K.moved hWm.alike F.2.2.2.2.2.2.2.1, hW.2.1⟩, hW.2.2.F ht⟩) hW.2.2.2.2 hd F.2.2.2.1
theorem od_MV.of {post : DS → Prop} {own : String} (n : Nat) (hy : plainName y.cls = true) (ho : y.cls = own) (hc : ∀ v ∈ av, v.category = 1) (hl : (lg_sl av).length ≤ L)
    (body : ∀ Γ : Cxt, (∀ u' : DS, post u' → ∀ (pc : Nat) (lv : List Value), decode b pc = .ok (.return_, 1) → od_G Γ own b L rm dA dZ (cs u') lv pc []) → od_G Γ own b L rm dA dZ (cs u) (av ++ List.replicate n .null) 0 []) :
    od_MV dA dZ cs y b L rm av u post := by
  intro l dC dI sz
  refine Met.ofW (cc := b) (maxL := L) (ret := none) hy rfl ?_
  intro p e s m args below meth c s₁ B hml hv
  obtain ⟨rfl, hsz, hP, hK, hD0⟩ := hv
  have hts := atoms_spec (ws := ws_ y b L none) B.pre
  have hts : ∀ w ∈ lw_all, w.before _ s = true := fun w h => hts w (List.mem_cons_of_mem _ h)
  have hown : s.vm.findClass y.cls = some m.cls := findClass_of_methodNamed B.named
  subst hsz
  subst ho
  have hD := hD0.self (sz := s.heap.size)
  have hle := lv_entry av (n := L) hl
  rw [lg_entry_eq]
  refine body (p, l, e, s, m, av.toArray, below, meth, c, dC, dI, va_A (cs u) s.heap.size, 0, 0, MQ below (va_Qv (fun u' : DS => post u') (od_B dC dI dA dZ cs (va_A (cs u) s.heap.size)) (va_A (cs u) s.heap.size)) av.toArray s 0 0 (va_A (cs u) s.heap.size), none) ?_ ⟨B.exec, B.bytes, hml, B.notSynchronized, B.returns, hown, hts, hK, fun q h => Or.inr h, Nat.zero_le _, Nat.zero_le _⟩ s.heap [] _ ⟨hP, hD, va_S.rf⟩ (LV.entry hc hle n)
  intro u' hpost pc lv hd F H locs ls hW hL
  exact W.vret F.1 F.2.1 F.2.2.2.2.1 (fun t ht hWm => ⟨⟨u', rfl, hpost, by rw [ht]; exact hW.1, va_K.moved hWm.alike F.2.2.2.2.2.2.2.1, hW.2.1⟩, hW.2.2.F ht⟩) hW.2.2.2.2 hd F.2.2.2.1
end OM
section OC
variable {Γ : Cxt} {own : String} {cc : ByteArray} {nL : Nat} {R : Room} {dA dZ : ClassId} {ws : va_W} {lv : List Value} {pc : Nat} {rest st0 : List Value}
variable {cs : DS → va_W} {u : DS} {y : MethodName} {b : ByteArray} {L : Nat} {rt : Option FieldType} {rm : Room} {As : List Value} {a ci : Nat} {fs : List Value} {C : String} {T : u_T} {N idx n : Nat}
theorem od_free {A : Nat → Prop} {ws : va_W} {H0 H : Heap} {locs : List Loc} (hD : va_D A ws) (hS : va_S A H0 H locs) (hA : ∀ q : Nat, H0.size ≤ q → A q) : ∀ q, va_A ws H.size q → A q := by
  intro q h
  rcases h with ⟨k, e, h⟩ | h
  · exact hD.2 k _ h
  · exact hA q (Nat.le_trans hS.1 h)
theorem od_nil_P {D : va_G} {H : Heap} : va_P D vwCl [] H := fun k q h => by simp at h
theorem od_nil_D {A : Nat → Prop} : va_D A [] := ⟨fun i j p q h => by simp at h, fun k q h => by simp at h⟩
theorem od_nil_A {sz q : Nat} (h : q < sz) : ¬ va_A [] sz q := by
  intro hq
  rcases hq with ⟨k, e, hq⟩ | hq
  · simp at hq
  · omega
/-- a call on the whole world, an int comes back -/
theorem og_callI {post : Int → DS → Prop} (hM : od_MI dA dZ cs y b L rt rm (.ref a :: As) u post) (hc0 : (cs u)[0]? = some (a, .inr (ci, fs))) (hci : vwCl[ci]? = some (C, T, N)) (hw : GoodIn lw_all (wsV own idx C y (ws_ y b L rt)))
    (hd : y.cls = C ∧ y.cls ≠ "java/lang/invoke/MethodHandle" ∧ y.cls ≠ "java/lang/invoke/VarHandle" ∧ (parseMethodDescriptor y.desc).map (fun d => d.parameters.length) = some n) (hR : rm.frames + 1 ≤ R.frames ∧ 8 + (L + 11) + rm.locals ≤ R.locals) (hm : rm.cells = 0 ∧ rm.slots = 0) (hn : As.length = n) (hst : st0 = As.reverse ++ .ref a :: rest) (hroom : (rest.map fun v => v.category).sum ≤ 8)
    (hdec : decode cc pc = .ok (.invokevirtual idx, 3)) (k : ∀ (r : Int) (u' : DS), post r u' → od_G Γ own cc nL R dA dZ (cs u') lv (pc + 3) (.int (iI r) :: rest)) : od_G Γ own cc nL R dA dZ (cs u) lv pc st0 := by
  obtain ⟨p, l, e, s, m, args, below, meth, c, dC, dI, A, cells, slots, Q, ret⟩ := Γ
  intro F H locs ls hW hL
  obtain ⟨hx, hb, hml, hlk, hrt, hown, hts, hK, hA, hcl, hsl⟩ := id F
  obtain ⟨hP, hD, hS⟩ := hW
  have hF := od_free hD hS hA
  refine va_calli (va_runV (As := As) (rest := rest) ⟨hx, hb, hml, hown, hts⟩ (hM l dC dI H.size) (cwV n hts hw rfl hm.1 hm.2 hd hR) ⟨od_blind, va_recv hK hP hci hc0, fun U hU hWm => ⟨rfl, by rw [hU], by rw [hU]; exact hP, va_K.moved hWm.alike hK, hD.weaken (fun _ _ _ _ => trivial)⟩⟩ rfl hn hL.size hst (lv_room hroom) hdec ⟨hcl, hsl⟩) hS (fun q _ h => hF q h) hF (fun r u' t H1 locs1 ht hvm hpost hB hz hk hS1 => ?_)
  obtain ⟨z, rfl, hp⟩ := hpost
  obtain ⟨hP1, hK1, hD1⟩ := hB
  rw [ht] at hP1
  exact k z u' hp F H1 locs1 ls ⟨hP1, hD1.weaken (fun _ q _ h => hF q.1 h), hS1⟩ hL
/-- .. nothing comes back -/
theorem og_callV {post : DS → Prop} (hM : od_MV dA dZ cs y b L rm (.ref a :: As) u post) (hc0 : (cs u)[0]? = some (a, .inr (ci, fs))) (hci : vwCl[ci]? = some (C, T, N)) (hw : GoodIn lw_all (wsV own idx C y (ws_ y b L none)))
    (hd : y.cls = C ∧ y.cls ≠ "java/lang/invoke/MethodHandle" ∧ y.cls ≠ "java/lang/invoke/VarHandle" ∧ (parseMethodDescriptor y.desc).map (fun d => d.parameters.length) = some n) (hR : rm.frames + 1 ≤ R.frames ∧ 8 + (L + 11) + rm.locals ≤ R.locals) (hm : rm.cells = 0 ∧ rm.slots = 0) (hn : As.length = n) (hst : st0 = As.reverse ++ .ref a :: rest) (hroom : (rest.map fun v => v.category).sum ≤ 8)
    (hdec : decode cc pc = .ok (.invokevirtual idx, 3)) (k : ∀ u' : DS, post u' → od_G Γ own cc nL R dA dZ (cs u') lv (pc + 3) rest) : od_G Γ own cc nL R dA dZ (cs u) lv pc st0 := by
  obtain ⟨p, l, e, s, m, args, below, meth, c, dC, dI, A, cells, slots, Q, ret⟩ := Γ
  intro F H locs ls hW hL
  obtain ⟨hx, hb, hml, hlk, hrt, hown, hts, hK, hA, hcl, hsl⟩ := id F
  obtain ⟨hP, hD, hS⟩ := hW
  have hF := od_free hD hS hA
  refine va_callv (va_runV (As := As) (rest := rest) ⟨hx, hb, hml, hown, hts⟩ (hM l dC dI H.size) (cwV n hts hw rfl hm.1 hm.2 hd hR) ⟨od_blind, va_recv hK hP hci hc0, fun U hU hWm => ⟨rfl, by rw [hU], by rw [hU]; exact hP, va_K.moved hWm.alike hK, hD.weaken (fun _ _ _ _ => trivial)⟩⟩ rfl hn hL.size hst (lv_room hroom) hdec ⟨hcl, hsl⟩) hS (fun q _ h => hF q h) hF (fun u' t H1 locs1 ht hvm hpost hB hz hk hS1 => ?_)
  obtain ⟨hP1, hK1, hD1⟩ := hB
  rw [ht] at hP1
  exact k u' hpost F H1 locs1 ls ⟨hP1, hD1.weaken (fun _ q _ h => hF q.1 h), hS1⟩ hL
/-- a static call: no cell of the world is touched -/
theorem og_callS {post : Int → Prop} {u0 : DS} (hM : od_MI dA dZ nc y b L rt rm As u0 (fun r _ => post r)) (hw : GoodIn lw_all (va_wsS own idx y (ws_ y b L rt)))
    (hd : y.cls ≠ "java/lang/invoke/MethodHandle" ∧ y.cls ≠ "java/lang/invoke/VarHandle" ∧ (parseMethodDescriptor y.desc).map (fun d => d.parameters.length) = some n) (hR : rm.frames + 1 ≤ R.frames ∧ 8 + (L + 11) + rm.locals ≤ R.locals) (hm : rm.cells = 0 ∧ rm.slots = 0) (hn : As.length = n) (hst : st0 = As.reverse ++ rest) (hroom : (rest.map fun v => v.category).sum ≤ 8)
    (hdec : decode cc pc = .ok (.invokestatic idx, 3)) (k : ∀ r : Int, post r → od_G Γ own cc nL R dA dZ ws lv (pc + 3) (.int (iI r) :: rest)) : od_G Γ own cc nL R dA dZ ws lv pc st0 := by
  obtain ⟨p, l, e, s, m, args, below, meth, c, dC, dI, A, cells, slots, Q, ret⟩ := Γ
  intro F H locs ls hW hL
  obtain ⟨hx, hb, hml, hlk, hrt, hown, hts, hK, hA, hcl, hsl⟩ := id F
  obtain ⟨hP, hD, hS⟩ := hW
  have hF : ∀ q, va_A [] H.size q → A q := od_free (ws := []) od_nil_D hS hA
  refine va_calli (va_runS (As := As) (rest := rest) ⟨hx, hb, hml, hown, hts⟩ (hM l dC dI H.size) (va_cwS n hts hw rfl hm.1 hm.2 hd hR) ⟨od_blind, fun U hU hWm => ⟨rfl, by rw [hU], od_nil_P, va_K.moved hWm.alike hK, od_nil_D⟩⟩ rfl hn hL.size hst (lv_room hroom) hdec ⟨hcl, hsl⟩) hS (fun q _ h => hF q h) hF (fun r u' t H1 locs1 ht hvm hpost hB hz hk hS1 => ?_)
  obtain ⟨z, rfl, hp⟩ := hpost
  exact k z hp F H1 locs1 ls ⟨hP.kept (fun i q hq => hk q.1 ((hP i q hq).lt) (od_nil_A ((hP i q hq).lt))), hD, hS1⟩ hL
end OC
end
section
set_option maxRecDepth 100000
/-! plain numbers: no program in sight -/
theorem mulB {a b : Int} {A B : Nat} (ha : a.natAbs ≤ A) (hb : b.natAbs ≤ B) : (a * b).natAbs ≤ A * B := by
  rw [Int.natAbs_mul]
  exact Nat.mul_le_mul ha hb
theorem mulR {a b : Int} (A B C : Nat) (hC : A * B = C) (ha : -(A : Int) ≤ a ∧ a ≤ A) (hb : -(B : Int) ≤ b ∧ b ≤ B) : -(C : Int) ≤ a * b ∧ a * b ≤ C := by
  have h := mulB (a := a) (b := b) (A := A) (B := B) (by omega) (by omega)
  rw [hC] at h
  omega
theorem fdiv_eq {x y : Int} (hy : 0 < y) : (if x.tmod y < 0 then x.tdiv y - 1 else x.tdiv y) = x / y := by
  have h1 := Int.tmod_lt_of_pos x hy
  have h2 := Int.lt_tmod_of_pos x hy
  have h3 := Int.tmod_add_mul_tdiv x y
  split
  · have h4 := (Int.ediv_emod_unique (a := x) (b := y) (r := x.tmod y + y) (q := x.tdiv y - 1) hy).mpr ⟨by rw [Int.mul_sub, Int.mul_one]; omega, by omega, by omega⟩
    exact h4.1.symm
  · have h4 := (Int.ediv_emod_unique (a := x) (b := y) (r := x.tmod y) (q := x.tdiv y) hy).mpr ⟨h3, by omega, h1⟩
    exact h4.1.symm
theorem divB {x y : Int} {A : Nat} (h : -(A : Int) ≤ x ∧ x ≤ A) : -(A : Int) ≤ x / y ∧ x / y ≤ A := by
  have h1 := Int.natAbs_ediv_le_natAbs x y
  omega
theorem tdivB {x y : Int} {A : Nat} (h : -(A : Int) ≤ x ∧ x ≤ A) : -(A : Int) ≤ x.tdiv y ∧ x.tdiv y ≤ A := by
  have h1 := Int.natAbs_tdiv_le_natAbs x y
  omega
theorem few_iff {a b d g : Int} (hg : 0 < g) (ha : g ∣ a) (hb : g ∣ b) (x y : Int) : a.tdiv g * x + b.tdiv g * y ≤ d / g ↔ a * x + b * y ≤ d := by
  have e1 := Int.tdiv_mul_cancel ha
  have e2 := Int.tdiv_mul_cancel hb
  rw [Int.le_ediv_iff_mul_le hg]
  have e : (a.tdiv g * x + b.tdiv g * y) * g = a * x + b * y := by
    rw [Int.add_mul, Int.mul_assoc, Int.mul_comm x g, ← Int.mul_assoc, e1, Int.mul_assoc (b.tdiv g), Int.mul_comm y g, ← Int.mul_assoc, e2]
  rw [e]
/-! frames between states -/
def od_fr (ks : List Nat) (u u' : DS) : Prop := ∀ k, k ∉ ks → u' k = u k
theorem od_fr.rf {ks : List Nat} {u : DS} : od_fr ks u u := fun _ _ => rfl
theorem od_fr.tr {ks : List Nat} {u v w : DS} (h1 : od_fr ks u v) (h2 : od_fr ks v w) : od_fr ks u w := fun k hk => (h2 k hk).trans (h1 k hk)
theorem od_fr.up {ks : List Nat} {u v : DS} {k j : Nat} {z : Int} (h : od_fr ks u v) (hk : k ∈ ks) : od_fr ks u (up2 v k j z) := fun i hi => by
  have hne : i ≠ k := fun e => hi (by rw [e]; exact hk)
  rw [up2_ne hne]
  exact h i hi
theorem od_fr.wk {ks ks' : List Nat} {u v : DS} (h : od_fr ks u v) (hs : ∀ k, k ∈ ks → k ∈ ks') : od_fr ks' u v := fun k hk => h k (fun q => hk (hs k q))
/-! the conditions that are worked with: n rows in fields 5, 6 -/
def rOK (u : DS) (n : Nat) (x y z : Int) : Prop := ∀ r, r < n → u 5 (3 * r) * x + u 5 (3 * r + 1) * y + u 5 (3 * r + 2) * z ≤ u 6 r
def rB (u : DS) (n : Nat) : Prop := ∀ r, r < n → (-9 ≤ u 5 (3 * r) ∧ u 5 (3 * r) ≤ 9) ∧ (-9 ≤ u 5 (3 * r + 1) ∧ u 5 (3 * r + 1) ≤ 9) ∧ (-9 ≤ u 5 (3 * r + 2) ∧ u 5 (3 * r + 2) ≤ 9) ∧ -100 ≤ u 6 r ∧ u 6 r ≤ 100
def fOK (u : DS) (n : Nat) (x y : Int) : Prop := ∀ r, r < n → u 8 (3 * r) * x + u 8 (3 * r + 1) * y ≤ u 9 r
def fB (u : DS) (n : Nat) : Prop := ∀ r, r < n → (-162 ≤ u 8 (3 * r) ∧ u 8 (3 * r) ≤ 162) ∧ (-162 ≤ u 8 (3 * r + 1) ∧ u 8 (3 * r + 1) ≤ 162) ∧ -2000 ≤ u 9 r ∧ u 9 r ≤ 2000
theorem rOK.cg {u u' : DS} {n : Nat} {x y z : Int} (h5 : u' 5 = u 5) (h6 : u' 6 = u 6) : rOK u' n x y z ↔ rOK u n x y z := by unfold rOK; rw [h5, h6]
theorem rB.cg {u u' : DS} {n : Nat} (h5 : u' 5 = u 5) (h6 : u' 6 = u 6) (h : rB u n) : rB u' n := by unfold rB; rw [h5, h6]; exact h
theorem fOK.cg {u u' : DS} {n : Nat} {x y : Int} (h5 : u' 8 = u 8) (h6 : u' 9 = u 9) : fOK u' n x y ↔ fOK u n x y := by unfold fOK; rw [h5, h6]
theorem fB.cg {u u' : DS} {n : Nat} (h5 : u' 8 = u 8) (h6 : u' 9 = u 9) (h : fB u n) : fB u' n := by unfold fB; rw [h5, h6]; exact h
theorem fOK_s {u : DS} {n : Nat} {x y : Int} : fOK u (n + 1) x y ↔ fOK u n x y ∧ u 8 (3 * n) * x + u 8 (3 * n + 1) * y ≤ u 9 n := by
  constructor
  · intro h
    exact ⟨fun r hr => h r (by omega), h n (by omega)⟩
  · intro h r hr
    by_cases e : r = n
    · rw [e]; exact h.2
    · exact h.1 r (by omega)
theorem rOK_s {u : DS} {n : Nat} {x y z : Int} : rOK u (n + 1) x y z ↔ rOK u n x y z ∧ u 5 (3 * n) * x + u 5 (3 * n + 1) * y + u 5 (3 * n + 2) * z ≤ u 6 n := by
  constructor
  · intro h
    exact ⟨fun r hr => h r (by omega), h n (by omega)⟩
  · intro h r hr
    by_cases e : r = n
    · rw [e]; exact h.2
    · exact h.1 r (by omega)
/-- a row more -/
def putU (u : DS) (n : Nat) (a b c d : Int) : DS := up2 (up2 (up2 (up2 (up2 u 5 (3 * n) a) 5 (3 * n + 1) b) 5 (3 * n + 2) c) 6 n d) 4 0 ((n : Int) + 1)
section PU
variable {u : DS} {n : Nat} {a b c d : Int}
theorem putU_fr : od_fr [4, 5, 6] u (putU u n a b c d) := by
  unfold putU
  exact (((((od_fr.rf.up (by decide)).up (by decide)).up (by decide)).up (by decide)).up (by decide))
theorem putU_4 : putU u n a b c d 4 0 = (n : Int) + 1 := by unfold putU; rw [up2_same]
theorem putU_5 {j : Nat} (h : j < 3 * n) : putU u n a b c d 5 j = u 5 j := by
  unfold putU
  rw [up2_ne (by decide), up2_ne (by decide), up2_off (by omega), up2_off (by omega), up2_off (by omega)]
theorem putU_50 : putU u n a b c d 5 (3 * n) = a := by
  unfold putU
  rw [up2_ne (by decide), up2_ne (by decide), up2_off (by omega), up2_off (by omega), up2_same]
theorem putU_51 : putU u n a b c d 5 (3 * n + 1) = b := by
  unfold putU
  rw [up2_ne (by decide), up2_ne (by decide), up2_off (by omega), up2_same]
theorem putU_52 : putU u n a b c d 5 (3 * n + 2) = c := by
  unfold putU
  rw [up2_ne (by decide), up2_ne (by decide), up2_same]
theorem putU_6 {j : Nat} (h : j < n) : putU u n a b c d 6 j = u 6 j := by
  unfold putU
  rw [up2_ne (by decide), up2_off (by omega), up2_ne (by decide), up2_ne (by decide), up2_ne (by decide)]
theorem putU_6n : putU u n a b c d 6 n = d := by
  unfold putU
  rw [up2_ne (by decide), up2_same]
theorem putU_OKn (x y z : Int) : rOK (putU u n a b c d) n x y z ↔ rOK u n x y z := by
  constructor
  · intro h r hr
    have h1 := h r hr
    rw [putU_5 (by omega), putU_5 (by omega), putU_5 (by omega), putU_6 hr] at h1
    exact h1
  · intro h r hr
    rw [putU_5 (by omega), putU_5 (by omega), putU_5 (by omega), putU_6 hr]
    exact h r hr
theorem putU_OK (x y z : Int) : rOK (putU u n a b c d) (n + 1) x y z ↔ rOK u n x y z ∧ a * x + b * y + c * z ≤ d := by
  rw [rOK_s, putU_OKn, putU_50, putU_51, putU_52, putU_6n]
theorem putU_B (h : rB u n) (ha : -9 ≤ a ∧ a ≤ 9) (hb : -9 ≤ b ∧ b ≤ 9) (hc : -9 ≤ c ∧ c ≤ 9) (hd : -100 ≤ d ∧ d ≤ 100) : rB (putU u n a b c d) (n + 1) := by
  intro r hr
  by_cases e : r = n
  · rw [e, putU_50, putU_51, putU_52, putU_6n]
    exact ⟨ha, hb, hc, hd⟩
  · have hr' : r < n := by omega
    rw [putU_5 (by omega), putU_5 (by omega), putU_5 (by omega), putU_6 hr']
    exact h r hr'
end PU
/-- one of two variables more -/
def fewU (u : DS) (n : Nat) (p q e : Int) : DS := up2 (up2 (up2 (up2 u 8 (3 * n) p) 8 (3 * n + 1) q) 9 n e) 7 0 ((n : Int) + 1)
section FU
variable {u : DS} {n : Nat} {p q e : Int}
theorem fewU_fr : od_fr [7, 8, 9] u (fewU u n p q e) := by
  unfold fewU
  exact ((((od_fr.rf.up (by decide)).up (by decide)).up (by decide)).up (by decide))
theorem fewU_7 : fewU u n p q e 7 0 = (n : Int) + 1 := by unfold fewU; rw [up2_same]
theorem fewU_8 {j : Nat} (h : j < 3 * n) : fewU u n p q e 8 j = u 8 j := by
  unfold fewU
  rw [up2_ne (by decide), up2_ne (by decide), up2_off (by omega), up2_off (by omega)]
theorem fewU_80 : fewU u n p q e 8 (3 * n) = p := by
  unfold fewU
  rw [up2_ne (by decide), up2_ne (by decide), up2_off (by omega), up2_same]
theorem fewU_81 : fewU u n p q e 8 (3 * n + 1) = q := by
  unfold fewU
  rw [up2_ne (by decide), up2_ne (by decide), up2_same]
theorem fewU_9 {j : Nat} (h : j < n) : fewU u n p q e 9 j = u 9 j := by
  unfold fewU
  rw [up2_ne (by decide), up2_off (by omega), up2_ne (by decide), up2_ne (by decide)]
theorem fewU_9n : fewU u n p q e 9 n = e := by
  unfold fewU
  rw [up2_ne (by decide), up2_same]
theorem fewU_OK (x y : Int) : fOK (fewU u n p q e) (n + 1) x y ↔ fOK u n x y ∧ p * x + q * y ≤ e := by
  rw [fOK_s, fewU_80, fewU_81, fewU_9n]
  refine and_congr_left fun _ => ?_
  constructor
  · intro h r hr
    have h1 := h r hr
    rw [fewU_8 (by omega), fewU_8 (by omega), fewU_9 hr] at h1
    exact h1
  · intro h r hr
    rw [fewU_8 (by omega), fewU_8 (by omega), fewU_9 hr]
    exact h r hr
theorem fewU_B (h : fB u n) (hp : -162 ≤ p ∧ p ≤ 162) (hq : -162 ≤ q ∧ q ≤ 162) (he : -2000 ≤ e ∧ e ≤ 2000) : fB (fewU u n p q e) (n + 1) := by
  intro r hr
  by_cases c : r = n
  · rw [c, fewU_80, fewU_81, fewU_9n]
    exact ⟨hp, hq, he⟩
  · have hr' : r < n := by omega
    rw [fewU_8 (by omega), fewU_8 (by omega), fewU_9 hr']
    exact h r hr'
/-- the stricter of two bounds -/
theorem fewS_OK {r : Nat} (hr : r < n) (h0 : u 8 (3 * r) = p) (h1 : u 8 (3 * r + 1) = q) {z : Int} (hz : z = if e < u 9 r then e else u 9 r) (x y : Int) : fOK (up2 u 9 r z) n x y ↔ fOK u n x y ∧ p * x + q * y ≤ e := by
  constructor
  · intro h
    refine ⟨fun i hi => ?_, ?_⟩
    · have h2 := h i hi
      rw [up2_ne (by decide)] at h2
      by_cases c : i = r
      · subst c
        rw [up2_same, hz] at h2
        split at h2 <;> omega
      · rw [up2_off c] at h2
        exact h2
    · have h2 := h r hr
      rw [up2_ne (by decide), up2_same, h0, h1, hz] at h2
      split at h2 <;> omega
  · intro h i hi
    rw [up2_ne (by decide)]
    by_cases c : i = r
    · subst c
      rw [up2_same, hz]
      have h2 := h.1 i hi
      have h3 := h.2
      rw [← h0, ← h1] at h3
      split <;> omega
    · rw [up2_off c]
      exact h.1 i hi
theorem fewS_B {r : Nat} (h : fB u n) (he : -2000 ≤ e ∧ e ≤ 2000) {z : Int} (hz : z = if e < u 9 r then e else u 9 r) : fB (up2 u 9 r z) n := by
  intro i hi
  rw [up2_ne (by decide)]
  have h2 := h i hi
  by_cases c : i = r
  · subst c
    rw [up2_same, hz]
    split
    · exact ⟨h2.1, h2.2.1, he⟩
    · exact h2
  · rw [up2_off c]
    exact h2
end FU
/-! shadows -/
def pairC (u : DS) (q r : Nat) (g nv x y : Int) : Prop := (u 5 (3 * r + 2) * u 5 (3 * q) + g * u 5 (3 * r)) * x + (u 5 (3 * r + 2) * u 5 (3 * q + 1) + g * u 5 (3 * r + 1)) * y ≤ u 5 (3 * r + 2) * u 6 q + g * u 6 r - (if nv = 0 then 0 else (u 5 (3 * r + 2) - 1) * (g - 1))
def pairs (u : DS) (m q : Nat) (g nv x y : Int) : Prop := ∀ r, r < m → 0 < u 5 (3 * r + 2) → pairC u q r g nv x y
def Shd (u : DS) (n m : Nat) (nv x y : Int) : Prop := ∀ r, r < m → (u 5 (3 * r + 2) = 0 → u 5 (3 * r) * x + u 5 (3 * r + 1) * y ≤ u 6 r) ∧ (u 5 (3 * r + 2) < 0 → pairs u n r (-u 5 (3 * r + 2)) nv x y)
theorem pairC.cg {u u' : DS} {q r : Nat} {g nv x y : Int} (h5 : u' 5 = u 5) (h6 : u' 6 = u 6) : pairC u' q r g nv x y ↔ pairC u q r g nv x y := by unfold pairC; rw [h5, h6]
theorem pairs_s {u : DS} {m q : Nat} {g nv x y : Int} : pairs u (m + 1) q g nv x y ↔ pairs u m q g nv x y ∧ (0 < u 5 (3 * m + 2) → pairC u q m g nv x y) := by
  constructor
  · intro h
    exact ⟨fun r hr => h r (by omega), h m (by omega)⟩
  · intro h r hr
    by_cases e : r = m
    · rw [e]; exact h.2
    · exact h.1 r (by omega)
theorem Shd_s {u : DS} {n m : Nat} {nv x y : Int} : Shd u n (m + 1) nv x y ↔ Shd u n m nv x y ∧ (u 5 (3 * m + 2) = 0 → u 5 (3 * m) * x + u 5 (3 * m + 1) * y ≤ u 6 m) ∧ (u 5 (3 * m + 2) < 0 → pairs u n m (-u 5 (3 * m + 2)) nv x y) := by
  constructor
  · intro h
    exact ⟨fun r hr => h r (by omega), h m (by omega)⟩
  · intro h r hr
    by_cases e : r = m
    · rw [e]; exact h.2
    · exact h.1 r (by omega)
theorem Shd_le {u : DS} {n m m' : Nat} {nv x y : Int} (hm : m ≤ m') (h : Shd u n m' nv x y) : Shd u n m nv x y := fun r hr => h r (by omega)
def cU (u : DS) : Nat → Nat
  | 0 => 0
  | n + 1 => cU u n + (if 0 < u 5 (3 * n + 2) then 1 else 0)
def cL (u : DS) : Nat → Nat
  | 0 => 0
  | n + 1 => cL u n + (if u 5 (3 * n + 2) < 0 then 1 else 0)
def cZ (u : DS) : Nat → Nat
  | 0 => 0
  | n + 1 => cZ u n + (if u 5 (3 * n + 2) = 0 then 1 else 0)
theorem c_sum (u : DS) : ∀ n, cL u n + cU u n + cZ u n = n
  | 0 => rfl
  | n + 1 => by
    have h := c_sum u n
    simp only [cL, cU, cZ]
    rcases Int.lt_trichotomy (u 5 (3 * n + 2)) 0 with c | c | c
    · rw [if_pos c, if_neg (by omega), if_neg (by omega)]; omega
    · rw [if_neg (by omega), if_neg (by omega), if_pos c]; omega
    · rw [if_neg (by omega), if_pos c, if_neg (by omega)]; omega
theorem cU_le (u : DS) {m n : Nat} (h : m ≤ n) : cU u m ≤ cU u n := by
  induction n with
  | zero => have : m = 0 := by omega
            rw [this]; exact Nat.le_refl _
  | succ n ih =>
    by_cases e : m = n + 1
    · rw [e]; exact Nat.le_refl _
    · exact Nat.le_trans (ih (by omega)) (Nat.le_add_right _ _)
theorem cL_le (u : DS) {m n : Nat} (h : m ≤ n) : cL u m ≤ cL u n := by
  induction n with
  | zero => have : m = 0 := by omega
            rw [this]; exact Nat.le_refl _
  | succ n ih =>
    by_cases e : m = n + 1
    · rw [e]; exact Nat.le_refl _
    · exact Nat.le_trans (ih (by omega)) (Nat.le_add_right _ _)
theorem cZ_le (u : DS) {m n : Nat} (h : m ≤ n) : cZ u m ≤ cZ u n := by
  induction n with
  | zero => have : m = 0 := by omega
            rw [this]; exact Nat.le_refl _
  | succ n ih =>
    by_cases e : m = n + 1
    · rw [e]; exact Nat.le_refl _
    · exact Nat.le_trans (ih (by omega)) (Nat.le_add_right _ _)
theorem c_tab : ∀ L, L < 24 → ∀ U, U < 24 → L + U ≤ 23 → L * U + (23 - L - U) ≤ 159 := by decide +kernel
theorem c_room (u : DS) {n : Nat} (h : n ≤ 23) : cL u n * cU u n + cZ u n ≤ 159 := by
  have h1 := c_sum u n
  have h2 := c_tab (cL u n) (by omega) (cU u n) (by omega) (by omega)
  omega
theorem pair_lin (f g al bl ar br x y : Int) : (f * al + g * ar) * x + (f * bl + g * br) * y = f * (al * x + bl * y) + g * (ar * x + br * y) := by
  simp only [Int.add_mul, Int.mul_add, Int.mul_assoc]
  omega
theorem pair_need {f g z A B D E : Int} (hf : 0 < f) (hg : 0 < g) (h1 : A + -g * z ≤ D) (h2 : B + f * z ≤ E) : f * A + g * B ≤ f * D + g * E := by
  have e1 := Int.mul_le_mul_of_nonneg_left h1 (Int.le_of_lt hf)
  have e2 := Int.mul_le_mul_of_nonneg_left h2 (Int.le_of_lt hg)
  have e3 : f * (A + -g * z) = f * A - f * (g * z) := by rw [Int.mul_add, Int.neg_mul, Int.mul_neg]; omega
  have e4 : g * (B + f * z) = g * B + f * (g * z) := by rw [Int.mul_add, ← Int.mul_assoc g f z, Int.mul_comm g f, Int.mul_assoc]
  omega
theorem pair_dark {f g z A B D E : Int} (hf : 0 < f) (hg : 0 < g) (h : f * A + g * B ≤ f * D + g * E - (f - 1) * (g - 1)) (hz1 : A - D ≤ g * z) (hz2 : g * z ≤ A - D + g - 1) : B + f * z ≤ E := by
  apply Decidable.byContradiction
  intro hn
  have k0 : E - B + 1 ≤ f * z := by omega
  have k1 := Int.mul_le_mul_of_nonneg_left k0 (Int.le_of_lt hg)
  have k2 := Int.mul_le_mul_of_nonneg_left hz2 (Int.le_of_lt hf)
  have e1 : g * (f * z) = f * (g * z) := by rw [← Int.mul_assoc, Int.mul_comm g f, Int.mul_assoc]
  have e2 : g * (E - B + 1) = g * E - g * B + g := by rw [Int.mul_add, Int.mul_sub, Int.mul_one]
  have e3 : f * (A - D + g - 1) = f * A - f * D + f * g - f := by rw [Int.mul_sub, Int.mul_add, Int.mul_sub, Int.mul_one]
  have e4 : (f - 1) * (g - 1) = f * g - f - g + 1 := by rw [Int.sub_mul, Int.mul_sub, Int.mul_one, Int.one_mul]; omega
  omega
theorem max_ex (P : Nat → Prop) (f : Nat → Int) : ∀ n, (∃ q, q < n ∧ P q) → ∃ q, q < n ∧ P q ∧ ∀ r, r < n → P r → f r ≤ f q
  | 0, h => by obtain ⟨q, hq, -⟩ := h; omega
  | n + 1, h => by
    by_cases hn : ∃ q, q < n ∧ P q
    · obtain ⟨q, h1, h2, h3⟩ := max_ex P f n hn
      by_cases hp : P n ∧ f q ≤ f n
      · refine ⟨n, by omega, hp.1, fun r hr hPr => ?_⟩
        by_cases e : r = n
        · rw [e]; exact Int.le_refl _
        · exact Int.le_trans (h3 r (by omega) hPr) hp.2
      · refine ⟨q, by omega, h2, fun r hr hPr => ?_⟩
        by_cases e : r = n
        · subst e
          have : ¬ f q ≤ f r := fun c => hp ⟨hPr, c⟩
          omega
        · exact h3 r (by omega) hPr
    · obtain ⟨q, h1, h2⟩ := h
      have e : q = n := by
        apply Decidable.byContradiction
        intro e
        exact hn ⟨q, by omega, h2⟩
      subst e
      refine ⟨q, by omega, h2, fun r hr hPr => ?_⟩
      by_cases c : r = q
      · rw [c]; exact Int.le_refl _
      · exact absurd ⟨r, by omega, hPr⟩ hn
/-- between two there is room for a whole number -/
theorem sh_dark {u : DS} {n : Nat} {x y : Int} (hlo : ∃ q, q < n ∧ u 5 (3 * q + 2) < 0) (h : Shd u n n 1 x y) : ∃ z, rOK u n x y z := by
  obtain ⟨q, hq, hqn, hmax⟩ := max_ex (fun q => u 5 (3 * q + 2) < 0) (fun q => -((u 6 q - (u 5 (3 * q) * x + u 5 (3 * q + 1) * y)) / (-u 5 (3 * q + 2)))) n hlo
  refine ⟨-((u 6 q - (u 5 (3 * q) * x + u 5 (3 * q + 1) * y)) / (-u 5 (3 * q + 2))), fun r hr => ?_⟩
  rcases Int.lt_trichotomy (u 5 (3 * r + 2)) 0 with c | c | c
  · have h1 := hmax r hr c
    generalize -((u 6 q - (u 5 (3 * q) * x + u 5 (3 * q + 1) * y)) / (-u 5 (3 * q + 2))) = z at h1 ⊢
    have h2 := Int.mul_ediv_self_le (x := u 6 r - (u 5 (3 * r) * x + u 5 (3 * r + 1) * y)) (k := -u 5 (3 * r + 2)) (by omega)
    have h3 := Int.mul_le_mul_of_nonneg_left h1 (show 0 ≤ -u 5 (3 * r + 2) by omega)
    rw [Int.mul_neg] at h3
    have e : u 5 (3 * r + 2) * z = -(-u 5 (3 * r + 2) * z) := by rw [Int.neg_mul]; omega
    omega
  · rw [c, Int.zero_mul]
    have := (h r hr).1 c
    omega
  · have hp := (h q hq).2 hqn r hr c
    unfold pairC at hp
    rw [pair_lin, if_neg (by decide)] at hp
    have g0 : 0 < -u 5 (3 * q + 2) := by omega
    have h2 := Int.mul_ediv_self_le (x := u 6 q - (u 5 (3 * q) * x + u 5 (3 * q + 1) * y)) (k := -u 5 (3 * q + 2)) (by omega)
    have h3 := Int.lt_mul_ediv_self_add (x := u 6 q - (u 5 (3 * q) * x + u 5 (3 * q + 1) * y)) (k := -u 5 (3 * q + 2)) g0
    generalize (u 6 q - (u 5 (3 * q) * x + u 5 (3 * q + 1) * y)) / (-u 5 (3 * q + 2)) = w at h2 h3 ⊢
    generalize -u 5 (3 * q + 2) = g at hp g0 h2 h3
    refine pair_dark (z := -w) c g0 hp ?_ ?_
    · rw [Int.mul_neg]; omega
    · rw [Int.mul_neg]; omega
theorem sh_of {u : DS} {n : Nat} {nv x y z : Int} (hex : ∀ q r, q < n → r < n → u 5 (3 * q + 2) < 0 → 0 < u 5 (3 * r + 2) → (if nv = 0 then (0 : Int) else (u 5 (3 * r + 2) - 1) * (-u 5 (3 * q + 2) - 1)) = 0) (h : rOK u n x y z) : Shd u n n nv x y := by
  intro q hq
  refine ⟨fun c => ?_, fun c r hr cr => ?_⟩
  · have h1 := h q hq
    rw [c, Int.zero_mul] at h1
    omega
  · unfold pairC
    rw [hex q r hq hr c cr, pair_lin]
    have h1 := h q hq
    have h2 := h r hr
    have h3 := pair_need (f := u 5 (3 * r + 2)) (g := -u 5 (3 * q + 2)) (z := z) (A := u 5 (3 * q) * x + u 5 (3 * q + 1) * y) (B := u 5 (3 * r) * x + u 5 (3 * r + 1) * y) (D := u 6 q) (E := u 6 r) cr (by omega) (by rw [Int.neg_neg]; exact h1) h2
    omega
theorem sh_real {u : DS} {n : Nat} {x y z : Int} (h : rOK u n x y z) : Shd u n n 0 x y := sh_of (fun _ _ _ _ _ _ => by simp) h
theorem sh_exact {u : DS} {n : Nat} {x y z : Int} (he : (∀ r, r < n → -u 5 (3 * r + 2) ≤ 1) ∨ (∀ r, r < n → u 5 (3 * r + 2) ≤ 1)) (h : rOK u n x y z) : Shd u n n 1 x y := by
  refine sh_of (fun q r hq hr c cr => ?_) h
  rw [if_neg (by decide)]
  rcases he with he | he
  · have h1 := he q hq
    have e : -u 5 (3 * q + 2) - 1 = 0 := by omega
    rw [e, Int.mul_zero]
  · have h1 := he r hr
    have e : u 5 (3 * r + 2) - 1 = 0 := by omega
    rw [e, Int.zero_mul]
end
section
set_option maxRecDepth 100000
/-! Euclid's way: the product falls by half -/
def gInv (t A B : Nat) : Prop := A ≤ 162 ∧ B ≤ 162 ∧ (t = 0 ∨ (A < B ∧ A * B * 2 ^ (t - 1) ≤ 26244))
theorem gInv_step {t A B : Nat} (hA : 0 < A) (h : gInv t A B) : gInv (t + 1) (B % A) A := by
  obtain ⟨h1, h2, h3⟩ := h
  have hlt := Nat.mod_lt B hA
  refine ⟨by omega, h1, Or.inr ⟨hlt, ?_⟩⟩
  rw [Nat.add_sub_cancel]
  rcases h3 with rfl | ⟨h4, h5⟩
  · have : B % A * A ≤ 162 * 162 := Nat.mul_le_mul (by omega) h1
    omega
  · by_cases ht : t = 0
    · subst ht
      have : B % A * A ≤ 162 * 162 := Nat.mul_le_mul (by omega) h1
      omega
    · obtain ⟨k, rfl⟩ : ∃ k, t = k + 1 := ⟨t - 1, by omega⟩
      rw [Nat.add_sub_cancel] at h5
      have hd := Nat.div_add_mod B A
      have hq : 1 ≤ B / A := (Nat.le_div_iff_mul_le hA).mpr (by omega)
      have hm : A * 1 ≤ A * (B / A) := Nat.mul_le_mul_left A hq
      have hB : B % A + B % A ≤ B := by omega
      have h6 : A * (B % A + B % A) ≤ A * B := Nat.mul_le_mul_left A hB
      have h7 := Nat.mul_le_mul_right (2 ^ k) h6
      have e : A * (B % A + B % A) * 2 ^ k = B % A * A * 2 ^ (k + 1) := by
        rw [Nat.pow_succ, Nat.mul_add, Nat.mul_comm A (B % A)]
        generalize B % A * A = m
        rw [Nat.add_mul, Nat.mul_comm (2 ^ k) 2, ← Nat.mul_assoc, Nat.mul_comm m 2, Nat.mul_assoc]
        omega
      rw [← e]
      omega
theorem gInv_end {A B : Nat} (h : gInv 40 A B) : A = 0 := by
  obtain ⟨h1, h2, h3⟩ := h
  rcases h3 with h3 | ⟨h4, h5⟩
  · omega
  · apply Decidable.byContradiction
    intro hA
    have : 1 * 1 ≤ A * B := Nat.mul_le_mul (by omega) (by omega)
    have h6 := Nat.mul_le_mul_right (2 ^ (40 - 1)) this
    have : (2 : Nat) ^ (40 - 1) = 549755813888 := by decide
    rw [this] at h5 h6
    omega
/-! OmegaDesk.amount -/
theorem met_amount (dA dZ : ClassId) (u : DS) (x : Int) (hx : -1000000 ≤ x ∧ x ≤ 1000000) : od_MI dA dZ nc yX0_amount cX0_amount 1 (some .int) (rmL 0) [.int (iI x)] u (fun r _ => r = x.natAbs) := by
  refine od_MI.ofI (own := RX0) 0 (by decide) rfl (od_cc rfl od_c1) (Nat.le_of_ble_eq_true rfl) ?_
  intro Γ hret
  show od_G Γ RX0 cX0_amount 1 (rmL 0) dA dZ (nc u) [.int (iI x)] 0 []
  refine og_iload_0 (pc := 0) dX0_amount_0 ?_
  refine og_if_ge (pc := 1) (tgt := 9) dX0_amount_1 (by decide) (by omega) (fun c => ?_) (fun c => ?_)
  · refine og_iload_0 (pc := 9) dX0_amount_9 ?_
    exact hret x u (by omega) _ _ dX0_amount_10
  · refine og_iload_0 (pc := 4) dX0_amount_4 ?_
    refine og_ineg (pc := 5) dX0_amount_5 ?_
    refine og_goto (pc := 6) (tgt := 10) dX0_amount_6 (by decide) ?_
    exact hret (-x) u (by omega) _ _ dX0_amount_10
/-! OmegaDesk.floorDivide -/
theorem met_floorDivide (dA dZ : ClassId) (u : DS) (x y : Int) (hx : -1000000 ≤ x ∧ x ≤ 1000000) (hy : 0 < y) (hy2 : y ≤ 1000000) : od_MI dA dZ nc yX0_floorDivide cX0_floorDivide 3 (some .int) (rmL 0) [.int (iI x), .int (iI y)] u (fun r _ => r = x / y) := by
  refine od_MI.ofI (own := RX0) 1 (by decide) rfl (od_cc rfl (od_cc rfl od_c1)) (Nat.le_of_ble_eq_true rfl) ?_
  intro Γ hret
  show od_G Γ RX0 cX0_floorDivide 3 (rmL 0) dA dZ (nc u) [.int (iI x), .int (iI y), .null] 0 []
  have h1 := Int.tmod_lt_of_pos x hy
  have h2 := Int.lt_tmod_of_pos x hy
  refine og_iload_0 (pc := 0) dX0_floorDivide_0 ?_
  refine og_iload_1 (pc := 1) dX0_floorDivide_1 ?_
  refine og_idiv (pc := 2) dX0_floorDivide_2 (by omega) (by omega) (by omega) ?_
  refine og_istore_2 (pc := 3) dX0_floorDivide_3 (by decide) ?_
  refine og_iload_0 (pc := 4) dX0_floorDivide_4 ?_
  refine og_iload_1 (pc := 5) dX0_floorDivide_5 ?_
  refine og_irem (pc := 6) dX0_floorDivide_6 (by omega) (by omega) (by omega) ?_
  refine og_if_ge (pc := 7) (tgt := 16) dX0_floorDivide_7 (by decide) (by omega) (fun c => ?_) (fun c => ?_)
  · refine og_iload_2 (pc := 16) dX0_floorDivide_16 ?_
    exact hret (x.tdiv y) u (by rw [← fdiv_eq hy, if_neg (by omega)]) _ _ dX0_floorDivide_17
  · refine og_iload_2 (pc := 10) dX0_floorDivide_10 ?_
    refine og_iconst (pc := 11) dX0_floorDivide_11 ?_
    refine og_isub (pc := 12) dX0_floorDivide_12 ?_
    refine og_goto (pc := 13) (tgt := 17) dX0_floorDivide_13 (by decide) ?_
    exact hret (x.tdiv y - 1) u (by rw [← fdiv_eq hy, if_pos c]) _ _ dX0_floorDivide_17
/-! OmegaDesk.divisorOf -/
theorem met_divisorOf (dA dZ : ClassId) (u : DS) (a b : Int) (ha : -162 ≤ a ∧ a ≤ 162) (hb : -162 ≤ b ∧ b ≤ 162) : od_MI dA dZ nc yX0_divisorOf cX0_divisorOf 6 (some .int) (rmL 1) [.int (iI a), .int (iI b)] u (fun r _ => r = (Nat.gcd a.natAbs b.natAbs : Nat)) := by
  refine od_MI.ofI (own := RX0) 4 (by decide) rfl (od_cc rfl (od_cc rfl od_c1)) (Nat.le_of_ble_eq_true rfl) ?_
  intro Γ hret
  show od_G Γ RX0 cX0_divisorOf 6 (rmL 1) dA dZ (nc u) [.int (iI a), .int (iI b), .null, .null, .null, .null] 0 []
  have Lp : ∀ (k t A B : Nat), t + k = 40 → Nat.gcd A B = Nat.gcd a.natAbs b.natAbs → gInv t A B → od_G Γ RX0 cX0_divisorOf 6 (rmL 1) dA dZ (nc u) [.int (iI a), .int (iI b), .int (iI A), .int (iI B), .int (iI t), .null] 13 [] := by
    intro k
    induction k with
    | zero =>
      intro t A B ht hg hi
      have ht : t = 40 := by omega
      subst ht
      have hA := gInv_end hi
      subst hA
      rw [Nat.gcd_zero_left] at hg
      refine og_iload_4 (pc := 13) dX0_divisorOf_13 ?_
      refine og_bipush (pc := 15) dX0_divisorOf_15 (by decide +kernel) ?_
      refine og_icmp_ge (pc := 17) (tgt := 40) dX0_divisorOf_17 (by decide) (by omega) (by omega) (fun c => ?_) (fun c => ?_)
      · refine og_iload_3 (pc := 40) dX0_divisorOf_40 ?_
        exact hret B u (by rw [hg]) _ _ dX0_divisorOf_41
      · exact absurd c (by omega)
    | succ k ih =>
      intro t A B ht hg hi
      have h1 := hi.1
      have h2 := hi.2.1
      refine og_iload_4 (pc := 13) dX0_divisorOf_13 ?_
      refine og_bipush (pc := 15) dX0_divisorOf_15 (by decide +kernel) ?_
      refine og_icmp_ge (pc := 17) (tgt := 40) dX0_divisorOf_17 (by decide) (by omega) (by omega) (fun c => ?_) (fun c => ?_)
      · exact absurd c (by omega)
      · refine og_iload_2 (pc := 20) dX0_divisorOf_20 ?_
        refine og_if_le (pc := 21) (tgt := 40) dX0_divisorOf_21 (by decide) (by omega) (fun c2 => ?_) (fun c2 => ?_)
        · have hA : A = 0 := by omega
          subst hA
          rw [Nat.gcd_zero_left] at hg
          refine og_iload_3 (pc := 40) dX0_divisorOf_40 ?_
          exact hret B u (by rw [hg]) _ _ dX0_divisorOf_41
        · have hm : ((B : Int).tmod (A : Int)) = ((B % A : Nat) : Int) := (Int.ofNat_tmod B A).symm
          refine og_iload_3 (pc := 24) dX0_divisorOf_24 ?_
          refine og_iload_2 (pc := 25) dX0_divisorOf_25 ?_
          refine og_irem (pc := 26) dX0_divisorOf_26 (by omega) (by omega) (by omega) ?_
          refine og_top hm ?_
          refine og_istore_5 (pc := 27) dX0_divisorOf_27 (by decide) ?_
          refine og_iload_2 (pc := 29) dX0_divisorOf_29 ?_
          refine og_istore_3 (pc := 30) dX0_divisorOf_30 (by decide) ?_
          refine og_iload_5 (pc := 31) dX0_divisorOf_31 ?_
          refine og_istore_2 (pc := 33) dX0_divisorOf_33 (by decide) ?_
          refine og_iinc_4 (pc := 34) dX0_divisorOf_34 (by decide) ?_
          refine og_goto (pc := 37) (tgt := 13) dX0_divisorOf_37 (by decide) ?_
          refine og_forget_5 ?_
          exact ih (t + 1) (B % A) A (by omega) (by rw [← Nat.gcd_rec]; exact hg) (gInv_step (by omega) hi)
  refine og_iload_0 (pc := 0) dX0_divisorOf_0 ?_
  refine og_callS (pc := 1) (n := 1) (met_amount dA dZ u a (by omega)) (lw_S q109 q110 q18 q111) (by decide +kernel) ⟨by decide, by decide⟩ ⟨rfl, rfl⟩ rfl rfl (Nat.le_of_ble_eq_true rfl) dX0_divisorOf_1 (fun r1 h1 => ?_)
  subst h1
  refine og_istore_2 (pc := 4) dX0_divisorOf_4 (by decide) ?_
  refine og_iload_1 (pc := 5) dX0_divisorOf_5 ?_
  refine og_callS (pc := 6) (n := 1) (met_amount dA dZ u b (by omega)) (lw_S q109 q110 q18 q111) (by decide +kernel) ⟨by decide, by decide⟩ ⟨rfl, rfl⟩ rfl rfl (Nat.le_of_ble_eq_true rfl) dX0_divisorOf_6 (fun r2 h2 => ?_)
  subst h2
  refine og_istore_3 (pc := 9) dX0_divisorOf_9 (by decide) ?_
  refine og_iconst (pc := 10) dX0_divisorOf_10 ?_
  refine og_istore_4 (pc := 11) dX0_divisorOf_11 (by decide) ?_
  exact Lp 40 0 a.natAbs b.natAbs (by omega) rfl ⟨by omega, by omega, Or.inl rfl⟩
/-! OmegaDesk.areRight -/
def od_right (a b c d : Int) : Prop := (-9 ≤ a ∧ a ≤ 9) ∧ (-9 ≤ b ∧ b ≤ 9) ∧ (-9 ≤ c ∧ c ≤ 9) ∧ -99 ≤ d ∧ d ≤ 99
theorem met_areRight (dA dZ : ClassId) (u : DS) (a b c d : Int) (ha : Rg a) (hb : Rg b) (hc : Rg c) (hd : Rg d) : od_MI dA dZ nc yX0_areRight cX0_areRight 4 (some .boolean) (rmL 0) [.int (iI a), .int (iI b), .int (iI c), .int (iI d)] u (fun r _ => (r = 0 ∨ r = 1) ∧ (r = 1 ↔ od_right a b c d)) := by
  refine od_MI.ofZ (own := RX0) 0 (by decide) rfl (od_cc rfl (od_cc rfl (od_cc rfl (od_cc rfl od_c1)))) (Nat.le_of_ble_eq_true rfl) (fun r u' h => h.1) ?_
  intro Γ hret
  show od_G Γ RX0 cX0_areRight 4 (rmL 0) dA dZ (nc u) [.int (iI a), .int (iI b), .int (iI c), .int (iI d)] 0 []
  have K : ¬ od_right a b c d → od_G Γ RX0 cX0_areRight 4 (rmL 0) dA dZ (nc u) [.int (iI a), .int (iI b), .int (iI c), .int (iI d)] 52 [] := by
    intro hn
    refine og_iconst (pc := 52) dX0_areRight_52 ?_
    exact hret 0 u ⟨Or.inl rfl, iff_of_false (by decide) hn⟩ _ _ dX0_areRight_53
  refine og_iload_0 (pc := 0) dX0_areRight_0 ?_
  refine og_bipush (pc := 1) dX0_areRight_1 (by decide +kernel) ?_
  refine og_icmp_lt (pc := 3) (tgt := 52) dX0_areRight_3 (by decide) (by omega) (by omega) (fun c1 => ?_) (fun c1 => ?_)
  · exact K (by unfold od_right; omega)
  refine og_iload_0 (pc := 6) dX0_areRight_6 ?_
  refine og_bipush (pc := 7) dX0_areRight_7 (by decide +kernel) ?_
  refine og_icmp_gt (pc := 9) (tgt := 52) dX0_areRight_9 (by decide) (by omega) (by omega) (fun c2 => ?_) (fun c2 => ?_)
  · exact K (by unfold od_right; omega)
  refine og_iload_1 (pc := 12) dX0_areRight_12 ?_
  refine og_bipush (pc := 13) dX0_areRight_13 (by decide +kernel) ?_
  refine og_icmp_lt (pc := 15) (tgt := 52) dX0_areRight_15 (by decide) (by omega) (by omega) (fun c3 => ?_) (fun c3 => ?_)
  · exact K (by unfold od_right; omega)
  refine og_iload_1 (pc := 18) dX0_areRight_18 ?_
  refine og_bipush (pc := 19) dX0_areRight_19 (by decide +kernel) ?_
  refine og_icmp_gt (pc := 21) (tgt := 52) dX0_areRight_21 (by decide) (by omega) (by omega) (fun c4 => ?_) (fun c4 => ?_)
  · exact K (by unfold od_right; omega)
  refine og_iload_2 (pc := 24) dX0_areRight_24 ?_
  refine og_bipush (pc := 25) dX0_areRight_25 (by decide +kernel) ?_
  refine og_icmp_lt (pc := 27) (tgt := 52) dX0_areRight_27 (by decide) (by omega) (by omega) (fun c5 => ?_) (fun c5 => ?_)
  · exact K (by unfold od_right; omega)
  refine og_iload_2 (pc := 30) dX0_areRight_30 ?_
  refine og_bipush (pc := 31) dX0_areRight_31 (by decide +kernel) ?_
  refine og_icmp_gt (pc := 33) (tgt := 52) dX0_areRight_33 (by decide) (by omega) (by omega) (fun c6 => ?_) (fun c6 => ?_)
  · exact K (by unfold od_right; omega)
  refine og_iload_3 (pc := 36) dX0_areRight_36 ?_
  refine og_bipush (pc := 37) dX0_areRight_37 (by decide +kernel) ?_
  refine og_icmp_lt (pc := 39) (tgt := 52) dX0_areRight_39 (by decide) (by omega) (by omega) (fun c7 => ?_) (fun c7 => ?_)
  · exact K (by unfold od_right; omega)
  refine og_iload_3 (pc := 42) dX0_areRight_42 ?_
  refine og_bipush (pc := 43) dX0_areRight_43 (by decide +kernel) ?_
  refine og_icmp_gt (pc := 45) (tgt := 52) dX0_areRight_45 (by decide) (by omega) (by omega) (fun c8 => ?_) (fun c8 => ?_)
  · exact K (by unfold od_right; omega)
  refine og_iconst (pc := 48) dX0_areRight_48 ?_
  refine og_goto (pc := 49) (tgt := 53) dX0_areRight_49 (by decide) ?_
  exact hret 1 u ⟨Or.inr rfl, by unfold od_right; omega⟩ _ _ dX0_areRight_53
/-! OmegaDeskModel.bad -/
theorem met_bad (dA dZ : ClassId) (u : DS) (a b c d : Int) (ha : Rg a) (hb : Rg b) (hc : Rg c) (hd : Rg d) : od_MI dA dZ nc yX1_bad cX1_bad 4 (some .boolean) (rmL 0) [.int (iI a), .int (iI b), .int (iI c), .int (iI d)] u (fun r _ => (r = 0 ∨ r = 1) ∧ (r = 0 ↔ od_right a b c d)) := by
  refine od_MI.ofZ (own := RX1) 0 (by decide) rfl (od_cc rfl (od_cc rfl (od_cc rfl (od_cc rfl od_c1)))) (Nat.le_of_ble_eq_true rfl) (fun r u' h => h.1) ?_
  intro Γ hret
  show od_G Γ RX1 cX1_bad 4 (rmL 0) dA dZ (nc u) [.int (iI a), .int (iI b), .int (iI c), .int (iI d)] 0 []
  have K : ¬ od_right a b c d → od_G Γ RX1 cX1_bad 4 (rmL 0) dA dZ (nc u) [.int (iI a), .int (iI b), .int (iI c), .int (iI d)] 48 [] := by
    intro hn
    refine og_iconst (pc := 48) dX1_bad_48 ?_
    refine og_goto (pc := 49) (tgt := 53) dX1_bad_49 (by decide) ?_
    exact hret 1 u ⟨Or.inr rfl, iff_of_false (by decide) hn⟩ _ _ dX1_bad_53
  refine og_iload_0 (pc := 0) dX1_bad_0 ?_
  refine og_bipush (pc := 1) dX1_bad_1 (by decide +kernel) ?_
  refine og_icmp_lt (pc := 3) (tgt := 48) dX1_bad_3 (by decide) (by omega) (by omega) (fun c1 => ?_) (fun c1 => ?_)
  · exact K (by unfold od_right; omega)
  refine og_iload_0 (pc := 6) dX1_bad_6 ?_
  refine og_bipush (pc := 7) dX1_bad_7 (by decide +kernel) ?_
  refine og_icmp_gt (pc := 9) (tgt := 48) dX1_bad_9 (by decide) (by omega) (by omega) (fun c2 => ?_) (fun c2 => ?_)
  · exact K (by unfold od_right; omega)
  refine og_iload_1 (pc := 12) dX1_bad_12 ?_
  refine og_bipush (pc := 13) dX1_bad_13 (by decide +kernel) ?_
  refine og_icmp_lt (pc := 15) (tgt := 48) dX1_bad_15 (by decide) (by omega) (by omega) (fun c3 => ?_) (fun c3 => ?_)
  · exact K (by unfold od_right; omega)
  refine og_iload_1 (pc := 18) dX1_bad_18 ?_
  refine og_bipush (pc := 19) dX1_bad_19 (by decide +kernel) ?_
  refine og_icmp_gt (pc := 21) (tgt := 48) dX1_bad_21 (by decide) (by omega) (by omega) (fun c4 => ?_) (fun c4 => ?_)
  · exact K (by unfold od_right; omega)
  refine og_iload_2 (pc := 24) dX1_bad_24 ?_
  refine og_bipush (pc := 25) dX1_bad_25 (by decide +kernel) ?_
  refine og_icmp_lt (pc := 27) (tgt := 48) dX1_bad_27 (by decide) (by omega) (by omega) (fun c5 => ?_) (fun c5 => ?_)
  · exact K (by unfold od_right; omega)
  refine og_iload_2 (pc := 30) dX1_bad_30 ?_
  refine og_bipush (pc := 31) dX1_bad_31 (by decide +kernel) ?_
  refine og_icmp_gt (pc := 33) (tgt := 48) dX1_bad_33 (by decide) (by omega) (by omega) (fun c6 => ?_) (fun c6 => ?_)
  · exact K (by unfold od_right; omega)
  refine og_iload_3 (pc := 36) dX1_bad_36 ?_
  refine og_bipush (pc := 37) dX1_bad_37 (by decide +kernel) ?_
  refine og_icmp_lt (pc := 39) (tgt := 48) dX1_bad_39 (by decide) (by omega) (by omega) (fun c7 => ?_) (fun c7 => ?_)
  · exact K (by unfold od_right; omega)
  refine og_iload_3 (pc := 42) dX1_bad_42 ?_
  refine og_bipush (pc := 43) dX1_bad_43 (by decide +kernel) ?_
  refine og_icmp_le (pc := 45) (tgt := 52) dX1_bad_45 (by decide) (by omega) (by omega) (fun c8 => ?_) (fun c8 => ?_)
  · refine og_iconst (pc := 52) dX1_bad_52 ?_
    exact hret 0 u ⟨Or.inl rfl, by unfold od_right; omega⟩ _ _ dX1_bad_53
  · exact K (by unfold od_right; omega)
/-! OmegaDeskModel.noPlace -/
theorem met_noPlace (dA dZ : ClassId) (u : DS) (x : Int) (hx : Rg x) : od_MI dA dZ nc yX1_noPlace cX1_noPlace 1 (some .boolean) (rmL 0) [.int (iI x)] u (fun r _ => (r = 0 ∨ r = 1) ∧ (r = 0 ↔ 0 ≤ x ∧ x ≤ 2)) := by
  refine od_MI.ofZ (own := RX1) 0 (by decide) rfl (od_cc rfl od_c1) (Nat.le_of_ble_eq_true rfl) (fun r u' h => h.1) ?_
  intro Γ hret
  show od_G Γ RX1 cX1_noPlace 1 (rmL 0) dA dZ (nc u) [.int (iI x)] 0 []
  refine og_iload_0 (pc := 0) dX1_noPlace_0 ?_
  refine og_if_lt (pc := 1) (tgt := 9) dX1_noPlace_1 (by decide) (by omega) (fun c => ?_) (fun c => ?_)
  · refine og_iconst (pc := 9) dX1_noPlace_9 ?_
    refine og_goto (pc := 10) (tgt := 14) dX1_noPlace_10 (by decide) ?_
    exact hret 1 u ⟨Or.inr rfl, by omega⟩ _ _ dX1_noPlace_14
  refine og_iload_0 (pc := 4) dX1_noPlace_4 ?_
  refine og_iconst (pc := 5) dX1_noPlace_5 ?_
  refine og_icmp_le (pc := 6) (tgt := 13) dX1_noPlace_6 (by decide) (by omega) (by omega) (fun c2 => ?_) (fun c2 => ?_)
  · refine og_iconst (pc := 13) dX1_noPlace_13 ?_
    exact hret 0 u ⟨Or.inl rfl, by omega⟩ _ _ dX1_noPlace_14
  · refine og_iconst (pc := 9) dX1_noPlace_9 ?_
    refine og_goto (pc := 10) (tgt := 14) dX1_noPlace_10 (by decide) ?_
    exact hret 1 u ⟨Or.inr rfl, by omega⟩ _ _ dX1_noPlace_14
/-- the digits of a row -/
def vv (r : Nat) (v : Int) : Int := (if v = 0 then ((r / 169 : Nat) : Int) else if v = 1 then ((r / 13 % 13 : Nat) : Int) else ((r % 13 : Nat) : Int)) - 6
/-! OmegaDeskModel.valueOf -/
theorem met_valueOf (dA dZ : ClassId) (u : DS) (r : Nat) (v : Int) (hr : r < 2197) (hv : Rg v) : od_MI dA dZ nc yX1_valueOf cX1_valueOf 2 (some .int) (rmL 0) [.int (iI r), .int (iI v)] u (fun z _ => z = vv r v) := by
  refine od_MI.ofI (own := RX1) 0 (by decide) rfl (od_cc rfl (od_cc rfl od_c1)) (Nat.le_of_ble_eq_true rfl) ?_
  intro Γ hret
  show od_G Γ RX1 cX1_valueOf 2 (rmL 0) dA dZ (nc u) [.int (iI r), .int (iI v)] 0 []
  have e1 : ((r : Int).tdiv 169) = ((r / 169 : Nat) : Int) := rfl
  have e2 : ((r : Int).tdiv 13) = ((r / 13 : Nat) : Int) := rfl
  have e3 : (((r / 13 : Nat) : Int).tmod 13) = ((r / 13 % 13 : Nat) : Int) := rfl
  have e4 : ((r : Int).tmod 13) = ((r % 13 : Nat) : Int) := rfl
  refine og_iload_1 (pc := 0) dX1_valueOf_0 ?_
  refine og_if_ne (pc := 1) (tgt := 12) dX1_valueOf_1 (by decide) (by omega) (fun c => ?_) (fun c => ?_)
  · refine og_iload_1 (pc := 12) dX1_valueOf_12 ?_
    refine og_iconst (pc := 13) dX1_valueOf_13 ?_
    refine og_icmp_ne (pc := 14) (tgt := 27) dX1_valueOf_14 (by decide) (by omega) (by omega) (fun c2 => ?_) (fun c2 => ?_)
    · refine og_iload_0 (pc := 27) dX1_valueOf_27 ?_
      refine og_bipush (pc := 28) dX1_valueOf_28 (by decide +kernel) ?_
      refine og_irem (pc := 30) dX1_valueOf_30 (by omega) (by omega) (by omega) ?_
      refine og_top e4 ?_
      refine og_bipush (pc := 31) dX1_valueOf_31 (by decide +kernel) ?_
      refine og_isub (pc := 33) dX1_valueOf_33 ?_
      exact hret _ u (by unfold vv; rw [if_neg c, if_neg c2]) _ _ dX1_valueOf_34
    · refine og_iload_0 (pc := 17) dX1_valueOf_17 ?_
      refine og_bipush (pc := 18) dX1_valueOf_18 (by decide +kernel) ?_
      refine og_idiv (pc := 20) dX1_valueOf_20 (by omega) (by omega) (by omega) ?_
      refine og_top e2 ?_
      refine og_bipush (pc := 21) dX1_valueOf_21 (by decide +kernel) ?_
      refine og_irem (pc := 23) dX1_valueOf_23 (by omega) (by omega) (by omega) ?_
      refine og_top e3 ?_
      refine og_goto (pc := 24) (tgt := 31) dX1_valueOf_24 (by decide) ?_
      refine og_bipush (pc := 31) dX1_valueOf_31 (by decide +kernel) ?_
      refine og_isub (pc := 33) dX1_valueOf_33 ?_
      exact hret _ u (by unfold vv; rw [if_neg c, if_pos c2]) _ _ dX1_valueOf_34
  · refine og_iload_0 (pc := 4) dX1_valueOf_4 ?_
    refine og_sipush (pc := 5) dX1_valueOf_5 (by decide +kernel) ?_
    refine og_idiv (pc := 8) dX1_valueOf_8 (by omega) (by omega) (by omega) ?_
    refine og_top e1 ?_
    refine og_goto (pc := 9) (tgt := 31) dX1_valueOf_9 (by decide) ?_
    refine og_bipush (pc := 31) dX1_valueOf_31 (by decide +kernel) ?_
    refine og_isub (pc := 33) dX1_valueOf_33 ?_
    exact hret _ u (by unfold vv; rw [if_pos c]) _ _ dX1_valueOf_34
end
section
set_option maxRecDepth 100000
def putFewQ (u : DS) (n : Nat) (a b d : Int) (r : Int) (u' : DS) : Prop := (r = 0 ∨ r = 1) ∧ od_fr [7, 8, 9] u u' ∧ ∃ n' : Nat, u' 7 0 = n' ∧ n' ≤ n + 1 ∧ fB u' n' ∧ ∀ x y, (r = 1 ∧ fOK u' n' x y) ↔ (fOK u n x y ∧ a * x + b * y ≤ d)
/-! OmegaDesk.putFew -/
theorem met_putFew (dA dZ : ClassId) (ad : Nat → Nat) (u : DS) (a b d : Int) (n : Nat) (ha : -162 ≤ a ∧ a ≤ 162) (hb : -162 ≤ b ∧ b ≤ 162) (hd : -2000 ≤ d ∧ d ≤ 2000) (h7 : u 7 0 = n) (hn : n < 160) (hf : fB u n) :
    od_MI dA dZ (xc dA dZ ad) yX0_putFew cX0_putFew 9 (some .boolean) (rmL 2) [.ref (ad 0), .int (iI a), .int (iI b), .int (iI d)] u (putFewQ u n a b d) := by
  refine od_MI.ofZ (own := RX0) 5 (by decide) rfl (od_cc rfl (od_cc rfl (od_cc rfl (od_cc rfl od_c1)))) (Nat.le_of_ble_eq_true rfl) (fun r u' h => h.1) ?_
  intro Γ hret
  show od_G Γ RX0 cX0_putFew 9 (rmL 2) dA dZ (xc dA dZ ad (u)) [.ref (ad 0), .int (iI a), .int (iI b), .int (iI d), .null, .null, .null, .null, .null] 0 []
  have K : (a ≠ 0 ∨ b ≠ 0) → od_G Γ RX0 cX0_putFew 9 (rmL 2) dA dZ (xc dA dZ ad (u)) [.ref (ad 0), .int (iI a), .int (iI b), .int (iI d), .null, .null, .null, .null, .null] 18 [] := by
    intro hab
    refine og_iload_1 (pc := 18) dX0_putFew_18 ?_
    refine og_iload_2 (pc := 19) dX0_putFew_19 ?_
    refine og_callS (pc := 20) (n := 2) (met_divisorOf dA dZ u a b ha hb) (lw_S q106 q107 q18 q108) (by decide +kernel) ⟨by decide, by decide⟩ ⟨rfl, rfl⟩ rfl rfl (Nat.le_of_ble_eq_true rfl) dX0_putFew_20 (fun g hg => ?_)
    have hgp : 0 < Nat.gcd a.natAbs b.natAbs := Nat.gcd_pos_iff.mpr (by omega)
    have hga : (Nat.gcd a.natAbs b.natAbs : Int) ∣ a := Int.gcd_dvd_left a b
    have hgb : (Nat.gcd a.natAbs b.natAbs : Int) ∣ b := Int.gcd_dvd_right a b
    have hgle : Nat.gcd a.natAbs b.natAbs ≤ 162 := by
      by_cases c : a = 0
      · have := Nat.gcd_le_right a.natAbs (n := b.natAbs) (by omega)
        omega
      · have := Nat.gcd_le_left b.natAbs (m := a.natAbs) (by omega)
        omega
    rw [← hg] at hga hgb
    have hg0 : 0 < g := by omega
    have hg1 : g ≤ 162 := by omega
    clear hg hgp hgle
    have hp := tdivB (x := a) (y := g) (A := 162) ha
    have hq := tdivB (x := b) (y := g) (A := 162) hb
    have he := divB (x := d) (y := g) (A := 2000) hd
    have hiff := few_iff (d := d) hg0 hga hgb
    refine og_istore_4 (pc := 23) dX0_putFew_23 (by decide) ?_
    refine og_iload_1 (pc := 25) dX0_putFew_25 ?_
    refine og_iload_4 (pc := 26) dX0_putFew_26 ?_
    refine og_idiv (pc := 28) dX0_putFew_28 (by omega) (by omega) (by omega) ?_
    refine og_istore_5 (pc := 29) dX0_putFew_29 (by decide) ?_
    refine og_iload_2 (pc := 31) dX0_putFew_31 ?_
    refine og_iload_4 (pc := 32) dX0_putFew_32 ?_
    refine og_idiv (pc := 34) dX0_putFew_34 (by omega) (by omega) (by omega) ?_
    refine og_istore_6 (pc := 35) dX0_putFew_35 (by decide) ?_
    refine og_iload_3 (pc := 37) dX0_putFew_37 ?_
    refine og_iload_4 (pc := 38) dX0_putFew_38 ?_
    refine og_callS (pc := 40) (n := 2) (met_floorDivide dA dZ u d g (by omega) hg0 (by omega)) (lw_S q112 q113 q18 q114) (by decide +kernel) ⟨by decide, by decide⟩ ⟨rfl, rfl⟩ rfl rfl (Nat.le_of_ble_eq_true rfl) dX0_putFew_40 (fun e0 he0 => ?_)
    subst he0
    refine og_istore_7 (pc := 43) dX0_putFew_43 (by decide) ?_
    refine og_iconst (pc := 45) dX0_putFew_45 ?_
    refine og_istore_8 (pc := 46) dX0_putFew_46 (by decide) ?_
    generalize a.tdiv g = p at hp hiff ⊢
    generalize b.tdiv g = q at hq hiff ⊢
    generalize d / g = e at he hiff ⊢
    have Lp : ∀ (k i : Nat), i + k = n → od_G Γ RX0 cX0_putFew 9 (rmL 2) dA dZ (xc dA dZ ad (u)) [.ref (ad 0), .int (iI a), .int (iI b), .int (iI d), .int (iI g), .int (iI p), .int (iI q), .int (iI e), .int (iI i)] 48 [] := by
      intro k
      induction k with
      | zero =>
        intro i hi
        refine og_iload_8 (pc := 48) dX0_putFew_48 ?_
        refine og_aload_0 (pc := 50) dX0_putFew_50 ?_
        refine og_xg7 (pc := 51) (z := (n : Int)) dX0_putFew_51 h7 ?_
        refine og_icmp_ge (pc := 54) (tgt := 126) dX0_putFew_54 (by decide) (by omega) (by omega) (fun c => ?_) (fun c => ?_)
        · refine og_aload_0 (pc := 126) dX0_putFew_126 ?_
          refine og_xr8 (pc := 127) dX0_putFew_127 ?_
          refine og_iconst (pc := 130) dX0_putFew_130 ?_
          refine og_aload_0 (pc := 131) dX0_putFew_131 ?_
          refine og_xg7 (pc := 132) (z := (n : Int)) dX0_putFew_132 h7 ?_
          refine og_imul (pc := 135) dX0_putFew_135 ?_
          refine og_iload_5 (pc := 136) dX0_putFew_136 ?_
          refine og_xs8 (pc := 138) (3 * n) dX0_putFew_138 (by omega) (by omega) ?_
          refine og_aload_0 (pc := 139) dX0_putFew_139 ?_
          refine og_xr8 (pc := 140) dX0_putFew_140 ?_
          refine og_iconst (pc := 143) dX0_putFew_143 ?_
          refine og_aload_0 (pc := 144) dX0_putFew_144 ?_
          refine og_xg7 (pc := 145) (z := (n : Int)) dX0_putFew_145 (by simp [up2, h7]) ?_
          refine og_imul (pc := 148) dX0_putFew_148 ?_
          refine og_iconst (pc := 149) dX0_putFew_149 ?_
          refine og_iadd (pc := 150) dX0_putFew_150 ?_
          refine og_iload_6 (pc := 151) dX0_putFew_151 ?_
          refine og_xs8 (pc := 153) (3 * n + 1) dX0_putFew_153 (by omega) (by omega) ?_
          refine og_aload_0 (pc := 154) dX0_putFew_154 ?_
          refine og_xr9 (pc := 155) dX0_putFew_155 ?_
          refine og_aload_0 (pc := 158) dX0_putFew_158 ?_
          refine og_xg7 (pc := 159) (z := (n : Int)) dX0_putFew_159 (by simp [up2, h7]) ?_
          refine og_iload_7 (pc := 162) dX0_putFew_162 ?_
          refine og_xs9 (pc := 164) (n) dX0_putFew_164 (by omega) (by omega) ?_
          refine og_aload_0 (pc := 165) dX0_putFew_165 ?_
          refine og_dupr (pc := 166) dX0_putFew_166 ?_
          refine og_xg7 (pc := 167) (z := (n : Int)) dX0_putFew_167 (by simp [up2, h7]) ?_
          refine og_iconst (pc := 170) dX0_putFew_170 ?_
          refine og_iadd (pc := 171) dX0_putFew_171 ?_
          refine og_xp7 (pc := 172) dX0_putFew_172 ?_
          refine og_iconst (pc := 175) dX0_putFew_175 ?_
          exact hret 1 (fewU u n p q e) ⟨Or.inr rfl, fewU_fr, n + 1, fewU_7, Nat.le_refl _, fewU_B hf hp hq he, fun x y => by rw [fewU_OK, hiff]; simp⟩ _ _ dX0_putFew_176
        · exact absurd c (by omega)
      | succ k ih =>
        intro i hi
        have hin : i < n := by omega
        have hfi := hf i hin
        have K2 : od_G Γ RX0 cX0_putFew 9 (rmL 2) dA dZ (xc dA dZ ad (u)) [.ref (ad 0), .int (iI a), .int (iI b), .int (iI d), .int (iI g), .int (iI p), .int (iI q), .int (iI e), .int (iI i)] 120 [] := by
          refine og_iinc_8 (pc := 120) dX0_putFew_120 (by decide) ?_
          refine og_goto (pc := 123) (tgt := 48) dX0_putFew_123 (by decide) ?_
          exact ih (i + 1) (by omega)
        refine og_iload_8 (pc := 48) dX0_putFew_48 ?_
        refine og_aload_0 (pc := 50) dX0_putFew_50 ?_
        refine og_xg7 (pc := 51) (z := (n : Int)) dX0_putFew_51 h7 ?_
        refine og_icmp_ge (pc := 54) (tgt := 126) dX0_putFew_54 (by decide) (by omega) (by omega) (fun c => ?_) (fun c => ?_)
        · exact absurd c (by omega)
        refine og_aload_0 (pc := 57) dX0_putFew_57 ?_
        refine og_xr8 (pc := 58) dX0_putFew_58 ?_
        refine og_iconst (pc := 61) dX0_putFew_61 ?_
        refine og_iload_8 (pc := 62) dX0_putFew_62 ?_
        refine og_imul (pc := 64) dX0_putFew_64 ?_
        refine og_xl8 (pc := 65) (3 * i) dX0_putFew_65 (by omega) (by omega) rfl ?_
        refine og_iload_5 (pc := 66) dX0_putFew_66 ?_
        refine og_icmp_ne (pc := 68) (tgt := 120) dX0_putFew_68 (by decide) (by omega) (by omega) (fun c1 => ?_) (fun c1 => ?_)
        · exact K2
        refine og_aload_0 (pc := 71) dX0_putFew_71 ?_
        refine og_xr8 (pc := 72) dX0_putFew_72 ?_
        refine og_iconst (pc := 75) dX0_putFew_75 ?_
        refine og_iload_8 (pc := 76) dX0_putFew_76 ?_
        refine og_imul (pc := 78) dX0_putFew_78 ?_
        refine og_iconst (pc := 79) dX0_putFew_79 ?_
        refine og_iadd (pc := 80) dX0_putFew_80 ?_
        refine og_xl8 (pc := 81) (3 * i + 1) dX0_putFew_81 (by omega) (by omega) rfl ?_
        refine og_iload_6 (pc := 82) dX0_putFew_82 ?_
        refine og_icmp_ne (pc := 84) (tgt := 120) dX0_putFew_84 (by decide) (by omega) (by omega) (fun c2 => ?_) (fun c2 => ?_)
        · exact K2
        have K3 : ∀ z : Int, z = (if e < u 9 i then e else u 9 i) → od_G Γ RX0 cX0_putFew 9 (rmL 2) dA dZ (xc dA dZ ad (u)) [.ref (ad 0), .int (iI a), .int (iI b), .int (iI d), .int (iI g), .int (iI p), .int (iI q), .int (iI e), .int (iI i)] 117 [.int (iI z), .int (iI i), .ref (ad 9)] := by
          intro z hz
          refine og_xs9 (pc := 117) (i) dX0_putFew_117 (by omega) (by omega) ?_
          refine og_iconst (pc := 118) dX0_putFew_118 ?_
          exact hret 1 (up2 u 9 i z) ⟨Or.inr rfl, od_fr.rf.up (by decide), n, by rw [up2_ne (by decide)]; exact h7, by omega, fewS_B hf he hz, fun x y => by rw [fewS_OK hin c1 c2 hz, hiff]; simp⟩ _ _ dX0_putFew_119
        refine og_aload_0 (pc := 87) dX0_putFew_87 ?_
        refine og_xr9 (pc := 88) dX0_putFew_88 ?_
        refine og_iload_8 (pc := 91) dX0_putFew_91 ?_
        refine og_iload_7 (pc := 93) dX0_putFew_93 ?_
        refine og_aload_0 (pc := 95) dX0_putFew_95 ?_
        refine og_xr9 (pc := 96) dX0_putFew_96 ?_
        refine og_iload_8 (pc := 99) dX0_putFew_99 ?_
        refine og_xl9 (pc := 101) (i) dX0_putFew_101 (by omega) (by omega) rfl ?_
        refine og_icmp_ge (pc := 102) (tgt := 110) dX0_putFew_102 (by decide) (by omega) (by omega) (fun c3 => ?_) (fun c3 => ?_)
        · refine og_aload_0 (pc := 110) dX0_putFew_110 ?_
          refine og_xr9 (pc := 111) dX0_putFew_111 ?_
          refine og_iload_8 (pc := 114) dX0_putFew_114 ?_
          refine og_xl9 (pc := 116) (i) dX0_putFew_116 (by omega) (by omega) rfl ?_
          exact K3 (u 9 i) (by rw [if_neg (by omega)])
        · refine og_iload_7 (pc := 105) dX0_putFew_105 ?_
          refine og_goto (pc := 107) (tgt := 117) dX0_putFew_107 (by decide) ?_
          exact K3 e (by rw [if_pos c3])
    exact Lp n 0 (by omega)
  refine og_iload_1 (pc := 0) dX0_putFew_0 ?_
  refine og_if_ne (pc := 1) (tgt := 18) dX0_putFew_1 (by decide) (by omega) (fun c1 => ?_) (fun c1 => ?_)
  · exact K (Or.inl c1)
  refine og_iload_2 (pc := 4) dX0_putFew_4 ?_
  refine og_if_ne (pc := 5) (tgt := 18) dX0_putFew_5 (by decide) (by omega) (fun c2 => ?_) (fun c2 => ?_)
  · exact K (Or.inr c2)
  subst c1
  subst c2
  refine og_iload_3 (pc := 8) dX0_putFew_8 ?_
  refine og_if_lt (pc := 9) (tgt := 16) dX0_putFew_9 (by decide) (by omega) (fun c3 => ?_) (fun c3 => ?_)
  · refine og_iconst (pc := 16) dX0_putFew_16 ?_
    exact hret 0 u ⟨Or.inl rfl, od_fr.rf, n, h7, by omega, hf, fun x y => by constructor; (intro h; exact absurd h.1 (by decide)); (intro h; have := h.2; simp at this; omega)⟩ _ _ dX0_putFew_17
  · refine og_iconst (pc := 12) dX0_putFew_12 ?_
    refine og_goto (pc := 13) (tgt := 17) dX0_putFew_13 (by decide) ?_
    exact hret 1 u ⟨Or.inr rfl, od_fr.rf, n, h7, by omega, hf, fun x y => by simp; intro _; exact c3⟩ _ _ dX0_putFew_17
/-! OmegaDesk.leavesRoom -/
theorem met_leavesRoom (dA dZ : ClassId) (ad : Nat → Nat) (u : DS) (x : Int) (n : Nat) (hx : -6 ≤ x ∧ x ≤ 6) (h7 : u 7 0 = n) (hn : n ≤ 160) (hf : fB u n) :
    od_MI dA dZ (xc dA dZ ad) yX0_leavesRoom cX0_leavesRoom 8 (some .boolean) (rmL 1) [.ref (ad 0), .int (iI x)] u (fun r u' => (r = 0 ∨ r = 1) ∧ u' = u ∧ (r = 1 ↔ ∃ y, (-6 ≤ y ∧ y ≤ 6) ∧ fOK u n x y)) := by
  refine od_MI.ofZ (own := RX0) 6 (by decide) rfl (od_cc rfl (od_cc rfl od_c1)) (Nat.le_of_ble_eq_true rfl) (fun r u' h => h.1) ?_
  intro Γ hret
  show od_G Γ RX0 cX0_leavesRoom 8 (rmL 1) dA dZ (xc dA dZ ad (u)) [.ref (ad 0), .int (iI x), .null, .null, .null, .null, .null, .null] 0 []
  have Lp : ∀ (k i : Nat) (lo hi : Int), i + k = n → (-6 ≤ lo ∧ lo ≤ 5000) → (-5000 ≤ hi ∧ hi ≤ 6) → (∀ y, (lo ≤ y ∧ y ≤ hi) ↔ ((-6 ≤ y ∧ y ≤ 6) ∧ fOK u i x y)) → od_G Γ RX0 cX0_leavesRoom 8 (rmL 1) dA dZ (xc dA dZ ad (u)) [.ref (ad 0), .int (iI x), .int (iI lo), .int (iI hi), .int (iI i), .null, .null, .null] 9 [] := by
    intro k
    induction k with
    | zero =>
      intro i lo hi hk hlo hhi hI
      have hin : i = n := by omega
      subst hin
      refine og_iload_4 (pc := 9) dX0_leavesRoom_9 ?_
      refine og_aload_0 (pc := 11) dX0_leavesRoom_11 ?_
      refine og_xg7 (pc := 12) (z := (i : Int)) dX0_leavesRoom_12 h7 ?_
      refine og_icmp_ge (pc := 15) (tgt := 129) dX0_leavesRoom_15 (by decide) (by omega) (by omega) (fun c => ?_) (fun c => ?_)
      · refine og_iload_2 (pc := 129) dX0_leavesRoom_129 ?_
        refine og_iload_3 (pc := 130) dX0_leavesRoom_130 ?_
        refine og_icmp_gt (pc := 131) (tgt := 138) dX0_leavesRoom_131 (by decide) (by omega) (by omega) (fun c2 => ?_) (fun c2 => ?_)
        · refine og_iconst (pc := 138) dX0_leavesRoom_138 ?_
          exact hret 0 u ⟨Or.inl rfl, rfl, iff_of_false (by decide) (fun ⟨y, hy⟩ => by have := (hI y).mpr hy; omega)⟩ _ _ dX0_leavesRoom_139
        · refine og_iconst (pc := 134) dX0_leavesRoom_134 ?_
          refine og_goto (pc := 135) (tgt := 139) dX0_leavesRoom_135 (by decide) ?_
          exact hret 1 u ⟨Or.inr rfl, rfl, iff_of_true rfl ⟨lo, (hI lo).mp ⟨by omega, by omega⟩⟩⟩ _ _ dX0_leavesRoom_139
      · exact absurd c (by omega)
    | succ k ih =>
      intro i lo hi hk hlo hhi hI
      have hin : i < n := by omega
      have hfi := hf i hin
      have hm := mulR (a := u 8 (3 * i)) (b := x) 162 6 972 rfl hfi.1 hx
      have K : ∀ lo' hi' : Int, (-6 ≤ lo' ∧ lo' ≤ 5000) → (-5000 ≤ hi' ∧ hi' ≤ 6) → (∀ y, (lo' ≤ y ∧ y ≤ hi') ↔ ((lo ≤ y ∧ y ≤ hi) ∧ u 8 (3 * i) * x + u 8 (3 * i + 1) * y ≤ u 9 i)) → ∀ v5 v6 v7 : Value, od_G Γ RX0 cX0_leavesRoom 8 (rmL 1) dA dZ (xc dA dZ ad (u)) [.ref (ad 0), .int (iI x), .int (iI lo'), .int (iI hi'), .int (iI i), v5, v6, v7] 123 [] := by
        intro lo' hi' h1 h2 h3 v5 v6 v7
        refine og_forget_5 ?_
        refine og_forget_6 ?_
        refine og_forget_7 ?_
        refine og_iinc_4 (pc := 123) dX0_leavesRoom_123 (by decide) ?_
        refine og_goto (pc := 126) (tgt := 9) dX0_leavesRoom_126 (by decide) ?_
        exact ih (i + 1) lo' hi' (by omega) h1 h2 (fun y => by rw [h3, hI, fOK_s, and_assoc])
      refine og_iload_4 (pc := 9) dX0_leavesRoom_9 ?_
      refine og_aload_0 (pc := 11) dX0_leavesRoom_11 ?_
      refine og_xg7 (pc := 12) (z := (n : Int)) dX0_leavesRoom_12 h7 ?_
      refine og_icmp_ge (pc := 15) (tgt := 129) dX0_leavesRoom_15 (by decide) (by omega) (by omega) (fun c => ?_) (fun c => ?_)
      · exact absurd c (by omega)
      refine og_aload_0 (pc := 18) dX0_leavesRoom_18 ?_
      refine og_xr8 (pc := 19) dX0_leavesRoom_19 ?_
      refine og_iconst (pc := 22) dX0_leavesRoom_22 ?_
      refine og_iload_4 (pc := 23) dX0_leavesRoom_23 ?_
      refine og_imul (pc := 25) dX0_leavesRoom_25 ?_
      refine og_iconst (pc := 26) dX0_leavesRoom_26 ?_
      refine og_iadd (pc := 27) dX0_leavesRoom_27 ?_
      refine og_xl8 (pc := 28) (3 * i + 1) dX0_leavesRoom_28 (by omega) (by omega) rfl ?_
      refine og_istore_5 (pc := 29) dX0_leavesRoom_29 (by decide) ?_
      refine og_aload_0 (pc := 31) dX0_leavesRoom_31 ?_
      refine og_xr9 (pc := 32) dX0_leavesRoom_32 ?_
      refine og_iload_4 (pc := 35) dX0_leavesRoom_35 ?_
      refine og_xl9 (pc := 37) (i) dX0_leavesRoom_37 (by omega) (by omega) rfl ?_
      refine og_aload_0 (pc := 38) dX0_leavesRoom_38 ?_
      refine og_xr8 (pc := 39) dX0_leavesRoom_39 ?_
      refine og_iconst (pc := 42) dX0_leavesRoom_42 ?_
      refine og_iload_4 (pc := 43) dX0_leavesRoom_43 ?_
      refine og_imul (pc := 45) dX0_leavesRoom_45 ?_
      refine og_xl8 (pc := 46) (3 * i) dX0_leavesRoom_46 (by omega) (by omega) rfl ?_
      refine og_iload_1 (pc := 47) dX0_leavesRoom_47 ?_
      refine og_imul (pc := 48) dX0_leavesRoom_48 ?_
      refine og_isub (pc := 49) dX0_leavesRoom_49 ?_
      refine og_istore_6 (pc := 50) dX0_leavesRoom_50 (by decide) ?_
      refine og_iload_5 (pc := 52) dX0_leavesRoom_52 ?_
      refine og_if_ne (pc := 54) (tgt := 64) dX0_leavesRoom_54 (by decide) (by omega) (fun c1 => ?_) (fun c1 => ?_)
      · -- b is not 0
        refine og_iload_5 (pc := 64) dX0_leavesRoom_64 ?_
        refine og_if_le (pc := 66) (tgt := 94) dX0_leavesRoom_66 (by decide) (by omega) (fun c2 => ?_) (fun c2 => ?_)
        · refine og_iload_5 (pc := 94) dX0_leavesRoom_94 ?_
          refine og_if_ge (pc := 96) (tgt := 123) dX0_leavesRoom_96 (by decide) (by omega) (fun c3 => ?_) (fun c3 => ?_)
          · exact absurd c1 (by omega)
          have hv := divB (x := u 9 i - u 8 (3 * i) * x) (y := -u 8 (3 * i + 1)) (A := 2972) (by omega)
          refine og_iload_6 (pc := 99) dX0_leavesRoom_99 ?_
          refine og_iload_5 (pc := 101) dX0_leavesRoom_101 ?_
          refine og_ineg (pc := 103) dX0_leavesRoom_103 ?_
          refine og_callS (pc := 104) (n := 2) (met_floorDivide dA dZ u (u 9 i - u 8 (3 * i) * x) (-u 8 (3 * i + 1)) (by omega) (by omega) (by omega)) (lw_S q112 q113 q18 q114) (by decide +kernel) ⟨by decide, by decide⟩ ⟨rfl, rfl⟩ rfl rfl (Nat.le_of_ble_eq_true rfl) dX0_leavesRoom_104 (fun w hw => ?_)
          subst hw
          have hb : ∀ y, -((u 9 i - u 8 (3 * i) * x) / (-u 8 (3 * i + 1))) ≤ y ↔ u 8 (3 * i) * x + u 8 (3 * i + 1) * y ≤ u 9 i := by
            intro y
            have h1 := Int.le_ediv_iff_mul_le (a := -y) (b := u 9 i - u 8 (3 * i) * x) (c := -u 8 (3 * i + 1)) (by omega)
            rw [Int.neg_mul_neg, Int.mul_comm y] at h1
            constructor
            · intro h
              have := h1.mp (by omega)
              omega
            · intro h
              have := h1.mpr (by omega)
              omega
          generalize (u 9 i - u 8 (3 * i) * x) / (-u 8 (3 * i + 1)) = w at hv hb ⊢
          refine og_ineg (pc := 107) dX0_leavesRoom_107 ?_
          refine og_istore_7 (pc := 108) dX0_leavesRoom_108 (by decide) ?_
          refine og_iload_7 (pc := 110) dX0_leavesRoom_110 ?_
          refine og_iload_2 (pc := 112) dX0_leavesRoom_112 ?_
          refine og_icmp_le (pc := 113) (tgt := 121) dX0_leavesRoom_113 (by decide) (by omega) (by omega) (fun c4 => ?_) (fun c4 => ?_)
          · refine og_iload_2 (pc := 121) dX0_leavesRoom_121 ?_
            refine og_istore_2 (pc := 122) dX0_leavesRoom_122 (by decide) ?_
            refine K lo hi hlo hhi (fun y => ?_) _ _ _
            have := hb y
            omega
          · refine og_iload_7 (pc := 116) dX0_leavesRoom_116 ?_
            refine og_goto (pc := 118) (tgt := 122) dX0_leavesRoom_118 (by decide) ?_
            refine og_istore_2 (pc := 122) dX0_leavesRoom_122 (by decide) ?_
            refine K (-w) hi (by omega) hhi (fun y => ?_) _ _ _
            have := hb y
            omega
        · have hv := divB (x := u 9 i - u 8 (3 * i) * x) (y := u 8 (3 * i + 1)) (A := 2972) (by omega)
          refine og_iload_6 (pc := 69) dX0_leavesRoom_69 ?_
          refine og_iload_5 (pc := 71) dX0_leavesRoom_71 ?_
          refine og_callS (pc := 73) (n := 2) (met_floorDivide dA dZ u (u 9 i - u 8 (3 * i) * x) (u 8 (3 * i + 1)) (by omega) (by omega) (by omega)) (lw_S q112 q113 q18 q114) (by decide +kernel) ⟨by decide, by decide⟩ ⟨rfl, rfl⟩ rfl rfl (Nat.le_of_ble_eq_true rfl) dX0_leavesRoom_73 (fun w hw => ?_)
          subst hw
          have hb : ∀ y, y ≤ (u 9 i - u 8 (3 * i) * x) / (u 8 (3 * i + 1)) ↔ u 8 (3 * i) * x + u 8 (3 * i + 1) * y ≤ u 9 i := by
            intro y
            have h1 := Int.le_ediv_iff_mul_le (a := y) (b := u 9 i - u 8 (3 * i) * x) (c := u 8 (3 * i + 1)) (by omega)
            rw [Int.mul_comm y] at h1
            constructor
            · intro h
              have := h1.mp h
              omega
            · intro h
              exact h1.mpr (by omega)
          generalize (u 9 i - u 8 (3 * i) * x) / (u 8 (3 * i + 1)) = w at hv hb ⊢
          refine og_istore_7 (pc := 76) dX0_leavesRoom_76 (by decide) ?_
          refine og_iload_7 (pc := 78) dX0_leavesRoom_78 ?_
          refine og_iload_3 (pc := 80) dX0_leavesRoom_80 ?_
          refine og_icmp_ge (pc := 81) (tgt := 89) dX0_leavesRoom_81 (by decide) (by omega) (by omega) (fun c4 => ?_) (fun c4 => ?_)
          · refine og_iload_3 (pc := 89) dX0_leavesRoom_89 ?_
            refine og_istore_3 (pc := 90) dX0_leavesRoom_90 (by decide) ?_
            refine og_goto (pc := 91) (tgt := 123) dX0_leavesRoom_91 (by decide) ?_
            refine K lo hi hlo hhi (fun y => ?_) _ _ _
            have := hb y
            omega
          · refine og_iload_7 (pc := 84) dX0_leavesRoom_84 ?_
            refine og_goto (pc := 86) (tgt := 90) dX0_leavesRoom_86 (by decide) ?_
            refine og_istore_3 (pc := 90) dX0_leavesRoom_90 (by decide) ?_
            refine og_goto (pc := 91) (tgt := 123) dX0_leavesRoom_91 (by decide) ?_
            refine K lo w hlo (by omega) (fun y => ?_) _ _ _
            have := hb y
            omega
      · -- b is 0
        have hz : ∀ y, u 8 (3 * i + 1) * y = 0 := fun y => by rw [c1, Int.zero_mul]
        refine og_iload_6 (pc := 57) dX0_leavesRoom_57 ?_
        refine og_if_ge (pc := 59) (tgt := 64) dX0_leavesRoom_59 (by decide) (by omega) (fun c2 => ?_) (fun c2 => ?_)
        · refine og_iload_5 (pc := 64) dX0_leavesRoom_64 ?_
          refine og_if_le (pc := 66) (tgt := 94) dX0_leavesRoom_66 (by decide) (by omega) (fun c3 => ?_) (fun c3 => ?_)
          · refine og_iload_5 (pc := 94) dX0_leavesRoom_94 ?_
            refine og_if_ge (pc := 96) (tgt := 123) dX0_leavesRoom_96 (by decide) (by omega) (fun c4 => ?_) (fun c4 => ?_)
            · refine K lo hi hlo hhi (fun y => ?_) _ _ _
              have := hz y
              omega
            · exact absurd c1 (by omega)
          · exact absurd c1 (by omega)
        · refine og_iconst (pc := 62) dX0_leavesRoom_62 ?_
          exact hret 0 u ⟨Or.inl rfl, rfl, iff_of_false (by decide) (fun ⟨y, hy⟩ => by have h1 := hy.2 i hin; have := hz y; omega)⟩ _ _ dX0_leavesRoom_63
  refine og_bipush (pc := 0) dX0_leavesRoom_0 (by decide +kernel) ?_
  refine og_istore_2 (pc := 2) dX0_leavesRoom_2 (by decide) ?_
  refine og_bipush (pc := 3) dX0_leavesRoom_3 (by decide +kernel) ?_
  refine og_istore_3 (pc := 5) dX0_leavesRoom_5 (by decide) ?_
  refine og_iconst (pc := 6) dX0_leavesRoom_6 ?_
  refine og_istore_4 (pc := 7) dX0_leavesRoom_7 (by decide) ?_
  exact Lp n 0 (-6) 6 (by omega) (by omega) (by omega) (fun y => by constructor; (intro h; exact ⟨h, fun r hr => absurd hr (by omega)⟩); (intro h; exact h.1))
/-! OmegaDesk.planeSolvable -/
theorem met_planeSolvable (dA dZ : ClassId) (ad : Nat → Nat) (u : DS) (n : Nat) (h7 : u 7 0 = n) (hn : n ≤ 160) (hf : fB u n) :
    od_MI dA dZ (xc dA dZ ad) yX0_planeSolvable cX0_planeSolvable 2 (some .boolean) (rmL 2) [.ref (ad 0)] u (fun r u' => (r = 0 ∨ r = 1) ∧ u' = u ∧ (r = 1 ↔ ∃ x y, (-6 ≤ x ∧ x ≤ 6) ∧ (-6 ≤ y ∧ y ≤ 6) ∧ fOK u n x y)) := by
  refine od_MI.ofZ (own := RX0) 1 (by decide) rfl (od_cc rfl od_c1) (Nat.le_of_ble_eq_true rfl) (fun r u' h => h.1) ?_
  intro Γ hret
  show od_G Γ RX0 cX0_planeSolvable 2 (rmL 2) dA dZ (xc dA dZ ad (u)) [.ref (ad 0), .null] 0 []
  have Lp : ∀ (k : Nat) (x : Int), x + k = 7 → -6 ≤ x → (∀ x', -6 ≤ x' → x' < x → ¬ ∃ y, (-6 ≤ y ∧ y ≤ 6) ∧ fOK u n x' y) → od_G Γ RX0 cX0_planeSolvable 2 (rmL 2) dA dZ (xc dA dZ ad (u)) [.ref (ad 0), .int (iI x)] 3 [] := by
    intro k
    induction k with
    | zero =>
      intro x hk hx hI
      refine og_iload_1 (pc := 3) dX0_planeSolvable_3 ?_
      refine og_bipush (pc := 4) dX0_planeSolvable_4 (by decide +kernel) ?_
      refine og_icmp_gt (pc := 6) (tgt := 25) dX0_planeSolvable_6 (by decide) (by omega) (by omega) (fun c => ?_) (fun c => ?_)
      · refine og_iconst (pc := 25) dX0_planeSolvable_25 ?_
        exact hret 0 u ⟨Or.inl rfl, rfl, iff_of_false (by decide) (fun ⟨x', y, hx', hy⟩ => hI x' hx'.1 (by omega) ⟨y, hy⟩)⟩ _ _ dX0_planeSolvable_26
      · exact absurd c (by omega)
    | succ k ih =>
      intro x hk hx hI
      refine og_iload_1 (pc := 3) dX0_planeSolvable_3 ?_
      refine og_bipush (pc := 4) dX0_planeSolvable_4 (by decide +kernel) ?_
      refine og_icmp_gt (pc := 6) (tgt := 25) dX0_planeSolvable_6 (by decide) (by omega) (by omega) (fun c => ?_) (fun c => ?_)
      · exact absurd c (by omega)
      refine og_aload_0 (pc := 9) dX0_planeSolvable_9 ?_
      refine og_iload_1 (pc := 10) dX0_planeSolvable_10 ?_
      refine og_callI (pc := 11) (n := 1) (met_leavesRoom dA dZ ad u x n (by omega) h7 hn hf) rfl rfl (lw_V q123 q125 qs8 q18 q126) (by decide +kernel) ⟨by decide, by decide⟩ ⟨rfl, rfl⟩ rfl rfl (Nat.le_of_ble_eq_true rfl) dX0_planeSolvable_11 (fun r u1 hp => ?_)
      obtain ⟨h01, rfl, hr⟩ := hp
      refine og_if_eq (pc := 14) (tgt := 19) dX0_planeSolvable_14 (by decide) (by omega) (fun c2 => ?_) (fun c2 => ?_)
      · refine og_iinc_1 (pc := 19) dX0_planeSolvable_19 (by decide) ?_
        refine og_goto (pc := 22) (tgt := 3) dX0_planeSolvable_22 (by decide) ?_
        refine ih (x + 1) (by omega) (by omega) (fun x' h1 h2 => ?_)
        by_cases e : x' = x
        · rw [e]
          intro hy
          have := hr.mpr hy
          omega
        · exact hI x' h1 (by omega)
      · refine og_iconst (pc := 17) dX0_planeSolvable_17 ?_
        have hr1 : r = 1 := by omega
        obtain ⟨y, hy1, hy2⟩ := hr.mp hr1
        exact hret 1 u1 ⟨Or.inr rfl, rfl, iff_of_true rfl ⟨x, y, by omega, hy1, hy2⟩⟩ _ _ dX0_planeSolvable_18
  refine og_bipush (pc := 0) dX0_planeSolvable_0 (by decide +kernel) ?_
  refine og_istore_1 (pc := 2) dX0_planeSolvable_2 (by decide) ?_
  exact Lp 13 (-6) (by omega) (by omega) (fun x' h1 h2 => absurd h2 (by omega))
/-! OmegaDesk.isExact -/
theorem met_isExact (dA dZ : ClassId) (ad : Nat → Nat) (u : DS) (n : Nat) (h4 : u 4 0 = n) (hn : n ≤ 25) (hB : rB u n) :
    od_MI dA dZ (xc dA dZ ad) yX0_isExact cX0_isExact 5 (some .boolean) (rmL 0) [.ref (ad 0)] u (fun r u' => (r = 0 ∨ r = 1) ∧ u' = u ∧ (r = 1 ↔ (∀ i, i < n → -u 5 (3 * i + 2) ≤ 1) ∨ (∀ i, i < n → u 5 (3 * i + 2) ≤ 1))) := by
  refine od_MI.ofZ (own := RX0) 4 (by decide) rfl (od_cc rfl od_c1) (Nat.le_of_ble_eq_true rfl) (fun r u' h => h.1) ?_
  intro Γ hret
  show od_G Γ RX0 cX0_isExact 5 (rmL 0) dA dZ (xc dA dZ ad (u)) [.ref (ad 0), .null, .null, .null, .null] 0 []
  have Lp : ∀ (k i : Nat) (lo hi : Int), i + k = n → (1 ≤ lo ∧ lo ≤ 9) → (1 ≤ hi ∧ hi ≤ 9) → (lo = 1 ↔ ∀ j, j < i → -u 5 (3 * j + 2) ≤ 1) → (hi = 1 ↔ ∀ j, j < i → u 5 (3 * j + 2) ≤ 1) → od_G Γ RX0 cX0_isExact 5 (rmL 0) dA dZ (xc dA dZ ad (u)) [.ref (ad 0), .int (iI lo), .int (iI hi), .int (iI i), .null] 6 [] := by
    intro k
    induction k with
    | zero =>
      intro i lo hi hk hlo hhi hl hh
      have hin : i = n := by omega
      subst hin
      have K : od_G Γ RX0 cX0_isExact 5 (rmL 0) dA dZ (xc dA dZ ad (u)) [.ref (ad 0), .int (iI lo), .int (iI hi), .int (iI i), .null] 70 [] ∨ ¬ (lo = 1 ∨ hi = 1) := by
        by_cases c : lo = 1 ∨ hi = 1
        · refine Or.inl ?_
          refine og_iconst (pc := 70) dX0_isExact_70 ?_
          refine og_goto (pc := 71) (tgt := 75) dX0_isExact_71 (by decide) ?_
          exact hret 1 u ⟨Or.inr rfl, rfl, iff_of_true rfl (by rcases c with c | c; exact Or.inl (hl.mp c); exact Or.inr (hh.mp c))⟩ _ _ dX0_isExact_75
        · exact Or.inr c
      refine og_iload_3 (pc := 6) dX0_isExact_6 ?_
      refine og_aload_0 (pc := 7) dX0_isExact_7 ?_
      refine og_xg4 (pc := 8) (z := (i : Int)) dX0_isExact_8 h4 ?_
      refine og_icmp_ge (pc := 11) (tgt := 60) dX0_isExact_11 (by decide) (by omega) (by omega) (fun c => ?_) (fun c => ?_)
      · refine og_iload_1 (pc := 60) dX0_isExact_60 ?_
        refine og_iconst (pc := 61) dX0_isExact_61 ?_
        refine og_icmp_eq (pc := 62) (tgt := 70) dX0_isExact_62 (by decide) (by omega) (by omega) (fun c2 => ?_) (fun c2 => ?_)
        · rcases K with K | K
          · exact K
          · exact absurd (Or.inl c2) K
        refine og_iload_2 (pc := 65) dX0_isExact_65 ?_
        refine og_iconst (pc := 66) dX0_isExact_66 ?_
        refine og_icmp_ne (pc := 67) (tgt := 74) dX0_isExact_67 (by decide) (by omega) (by omega) (fun c3 => ?_) (fun c3 => ?_)
        · refine og_iconst (pc := 74) dX0_isExact_74 ?_
          exact hret 0 u ⟨Or.inl rfl, rfl, iff_of_false (by decide) (by rintro (h | h); exact c2 (hl.mpr h); exact c3 (hh.mpr h))⟩ _ _ dX0_isExact_75
        · rcases K with K | K
          · exact K
          · exact absurd (Or.inr c3) K
      · exact absurd c (by omega)
    | succ k ih =>
      intro i lo hi hk hlo hhi hl hh
      have hin : i < n := by omega
      have hbi := (hB i hin).2.2.1
      have stp : ∀ (f : Int → Int) (z z' : Int), 1 ≤ z → z' = (if z < f (u 5 (3 * i + 2)) then f (u 5 (3 * i + 2)) else z) → (z = 1 ↔ ∀ j, j < i → f (u 5 (3 * j + 2)) ≤ 1) → (z' = 1 ↔ ∀ j, j < i + 1 → f (u 5 (3 * j + 2)) ≤ 1) := by
        intro f z z' h1 h2 h3
        constructor
        · intro h j hj
          by_cases e : j = i
          · rw [e]
            split at h2 <;> omega
          · exact h3.mp (by split at h2 <;> omega) j (by omega)
        · intro h
          have h4 := h i (by omega)
          have h5 := h3.mpr (fun j hj => h j (by omega))
          split at h2 <;> omega
      have K2 : ∀ lo' hi' : Int, lo' = (if lo < -u 5 (3 * i + 2) then -u 5 (3 * i + 2) else lo) → hi' = (if hi < u 5 (3 * i + 2) then u 5 (3 * i + 2) else hi) → od_G Γ RX0 cX0_isExact 5 (rmL 0) dA dZ (xc dA dZ ad (u)) [.ref (ad 0), .int (iI lo'), .int (iI hi'), .int (iI i), .int (iI (u 5 (3 * i + 2)))] 54 [] := by
        intro lo' hi' e1 e2
        refine og_forget_4 ?_
        refine og_iinc_3 (pc := 54) dX0_isExact_54 (by decide) ?_
        refine og_goto (pc := 57) (tgt := 6) dX0_isExact_57 (by decide) ?_
        refine ih (i + 1) lo' hi' (by omega) (by split at e1 <;> omega) (by split at e2 <;> omega) (stp (fun z => -z) lo lo' hlo.1 e1 hl) (stp (fun z => z) hi hi' hhi.1 e2 hh)
      have K1 : ∀ lo' : Int, lo' = (if lo < -u 5 (3 * i + 2) then -u 5 (3 * i + 2) else lo) → od_G Γ RX0 cX0_isExact 5 (rmL 0) dA dZ (xc dA dZ ad (u)) [.ref (ad 0), .int (iI lo'), .int (iI hi), .int (iI i), .int (iI (u 5 (3 * i + 2)))] 41 [] := by
        intro lo' e1
        refine og_iload_4 (pc := 41) dX0_isExact_41 ?_
        refine og_iload_2 (pc := 43) dX0_isExact_43 ?_
        refine og_icmp_le (pc := 44) (tgt := 52) dX0_isExact_44 (by decide) (by omega) (by omega) (fun c3 => ?_) (fun c3 => ?_)
        · refine og_iload_2 (pc := 52) dX0_isExact_52 ?_
          refine og_istore_2 (pc := 53) dX0_isExact_53 (by decide) ?_
          exact K2 lo' hi e1 (by rw [if_neg (by omega)])
        · refine og_iload_4 (pc := 47) dX0_isExact_47 ?_
          refine og_goto (pc := 49) (tgt := 53) dX0_isExact_49 (by decide) ?_
          refine og_istore_2 (pc := 53) dX0_isExact_53 (by decide) ?_
          exact K2 lo' _ e1 (by rw [if_pos c3])
      refine og_iload_3 (pc := 6) dX0_isExact_6 ?_
      refine og_aload_0 (pc := 7) dX0_isExact_7 ?_
      refine og_xg4 (pc := 8) (z := (n : Int)) dX0_isExact_8 h4 ?_
      refine og_icmp_ge (pc := 11) (tgt := 60) dX0_isExact_11 (by decide) (by omega) (by omega) (fun c => ?_) (fun c => ?_)
      · exact absurd c (by omega)
      refine og_aload_0 (pc := 14) dX0_isExact_14 ?_
      refine og_xr5 (pc := 15) dX0_isExact_15 ?_
      refine og_iconst (pc := 18) dX0_isExact_18 ?_
      refine og_iload_3 (pc := 19) dX0_isExact_19 ?_
      refine og_imul (pc := 20) dX0_isExact_20 ?_
      refine og_iconst (pc := 21) dX0_isExact_21 ?_
      refine og_iadd (pc := 22) dX0_isExact_22 ?_
      refine og_xl5 (pc := 23) (3 * i + 2) dX0_isExact_23 (by omega) (by omega) rfl ?_
      refine og_istore_4 (pc := 24) dX0_isExact_24 (by decide) ?_
      refine og_iload_4 (pc := 26) dX0_isExact_26 ?_
      refine og_ineg (pc := 28) dX0_isExact_28 ?_
      refine og_iload_1 (pc := 29) dX0_isExact_29 ?_
      refine og_icmp_le (pc := 30) (tgt := 39) dX0_isExact_30 (by decide) (by omega) (by omega) (fun c2 => ?_) (fun c2 => ?_)
      · refine og_iload_1 (pc := 39) dX0_isExact_39 ?_
        refine og_istore_1 (pc := 40) dX0_isExact_40 (by decide) ?_
        exact K1 lo (by rw [if_neg (by omega)])
      · refine og_iload_4 (pc := 33) dX0_isExact_33 ?_
        refine og_ineg (pc := 35) dX0_isExact_35 ?_
        refine og_goto (pc := 36) (tgt := 40) dX0_isExact_36 (by decide) ?_
        refine og_istore_1 (pc := 40) dX0_isExact_40 (by decide) ?_
        exact K1 _ (by rw [if_pos c2])
  refine og_iconst (pc := 0) dX0_isExact_0 ?_
  refine og_istore_1 (pc := 1) dX0_isExact_1 (by decide) ?_
  refine og_iconst (pc := 2) dX0_isExact_2 ?_
  refine og_istore_2 (pc := 3) dX0_isExact_3 (by decide) ?_
  refine og_iconst (pc := 4) dX0_isExact_4 ?_
  refine og_istore_3 (pc := 5) dX0_isExact_5 (by decide) ?_
  exact Lp n 0 1 1 (by omega) (by omega) (by omega) (iff_of_true rfl (fun j hj => absurd hj (by omega))) (iff_of_true rfl (fun j hj => absurd hj (by omega)))
end
section
set_option maxRecDepth 100000
def pairUpQ (u : DS) (n q k : Nat) (g nv : Int) (r : Int) (u' : DS) : Prop := (r = 0 ∨ r = 1) ∧ od_fr [7, 8, 9] u u' ∧ ∃ k' : Nat, u' 7 0 = k' ∧ k' ≤ k + cU u n ∧ fB u' k' ∧ ∀ x y, (r = 1 ∧ fOK u' k' x y) ↔ (fOK u k x y ∧ pairs u n q g nv x y)
/-! OmegaDesk.pairUp -/
theorem met_pairUp (dA dZ : ClassId) (ad : Nat → Nat) (u : DS) (n q k : Nat) (g nv : Int) (h4 : u 4 0 = n) (hn : n ≤ 23) (hB : rB u n) (hq : q < n) (hg : 0 < g) (hg9 : g ≤ 9) (hnv : nv = 0 ∨ nv = 1) (h7 : u 7 0 = k) (hk : k + cU u n ≤ 159) (hf : fB u k) :
    od_MI dA dZ (xc dA dZ ad) yX0_pairUp cX0_pairUp 10 (some .boolean) (rmL 3) [.ref (ad 0), .int (iI q), .int (iI g), .int (iI nv)] u (pairUpQ u n q k g nv) := by
  refine od_MI.ofZ (own := RX0) 6 (by decide) rfl (od_cc rfl (od_cc rfl (od_cc rfl (od_cc rfl od_c1)))) (Nat.le_of_ble_eq_true rfl) (fun r u' h => h.1) ?_
  intro Γ hret
  show od_G Γ RX0 cX0_pairUp 10 (rmL 3) dA dZ (xc dA dZ ad (u)) [.ref (ad 0), .int (iI q), .int (iI g), .int (iI nv), .null, .null, .null, .null, .null, .null] 0 []
  have Lp : ∀ (m i : Nat) (v : DS) (k1 : Nat), i + m = n → od_fr [7, 8, 9] u v → v 7 0 = k1 → k1 ≤ k + cU u i → fB v k1 → (∀ x y, fOK v k1 x y ↔ (fOK u k x y ∧ pairs u i q g nv x y)) → od_G Γ RX0 cX0_pairUp 10 (rmL 3) dA dZ (xc dA dZ ad (v)) [.ref (ad 0), .int (iI q), .int (iI g), .int (iI nv), .int (iI i), .null, .null, .null, .null, .null] 3 [] := by
    intro m
    induction m with
    | zero =>
      intro i v k1 hm hfr h7v hk1 hfv hI
      have hin : i = n := by omega
      subst hin
      have h4v : v 4 0 = i := by rw [hfr 4 (by decide)]; exact h4
      refine og_iload_4 (pc := 3) dX0_pairUp_3 ?_
      refine og_aload_0 (pc := 5) dX0_pairUp_5 ?_
      refine og_xg4 (pc := 6) (z := (i : Int)) dX0_pairUp_6 h4v ?_
      refine og_icmp_ge (pc := 9) (tgt := 147) dX0_pairUp_9 (by decide) (by omega) (by omega) (fun c => ?_) (fun c => ?_)
      · refine og_iconst (pc := 147) dX0_pairUp_147 ?_
        exact hret 1 v ⟨Or.inr rfl, hfr, k1, h7v, hk1, hfv, fun x y => by rw [← hI]; simp⟩ _ _ dX0_pairUp_148
      · exact absurd c (by omega)
    | succ m ih =>
      intro i v k1 hm hfr h7v hk1 hfv hI
      have hin : i < n := by omega
      have h4v : v 4 0 = n := by rw [hfr 4 (by decide)]; exact h4
      have h5v : ∀ j, v 5 j = u 5 j := fun j => by rw [hfr 5 (by decide)]
      have h6v : ∀ j, v 6 j = u 6 j := fun j => by rw [hfr 6 (by decide)]
      have hbi := hB i hin
      have hbq := hB q hq
      have hcu : cU u (i + 1) ≤ cU u n := cU_le u (by omega)
      have K : ∀ (v' : DS) (k2 : Nat) (w5 w6 w7 w8 w9 : Value), od_fr [7, 8, 9] u v' → v' 7 0 = k2 → k2 ≤ k + cU u (i + 1) → fB v' k2 → (∀ x y, fOK v' k2 x y ↔ (fOK u k x y ∧ pairs u (i + 1) q g nv x y)) → od_G Γ RX0 cX0_pairUp 10 (rmL 3) dA dZ (xc dA dZ ad (v')) [.ref (ad 0), .int (iI q), .int (iI g), .int (iI nv), .int (iI i), w5, w6, w7, w8, w9] 141 [] := by
        intro v' k2 w5 w6 w7 w8 w9 a1 a2 a3 a4 a5
        refine og_forget_5 ?_
        refine og_forget_6 ?_
        refine og_forget_7 ?_
        refine og_forget_8 ?_
        refine og_forget_9 ?_
        refine og_iinc_4 (pc := 141) dX0_pairUp_141 (by decide) ?_
        refine og_goto (pc := 144) (tgt := 3) dX0_pairUp_144 (by decide) ?_
        exact ih (i + 1) v' k2 (by omega) a1 a2 a3 a4 a5
      refine og_iload_4 (pc := 3) dX0_pairUp_3 ?_
      refine og_aload_0 (pc := 5) dX0_pairUp_5 ?_
      refine og_xg4 (pc := 6) (z := (n : Int)) dX0_pairUp_6 h4v ?_
      refine og_icmp_ge (pc := 9) (tgt := 147) dX0_pairUp_9 (by decide) (by omega) (by omega) (fun c => ?_) (fun c => ?_)
      · exact absurd c (by omega)
      refine og_aload_0 (pc := 12) dX0_pairUp_12 ?_
      refine og_xr5 (pc := 13) dX0_pairUp_13 ?_
      refine og_iconst (pc := 16) dX0_pairUp_16 ?_
      refine og_iload_4 (pc := 17) dX0_pairUp_17 ?_
      refine og_imul (pc := 19) dX0_pairUp_19 ?_
      refine og_iconst (pc := 20) dX0_pairUp_20 ?_
      refine og_iadd (pc := 21) dX0_pairUp_21 ?_
      refine og_xl5 (pc := 22) (z := u 5 (3 * i + 2)) (3 * i + 2) dX0_pairUp_22 (by omega) (by omega) (h5v _) ?_
      refine og_istore_5 (pc := 23) dX0_pairUp_23 (by decide) ?_
      refine og_iload_5 (pc := 25) dX0_pairUp_25 ?_
      refine og_if_le (pc := 27) (tgt := 141) dX0_pairUp_27 (by decide) (by omega) (fun c1 => ?_) (fun c1 => ?_)
      · refine K v k1 _ _ _ _ _ hfr h7v (by simp only [cU]; omega) hfv (fun x y => ?_)
        rw [hI, pairs_s]
        constructor
        · intro h
          exact ⟨h.1, h.2, fun c2 => absurd c2 (by omega)⟩
        · intro h
          exact ⟨h.1, h.2.1⟩
      have ecu : cU u (i + 1) = cU u i + 1 := by simp only [cU]; rw [if_pos c1]
      have b1 := mulR (a := u 5 (3 * i + 2)) (b := u 5 (3 * q)) 9 9 81 rfl (by omega) (by omega)
      have b2 := mulR (a := g) (b := u 5 (3 * i)) 9 9 81 rfl (by omega) (by omega)
      have b3 := mulR (a := u 5 (3 * i + 2)) (b := u 5 (3 * q + 1)) 9 9 81 rfl (by omega) (by omega)
      have b4 := mulR (a := g) (b := u 5 (3 * i + 1)) 9 9 81 rfl (by omega) (by omega)
      have b5 := mulR (a := u 5 (3 * i + 2)) (b := u 6 q) 9 100 900 rfl (by omega) (by omega)
      have b6 := mulR (a := g) (b := u 6 i) 9 100 900 rfl (by omega) (by omega)
      have b7 := mulR (a := u 5 (3 * i + 2) - 1) (b := g - 1) 8 8 64 rfl (by omega) (by omega)
      have K3 : ∀ z : Int, z = (if nv = 0 then 0 else (u 5 (3 * i + 2) - 1) * (g - 1)) → od_G Γ RX0 cX0_pairUp 10 (rmL 3) dA dZ (xc dA dZ ad (v)) [.ref (ad 0), .int (iI q), .int (iI g), .int (iI nv), .int (iI i), .int (iI (u 5 (3 * i + 2))), .int (iI (u 5 (3 * i + 2) * u 5 (3 * q) + g * u 5 (3 * i))), .int (iI (u 5 (3 * i + 2) * u 5 (3 * q + 1) + g * u 5 (3 * i + 1))), .null, .null] 119 [.int (iI z), .int (iI (u 5 (3 * i + 2) * u 6 q + g * u 6 i))] := by
        intro z hz
        have hzb : -64 ≤ z ∧ z ≤ 64 := by
          rw [hz]
          split
          · omega
          · exact b7
        refine og_isub (pc := 119) dX0_pairUp_119 ?_
        refine og_istore_8 (pc := 120) dX0_pairUp_120 (by decide) ?_
        refine og_aload_0 (pc := 122) dX0_pairUp_122 ?_
        refine og_iload_6 (pc := 123) dX0_pairUp_123 ?_
        refine og_iload_7 (pc := 125) dX0_pairUp_125 ?_
        refine og_iload_8 (pc := 127) dX0_pairUp_127 ?_
        refine og_callI (pc := 129) (n := 3) (met_putFew dA dZ ad v _ _ _ k1 (by omega) (by omega) (by omega) h7v (by omega) hfv) rfl rfl (lw_V q102 q104 qs5 q18 q105) (by decide +kernel) ⟨by decide, by decide⟩ ⟨rfl, rfl⟩ rfl rfl (Nat.le_of_ble_eq_true rfl) dX0_pairUp_129 (fun r v' hp => ?_)
        obtain ⟨h01, hfr2, k2, h7w, hk2, hfw, hI2⟩ := hp
        have hstep : ∀ x y, (r = 1 ∧ fOK v' k2 x y) ↔ (fOK u k x y ∧ pairs u (i + 1) q g nv x y) := by
          intro x y
          rw [hI2, hI, pairs_s, and_assoc]
          refine and_congr_right fun _ => and_congr_right fun _ => ?_
          unfold pairC
          rw [hz]
          constructor
          · intro h _
            exact h
          · intro h
            exact h c1
        refine og_istore_9 (pc := 132) dX0_pairUp_132 (by decide) ?_
        refine og_iload_9 (pc := 134) dX0_pairUp_134 ?_
        refine og_if_ne (pc := 136) (tgt := 141) dX0_pairUp_136 (by decide) (by omega) (fun c3 => ?_) (fun c3 => ?_)
        · refine K v' k2 _ _ _ _ _ (hfr.tr hfr2) h7w (by omega) hfw (fun x y => ?_)
          rw [← hstep]
          have : r = 1 := by omega
          simp [this]
        · subst c3
          refine og_iconst (pc := 139) dX0_pairUp_139 ?_
          refine hret 0 v' ⟨Or.inl rfl, hfr.tr hfr2, k2, h7w, by omega, hfw, fun x y => ?_⟩ _ _ dX0_pairUp_140
          constructor
          · intro h
            exact absurd h.1 (by decide)
          · intro h
            have := (hstep x y).mpr ⟨h.1, fun r hr => h.2 r (by omega)⟩
            exact absurd this.1 (by decide)
      refine og_iload_5 (pc := 30) dX0_pairUp_30 ?_
      refine og_aload_0 (pc := 32) dX0_pairUp_32 ?_
      refine og_xr5 (pc := 33) dX0_pairUp_33 ?_
      refine og_iconst (pc := 36) dX0_pairUp_36 ?_
      refine og_iload_1 (pc := 37) dX0_pairUp_37 ?_
      refine og_imul (pc := 38) dX0_pairUp_38 ?_
      refine og_xl5 (pc := 39) (z := u 5 (3 * q)) (3 * q) dX0_pairUp_39 (by omega) (by omega) (h5v _) ?_
      refine og_imul (pc := 40) dX0_pairUp_40 ?_
      refine og_iload_2 (pc := 41) dX0_pairUp_41 ?_
      refine og_aload_0 (pc := 42) dX0_pairUp_42 ?_
      refine og_xr5 (pc := 43) dX0_pairUp_43 ?_
      refine og_iconst (pc := 46) dX0_pairUp_46 ?_
      refine og_iload_4 (pc := 47) dX0_pairUp_47 ?_
      refine og_imul (pc := 49) dX0_pairUp_49 ?_
      refine og_xl5 (pc := 50) (z := u 5 (3 * i)) (3 * i) dX0_pairUp_50 (by omega) (by omega) (h5v _) ?_
      refine og_imul (pc := 51) dX0_pairUp_51 ?_
      refine og_iadd (pc := 52) dX0_pairUp_52 ?_
      refine og_istore_6 (pc := 53) dX0_pairUp_53 (by decide) ?_
      refine og_iload_5 (pc := 55) dX0_pairUp_55 ?_
      refine og_aload_0 (pc := 57) dX0_pairUp_57 ?_
      refine og_xr5 (pc := 58) dX0_pairUp_58 ?_
      refine og_iconst (pc := 61) dX0_pairUp_61 ?_
      refine og_iload_1 (pc := 62) dX0_pairUp_62 ?_
      refine og_imul (pc := 63) dX0_pairUp_63 ?_
      refine og_iconst (pc := 64) dX0_pairUp_64 ?_
      refine og_iadd (pc := 65) dX0_pairUp_65 ?_
      refine og_xl5 (pc := 66) (z := u 5 (3 * q + 1)) (3 * q + 1) dX0_pairUp_66 (by omega) (by omega) (h5v _) ?_
      refine og_imul (pc := 67) dX0_pairUp_67 ?_
      refine og_iload_2 (pc := 68) dX0_pairUp_68 ?_
      refine og_aload_0 (pc := 69) dX0_pairUp_69 ?_
      refine og_xr5 (pc := 70) dX0_pairUp_70 ?_
      refine og_iconst (pc := 73) dX0_pairUp_73 ?_
      refine og_iload_4 (pc := 74) dX0_pairUp_74 ?_
      refine og_imul (pc := 76) dX0_pairUp_76 ?_
      refine og_iconst (pc := 77) dX0_pairUp_77 ?_
      refine og_iadd (pc := 78) dX0_pairUp_78 ?_
      refine og_xl5 (pc := 79) (z := u 5 (3 * i + 1)) (3 * i + 1) dX0_pairUp_79 (by omega) (by omega) (h5v _) ?_
      refine og_imul (pc := 80) dX0_pairUp_80 ?_
      refine og_iadd (pc := 81) dX0_pairUp_81 ?_
      refine og_istore_7 (pc := 82) dX0_pairUp_82 (by decide) ?_
      refine og_iload_5 (pc := 84) dX0_pairUp_84 ?_
      refine og_aload_0 (pc := 86) dX0_pairUp_86 ?_
      refine og_xr6 (pc := 87) dX0_pairUp_87 ?_
      refine og_iload_1 (pc := 90) dX0_pairUp_90 ?_
      refine og_xl6 (pc := 91) (z := u 6 q) (q) dX0_pairUp_91 (by omega) (by omega) (h6v _) ?_
      refine og_imul (pc := 92) dX0_pairUp_92 ?_
      refine og_iload_2 (pc := 93) dX0_pairUp_93 ?_
      refine og_aload_0 (pc := 94) dX0_pairUp_94 ?_
      refine og_xr6 (pc := 95) dX0_pairUp_95 ?_
      refine og_iload_4 (pc := 98) dX0_pairUp_98 ?_
      refine og_xl6 (pc := 100) (z := u 6 i) (i) dX0_pairUp_100 (by omega) (by omega) (h6v _) ?_
      refine og_imul (pc := 101) dX0_pairUp_101 ?_
      refine og_iadd (pc := 102) dX0_pairUp_102 ?_
      refine og_iload_3 (pc := 103) dX0_pairUp_103 ?_
      refine og_if_eq (pc := 104) (tgt := 118) dX0_pairUp_104 (by decide) (by omega) (fun c2 => ?_) (fun c2 => ?_)
      · refine og_iconst (pc := 118) dX0_pairUp_118 ?_
        exact K3 0 (by rw [if_pos c2])
      · refine og_iload_5 (pc := 107) dX0_pairUp_107 ?_
        refine og_iconst (pc := 109) dX0_pairUp_109 ?_
        refine og_isub (pc := 110) dX0_pairUp_110 ?_
        refine og_iload_2 (pc := 111) dX0_pairUp_111 ?_
        refine og_iconst (pc := 112) dX0_pairUp_112 ?_
        refine og_isub (pc := 113) dX0_pairUp_113 ?_
        refine og_imul (pc := 114) dX0_pairUp_114 ?_
        refine og_goto (pc := 115) (tgt := 119) dX0_pairUp_115 (by decide) ?_
        exact K3 _ (by rw [if_neg c2])
  refine og_iconst (pc := 0) dX0_pairUp_0 ?_
  refine og_istore_4 (pc := 1) dX0_pairUp_1 (by decide) ?_
  exact Lp n 0 u k (by omega) od_fr.rf h7 (by simp only [cU]; omega) hf (fun x y => by
    constructor
    · intro h
      exact ⟨h, fun r hr => absurd hr (by omega)⟩
    · intro h
      exact h.1)
def makeFewQ (u : DS) (n : Nat) (nv : Int) (r : Int) (u' : DS) : Prop := (r = 0 ∨ r = 1) ∧ od_fr [7, 8, 9] u u' ∧ ∃ k : Nat, u' 7 0 = k ∧ k ≤ 160 ∧ fB u' k ∧ ∀ x y, (r = 1 ∧ fOK u' k x y) ↔ Shd u n n nv x y
/-! OmegaDesk.makeFew -/
theorem met_makeFew (dA dZ : ClassId) (ad : Nat → Nat) (u : DS) (n : Nat) (nv : Int) (h4 : u 4 0 = n) (hn : n ≤ 23) (hB : rB u n) (hnv : nv = 0 ∨ nv = 1) :
    od_MI dA dZ (xc dA dZ ad) yX0_makeFew cX0_makeFew 5 (some .boolean) (rmL 4) [.ref (ad 0), .int (iI nv)] u (makeFewQ u n nv) := by
  refine od_MI.ofZ (own := RX0) 3 (by decide) rfl (od_cc rfl (od_cc rfl od_c1)) (Nat.le_of_ble_eq_true rfl) (fun r u' h => h.1) ?_
  intro Γ hret
  show od_G Γ RX0 cX0_makeFew 5 (rmL 4) dA dZ (xc dA dZ ad (u)) [.ref (ad 0), .int (iI nv), .null, .null, .null] 0 []
  have hroom := c_room u hn
  have Lp : ∀ (m i : Nat) (v : DS) (k1 : Nat) (rt : Int), i + m = n → (rt = 0 ∨ rt = 1) → od_fr [7, 8, 9] u v → v 7 0 = k1 → k1 ≤ cL u i * cU u n + cZ u i → fB v k1 → (∀ x y, (rt = 1 ∧ fOK v k1 x y) ↔ Shd u n i nv x y) → od_G Γ RX0 cX0_makeFew 5 (rmL 4) dA dZ (xc dA dZ ad (v)) [.ref (ad 0), .int (iI nv), .int (iI rt), .int (iI i), .null] 9 [] := by
    intro m
    induction m with
    | zero =>
      intro i v k1 rt hm hrt hfr h7v hk1 hfv hI
      have hin : i = n := by omega
      subst hin
      have h4v : v 4 0 = i := by rw [hfr 4 (by decide)]; exact h4
      refine og_iload_3 (pc := 9) dX0_makeFew_9 ?_
      refine og_aload_0 (pc := 10) dX0_makeFew_10 ?_
      refine og_xg4 (pc := 11) (z := (i : Int)) dX0_makeFew_11 h4v ?_
      refine og_icmp_ge (pc := 14) (tgt := 91) dX0_makeFew_14 (by decide) (by omega) (by omega) (fun c => ?_) (fun c => ?_)
      · refine og_iload_2 (pc := 91) dX0_makeFew_91 ?_
        exact hret rt v ⟨hrt, hfr, k1, h7v, by omega, hfv, hI⟩ _ _ dX0_makeFew_92
      · exact absurd c (by omega)
    | succ m ih =>
      intro i v k1 rt hm hrt hfr h7v hk1 hfv hI
      have hin : i < n := by omega
      have h4v : v 4 0 = n := by rw [hfr 4 (by decide)]; exact h4
      have h5e : v 5 = u 5 := hfr 5 (by decide)
      have h6e : v 6 = u 6 := hfr 6 (by decide)
      have h5v : ∀ j, v 5 j = u 5 j := fun j => by rw [h5e]
      have h6v : ∀ j, v 6 j = u 6 j := fun j => by rw [h6e]
      have hbi := hB i hin
      have hl1 : cL u (i + 1) * cU u n ≤ cL u n * cU u n := Nat.mul_le_mul_right _ (cL_le u (by omega))
      have hl0 : cL u i * cU u n ≤ cL u n * cU u n := Nat.mul_le_mul_right _ (cL_le u (by omega))
      have hz1 : cZ u (i + 1) ≤ cZ u n := cZ_le u (by omega)
      have hz0 : cZ u i ≤ cZ u n := cZ_le u (by omega)
      refine og_iload_3 (pc := 9) dX0_makeFew_9 ?_
      refine og_aload_0 (pc := 10) dX0_makeFew_10 ?_
      refine og_xg4 (pc := 11) (z := (n : Int)) dX0_makeFew_11 h4v ?_
      refine og_icmp_ge (pc := 14) (tgt := 91) dX0_makeFew_14 (by decide) (by omega) (by omega) (fun c => ?_) (fun c => ?_)
      · exact absurd c (by omega)
      refine og_iload_2 (pc := 17) dX0_makeFew_17 ?_
      refine og_if_eq (pc := 18) (tgt := 91) dX0_makeFew_18 (by decide) (by omega) (fun c1 => ?_) (fun c1 => ?_)
      · subst c1
        refine og_iload_2 (pc := 91) dX0_makeFew_91 ?_
        refine hret 0 v ⟨Or.inl rfl, hfr, k1, h7v, by omega, hfv, fun x y => ?_⟩ _ _ dX0_makeFew_92
        constructor
        · intro h
          exact absurd h.1 (by decide)
        · intro h
          exact (hI x y).mpr (Shd_le (by omega) h)
      have hrt1 : rt = 1 := by omega
      subst hrt1
      have hI1 : ∀ x y, fOK v k1 x y ↔ Shd u n i nv x y := fun x y => by rw [← hI]; simp
      have K : ∀ (v' : DS) (k2 : Nat) (r : Int) (w4 : Value), (r = 0 ∨ r = 1) → od_fr [7, 8, 9] u v' → v' 7 0 = k2 → k2 ≤ cL u (i + 1) * cU u n + cZ u (i + 1) → fB v' k2 → (∀ x y, (r = 1 ∧ fOK v' k2 x y) ↔ Shd u n (i + 1) nv x y) → od_G Γ RX0 cX0_makeFew 5 (rmL 4) dA dZ (xc dA dZ ad (v')) [.ref (ad 0), .int (iI nv), .int (iI r), .int (iI i), w4] 85 [] := by
        intro v' k2 r w4 a0 a1 a2 a3 a4 a5
        refine og_forget_4 ?_
        refine og_iinc_3 (pc := 85) dX0_makeFew_85 (by decide) ?_
        refine og_goto (pc := 88) (tgt := 9) dX0_makeFew_88 (by decide) ?_
        exact ih (i + 1) v' k2 r (by omega) a0 a1 a2 a3 a4 a5
      refine og_aload_0 (pc := 21) dX0_makeFew_21 ?_
      refine og_xr5 (pc := 22) dX0_makeFew_22 ?_
      refine og_iconst (pc := 25) dX0_makeFew_25 ?_
      refine og_iload_3 (pc := 26) dX0_makeFew_26 ?_
      refine og_imul (pc := 27) dX0_makeFew_27 ?_
      refine og_iconst (pc := 28) dX0_makeFew_28 ?_
      refine og_iadd (pc := 29) dX0_makeFew_29 ?_
      refine og_xl5 (pc := 30) (z := u 5 (3 * i + 2)) (3 * i + 2) dX0_makeFew_30 (by omega) (by omega) (h5v _) ?_
      refine og_istore_4 (pc := 31) dX0_makeFew_31 (by decide) ?_
      refine og_iload_4 (pc := 33) dX0_makeFew_33 ?_
      refine og_if_ne (pc := 35) (tgt := 70) dX0_makeFew_35 (by decide) (by omega) (fun c2 => ?_) (fun c2 => ?_)
      · refine og_iload_4 (pc := 70) dX0_makeFew_70 ?_
        refine og_if_ge (pc := 72) (tgt := 85) dX0_makeFew_72 (by decide) (by omega) (fun c3 => ?_) (fun c3 => ?_)
        · have cp : 0 < u 5 (3 * i + 2) := by omega
          refine K v k1 1 _ (Or.inr rfl) hfr h7v ?_ hfv (fun x y => ?_)
          · simp only [cL, cZ]
            rw [if_neg (by omega), if_neg (by omega)]
            exact hk1
          · rw [hI, Shd_s]
            constructor
            · intro h
              exact ⟨h, fun e => absurd e (by omega), fun e => absurd e (by omega)⟩
            · intro h
              exact h.1
        · have el : cL u (i + 1) = cL u i + 1 := by simp only [cL]; rw [if_pos c3]
          have ez : cZ u (i + 1) = cZ u i := by simp only [cZ]; rw [if_neg (by omega)]; rfl
          rw [el, Nat.add_mul, Nat.one_mul] at hl1
          have hcv : ∀ j, cU v j = cU u j := fun j => by
            induction j with
            | zero => rfl
            | succ j ih2 => simp only [cU]; rw [ih2, h5e]
          refine og_aload_0 (pc := 75) dX0_makeFew_75 ?_
          refine og_iload_3 (pc := 76) dX0_makeFew_76 ?_
          refine og_iload_4 (pc := 77) dX0_makeFew_77 ?_
          refine og_ineg (pc := 79) dX0_makeFew_79 ?_
          refine og_iload_1 (pc := 80) dX0_makeFew_80 ?_
          refine og_callI (pc := 81) (n := 3) (met_pairUp dA dZ ad v n i k1 _ nv h4v hn (rB.cg h5e h6e hB) hin (by omega) (by omega) hnv h7v (by rw [hcv]; omega) hfv) rfl rfl (lw_V q115 q117 qs6 q18 q118) (by decide +kernel) ⟨by decide, by decide⟩ ⟨rfl, rfl⟩ rfl rfl (Nat.le_of_ble_eq_true rfl) dX0_makeFew_81 (fun r v' hp => ?_)
          obtain ⟨h01, hfr2, k2, h7w, hk2, hfw, hI2⟩ := hp
          rw [hcv] at hk2
          refine og_istore_2 (pc := 84) dX0_makeFew_84 (by decide) ?_
          refine K v' k2 r _ h01 (hfr.tr hfr2) h7w ?_ hfw (fun x y => ?_)
          · rw [el, Nat.add_mul, Nat.one_mul, ez]
            omega
          · rw [hI2, hI1, Shd_s]
            refine and_congr_right fun _ => ?_
            constructor
            · intro h
              refine ⟨fun e => absurd e (by omega), fun _ r hr hc => ?_⟩
              have := h r hr (by rw [h5v]; exact hc)
              rw [pairC.cg h5e h6e] at this
              exact this
            · intro h r hr hc
              rw [h5v] at hc
              rw [pairC.cg h5e h6e]
              exact h.2 c3 r hr hc
      · have ez : cZ u (i + 1) = cZ u i + 1 := by simp only [cZ]; rw [if_pos c2]
        have el : cL u (i + 1) = cL u i := by simp only [cL]; rw [if_neg (by omega)]; rfl
        refine og_aload_0 (pc := 38) dX0_makeFew_38 ?_
        refine og_aload_0 (pc := 39) dX0_makeFew_39 ?_
        refine og_xr5 (pc := 40) dX0_makeFew_40 ?_
        refine og_iconst (pc := 43) dX0_makeFew_43 ?_
        refine og_iload_3 (pc := 44) dX0_makeFew_44 ?_
        refine og_imul (pc := 45) dX0_makeFew_45 ?_
        refine og_xl5 (pc := 46) (z := u 5 (3 * i)) (3 * i) dX0_makeFew_46 (by omega) (by omega) (h5v _) ?_
        refine og_aload_0 (pc := 47) dX0_makeFew_47 ?_
        refine og_xr5 (pc := 48) dX0_makeFew_48 ?_
        refine og_iconst (pc := 51) dX0_makeFew_51 ?_
        refine og_iload_3 (pc := 52) dX0_makeFew_52 ?_
        refine og_imul (pc := 53) dX0_makeFew_53 ?_
        refine og_iconst (pc := 54) dX0_makeFew_54 ?_
        refine og_iadd (pc := 55) dX0_makeFew_55 ?_
        refine og_xl5 (pc := 56) (z := u 5 (3 * i + 1)) (3 * i + 1) dX0_makeFew_56 (by omega) (by omega) (h5v _) ?_
        refine og_aload_0 (pc := 57) dX0_makeFew_57 ?_
        refine og_xr6 (pc := 58) dX0_makeFew_58 ?_
        refine og_iload_3 (pc := 61) dX0_makeFew_61 ?_
        refine og_xl6 (pc := 62) (z := u 6 i) (i) dX0_makeFew_62 (by omega) (by omega) (h6v _) ?_
        refine og_callI (pc := 63) (n := 3) (met_putFew dA dZ ad v _ _ _ k1 (by omega) (by omega) (by omega) h7v (by omega) hfv) rfl rfl (lw_V q102 q104 qs5 q18 q105) (by decide +kernel) ⟨by decide, by decide⟩ ⟨rfl, rfl⟩ rfl rfl (Nat.le_of_ble_eq_true rfl) dX0_makeFew_63 (fun r v' hp => ?_)
        obtain ⟨h01, hfr2, k2, h7w, hk2, hfw, hI2⟩ := hp
        refine og_istore_2 (pc := 66) dX0_makeFew_66 (by decide) ?_
        refine og_goto (pc := 67) (tgt := 85) dX0_makeFew_67 (by decide) ?_
        refine K v' k2 r _ h01 (hfr.tr hfr2) h7w (by rw [el, ez]; omega) hfw (fun x y => ?_)
        rw [hI2, hI1, Shd_s]
        refine and_congr_right fun _ => ?_
        constructor
        · intro h
          exact ⟨fun _ => h, fun e => absurd e (by omega)⟩
        · intro h
          exact h.1 c2
  refine og_aload_0 (pc := 0) dX0_makeFew_0 ?_
  refine og_iconst (pc := 1) dX0_makeFew_1 ?_
  refine og_xp7 (pc := 2) dX0_makeFew_2 ?_
  refine og_iconst (pc := 5) dX0_makeFew_5 ?_
  refine og_istore_2 (pc := 6) dX0_makeFew_6 (by decide) ?_
  refine og_iconst (pc := 7) dX0_makeFew_7 ?_
  refine og_istore_3 (pc := 8) dX0_makeFew_8 (by decide) ?_
  exact Lp n 0 (up2 u 7 0 0) 0 1 (by omega) (Or.inr rfl) (od_fr.rf.up (by decide)) (by simp [up2]) (by omega) (fun r hr => absurd hr (by omega)) (fun x y => by
    constructor
    · intro h r hr
      exact absurd hr (by omega)
    · intro h
      exact ⟨rfl, fun r hr => absurd hr (by omega)⟩)
def makeFewForQ (u : DS) (n : Nat) (z : Int) (r : Int) (u' : DS) : Prop := (r = 0 ∨ r = 1) ∧ od_fr [7, 8, 9] u u' ∧ ∃ k : Nat, u' 7 0 = k ∧ k ≤ 160 ∧ fB u' k ∧ ∀ x y, (r = 1 ∧ fOK u' k x y) ↔ rOK u n x y z
/-! OmegaDesk.makeFewFor -/
theorem met_makeFewFor (dA dZ : ClassId) (ad : Nat → Nat) (u : DS) (n : Nat) (z : Int) (h4 : u 4 0 = n) (hn : n ≤ 23) (hB : rB u n) (hz : -6 ≤ z ∧ z ≤ 6) :
    od_MI dA dZ (xc dA dZ ad) yX0_makeFewFor cX0_makeFewFor 4 (some .boolean) (rmL 3) [.ref (ad 0), .int (iI z)] u (makeFewForQ u n z) := by
  refine od_MI.ofZ (own := RX0) 2 (by decide) rfl (od_cc rfl (od_cc rfl od_c1)) (Nat.le_of_ble_eq_true rfl) (fun r u' h => h.1) ?_
  intro Γ hret
  show od_G Γ RX0 cX0_makeFewFor 4 (rmL 3) dA dZ (xc dA dZ ad (u)) [.ref (ad 0), .int (iI z), .null, .null] 0 []
  have Lp : ∀ (m i : Nat) (v : DS) (k1 : Nat) (rt : Int), i + m = n → (rt = 0 ∨ rt = 1) → od_fr [7, 8, 9] u v → v 7 0 = k1 → k1 ≤ i → fB v k1 → (∀ x y, (rt = 1 ∧ fOK v k1 x y) ↔ rOK u i x y z) → od_G Γ RX0 cX0_makeFewFor 4 (rmL 3) dA dZ (xc dA dZ ad (v)) [.ref (ad 0), .int (iI z), .int (iI rt), .int (iI i)] 9 [] := by
    intro m
    induction m with
    | zero =>
      intro i v k1 rt hm hrt hfr h7v hk1 hfv hI
      have hin : i = n := by omega
      subst hin
      have h4v : v 4 0 = i := by rw [hfr 4 (by decide)]; exact h4
      refine og_iload_3 (pc := 9) dX0_makeFewFor_9 ?_
      refine og_aload_0 (pc := 10) dX0_makeFewFor_10 ?_
      refine og_xg4 (pc := 11) (z := (i : Int)) dX0_makeFewFor_11 h4v ?_
      refine og_icmp_ge (pc := 14) (tgt := 69) dX0_makeFewFor_14 (by decide) (by omega) (by omega) (fun c => ?_) (fun c => ?_)
      · refine og_iload_2 (pc := 69) dX0_makeFewFor_69 ?_
        exact hret rt v ⟨hrt, hfr, k1, h7v, by omega, hfv, hI⟩ _ _ dX0_makeFewFor_70
      · exact absurd c (by omega)
    | succ m ih =>
      intro i v k1 rt hm hrt hfr h7v hk1 hfv hI
      have hin : i < n := by omega
      have h4v : v 4 0 = n := by rw [hfr 4 (by decide)]; exact h4
      have h5e : v 5 = u 5 := hfr 5 (by decide)
      have h6e : v 6 = u 6 := hfr 6 (by decide)
      have h5v : ∀ j, v 5 j = u 5 j := fun j => by rw [h5e]
      have h6v : ∀ j, v 6 j = u 6 j := fun j => by rw [h6e]
      have hbi := hB i hin
      have hm6 := mulR (a := u 5 (3 * i + 2)) (b := z) 9 6 54 rfl (by omega) (by omega)
      refine og_iload_3 (pc := 9) dX0_makeFewFor_9 ?_
      refine og_aload_0 (pc := 10) dX0_makeFewFor_10 ?_
      refine og_xg4 (pc := 11) (z := (n : Int)) dX0_makeFewFor_11 h4v ?_
      refine og_icmp_ge (pc := 14) (tgt := 69) dX0_makeFewFor_14 (by decide) (by omega) (by omega) (fun c => ?_) (fun c => ?_)
      · exact absurd c (by omega)
      refine og_iload_2 (pc := 17) dX0_makeFewFor_17 ?_
      refine og_if_eq (pc := 18) (tgt := 69) dX0_makeFewFor_18 (by decide) (by omega) (fun c1 => ?_) (fun c1 => ?_)
      · subst c1
        refine og_iload_2 (pc := 69) dX0_makeFewFor_69 ?_
        refine hret 0 v ⟨Or.inl rfl, hfr, k1, h7v, by omega, hfv, fun x y => ?_⟩ _ _ dX0_makeFewFor_70
        constructor
        · intro h
          exact absurd h.1 (by decide)
        · intro h
          exact (hI x y).mpr (fun r hr => h r (by omega))
      have hrt1 : rt = 1 := by omega
      subst hrt1
      have hI1 : ∀ x y, fOK v k1 x y ↔ rOK u i x y z := fun x y => by rw [← hI]; simp
      refine og_aload_0 (pc := 21) dX0_makeFewFor_21 ?_
      refine og_aload_0 (pc := 22) dX0_makeFewFor_22 ?_
      refine og_xr5 (pc := 23) dX0_makeFewFor_23 ?_
      refine og_iconst (pc := 26) dX0_makeFewFor_26 ?_
      refine og_iload_3 (pc := 27) dX0_makeFewFor_27 ?_
      refine og_imul (pc := 28) dX0_makeFewFor_28 ?_
      refine og_xl5 (pc := 29) (z := u 5 (3 * i)) (3 * i) dX0_makeFewFor_29 (by omega) (by omega) (h5v _) ?_
      refine og_aload_0 (pc := 30) dX0_makeFewFor_30 ?_
      refine og_xr5 (pc := 31) dX0_makeFewFor_31 ?_
      refine og_iconst (pc := 34) dX0_makeFewFor_34 ?_
      refine og_iload_3 (pc := 35) dX0_makeFewFor_35 ?_
      refine og_imul (pc := 36) dX0_makeFewFor_36 ?_
      refine og_iconst (pc := 37) dX0_makeFewFor_37 ?_
      refine og_iadd (pc := 38) dX0_makeFewFor_38 ?_
      refine og_xl5 (pc := 39) (z := u 5 (3 * i + 1)) (3 * i + 1) dX0_makeFewFor_39 (by omega) (by omega) (h5v _) ?_
      refine og_aload_0 (pc := 40) dX0_makeFewFor_40 ?_
      refine og_xr6 (pc := 41) dX0_makeFewFor_41 ?_
      refine og_iload_3 (pc := 44) dX0_makeFewFor_44 ?_
      refine og_xl6 (pc := 45) (z := u 6 i) (i) dX0_makeFewFor_45 (by omega) (by omega) (h6v _) ?_
      refine og_aload_0 (pc := 46) dX0_makeFewFor_46 ?_
      refine og_xr5 (pc := 47) dX0_makeFewFor_47 ?_
      refine og_iconst (pc := 50) dX0_makeFewFor_50 ?_
      refine og_iload_3 (pc := 51) dX0_makeFewFor_51 ?_
      refine og_imul (pc := 52) dX0_makeFewFor_52 ?_
      refine og_iconst (pc := 53) dX0_makeFewFor_53 ?_
      refine og_iadd (pc := 54) dX0_makeFewFor_54 ?_
      refine og_xl5 (pc := 55) (z := u 5 (3 * i + 2)) (3 * i + 2) dX0_makeFewFor_55 (by omega) (by omega) (h5v _) ?_
      refine og_iload_1 (pc := 56) dX0_makeFewFor_56 ?_
      refine og_imul (pc := 57) dX0_makeFewFor_57 ?_
      refine og_isub (pc := 58) dX0_makeFewFor_58 ?_
      refine og_callI (pc := 59) (n := 3) (met_putFew dA dZ ad v _ _ _ k1 (by omega) (by omega) (by omega) h7v (by omega) hfv) rfl rfl (lw_V q102 q104 qs5 q18 q105) (by decide +kernel) ⟨by decide, by decide⟩ ⟨rfl, rfl⟩ rfl rfl (Nat.le_of_ble_eq_true rfl) dX0_makeFewFor_59 (fun r v' hp => ?_)
      obtain ⟨h01, hfr2, k2, h7w, hk2, hfw, hI2⟩ := hp
      refine og_istore_2 (pc := 62) dX0_makeFewFor_62 (by decide) ?_
      refine og_iinc_3 (pc := 63) dX0_makeFewFor_63 (by decide) ?_
      refine og_goto (pc := 66) (tgt := 9) dX0_makeFewFor_66 (by decide) ?_
      refine ih (i + 1) v' k2 r (by omega) h01 (hfr.tr hfr2) h7w (by omega) hfw (fun x y => ?_)
      rw [hI2, hI1, rOK_s]
      refine and_congr_right fun _ => ?_
      omega
  refine og_aload_0 (pc := 0) dX0_makeFewFor_0 ?_
  refine og_iconst (pc := 1) dX0_makeFewFor_1 ?_
  refine og_xp7 (pc := 2) dX0_makeFewFor_2 ?_
  refine og_iconst (pc := 5) dX0_makeFewFor_5 ?_
  refine og_istore_2 (pc := 6) dX0_makeFewFor_6 (by decide) ?_
  refine og_iconst (pc := 7) dX0_makeFewFor_7 ?_
  refine og_istore_3 (pc := 8) dX0_makeFewFor_8 (by decide) ?_
  exact Lp n 0 (up2 u 7 0 0) 0 1 (by omega) (Or.inr rfl) (od_fr.rf.up (by decide)) (by simp [up2]) (by omega) (fun r hr => absurd hr (by omega)) (fun x y => by
    constructor
    · intro h r hr
      exact absurd hr (by omega)
    · intro h
      exact ⟨rfl, fun r hr => absurd hr (by omega)⟩)
/-! OmegaDesk.solvable -/
theorem met_solvable (dA dZ : ClassId) (ad : Nat → Nat) (u : DS) (n : Nat) (h4 : u 4 0 = n) (hn : n ≤ 23) (hB : rB u n) (hlo : ∃ q, q < n ∧ u 5 (3 * q + 2) < 0) (hbox : ∀ x y z, rOK u n x y z → (-6 ≤ x ∧ x ≤ 6) ∧ (-6 ≤ y ∧ y ≤ 6) ∧ (-6 ≤ z ∧ z ≤ 6)) :
    od_MI dA dZ (xc dA dZ ad) yX0_solvable cX0_solvable 3 (some .boolean) (rmL 5) [.ref (ad 0)] u (fun r u' => (r = 0 ∨ r = 1) ∧ od_fr [7, 8, 9] u u' ∧ (r = 1 ↔ ∃ x y z, rOK u n x y z)) := by
  refine od_MI.ofZ (own := RX0) 2 (by decide) rfl (od_cc rfl od_c1) (Nat.le_of_ble_eq_true rfl) (fun r u' h => h.1) ?_
  intro Γ hret
  show od_G Γ RX0 cX0_solvable 3 (rmL 5) dA dZ (xc dA dZ ad (u)) [.ref (ad 0), .null, .null] 0 []
  -- behind the dark shadow
  have K17 : ∀ v : DS, od_fr [7, 8, 9] u v → (¬ ∃ x y, (-6 ≤ x ∧ x ≤ 6) ∧ (-6 ≤ y ∧ y ≤ 6) ∧ Shd u n n 1 x y) → od_G Γ RX0 cX0_solvable 3 (rmL 5) dA dZ (xc dA dZ ad (v)) [.ref (ad 0), .null, .null] 17 [] := by
    intro v hfr hno
    have h5e : v 5 = u 5 := hfr 5 (by decide)
    have h6e : v 6 = u 6 := hfr 6 (by decide)
    have h4v : v 4 0 = n := by rw [hfr 4 (by decide)]; exact h4
    have hBv := rB.cg h5e h6e hB
    have Lp : ∀ (m : Nat) (z : Int) (w : DS), z + m = 7 → -6 ≤ z → od_fr [7, 8, 9] u w → (∀ z', z' < z → ¬ ∃ x y, rOK u n x y z') → od_G Γ RX0 cX0_solvable 3 (rmL 5) dA dZ (xc dA dZ ad (w)) [.ref (ad 0), .int (iI 0), .int (iI z)] 46 [] := by
      intro m
      induction m with
      | zero =>
        intro z w hz hz6 hfw hI
        refine og_iload_2 (pc := 46) dX0_solvable_46 ?_
        refine og_bipush (pc := 47) dX0_solvable_47 (by decide +kernel) ?_
        refine og_icmp_gt (pc := 49) (tgt := 75) dX0_solvable_49 (by decide) (by omega) (by omega) (fun c => ?_) (fun c => ?_)
        · refine og_iconst (pc := 75) dX0_solvable_75 ?_
          exact hret 0 w ⟨Or.inl rfl, hfw, iff_of_false (by decide) (fun ⟨x, y, z', h⟩ => hI z' (by have := (hbox x y z' h).2.2; omega) ⟨x, y, h⟩)⟩ _ _ dX0_solvable_76
        · exact absurd c (by omega)
      | succ m ih =>
        intro z w hz hz6 hfw hI
        have g5 : w 5 = u 5 := hfw 5 (by decide)
        have g6 : w 6 = u 6 := hfw 6 (by decide)
        have g4 : w 4 0 = n := by rw [hfw 4 (by decide)]; exact h4
        have K : ∀ w' : DS, od_fr [7, 8, 9] u w' → (¬ ∃ x y, rOK u n x y z) → od_G Γ RX0 cX0_solvable 3 (rmL 5) dA dZ (xc dA dZ ad (w')) [.ref (ad 0), .int (iI 0), .int (iI z)] 69 [] := by
          intro w' hfw' hnz
          refine og_iinc_2 (pc := 69) dX0_solvable_69 (by decide) ?_
          refine og_goto (pc := 72) (tgt := 46) dX0_solvable_72 (by decide) ?_
          refine ih (z + 1) w' (by omega) (by omega) hfw' (fun z' hz' => ?_)
          by_cases e : z' = z
          · rw [e]; exact hnz
          · exact hI z' (by omega)
        refine og_iload_2 (pc := 46) dX0_solvable_46 ?_
        refine og_bipush (pc := 47) dX0_solvable_47 (by decide +kernel) ?_
        refine og_icmp_gt (pc := 49) (tgt := 75) dX0_solvable_49 (by decide) (by omega) (by omega) (fun c => ?_) (fun c => ?_)
        · exact absurd c (by omega)
        refine og_aload_0 (pc := 52) dX0_solvable_52 ?_
        refine og_iload_2 (pc := 53) dX0_solvable_53 ?_
        refine og_callI (pc := 54) (n := 1) (met_makeFewFor dA dZ ad w n z g4 hn (rB.cg g5 g6 hB) (by omega)) rfl rfl (lw_V q131 q133 qs10 q18 q134) (by decide +kernel) ⟨by decide, by decide⟩ ⟨rfl, rfl⟩ rfl rfl (Nat.le_of_ble_eq_true rfl) dX0_solvable_54 (fun r w1 hp => ?_)
        obtain ⟨h01, hfr2, k, h7w, hk, hfw1, hI2⟩ := hp
        have hfw2 := hfw.tr hfr2
        refine og_if_eq (pc := 57) (tgt := 69) dX0_solvable_57 (by decide) (by omega) (fun c1 => ?_) (fun c1 => ?_)
        · refine K w1 hfw2 (fun ⟨x, y, h⟩ => ?_)
          have := (hI2 x y).mpr ((rOK.cg g5 g6).mpr h)
          omega
        have hr1 : r = 1 := by omega
        subst hr1
        refine og_aload_0 (pc := 60) dX0_solvable_60 ?_
        refine og_callI (pc := 61) (n := 0) (met_planeSolvable dA dZ ad w1 k h7w hk hfw1) rfl rfl (lw_V q119 q121 qs7 q18 q122) (by decide +kernel) ⟨by decide, by decide⟩ ⟨rfl, rfl⟩ rfl rfl (Nat.le_of_ble_eq_true rfl) dX0_solvable_61 (fun r2 w2 hp2 => ?_)
        obtain ⟨h012, rfl, hr2⟩ := hp2
        refine og_if_eq (pc := 64) (tgt := 69) dX0_solvable_64 (by decide) (by omega) (fun c2 => ?_) (fun c2 => ?_)
        · refine K w2 hfw2 (fun ⟨x, y, h⟩ => ?_)
          have h1 := (hI2 x y).mpr ((rOK.cg g5 g6).mpr h)
          have h2 := hbox x y z h
          have := hr2.mpr ⟨x, y, h2.1, h2.2.1, h1.2⟩
          omega
        · refine og_iconst (pc := 67) dX0_solvable_67 ?_
          have hr21 : r2 = 1 := by omega
          obtain ⟨x, y, -, -, h⟩ := hr2.mp hr21
          exact hret 1 w2 ⟨Or.inr rfl, hfw2, iff_of_true rfl ⟨x, y, z, (rOK.cg g5 g6).mp ((hI2 x y).mp ⟨rfl, h⟩)⟩⟩ _ _ dX0_solvable_68
    refine og_aload_0 (pc := 17) dX0_solvable_17 ?_
    refine og_callI (pc := 18) (n := 0) (met_isExact dA dZ ad v n h4v (by omega) hBv) rfl rfl (lw_V q127 q129 qs9 q18 q130) (by decide +kernel) ⟨by decide, by decide⟩ ⟨rfl, rfl⟩ rfl rfl (Nat.le_of_ble_eq_true rfl) dX0_solvable_18 (fun r v1 hp => ?_)
    obtain ⟨h01, rfl, hr⟩ := hp
    refine og_istore_1 (pc := 21) dX0_solvable_21 (by decide) ?_
    refine og_iload_1 (pc := 22) dX0_solvable_22 ?_
    refine og_if_ne (pc := 23) (tgt := 41) dX0_solvable_23 (by decide) (by omega) (fun c1 => ?_) (fun c1 => ?_)
    · have hr1 : r = 1 := by omega
      have hex := hr.mp hr1
      rw [h5e] at hex
      refine og_iconst (pc := 41) dX0_solvable_41 ?_
      exact hret 0 v1 ⟨Or.inl rfl, hfr, iff_of_false (by decide) (fun ⟨x, y, z, h⟩ => hno ⟨x, y, (hbox x y z h).1, (hbox x y z h).2.1, sh_exact hex h⟩)⟩ _ _ dX0_solvable_42
    subst c1
    refine og_aload_0 (pc := 26) dX0_solvable_26 ?_
    refine og_iconst (pc := 27) dX0_solvable_27 ?_
    refine og_callI (pc := 28) (n := 1) (met_makeFew dA dZ ad v1 n 0 h4v hn hBv (Or.inl rfl)) rfl rfl (lw_V q98 q100 qs4 q18 q101) (by decide +kernel) ⟨by decide, by decide⟩ ⟨rfl, rfl⟩ rfl rfl (Nat.le_of_ble_eq_true rfl) dX0_solvable_28 (fun r2 v2 hp2 => ?_)
    obtain ⟨h012, hfr2, k, h72, hk, hf2, hI2⟩ := hp2
    have hfr3 := hfr.tr hfr2
    have hS : ∀ x y z, rOK u n x y z → r2 = 1 ∧ fOK v2 k x y := fun x y z h => (hI2 x y).mpr (sh_real ((rOK.cg h5e h6e).mpr h))
    refine og_if_eq (pc := 31) (tgt := 41) dX0_solvable_31 (by decide) (by omega) (fun c2 => ?_) (fun c2 => ?_)
    · refine og_iconst (pc := 41) dX0_solvable_41 ?_
      exact hret 0 v2 ⟨Or.inl rfl, hfr3, iff_of_false (by decide) (fun ⟨x, y, z, h⟩ => by have := (hS x y z h).1; omega)⟩ _ _ dX0_solvable_42
    refine og_aload_0 (pc := 34) dX0_solvable_34 ?_
    refine og_callI (pc := 35) (n := 0) (met_planeSolvable dA dZ ad v2 k h72 hk hf2) rfl rfl (lw_V q119 q121 qs7 q18 q122) (by decide +kernel) ⟨by decide, by decide⟩ ⟨rfl, rfl⟩ rfl rfl (Nat.le_of_ble_eq_true rfl) dX0_solvable_35 (fun r3 v3 hp3 => ?_)
    obtain ⟨h013, rfl, hr3⟩ := hp3
    refine og_if_ne (pc := 38) (tgt := 43) dX0_solvable_38 (by decide) (by omega) (fun c3 => ?_) (fun c3 => ?_)
    · refine og_bipush (pc := 43) dX0_solvable_43 (by decide +kernel) ?_
      refine og_istore_2 (pc := 45) dX0_solvable_45 (by decide) ?_
      exact Lp 13 (-6) v3 (by omega) (by omega) hfr3 (fun z' hz' ⟨x, y, h⟩ => by have := (hbox x y z' h).2.2; omega)
    · subst c3
      refine og_iconst (pc := 41) dX0_solvable_41 ?_
      refine hret 0 v3 ⟨Or.inl rfl, hfr3, iff_of_false (by decide) (fun ⟨x, y, z, h⟩ => ?_)⟩ _ _ dX0_solvable_42
      have h1 := hr3.mpr ⟨x, y, (hbox x y z h).1, (hbox x y z h).2.1, (hS x y z h).2⟩
      omega
  refine og_aload_0 (pc := 0) dX0_solvable_0 ?_
  refine og_iconst (pc := 1) dX0_solvable_1 ?_
  refine og_callI (pc := 2) (n := 1) (met_makeFew dA dZ ad u n 1 h4 hn hB (Or.inr rfl)) rfl rfl (lw_V q98 q100 qs4 q18 q101) (by decide +kernel) ⟨by decide, by decide⟩ ⟨rfl, rfl⟩ rfl rfl (Nat.le_of_ble_eq_true rfl) dX0_solvable_2 (fun r v hp => ?_)
  obtain ⟨h01, hfr, k, h7v, hk, hfv, hI⟩ := hp
  refine og_if_eq (pc := 5) (tgt := 17) dX0_solvable_5 (by decide) (by omega) (fun c1 => ?_) (fun c1 => ?_)
  · exact K17 v hfr (fun ⟨x, y, _, _, h⟩ => by have := ((hI x y).mpr h).1; omega)
  have hr1 : r = 1 := by omega
  subst hr1
  refine og_aload_0 (pc := 8) dX0_solvable_8 ?_
  refine og_callI (pc := 9) (n := 0) (met_planeSolvable dA dZ ad v k h7v hk hfv) rfl rfl (lw_V q119 q121 qs7 q18 q122) (by decide +kernel) ⟨by decide, by decide⟩ ⟨rfl, rfl⟩ rfl rfl (Nat.le_of_ble_eq_true rfl) dX0_solvable_9 (fun r2 v2 hp2 => ?_)
  obtain ⟨h012, rfl, hr2⟩ := hp2
  refine og_if_eq (pc := 12) (tgt := 17) dX0_solvable_12 (by decide) (by omega) (fun c2 => ?_) (fun c2 => ?_)
  · refine K17 v2 hfr (fun ⟨x, y, hx, hy, h⟩ => ?_)
    have := hr2.mpr ⟨x, y, hx, hy, ((hI x y).mpr h).2⟩
    omega
  · refine og_iconst (pc := 15) dX0_solvable_15 ?_
    have hr21 : r2 = 1 := by omega
    obtain ⟨x, y, -, -, h⟩ := hr2.mp hr21
    obtain ⟨z, hz⟩ := sh_dark hlo ((hI x y).mp ⟨rfl, h⟩)
    exact hret 1 v2 ⟨Or.inr rfl, hfr, iff_of_true rfl ⟨x, y, z, hz⟩⟩ _ _ dX0_solvable_16
end
section
set_option maxRecDepth 100000
/-! the desk's own words -/
def cnd (a b c d q x y z : Int) : Prop := (q = 0 → a * x + b * y + c * z ≤ d) ∧ (q ≠ 0 → a * x + b * y + c * z = d)
def mD (u : DS) (i : Nat) (x y z : Int) : Prop := cnd (u 1 (3 * i)) (u 1 (3 * i + 1)) (u 1 (3 * i + 2)) (u 2 i) (u 3 i) x y z
def sD (u : DS) (h : Nat) (wo x y z : Int) : Prop := ∀ i, i < h → (i : Int) ≠ wo → mD u i x y z
def dB (u : DS) (h : Nat) : Prop := ∀ i, i < h → od_right (u 1 (3 * i)) (u 1 (3 * i + 1)) (u 1 (3 * i + 2)) (u 2 i) ∧ (u 3 i = 0 ∨ u 3 i = 1)
abbrev Bx (x : Int) : Prop := -6 ≤ x ∧ x ≤ 6
def fx (f x : Int) : Prop := (f = 100 → Bx x) ∧ (f ≠ 100 → x = f)
def fxs (u : DS) (x y z : Int) : Prop := fx (u 10 0) x ∧ fx (u 10 1) y ∧ fx (u 10 2) z
def fxB (u : DS) : Prop := ∀ v, v < 3 → u 10 v = 100 ∨ Bx (u 10 v)
/-- held h conditions within bounds -/
def dOK (u : DS) (h : Nat) : Prop := u 0 0 = h ∧ h ≤ 8 ∧ dB u h
theorem mD.cg {u u' : DS} {i : Nat} {x y z : Int} (h1 : u' 1 = u 1) (h2 : u' 2 = u 2) (h3 : u' 3 = u 3) : mD u' i x y z ↔ mD u i x y z := by unfold mD; rw [h1, h2, h3]
theorem sD.cg {u u' : DS} {h : Nat} {wo x y z : Int} (h1 : u' 1 = u 1) (h2 : u' 2 = u 2) (h3 : u' 3 = u 3) : sD u' h wo x y z ↔ sD u h wo x y z := by unfold sD mD; rw [h1, h2, h3]
theorem dOK.cg {u u' : DS} {h : Nat} (h0 : u' 0 = u 0) (h1 : u' 1 = u 1) (h2 : u' 2 = u 2) (h3 : u' 3 = u 3) (H : dOK u h) : dOK u' h := by
  unfold dOK dB
  rw [h0, h1, h2, h3]
  exact H
theorem dOK.fr {ks : List Nat} {u u' : DS} {h : Nat} (hf : od_fr ks u u') (hk : 0 ∉ ks ∧ 1 ∉ ks ∧ 2 ∉ ks ∧ 3 ∉ ks) (H : dOK u h) : dOK u' h := H.cg (hf 0 hk.1) (hf 1 hk.2.1) (hf 2 hk.2.2.1) (hf 3 hk.2.2.2)
theorem sD_s {u : DS} {h : Nat} {wo x y z : Int} : sD u (h + 1) wo x y z ↔ sD u h wo x y z ∧ ((h : Int) ≠ wo → mD u h x y z) := by
  constructor
  · intro H
    exact ⟨fun i hi => H i (by omega), H h (by omega)⟩
  · intro H i hi
    by_cases e : i = h
    · rw [e]; exact H.2
    · exact H.1 i (by omega)
theorem fxs_box {u : DS} {x y z : Int} (hB : fxB u) (h : fxs u x y z) : Bx x ∧ Bx y ∧ Bx z := by
  have one : ∀ (f t : Int), (f = 100 ∨ Bx f) → fx f t → Bx t := by
    intro f t h1 h2
    by_cases c : f = 100
    · exact h2.1 c
    · rw [h2.2 c]
      rcases h1 with h1 | h1
      · exact absurd h1 c
      · exact h1
  exact ⟨one _ _ (hB 0 (by decide)) h.1, one _ _ (hB 1 (by decide)) h.2.1, one _ _ (hB 2 (by decide)) h.2.2⟩
/-! OmegaDesk.put -/
theorem met_put (dA dZ : ClassId) (ad : Nat → Nat) (u : DS) (a b c d : Int) (n : Nat) (h4 : u 4 0 = n) (hn : n < 25) :
    od_MV dA dZ (xc dA dZ ad) yX0_put cX0_put 5 (rmL 0) [.ref (ad 0), .int (iI a), .int (iI b), .int (iI c), .int (iI d)] u (fun u' => u' = putU u n a b c d) := by
  refine od_MV.of (own := RX0) 0 (by decide) rfl (od_cc rfl (od_cc rfl (od_cc rfl (od_cc rfl (od_cc rfl od_c1))))) (Nat.le_of_ble_eq_true rfl) ?_
  intro Γ hret
  show od_G Γ RX0 cX0_put 5 (rmL 0) dA dZ (xc dA dZ ad (u)) [.ref (ad 0), .int (iI a), .int (iI b), .int (iI c), .int (iI d)] 0 []
  refine og_aload_0 (pc := 0) dX0_put_0 ?_
  refine og_xr5 (pc := 1) dX0_put_1 ?_
  refine og_iconst (pc := 4) dX0_put_4 ?_
  refine og_aload_0 (pc := 5) dX0_put_5 ?_
  refine og_xg4 (pc := 6) (z := (n : Int)) dX0_put_6 h4 ?_
  refine og_imul (pc := 9) dX0_put_9 ?_
  refine og_iload_1 (pc := 10) dX0_put_10 ?_
  refine og_xs5 (pc := 11) (3 * n) dX0_put_11 (by omega) (by omega) ?_
  refine og_aload_0 (pc := 12) dX0_put_12 ?_
  refine og_xr5 (pc := 13) dX0_put_13 ?_
  refine og_iconst (pc := 16) dX0_put_16 ?_
  refine og_aload_0 (pc := 17) dX0_put_17 ?_
  refine og_xg4 (pc := 18) (z := (n : Int)) dX0_put_18 (by simp [up2, h4]) ?_
  refine og_imul (pc := 21) dX0_put_21 ?_
  refine og_iconst (pc := 22) dX0_put_22 ?_
  refine og_iadd (pc := 23) dX0_put_23 ?_
  refine og_iload_2 (pc := 24) dX0_put_24 ?_
  refine og_xs5 (pc := 25) (3 * n + 1) dX0_put_25 (by omega) (by omega) ?_
  refine og_aload_0 (pc := 26) dX0_put_26 ?_
  refine og_xr5 (pc := 27) dX0_put_27 ?_
  refine og_iconst (pc := 30) dX0_put_30 ?_
  refine og_aload_0 (pc := 31) dX0_put_31 ?_
  refine og_xg4 (pc := 32) (z := (n : Int)) dX0_put_32 (by simp [up2, h4]) ?_
  refine og_imul (pc := 35) dX0_put_35 ?_
  refine og_iconst (pc := 36) dX0_put_36 ?_
  refine og_iadd (pc := 37) dX0_put_37 ?_
  refine og_iload_3 (pc := 38) dX0_put_38 ?_
  refine og_xs5 (pc := 39) (3 * n + 2) dX0_put_39 (by omega) (by omega) ?_
  refine og_aload_0 (pc := 40) dX0_put_40 ?_
  refine og_xr6 (pc := 41) dX0_put_41 ?_
  refine og_aload_0 (pc := 44) dX0_put_44 ?_
  refine og_xg4 (pc := 45) (z := (n : Int)) dX0_put_45 (by simp [up2, h4]) ?_
  refine og_iload_4 (pc := 48) dX0_put_48 ?_
  refine og_xs6 (pc := 50) (n) dX0_put_50 (by omega) (by omega) ?_
  refine og_aload_0 (pc := 51) dX0_put_51 ?_
  refine og_dupr (pc := 52) dX0_put_52 ?_
  refine og_xg4 (pc := 53) (z := (n : Int)) dX0_put_53 (by simp [up2, h4]) ?_
  refine og_iconst (pc := 56) dX0_put_56 ?_
  refine og_iadd (pc := 57) dX0_put_57 ?_
  refine og_xp4 (pc := 58) dX0_put_58 ?_
  exact hret (putU u n a b c d) rfl _ _ dX0_put_61
def collectQ (u : DS) (h : Nat) (wo : Int) (u' : DS) : Prop := od_fr [4, 5, 6] u u' ∧ ∃ n : Nat, u' 4 0 = n ∧ n ≤ 22 ∧ rB u' n ∧ (∀ x y z, rOK u' n x y z ↔ sD u h wo x y z ∧ fxs u x y z) ∧ ∃ q, q < n ∧ u' 5 (3 * q + 2) < 0
/-! OmegaDesk.collect -/
set_option maxHeartbeats 4000000 in
theorem met_collect (dA dZ : ClassId) (ad : Nat → Nat) (u : DS) (h : Nat) (wo : Int) (hok : dOK u h) (h11 : u 11 0 = wo) (hwo : -1 ≤ wo ∧ wo ≤ 8) (hfx : fxB u) :
    od_MV dA dZ (xc dA dZ ad) yX0_collect cX0_collect 5 (rmL 1) [.ref (ad 0)] u (collectQ u h wo) := by
  refine od_MV.of (own := RX0) 4 (by decide) rfl (od_cc rfl od_c1) (Nat.le_of_ble_eq_true rfl) ?_
  intro Γ hret
  show od_G Γ RX0 cX0_collect 5 (rmL 1) dA dZ (xc dA dZ ad (u)) [.ref (ad 0), .null, .null, .null, .null] 0 []
  obtain ⟨h0, h8, hdB⟩ := hok
  -- the end
  have K3 : ∀ (w : DS) (n : Nat), od_fr [4, 5, 6] u w → w 4 0 = n → n ≤ 22 → rB w n → (∀ x y z, rOK w n x y z ↔ (((sD u h wo x y z ∧ fx (u 10 0) x) ∧ fx (u 10 1) y) ∧ fx (u 10 2) z)) → (∃ q, q < n ∧ w 5 (3 * q + 2) < 0) → od_G Γ RX0 cX0_collect 5 (rmL 1) dA dZ (xc dA dZ ad (w)) [.ref (ad 0), .int (iI 3), .null, .null, .null] 104 [] := by
    intro w n hfr h4 hn hB hI hlo
    refine og_iload_1 (pc := 104) dX0_collect_104 ?_
    refine og_iconst (pc := 105) dX0_collect_105 ?_
    refine og_icmp_ge (pc := 106) (tgt := 230) dX0_collect_106 (by decide) (by omega) (by omega) (fun c => ?_) (fun c => ?_)
    · refine hret w ⟨hfr, n, h4, hn, hB, fun x y z => ?_, hlo⟩ _ _ dX0_collect_230
      rw [hI]
      unfold fxs
      constructor
      · intro H
        exact ⟨H.1.1.1, H.1.1.2, H.1.2, H.2⟩
      · intro H
        exact ⟨⟨⟨H.1, H.2.1⟩, H.2.2.1⟩, H.2.2.2⟩
    · exact absurd c (by omega)
  have S0 : ∀ (w : DS) (n : Nat) (P : Int → Int → Int → Prop), od_fr [4, 5, 6] u w → w 4 0 = n → n ≤ 16 + 2 * 0 → rB w n → (∀ x y z, rOK w n x y z ↔ P x y z) → (∀ (w' : DS) (n' : Nat), od_fr [4, 5, 6] u w' → w' 4 0 = n' → n' ≤ 16 + 2 * 1 → rB w' n' → (∀ x y z, rOK w' n' x y z ↔ (P x y z ∧ fx (u 10 0) x)) → (0 = 2 → ∃ q, q < n' ∧ w' 5 (3 * q + 2) < 0) → od_G Γ RX0 cX0_collect 5 (rmL 1) dA dZ (xc dA dZ ad (w')) [.ref (ad 0), .int (iI 1), .null, .null, .null] 104 []) → od_G Γ RX0 cX0_collect 5 (rmL 1) dA dZ (xc dA dZ ad (w)) [.ref (ad 0), .int (iI 0), .null, .null, .null] 104 [] := by
    intro w n P hfr h4 hn hB hI kk
    have hw10 : w 10 0 = u 10 0 := by rw [hfr 10 (by decide)]
    have hfb := hfx 0 (by decide)
    have K155 : ∀ hi lo : Int, -6 ≤ lo → lo ≤ 6 → -6 ≤ hi → hi ≤ 6 → (∀ t, fx (u 10 0) t ↔ (t ≤ hi ∧ lo ≤ t)) → od_G Γ RX0 cX0_collect 5 (rmL 1) dA dZ (xc dA dZ ad (w)) [.ref (ad 0), .int (iI 0), .int (iI hi), .int (iI lo), .null] 155 [] := by
      intro hi lo a1 a2 a3 a4 hlh
      have K186 : od_G Γ RX0 cX0_collect 5 (rmL 1) dA dZ (xc dA dZ ad (w)) [.ref (ad 0), .int (iI 0), .int (iI hi), .int (iI lo), .null] 186 [.int (iI hi), .int (iI 0), .int (iI 0), .int (iI 1), .ref (ad 0)] := by
        refine og_callV (pc := 186) (n := 4) (met_put dA dZ ad w 1 0 0 hi n h4 (by omega)) rfl rfl (lw_V q90 q92 qs2 q18 q93) (by decide +kernel) ⟨by decide, by decide⟩ ⟨rfl, rfl⟩ rfl rfl (Nat.le_of_ble_eq_true rfl) dX0_collect_186 (fun w1 hw1 => ?_)
        subst hw1
        have K221 : od_G Γ RX0 cX0_collect 5 (rmL 1) dA dZ (xc dA dZ ad (putU w n 1 0 0 hi)) [.ref (ad 0), .int (iI 0), .int (iI hi), .int (iI lo), .null] 221 [.int (iI (-lo)), .int (iI (-0)), .int (iI (-0)), .int (iI (-1)), .ref (ad 0)] := by
          refine og_callV (pc := 221) (n := 4) (met_put dA dZ ad (putU w n 1 0 0 hi) (-1) (-0) (-0) (-lo) (n + 1) putU_4 (by omega)) rfl rfl (lw_V q90 q92 qs2 q18 q93) (by decide +kernel) ⟨by decide, by decide⟩ ⟨rfl, rfl⟩ rfl rfl (Nat.le_of_ble_eq_true rfl) dX0_collect_221 (fun w2 hw2 => ?_)
          subst hw2
          refine og_forget_2 ?_
          refine og_forget_3 ?_
          refine og_iinc_1 (pc := 224) dX0_collect_224 (by decide) ?_
          refine og_goto (pc := 227) (tgt := 104) dX0_collect_227 (by decide) ?_
          refine kk _ (n + 2) ((hfr.tr putU_fr).tr putU_fr) putU_4 (by omega) (putU_B (putU_B hB (by omega) (by omega) (by omega) (by omega)) (by omega) (by omega) (by omega) (by omega)) (fun x y z => ?_) (fun hv => ⟨n + 1, by omega, by rw [putU_52]; omega⟩)
          rw [putU_OK, putU_OK, hI, hlh, and_assoc]
          refine and_congr_right fun _ => ?_
          omega
        refine og_aload_0 (pc := 189) dX0_collect_189 ?_
        refine og_iload_1 (pc := 190) dX0_collect_190 ?_
        refine og_if_ne (pc := 191) (tgt := 198) dX0_collect_191 (by decide) (by omega) (fun c1 => ?_) (fun c1 => ?_)
        · exact absurd rfl c1
        refine og_iconst (pc := 194) dX0_collect_194 ?_
        refine og_goto (pc := 195) (tgt := 199) dX0_collect_195 (by decide) ?_
        refine og_iload_1 (pc := 199) dX0_collect_199 ?_
        refine og_iconst (pc := 200) dX0_collect_200 ?_
        refine og_icmp_ne (pc := 201) (tgt := 208) dX0_collect_201 (by decide) (by omega) (by omega) (fun c2 => ?_) (fun c2 => ?_)
        rotate_left
        · exact absurd c2 (by omega)
        refine og_iconst (pc := 208) dX0_collect_208 ?_
        refine og_iload_1 (pc := 209) dX0_collect_209 ?_
        refine og_iconst (pc := 210) dX0_collect_210 ?_
        refine og_icmp_ne (pc := 211) (tgt := 218) dX0_collect_211 (by decide) (by omega) (by omega) (fun c3 => ?_) (fun c3 => ?_)
        rotate_left
        · exact absurd c3 (by omega)
        refine og_iconst (pc := 218) dX0_collect_218 ?_
        refine og_iload_3 (pc := 219) dX0_collect_219 ?_
        refine og_ineg (pc := 220) dX0_collect_220 ?_
        exact K221
      refine og_aload_0 (pc := 155) dX0_collect_155 ?_
      refine og_iload_1 (pc := 156) dX0_collect_156 ?_
      refine og_if_ne (pc := 157) (tgt := 164) dX0_collect_157 (by decide) (by omega) (fun c1 => ?_) (fun c1 => ?_)
      · exact absurd rfl c1
      refine og_iconst (pc := 160) dX0_collect_160 ?_
      refine og_goto (pc := 161) (tgt := 165) dX0_collect_161 (by decide) ?_
      refine og_iload_1 (pc := 165) dX0_collect_165 ?_
      refine og_iconst (pc := 166) dX0_collect_166 ?_
      refine og_icmp_ne (pc := 167) (tgt := 174) dX0_collect_167 (by decide) (by omega) (by omega) (fun c2 => ?_) (fun c2 => ?_)
      rotate_left
      · exact absurd c2 (by omega)
      refine og_iconst (pc := 174) dX0_collect_174 ?_
      refine og_iload_1 (pc := 175) dX0_collect_175 ?_
      refine og_iconst (pc := 176) dX0_collect_176 ?_
      refine og_icmp_ne (pc := 177) (tgt := 184) dX0_collect_177 (by decide) (by omega) (by omega) (fun c3 => ?_) (fun c3 => ?_)
      rotate_left
      · exact absurd c3 (by omega)
      refine og_iconst (pc := 184) dX0_collect_184 ?_
      refine og_iload_2 (pc := 185) dX0_collect_185 ?_
      exact K186
    by_cases e : u 10 0 = 100
    · have hlh : ∀ t, fx (u 10 0) t ↔ (t ≤ 6 ∧ -6 ≤ t) := by
        intro t
        constructor
        · intro H
          have := H.1 e
          omega
        · intro H
          exact ⟨fun _ => ⟨H.2, H.1⟩, fun c => absurd e c⟩
      refine og_iload_1 (pc := 104) dX0_collect_104 ?_
      refine og_iconst (pc := 105) dX0_collect_105 ?_
      refine og_icmp_ge (pc := 106) (tgt := 230) dX0_collect_106 (by decide) (by omega) (by omega) (fun c => ?_) (fun c => ?_)
      · exact absurd c (by omega)
      refine og_aload_0 (pc := 109) dX0_collect_109 ?_
      refine og_xr10 (pc := 110) dX0_collect_110 ?_
      refine og_iload_1 (pc := 113) dX0_collect_113 ?_
      refine og_xl10 (pc := 114) (z := (100 : Int)) (0) dX0_collect_114 (by omega) (by omega) (by rw [hw10]; exact e) ?_
      refine og_bipush (pc := 115) dX0_collect_115 (by decide +kernel) ?_
      refine og_icmp_ne (pc := 117) (tgt := 125) dX0_collect_117 (by decide) (by omega) (by omega) (fun c2 => ?_) (fun c2 => ?_)
      · exact absurd rfl c2
      refine og_bipush (pc := 120) dX0_collect_120 (by decide +kernel) ?_
      refine og_goto (pc := 122) (tgt := 131) dX0_collect_122 (by decide) ?_
      refine og_istore_2 (pc := 131) dX0_collect_131 (by decide) ?_
      refine og_aload_0 (pc := 132) dX0_collect_132 ?_
      refine og_xr10 (pc := 133) dX0_collect_133 ?_
      refine og_iload_1 (pc := 136) dX0_collect_136 ?_
      refine og_xl10 (pc := 137) (z := (100 : Int)) (0) dX0_collect_137 (by omega) (by omega) (by rw [hw10]; exact e) ?_
      refine og_bipush (pc := 138) dX0_collect_138 (by decide +kernel) ?_
      refine og_icmp_ne (pc := 140) (tgt := 148) dX0_collect_140 (by decide) (by omega) (by omega) (fun c3 => ?_) (fun c3 => ?_)
      · exact absurd rfl c3
      refine og_bipush (pc := 143) dX0_collect_143 (by decide +kernel) ?_
      refine og_goto (pc := 145) (tgt := 154) dX0_collect_145 (by decide) ?_
      refine og_istore_3 (pc := 154) dX0_collect_154 (by decide) ?_
      exact K155 6 (-6) (by omega) (by omega) (by omega) (by omega) hlh
    · have hfb2 : Bx (u 10 0) := by
        rcases hfb with H | H
        · exact absurd H e
        · exact H
      have hlh : ∀ t, fx (u 10 0) t ↔ (t ≤ u 10 0 ∧ u 10 0 ≤ t) := by
        intro t
        constructor
        · intro H
          have := H.2 e
          omega
        · intro H
          exact ⟨fun c => absurd c e, fun _ => by omega⟩
      refine og_iload_1 (pc := 104) dX0_collect_104 ?_
      refine og_iconst (pc := 105) dX0_collect_105 ?_
      refine og_icmp_ge (pc := 106) (tgt := 230) dX0_collect_106 (by decide) (by omega) (by omega) (fun c => ?_) (fun c => ?_)
      · exact absurd c (by omega)
      refine og_aload_0 (pc := 109) dX0_collect_109 ?_
      refine og_xr10 (pc := 110) dX0_collect_110 ?_
      refine og_iload_1 (pc := 113) dX0_collect_113 ?_
      refine og_xl10 (pc := 114) (z := u 10 0) (0) dX0_collect_114 (by omega) (by omega) hw10 ?_
      refine og_bipush (pc := 115) dX0_collect_115 (by decide +kernel) ?_
      refine og_icmp_ne (pc := 117) (tgt := 125) dX0_collect_117 (by decide) (by omega) (by omega) (fun c2 => ?_) (fun c2 => ?_)
      · refine og_aload_0 (pc := 125) dX0_collect_125 ?_
        refine og_xr10 (pc := 126) dX0_collect_126 ?_
        refine og_iload_1 (pc := 129) dX0_collect_129 ?_
        refine og_xl10 (pc := 130) (z := u 10 0) (0) dX0_collect_130 (by omega) (by omega) hw10 ?_
        refine og_istore_2 (pc := 131) dX0_collect_131 (by decide) ?_
        refine og_aload_0 (pc := 132) dX0_collect_132 ?_
        refine og_xr10 (pc := 133) dX0_collect_133 ?_
        refine og_iload_1 (pc := 136) dX0_collect_136 ?_
        refine og_xl10 (pc := 137) (z := u 10 0) (0) dX0_collect_137 (by omega) (by omega) hw10 ?_
        refine og_bipush (pc := 138) dX0_collect_138 (by decide +kernel) ?_
        refine og_icmp_ne (pc := 140) (tgt := 148) dX0_collect_140 (by decide) (by omega) (by omega) (fun c3 => ?_) (fun c3 => ?_)
        · refine og_aload_0 (pc := 148) dX0_collect_148 ?_
          refine og_xr10 (pc := 149) dX0_collect_149 ?_
          refine og_iload_1 (pc := 152) dX0_collect_152 ?_
          refine og_xl10 (pc := 153) (z := u 10 0) (0) dX0_collect_153 (by omega) (by omega) hw10 ?_
          refine og_istore_3 (pc := 154) dX0_collect_154 (by decide) ?_
          exact K155 (u 10 0) (u 10 0) (by omega) (by omega) (by omega) (by omega) hlh
        · exact absurd c3 e
      · exact absurd c2 e
  have S1 : ∀ (w : DS) (n : Nat) (P : Int → Int → Int → Prop), od_fr [4, 5, 6] u w → w 4 0 = n → n ≤ 16 + 2 * 1 → rB w n → (∀ x y z, rOK w n x y z ↔ P x y z) → (∀ (w' : DS) (n' : Nat), od_fr [4, 5, 6] u w' → w' 4 0 = n' → n' ≤ 16 + 2 * 2 → rB w' n' → (∀ x y z, rOK w' n' x y z ↔ (P x y z ∧ fx (u 10 1) y)) → (1 = 2 → ∃ q, q < n' ∧ w' 5 (3 * q + 2) < 0) → od_G Γ RX0 cX0_collect 5 (rmL 1) dA dZ (xc dA dZ ad (w')) [.ref (ad 0), .int (iI 2), .null, .null, .null] 104 []) → od_G Γ RX0 cX0_collect 5 (rmL 1) dA dZ (xc dA dZ ad (w)) [.ref (ad 0), .int (iI 1), .null, .null, .null] 104 [] := by
    intro w n P hfr h4 hn hB hI kk
    have hw10 : w 10 1 = u 10 1 := by rw [hfr 10 (by decide)]
    have hfb := hfx 1 (by decide)
    have K155 : ∀ hi lo : Int, -6 ≤ lo → lo ≤ 6 → -6 ≤ hi → hi ≤ 6 → (∀ t, fx (u 10 1) t ↔ (t ≤ hi ∧ lo ≤ t)) → od_G Γ RX0 cX0_collect 5 (rmL 1) dA dZ (xc dA dZ ad (w)) [.ref (ad 0), .int (iI 1), .int (iI hi), .int (iI lo), .null] 155 [] := by
      intro hi lo a1 a2 a3 a4 hlh
      have K186 : od_G Γ RX0 cX0_collect 5 (rmL 1) dA dZ (xc dA dZ ad (w)) [.ref (ad 0), .int (iI 1), .int (iI hi), .int (iI lo), .null] 186 [.int (iI hi), .int (iI 0), .int (iI 1), .int (iI 0), .ref (ad 0)] := by
        refine og_callV (pc := 186) (n := 4) (met_put dA dZ ad w 0 1 0 hi n h4 (by omega)) rfl rfl (lw_V q90 q92 qs2 q18 q93) (by decide +kernel) ⟨by decide, by decide⟩ ⟨rfl, rfl⟩ rfl rfl (Nat.le_of_ble_eq_true rfl) dX0_collect_186 (fun w1 hw1 => ?_)
        subst hw1
        have K221 : od_G Γ RX0 cX0_collect 5 (rmL 1) dA dZ (xc dA dZ ad (putU w n 0 1 0 hi)) [.ref (ad 0), .int (iI 1), .int (iI hi), .int (iI lo), .null] 221 [.int (iI (-lo)), .int (iI (-0)), .int (iI (-1)), .int (iI (-0)), .ref (ad 0)] := by
          refine og_callV (pc := 221) (n := 4) (met_put dA dZ ad (putU w n 0 1 0 hi) (-0) (-1) (-0) (-lo) (n + 1) putU_4 (by omega)) rfl rfl (lw_V q90 q92 qs2 q18 q93) (by decide +kernel) ⟨by decide, by decide⟩ ⟨rfl, rfl⟩ rfl rfl (Nat.le_of_ble_eq_true rfl) dX0_collect_221 (fun w2 hw2 => ?_)
          subst hw2
          refine og_forget_2 ?_
          refine og_forget_3 ?_
          refine og_iinc_1 (pc := 224) dX0_collect_224 (by decide) ?_
          refine og_goto (pc := 227) (tgt := 104) dX0_collect_227 (by decide) ?_
          refine kk _ (n + 2) ((hfr.tr putU_fr).tr putU_fr) putU_4 (by omega) (putU_B (putU_B hB (by omega) (by omega) (by omega) (by omega)) (by omega) (by omega) (by omega) (by omega)) (fun x y z => ?_) (fun hv => ⟨n + 1, by omega, by rw [putU_52]; omega⟩)
          rw [putU_OK, putU_OK, hI, hlh, and_assoc]
          refine and_congr_right fun _ => ?_
          omega
        refine og_aload_0 (pc := 189) dX0_collect_189 ?_
        refine og_iload_1 (pc := 190) dX0_collect_190 ?_
        refine og_if_ne (pc := 191) (tgt := 198) dX0_collect_191 (by decide) (by omega) (fun c1 => ?_) (fun c1 => ?_)
        rotate_left
        · exact absurd c1 (by omega)
        refine og_iconst (pc := 198) dX0_collect_198 ?_
        refine og_iload_1 (pc := 199) dX0_collect_199 ?_
        refine og_iconst (pc := 200) dX0_collect_200 ?_
        refine og_icmp_ne (pc := 201) (tgt := 208) dX0_collect_201 (by decide) (by omega) (by omega) (fun c2 => ?_) (fun c2 => ?_)
        · exact absurd rfl c2
        refine og_iconst (pc := 204) dX0_collect_204 ?_
        refine og_goto (pc := 205) (tgt := 209) dX0_collect_205 (by decide) ?_
        refine og_iload_1 (pc := 209) dX0_collect_209 ?_
        refine og_iconst (pc := 210) dX0_collect_210 ?_
        refine og_icmp_ne (pc := 211) (tgt := 218) dX0_collect_211 (by decide) (by omega) (by omega) (fun c3 => ?_) (fun c3 => ?_)
        rotate_left
        · exact absurd c3 (by omega)
        refine og_iconst (pc := 218) dX0_collect_218 ?_
        refine og_iload_3 (pc := 219) dX0_collect_219 ?_
        refine og_ineg (pc := 220) dX0_collect_220 ?_
        exact K221
      refine og_aload_0 (pc := 155) dX0_collect_155 ?_
      refine og_iload_1 (pc := 156) dX0_collect_156 ?_
      refine og_if_ne (pc := 157) (tgt := 164) dX0_collect_157 (by decide) (by omega) (fun c1 => ?_) (fun c1 => ?_)
      rotate_left
      · exact absurd c1 (by omega)
      refine og_iconst (pc := 164) dX0_collect_164 ?_
      refine og_iload_1 (pc := 165) dX0_collect_165 ?_
      refine og_iconst (pc := 166) dX0_collect_166 ?_
      refine og_icmp_ne (pc := 167) (tgt := 174) dX0_collect_167 (by decide) (by omega) (by omega) (fun c2 => ?_) (fun c2 => ?_)
      · exact absurd rfl c2
      refine og_iconst (pc := 170) dX0_collect_170 ?_
      refine og_goto (pc := 171) (tgt := 175) dX0_collect_171 (by decide) ?_
      refine og_iload_1 (pc := 175) dX0_collect_175 ?_
      refine og_iconst (pc := 176) dX0_collect_176 ?_
      refine og_icmp_ne (pc := 177) (tgt := 184) dX0_collect_177 (by decide) (by omega) (by omega) (fun c3 => ?_) (fun c3 => ?_)
      rotate_left
      · exact absurd c3 (by omega)
      refine og_iconst (pc := 184) dX0_collect_184 ?_
      refine og_iload_2 (pc := 185) dX0_collect_185 ?_
      exact K186
    by_cases e : u 10 1 = 100
    · have hlh : ∀ t, fx (u 10 1) t ↔ (t ≤ 6 ∧ -6 ≤ t) := by
        intro t
        constructor
        · intro H
          have := H.1 e
          omega
        · intro H
          exact ⟨fun _ => ⟨H.2, H.1⟩, fun c => absurd e c⟩
      refine og_iload_1 (pc := 104) dX0_collect_104 ?_
      refine og_iconst (pc := 105) dX0_collect_105 ?_
      refine og_icmp_ge (pc := 106) (tgt := 230) dX0_collect_106 (by decide) (by omega) (by omega) (fun c => ?_) (fun c => ?_)
      · exact absurd c (by omega)
      refine og_aload_0 (pc := 109) dX0_collect_109 ?_
      refine og_xr10 (pc := 110) dX0_collect_110 ?_
      refine og_iload_1 (pc := 113) dX0_collect_113 ?_
      refine og_xl10 (pc := 114) (z := (100 : Int)) (1) dX0_collect_114 (by omega) (by omega) (by rw [hw10]; exact e) ?_
      refine og_bipush (pc := 115) dX0_collect_115 (by decide +kernel) ?_
      refine og_icmp_ne (pc := 117) (tgt := 125) dX0_collect_117 (by decide) (by omega) (by omega) (fun c2 => ?_) (fun c2 => ?_)
      · exact absurd rfl c2
      refine og_bipush (pc := 120) dX0_collect_120 (by decide +kernel) ?_
      refine og_goto (pc := 122) (tgt := 131) dX0_collect_122 (by decide) ?_
      refine og_istore_2 (pc := 131) dX0_collect_131 (by decide) ?_
      refine og_aload_0 (pc := 132) dX0_collect_132 ?_
      refine og_xr10 (pc := 133) dX0_collect_133 ?_
      refine og_iload_1 (pc := 136) dX0_collect_136 ?_
      refine og_xl10 (pc := 137) (z := (100 : Int)) (1) dX0_collect_137 (by omega) (by omega) (by rw [hw10]; exact e) ?_
      refine og_bipush (pc := 138) dX0_collect_138 (by decide +kernel) ?_
      refine og_icmp_ne (pc := 140) (tgt := 148) dX0_collect_140 (by decide) (by omega) (by omega) (fun c3 => ?_) (fun c3 => ?_)
      · exact absurd rfl c3
      refine og_bipush (pc := 143) dX0_collect_143 (by decide +kernel) ?_
      refine og_goto (pc := 145) (tgt := 154) dX0_collect_145 (by decide) ?_
      refine og_istore_3 (pc := 154) dX0_collect_154 (by decide) ?_
      exact K155 6 (-6) (by omega) (by omega) (by omega) (by omega) hlh
    · have hfb2 : Bx (u 10 1) := by
        rcases hfb with H | H
        · exact absurd H e
        · exact H
      have hlh : ∀ t, fx (u 10 1) t ↔ (t ≤ u 10 1 ∧ u 10 1 ≤ t) := by
        intro t
        constructor
        · intro H
          have := H.2 e
          omega
        · intro H
          exact ⟨fun c => absurd c e, fun _ => by omega⟩
      refine og_iload_1 (pc := 104) dX0_collect_104 ?_
      refine og_iconst (pc := 105) dX0_collect_105 ?_
      refine og_icmp_ge (pc := 106) (tgt := 230) dX0_collect_106 (by decide) (by omega) (by omega) (fun c => ?_) (fun c => ?_)
      · exact absurd c (by omega)
      refine og_aload_0 (pc := 109) dX0_collect_109 ?_
      refine og_xr10 (pc := 110) dX0_collect_110 ?_
      refine og_iload_1 (pc := 113) dX0_collect_113 ?_
      refine og_xl10 (pc := 114) (z := u 10 1) (1) dX0_collect_114 (by omega) (by omega) hw10 ?_
      refine og_bipush (pc := 115) dX0_collect_115 (by decide +kernel) ?_
      refine og_icmp_ne (pc := 117) (tgt := 125) dX0_collect_117 (by decide) (by omega) (by omega) (fun c2 => ?_) (fun c2 => ?_)
      · refine og_aload_0 (pc := 125) dX0_collect_125 ?_
        refine og_xr10 (pc := 126) dX0_collect_126 ?_
        refine og_iload_1 (pc := 129) dX0_collect_129 ?_
        refine og_xl10 (pc := 130) (z := u 10 1) (1) dX0_collect_130 (by omega) (by omega) hw10 ?_
        refine og_istore_2 (pc := 131) dX0_collect_131 (by decide) ?_
        refine og_aload_0 (pc := 132) dX0_collect_132 ?_
        refine og_xr10 (pc := 133) dX0_collect_133 ?_
        refine og_iload_1 (pc := 136) dX0_collect_136 ?_
        refine og_xl10 (pc := 137) (z := u 10 1) (1) dX0_collect_137 (by omega) (by omega) hw10 ?_
        refine og_bipush (pc := 138) dX0_collect_138 (by decide +kernel) ?_
        refine og_icmp_ne (pc := 140) (tgt := 148) dX0_collect_140 (by decide) (by omega) (by omega) (fun c3 => ?_) (fun c3 => ?_)
        · refine og_aload_0 (pc := 148) dX0_collect_148 ?_
          refine og_xr10 (pc := 149) dX0_collect_149 ?_
          refine og_iload_1 (pc := 152) dX0_collect_152 ?_
          refine og_xl10 (pc := 153) (z := u 10 1) (1) dX0_collect_153 (by omega) (by omega) hw10 ?_
          refine og_istore_3 (pc := 154) dX0_collect_154 (by decide) ?_
          exact K155 (u 10 1) (u 10 1) (by omega) (by omega) (by omega) (by omega) hlh
        · exact absurd c3 e
      · exact absurd c2 e
  have S2 : ∀ (w : DS) (n : Nat) (P : Int → Int → Int → Prop), od_fr [4, 5, 6] u w → w 4 0 = n → n ≤ 16 + 2 * 2 → rB w n → (∀ x y z, rOK w n x y z ↔ P x y z) → (∀ (w' : DS) (n' : Nat), od_fr [4, 5, 6] u w' → w' 4 0 = n' → n' ≤ 16 + 2 * 3 → rB w' n' → (∀ x y z, rOK w' n' x y z ↔ (P x y z ∧ fx (u 10 2) z)) → (2 = 2 → ∃ q, q < n' ∧ w' 5 (3 * q + 2) < 0) → od_G Γ RX0 cX0_collect 5 (rmL 1) dA dZ (xc dA dZ ad (w')) [.ref (ad 0), .int (iI 3), .null, .null, .null] 104 []) → od_G Γ RX0 cX0_collect 5 (rmL 1) dA dZ (xc dA dZ ad (w)) [.ref (ad 0), .int (iI 2), .null, .null, .null] 104 [] := by
    intro w n P hfr h4 hn hB hI kk
    have hw10 : w 10 2 = u 10 2 := by rw [hfr 10 (by decide)]
    have hfb := hfx 2 (by decide)
    have K155 : ∀ hi lo : Int, -6 ≤ lo → lo ≤ 6 → -6 ≤ hi → hi ≤ 6 → (∀ t, fx (u 10 2) t ↔ (t ≤ hi ∧ lo ≤ t)) → od_G Γ RX0 cX0_collect 5 (rmL 1) dA dZ (xc dA dZ ad (w)) [.ref (ad 0), .int (iI 2), .int (iI hi), .int (iI lo), .null] 155 [] := by
      intro hi lo a1 a2 a3 a4 hlh
      have K186 : od_G Γ RX0 cX0_collect 5 (rmL 1) dA dZ (xc dA dZ ad (w)) [.ref (ad 0), .int (iI 2), .int (iI hi), .int (iI lo), .null] 186 [.int (iI hi), .int (iI 1), .int (iI 0), .int (iI 0), .ref (ad 0)] := by
        refine og_callV (pc := 186) (n := 4) (met_put dA dZ ad w 0 0 1 hi n h4 (by omega)) rfl rfl (lw_V q90 q92 qs2 q18 q93) (by decide +kernel) ⟨by decide, by decide⟩ ⟨rfl, rfl⟩ rfl rfl (Nat.le_of_ble_eq_true rfl) dX0_collect_186 (fun w1 hw1 => ?_)
        subst hw1
        have K221 : od_G Γ RX0 cX0_collect 5 (rmL 1) dA dZ (xc dA dZ ad (putU w n 0 0 1 hi)) [.ref (ad 0), .int (iI 2), .int (iI hi), .int (iI lo), .null] 221 [.int (iI (-lo)), .int (iI (-1)), .int (iI (-0)), .int (iI (-0)), .ref (ad 0)] := by
          refine og_callV (pc := 221) (n := 4) (met_put dA dZ ad (putU w n 0 0 1 hi) (-0) (-0) (-1) (-lo) (n + 1) putU_4 (by omega)) rfl rfl (lw_V q90 q92 qs2 q18 q93) (by decide +kernel) ⟨by decide, by decide⟩ ⟨rfl, rfl⟩ rfl rfl (Nat.le_of_ble_eq_true rfl) dX0_collect_221 (fun w2 hw2 => ?_)
          subst hw2
          refine og_forget_2 ?_
          refine og_forget_3 ?_
          refine og_iinc_1 (pc := 224) dX0_collect_224 (by decide) ?_
          refine og_goto (pc := 227) (tgt := 104) dX0_collect_227 (by decide) ?_
          refine kk _ (n + 2) ((hfr.tr putU_fr).tr putU_fr) putU_4 (by omega) (putU_B (putU_B hB (by omega) (by omega) (by omega) (by omega)) (by omega) (by omega) (by omega) (by omega)) (fun x y z => ?_) (fun hv => ⟨n + 1, by omega, by rw [putU_52]; omega⟩)
          rw [putU_OK, putU_OK, hI, hlh, and_assoc]
          refine and_congr_right fun _ => ?_
          omega
        refine og_aload_0 (pc := 189) dX0_collect_189 ?_
        refine og_iload_1 (pc := 190) dX0_collect_190 ?_
        refine og_if_ne (pc := 191) (tgt := 198) dX0_collect_191 (by decide) (by omega) (fun c1 => ?_) (fun c1 => ?_)
        rotate_left
        · exact absurd c1 (by omega)
        refine og_iconst (pc := 198) dX0_collect_198 ?_
        refine og_iload_1 (pc := 199) dX0_collect_199 ?_
        refine og_iconst (pc := 200) dX0_collect_200 ?_
        refine og_icmp_ne (pc := 201) (tgt := 208) dX0_collect_201 (by decide) (by omega) (by omega) (fun c2 => ?_) (fun c2 => ?_)
        rotate_left
        · exact absurd c2 (by omega)
        refine og_iconst (pc := 208) dX0_collect_208 ?_
        refine og_iload_1 (pc := 209) dX0_collect_209 ?_
        refine og_iconst (pc := 210) dX0_collect_210 ?_
        refine og_icmp_ne (pc := 211) (tgt := 218) dX0_collect_211 (by decide) (by omega) (by omega) (fun c3 => ?_) (fun c3 => ?_)
        · exact absurd rfl c3
        refine og_iconst (pc := 214) dX0_collect_214 ?_
        refine og_goto (pc := 215) (tgt := 219) dX0_collect_215 (by decide) ?_
        refine og_iload_3 (pc := 219) dX0_collect_219 ?_
        refine og_ineg (pc := 220) dX0_collect_220 ?_
        exact K221
      refine og_aload_0 (pc := 155) dX0_collect_155 ?_
      refine og_iload_1 (pc := 156) dX0_collect_156 ?_
      refine og_if_ne (pc := 157) (tgt := 164) dX0_collect_157 (by decide) (by omega) (fun c1 => ?_) (fun c1 => ?_)
      rotate_left
      · exact absurd c1 (by omega)
      refine og_iconst (pc := 164) dX0_collect_164 ?_
      refine og_iload_1 (pc := 165) dX0_collect_165 ?_
      refine og_iconst (pc := 166) dX0_collect_166 ?_
      refine og_icmp_ne (pc := 167) (tgt := 174) dX0_collect_167 (by decide) (by omega) (by omega) (fun c2 => ?_) (fun c2 => ?_)
      rotate_left
      · exact absurd c2 (by omega)
      refine og_iconst (pc := 174) dX0_collect_174 ?_
      refine og_iload_1 (pc := 175) dX0_collect_175 ?_
      refine og_iconst (pc := 176) dX0_collect_176 ?_
      refine og_icmp_ne (pc := 177) (tgt := 184) dX0_collect_177 (by decide) (by omega) (by omega) (fun c3 => ?_) (fun c3 => ?_)
      · exact absurd rfl c3
      refine og_iconst (pc := 180) dX0_collect_180 ?_
      refine og_goto (pc := 181) (tgt := 185) dX0_collect_181 (by decide) ?_
      refine og_iload_2 (pc := 185) dX0_collect_185 ?_
      exact K186
    by_cases e : u 10 2 = 100
    · have hlh : ∀ t, fx (u 10 2) t ↔ (t ≤ 6 ∧ -6 ≤ t) := by
        intro t
        constructor
        · intro H
          have := H.1 e
          omega
        · intro H
          exact ⟨fun _ => ⟨H.2, H.1⟩, fun c => absurd e c⟩
      refine og_iload_1 (pc := 104) dX0_collect_104 ?_
      refine og_iconst (pc := 105) dX0_collect_105 ?_
      refine og_icmp_ge (pc := 106) (tgt := 230) dX0_collect_106 (by decide) (by omega) (by omega) (fun c => ?_) (fun c => ?_)
      · exact absurd c (by omega)
      refine og_aload_0 (pc := 109) dX0_collect_109 ?_
      refine og_xr10 (pc := 110) dX0_collect_110 ?_
      refine og_iload_1 (pc := 113) dX0_collect_113 ?_
      refine og_xl10 (pc := 114) (z := (100 : Int)) (2) dX0_collect_114 (by omega) (by omega) (by rw [hw10]; exact e) ?_
      refine og_bipush (pc := 115) dX0_collect_115 (by decide +kernel) ?_
      refine og_icmp_ne (pc := 117) (tgt := 125) dX0_collect_117 (by decide) (by omega) (by omega) (fun c2 => ?_) (fun c2 => ?_)
      · exact absurd rfl c2
      refine og_bipush (pc := 120) dX0_collect_120 (by decide +kernel) ?_
      refine og_goto (pc := 122) (tgt := 131) dX0_collect_122 (by decide) ?_
      refine og_istore_2 (pc := 131) dX0_collect_131 (by decide) ?_
      refine og_aload_0 (pc := 132) dX0_collect_132 ?_
      refine og_xr10 (pc := 133) dX0_collect_133 ?_
      refine og_iload_1 (pc := 136) dX0_collect_136 ?_
      refine og_xl10 (pc := 137) (z := (100 : Int)) (2) dX0_collect_137 (by omega) (by omega) (by rw [hw10]; exact e) ?_
      refine og_bipush (pc := 138) dX0_collect_138 (by decide +kernel) ?_
      refine og_icmp_ne (pc := 140) (tgt := 148) dX0_collect_140 (by decide) (by omega) (by omega) (fun c3 => ?_) (fun c3 => ?_)
      · exact absurd rfl c3
      refine og_bipush (pc := 143) dX0_collect_143 (by decide +kernel) ?_
      refine og_goto (pc := 145) (tgt := 154) dX0_collect_145 (by decide) ?_
      refine og_istore_3 (pc := 154) dX0_collect_154 (by decide) ?_
      exact K155 6 (-6) (by omega) (by omega) (by omega) (by omega) hlh
    · have hfb2 : Bx (u 10 2) := by
        rcases hfb with H | H
        · exact absurd H e
        · exact H
      have hlh : ∀ t, fx (u 10 2) t ↔ (t ≤ u 10 2 ∧ u 10 2 ≤ t) := by
        intro t
        constructor
        · intro H
          have := H.2 e
          omega
        · intro H
          exact ⟨fun c => absurd c e, fun _ => by omega⟩
      refine og_iload_1 (pc := 104) dX0_collect_104 ?_
      refine og_iconst (pc := 105) dX0_collect_105 ?_
      refine og_icmp_ge (pc := 106) (tgt := 230) dX0_collect_106 (by decide) (by omega) (by omega) (fun c => ?_) (fun c => ?_)
      · exact absurd c (by omega)
      refine og_aload_0 (pc := 109) dX0_collect_109 ?_
      refine og_xr10 (pc := 110) dX0_collect_110 ?_
      refine og_iload_1 (pc := 113) dX0_collect_113 ?_
      refine og_xl10 (pc := 114) (z := u 10 2) (2) dX0_collect_114 (by omega) (by omega) hw10 ?_
      refine og_bipush (pc := 115) dX0_collect_115 (by decide +kernel) ?_
      refine og_icmp_ne (pc := 117) (tgt := 125) dX0_collect_117 (by decide) (by omega) (by omega) (fun c2 => ?_) (fun c2 => ?_)
      · refine og_aload_0 (pc := 125) dX0_collect_125 ?_
        refine og_xr10 (pc := 126) dX0_collect_126 ?_
        refine og_iload_1 (pc := 129) dX0_collect_129 ?_
        refine og_xl10 (pc := 130) (z := u 10 2) (2) dX0_collect_130 (by omega) (by omega) hw10 ?_
        refine og_istore_2 (pc := 131) dX0_collect_131 (by decide) ?_
        refine og_aload_0 (pc := 132) dX0_collect_132 ?_
        refine og_xr10 (pc := 133) dX0_collect_133 ?_
        refine og_iload_1 (pc := 136) dX0_collect_136 ?_
        refine og_xl10 (pc := 137) (z := u 10 2) (2) dX0_collect_137 (by omega) (by omega) hw10 ?_
        refine og_bipush (pc := 138) dX0_collect_138 (by decide +kernel) ?_
        refine og_icmp_ne (pc := 140) (tgt := 148) dX0_collect_140 (by decide) (by omega) (by omega) (fun c3 => ?_) (fun c3 => ?_)
        · refine og_aload_0 (pc := 148) dX0_collect_148 ?_
          refine og_xr10 (pc := 149) dX0_collect_149 ?_
          refine og_iload_1 (pc := 152) dX0_collect_152 ?_
          refine og_xl10 (pc := 153) (z := u 10 2) (2) dX0_collect_153 (by omega) (by omega) hw10 ?_
          refine og_istore_3 (pc := 154) dX0_collect_154 (by decide) ?_
          exact K155 (u 10 2) (u 10 2) (by omega) (by omega) (by omega) (by omega) hlh
        · exact absurd c3 e
      · exact absurd c2 e
  -- the conditions held
  have Lp : ∀ (m i : Nat) (w : DS) (n : Nat), i + m = h → od_fr [4, 5, 6] u w → w 4 0 = n → n ≤ 2 * i → rB w n → (∀ x y z, rOK w n x y z ↔ sD u i wo x y z) → od_G Γ RX0 cX0_collect 5 (rmL 1) dA dZ (xc dA dZ ad (w)) [.ref (ad 0), .int (iI i), .null, .null, .null] 7 [] := by
    intro m
    induction m with
    | zero =>
      intro i w n hm hfr h4 hn hB hI
      have hin : i = h := by omega
      subst hin
      have h0w : w 0 0 = i := by rw [hfr 0 (by decide)]; exact h0
      refine og_iload_1 (pc := 7) dX0_collect_7 ?_
      refine og_aload_0 (pc := 8) dX0_collect_8 ?_
      refine og_xg0 (pc := 9) (z := (i : Int)) dX0_collect_9 h0w ?_
      refine og_icmp_ge (pc := 12) (tgt := 102) dX0_collect_12 (by decide) (by omega) (by omega) (fun c => ?_) (fun c => ?_)
      · refine og_iconst (pc := 102) dX0_collect_102 ?_
        refine og_istore_1 (pc := 103) dX0_collect_103 (by decide) ?_
        refine S0 w n (sD u i wo) hfr h4 (by omega) hB hI (fun w1 n1 a1 a2 a3 a4 a5 _ => ?_)
        refine S1 w1 n1 _ a1 a2 a3 a4 a5 (fun w2 n2 b1 b2 b3 b4 b5 _ => ?_)
        refine S2 w2 n2 _ b1 b2 b3 b4 b5 (fun w3 n3 c1 c2 c3 c4 c5 c6 => ?_)
        exact K3 w3 n3 c1 c2 (by omega) c4 c5 (c6 rfl)
      · exact absurd c (by omega)
    | succ m ih =>
      intro i w n hm hfr h4 hn hB hI
      have hin : i < h := by omega
      have h0w : w 0 0 = h := by rw [hfr 0 (by decide)]; exact h0
      have h11w : w 11 0 = wo := by rw [hfr 11 (by decide)]; exact h11
      have g1 : w 1 = u 1 := hfr 1 (by decide)
      have g2 : w 2 = u 2 := hfr 2 (by decide)
      have g3 : w 3 = u 3 := hfr 3 (by decide)
      have hb := hdB i hin
      unfold od_right at hb
      have K96 : ∀ (w' : DS) (n' : Nat) (v2 v3 v4 : Value), od_fr [4, 5, 6] u w' → w' 4 0 = n' → n' ≤ 2 * (i + 1) → rB w' n' → (∀ x y z, rOK w' n' x y z ↔ sD u (i + 1) wo x y z) → od_G Γ RX0 cX0_collect 5 (rmL 1) dA dZ (xc dA dZ ad (w')) [.ref (ad 0), .int (iI i), v2, v3, v4] 96 [] := by
        intro w' n' v2 v3 v4 a1 a2 a3 a4 a5
        refine og_forget_2 ?_
        refine og_forget_3 ?_
        refine og_forget_4 ?_
        refine og_iinc_1 (pc := 96) dX0_collect_96 (by decide) ?_
        refine og_goto (pc := 99) (tgt := 7) dX0_collect_99 (by decide) ?_
        exact ih (i + 1) w' n' (by omega) a1 a2 a3 a4 a5
      refine og_iload_1 (pc := 7) dX0_collect_7 ?_
      refine og_aload_0 (pc := 8) dX0_collect_8 ?_
      refine og_xg0 (pc := 9) (z := (h : Int)) dX0_collect_9 h0w ?_
      refine og_icmp_ge (pc := 12) (tgt := 102) dX0_collect_12 (by decide) (by omega) (by omega) (fun c => ?_) (fun c => ?_)
      · exact absurd c (by omega)
      refine og_iload_1 (pc := 15) dX0_collect_15 ?_
      refine og_aload_0 (pc := 16) dX0_collect_16 ?_
      refine og_xg11 (pc := 17) (z := wo) dX0_collect_17 h11w ?_
      refine og_icmp_eq (pc := 20) (tgt := 96) dX0_collect_20 (by decide) (by omega) (by omega) (fun c1 => ?_) (fun c1 => ?_)
      · refine K96 w n _ _ _ hfr h4 (by omega) hB (fun x y z => ?_)
        rw [hI, sD_s]
        constructor
        · intro H
          exact ⟨H, fun e => absurd c1 e⟩
        · intro H
          exact H.1
      refine og_aload_0 (pc := 23) dX0_collect_23 ?_
      refine og_xr1 (pc := 24) dX0_collect_24 ?_
      refine og_iconst (pc := 27) dX0_collect_27 ?_
      refine og_iload_1 (pc := 28) dX0_collect_28 ?_
      refine og_imul (pc := 29) dX0_collect_29 ?_
      refine og_xl1 (pc := 30) (z := u 1 (3 * i)) (3 * i) dX0_collect_30 (by omega) (by omega) (by rw [g1]) ?_
      refine og_istore_2 (pc := 31) dX0_collect_31 (by decide) ?_
      refine og_aload_0 (pc := 32) dX0_collect_32 ?_
      refine og_xr1 (pc := 33) dX0_collect_33 ?_
      refine og_iconst (pc := 36) dX0_collect_36 ?_
      refine og_iload_1 (pc := 37) dX0_collect_37 ?_
      refine og_imul (pc := 38) dX0_collect_38 ?_
      refine og_iconst (pc := 39) dX0_collect_39 ?_
      refine og_iadd (pc := 40) dX0_collect_40 ?_
      refine og_xl1 (pc := 41) (z := u 1 (3 * i + 1)) (3 * i + 1) dX0_collect_41 (by omega) (by omega) (by rw [g1]) ?_
      refine og_istore_3 (pc := 42) dX0_collect_42 (by decide) ?_
      refine og_aload_0 (pc := 43) dX0_collect_43 ?_
      refine og_xr1 (pc := 44) dX0_collect_44 ?_
      refine og_iconst (pc := 47) dX0_collect_47 ?_
      refine og_iload_1 (pc := 48) dX0_collect_48 ?_
      refine og_imul (pc := 49) dX0_collect_49 ?_
      refine og_iconst (pc := 50) dX0_collect_50 ?_
      refine og_iadd (pc := 51) dX0_collect_51 ?_
      refine og_xl1 (pc := 52) (z := u 1 (3 * i + 2)) (3 * i + 2) dX0_collect_52 (by omega) (by omega) (by rw [g1]) ?_
      refine og_istore_4 (pc := 53) dX0_collect_53 (by decide) ?_
      refine og_aload_0 (pc := 55) dX0_collect_55 ?_
      refine og_iload_2 (pc := 56) dX0_collect_56 ?_
      refine og_iload_3 (pc := 57) dX0_collect_57 ?_
      refine og_iload_4 (pc := 58) dX0_collect_58 ?_
      refine og_aload_0 (pc := 60) dX0_collect_60 ?_
      refine og_xr2 (pc := 61) dX0_collect_61 ?_
      refine og_iload_1 (pc := 64) dX0_collect_64 ?_
      refine og_xl2 (pc := 65) (z := u 2 i) (i) dX0_collect_65 (by omega) (by omega) (by rw [g2]) ?_
      refine og_callV (pc := 66) (n := 4) (met_put dA dZ ad w _ _ _ _ n h4 (by omega)) rfl rfl (lw_V q90 q92 qs2 q18 q93) (by decide +kernel) ⟨by decide, by decide⟩ ⟨rfl, rfl⟩ rfl rfl (Nat.le_of_ble_eq_true rfl) dX0_collect_66 (fun w1 hw1 => ?_)
      subst hw1
      have f1 : od_fr [4, 5, 6] u (putU w n (u 1 (3 * i)) (u 1 (3 * i + 1)) (u 1 (3 * i + 2)) (u 2 i)) := hfr.tr putU_fr
      have B1 : rB (putU w n (u 1 (3 * i)) (u 1 (3 * i + 1)) (u 1 (3 * i + 2)) (u 2 i)) (n + 1) := putU_B hB (by omega) (by omega) (by omega) (by omega)
      refine og_aload_0 (pc := 69) dX0_collect_69 ?_
      refine og_xr3 (pc := 70) dX0_collect_70 ?_
      refine og_iload_1 (pc := 73) dX0_collect_73 ?_
      refine og_xl3 (pc := 74) (z := u 3 i) (i) dX0_collect_74 (by omega) (by omega) (by rw [f1 3 (by decide)]) ?_
      refine og_if_eq (pc := 75) (tgt := 96) dX0_collect_75 (by decide) (by omega) (fun c2 => ?_) (fun c2 => ?_)
      · refine K96 _ (n + 1) _ _ _ f1 putU_4 (by omega) B1 (fun x y z => ?_)
        rw [putU_OK, hI, sD_s]
        refine and_congr_right fun _ => ?_
        unfold mD cnd
        constructor
        · intro H _
          exact ⟨fun _ => H, fun e => absurd c2 e⟩
        · intro H
          exact (H c1).1 c2
      · refine og_aload_0 (pc := 78) dX0_collect_78 ?_
        refine og_iload_2 (pc := 79) dX0_collect_79 ?_
        refine og_ineg (pc := 80) dX0_collect_80 ?_
        refine og_iload_3 (pc := 81) dX0_collect_81 ?_
        refine og_ineg (pc := 82) dX0_collect_82 ?_
        refine og_iload_4 (pc := 83) dX0_collect_83 ?_
        refine og_ineg (pc := 85) dX0_collect_85 ?_
        refine og_aload_0 (pc := 86) dX0_collect_86 ?_
        refine og_xr2 (pc := 87) dX0_collect_87 ?_
        refine og_iload_1 (pc := 90) dX0_collect_90 ?_
        refine og_xl2 (pc := 91) (z := u 2 i) (i) dX0_collect_91 (by omega) (by omega) (by rw [f1 2 (by decide)]) ?_
        refine og_ineg (pc := 92) dX0_collect_92 ?_
        refine og_callV (pc := 93) (n := 4) (met_put dA dZ ad _ _ _ _ _ (n + 1) putU_4 (by omega)) rfl rfl (lw_V q90 q92 qs2 q18 q93) (by decide +kernel) ⟨by decide, by decide⟩ ⟨rfl, rfl⟩ rfl rfl (Nat.le_of_ble_eq_true rfl) dX0_collect_93 (fun w2 hw2 => ?_)
        subst hw2
        refine K96 _ (n + 2) _ _ _ (f1.tr putU_fr) putU_4 (by omega) (putU_B B1 (by omega) (by omega) (by omega) (by omega)) (fun x y z => ?_)
        rw [putU_OK, putU_OK, hI, sD_s, and_assoc]
        refine and_congr_right fun _ => ?_
        unfold mD cnd
        rw [Int.neg_mul, Int.neg_mul, Int.neg_mul]
        constructor
        · intro H _
          exact ⟨fun e => absurd e c2, fun _ => by omega⟩
        · intro H
          have := (H c1).2 c2
          omega
  refine og_aload_0 (pc := 0) dX0_collect_0 ?_
  refine og_iconst (pc := 1) dX0_collect_1 ?_
  refine og_xp4 (pc := 2) dX0_collect_2 ?_
  refine og_iconst (pc := 5) dX0_collect_5 ?_
  refine og_istore_1 (pc := 6) dX0_collect_6 (by decide) ?_
  exact Lp h 0 (up2 u 4 0 0) 0 (by omega) (od_fr.rf.up (by decide)) (by simp [up2]) (by omega) (fun r hr => absurd hr (by omega)) (fun x y z => by
    constructor
    · intro H i hi
      exact absurd hi (by omega)
    · intro H r hr
      exact absurd hr (by omega))
end
section
set_option maxRecDepth 100000
/-! what the questions ask, of any set P of rows -/
def sel (v x y z : Int) : Int := if v = 0 then x else if v = 1 then y else z
def posQ (P : Int → Int → Int → Prop) (r : Int) : Prop := (r = 0 ∨ r = 1) ∧ (r = 1 ↔ ∃ x y z, P x y z)
def withQ (P : Int → Int → Int → Prop) (va val r : Int) : Prop := (r = 0 ∨ r = 1) ∧ (r = 1 ↔ (0 ≤ va ∧ va ≤ 2) ∧ ∃ x y z, P x y z ∧ sel va x y z = val)
def folQ (P : Int → Int → Int → Prop) (a b c d r : Int) : Prop := (¬ od_right a b c d → r = -1) ∧ (od_right a b c d → (r = 0 ∨ r = 1) ∧ (r = 0 ↔ ∃ x y z, P x y z ∧ d < a * x + b * y + c * z))
def exQ (P : Int → Int → Int → Prop) (va gr r : Int) : Prop := (¬ (0 ≤ va ∧ va ≤ 2) → r = 100) ∧ ((0 ≤ va ∧ va ≤ 2) → ((r = 100 ∧ ∀ x y z, ¬ P x y z) ∨ (Bx r ∧ (∃ x y z, P x y z ∧ sel va x y z = r) ∧ ∀ x y z, P x y z → (gr = 0 → r ≤ sel va x y z) ∧ (gr ≠ 0 → sel va x y z ≤ r))))
def LexMin (P : Int → Int → Int → Prop) (x y z : Int) : Prop := P x y z ∧ ∀ x' y' z', P x' y' z' → x < x' ∨ (x = x' ∧ (y < y' ∨ (y = y' ∧ z ≤ z')))
def firstQ (P : Int → Int → Int → Prop) (pl r : Int) : Prop := (¬ (0 ≤ pl ∧ pl ≤ 2) → r = 100) ∧ ((0 ≤ pl ∧ pl ≤ 2) → ((r = 100 ∧ ∀ x y z, ¬ P x y z) ∨ ∃ x y z, LexMin P x y z ∧ sel pl x y z = r))
noncomputable def cntP (P : Nat → Prop) : Nat → Int
  | 0 => 0
  | n + 1 => cntP P n + @ite Int (P n) (Classical.propDecidable _) 1 0
theorem least_ex {Q : Int → Prop} (h : ∃ t, Bx t ∧ Q t) : ∃ t, Bx t ∧ Q t ∧ ∀ t', Bx t' → Q t' → t ≤ t' := by
  obtain ⟨t, hb, ht⟩ := h
  obtain ⟨q, h1, h2, h3⟩ := max_ex (fun q => Q ((q : Int) - 6)) (fun q => -(q : Int)) 13 ⟨(t + 6).toNat, by omega, by
    have e : (((t + 6).toNat : Nat) : Int) - 6 = t := by omega
    show Q _
    rw [e]
    exact ht⟩
  refine ⟨(q : Int) - 6, ⟨by omega, by omega⟩, h2, fun t' hb' ht' => ?_⟩
  have e : (((t' + 6).toNat : Nat) : Int) - 6 = t' := by omega
  have h4 := h3 (t' + 6).toNat (by omega) (by show Q _; rw [e]; exact ht')
  omega
/-- the rows that meet all, but one left out -/
def SS (u : DS) (h : Nat) (wo x y z : Int) : Prop := sD u h wo x y z ∧ Bx x ∧ Bx y ∧ Bx z
def Ex (u : DS) (h : Nat) (wo : Int) (v : Nat) (t : Int) : Prop := ∃ x y z, sD u h wo x y z ∧ fxs (up2 u 10 v t) x y z
def qOK (u u' : DS) : Prop := od_fr [4, 5, 6, 7, 8, 9, 10, 11] u u' ∧ u' 11 0 = -1
theorem fx_100 {t : Int} : fx 100 t ↔ Bx t := by
  constructor
  · intro h
    exact h.1 rfl
  · intro h
    exact ⟨fun _ => h, fun c => absurd rfl c⟩
theorem fx_b {f t : Int} (hf : Bx f) : fx f t ↔ t = f := by
  constructor
  · intro h
    exact h.2 (by omega)
  · intro h
    exact ⟨fun c => absurd c (by omega), fun _ => h⟩
theorem fxs_all {u : DS} (hu : ∀ j, j < 3 → u 10 j = 100) (x y z : Int) : fxs u x y z ↔ Bx x ∧ Bx y ∧ Bx z := by
  unfold fxs
  rw [hu 0 (by decide), hu 1 (by decide), hu 2 (by decide), fx_100, fx_100, fx_100]
theorem fxs_one {u : DS} (hu : ∀ j, j < 3 → u 10 j = 100) {v : Nat} (hv : v < 3) {t : Int} (ht : Bx t) (x y z : Int) : fxs (up2 u 10 v t) x y z ↔ (Bx x ∧ Bx y ∧ Bx z) ∧ sel v x y z = t := by
  have hd : v = 0 ∨ v = 1 ∨ v = 2 := by omega
  unfold fxs sel
  rcases hd with rfl | rfl | rfl
  · rw [up2_same, up2_off (by decide), up2_off (by decide), hu 1 (by decide), hu 2 (by decide), fx_b ht, fx_100, fx_100]
    simp only [Int.natCast_zero, if_true]
    omega
  · rw [up2_same, up2_off (by decide), up2_off (by decide), hu 0 (by decide), hu 2 (by decide), fx_b ht, fx_100, fx_100]
    simp only [show ((1 : Nat) : Int) ≠ 0 from by decide, if_false, Int.natCast_one, if_true]
    omega
  · rw [up2_same, up2_off (by decide), up2_off (by decide), hu 0 (by decide), hu 1 (by decide), fx_b ht, fx_100, fx_100]
    simp only [show ((2 : Nat) : Int) ≠ 0 from by decide, show ((2 : Nat) : Int) ≠ 1 from by decide, if_false]
    omega
theorem fxB_up {u : DS} (hu : fxB u) {v : Nat} {t : Int} (ht : Bx t) : fxB (up2 u 10 v t) := by
  intro j hj
  by_cases e : j = v
  · subst e
    rw [up2_same]
    exact Or.inr ht
  · rw [up2_off e]
    exact hu j hj
theorem fxB_all {u : DS} (hu : ∀ j, j < 3 → u 10 j = 100) : fxB u := fun v hv => Or.inl (hu v hv)
/-! OmegaDesk.free -/
theorem met_free (dA dZ : ClassId) (ad : Nat → Nat) (u : DS) :
    od_MV dA dZ (xc dA dZ ad) yX0_free cX0_free 2 (rmL 0) [.ref (ad 0)] u (fun u' => od_fr [10] u u' ∧ ∀ j, j < 3 → u' 10 j = 100) := by
  refine od_MV.of (own := RX0) 1 (by decide) rfl (od_cc rfl od_c1) (Nat.le_of_ble_eq_true rfl) ?_
  intro Γ hret
  show od_G Γ RX0 cX0_free 2 (rmL 0) dA dZ (xc dA dZ ad (u)) [.ref (ad 0), .null] 0 []
  have Lp : ∀ (m i : Nat) (w : DS), i + m = 3 → od_fr [10] u w → (∀ j, j < i → w 10 j = 100) → od_G Γ RX0 cX0_free 2 (rmL 0) dA dZ (xc dA dZ ad (w)) [.ref (ad 0), .int (iI i)] 2 [] := by
    intro m
    induction m with
    | zero =>
      intro i w hm hfr hI
      refine og_iload_1 (pc := 2) dX0_free_2 ?_
      refine og_iconst (pc := 3) dX0_free_3 ?_
      refine og_icmp_ge (pc := 4) (tgt := 21) dX0_free_4 (by decide) (by omega) (by omega) (fun c => ?_) (fun c => ?_)
      · exact hret w ⟨hfr, fun j hj => hI j (by omega)⟩ _ _ dX0_free_21
      · exact absurd c (by omega)
    | succ m ih =>
      intro i w hm hfr hI
      refine og_iload_1 (pc := 2) dX0_free_2 ?_
      refine og_iconst (pc := 3) dX0_free_3 ?_
      refine og_icmp_ge (pc := 4) (tgt := 21) dX0_free_4 (by decide) (by omega) (by omega) (fun c => ?_) (fun c => ?_)
      · exact absurd c (by omega)
      refine og_aload_0 (pc := 7) dX0_free_7 ?_
      refine og_xr10 (pc := 8) dX0_free_8 ?_
      refine og_iload_1 (pc := 11) dX0_free_11 ?_
      refine og_bipush (pc := 12) dX0_free_12 (by decide +kernel) ?_
      refine og_xs10 (pc := 14) (i) dX0_free_14 (by omega) (by omega) ?_
      refine og_iinc_1 (pc := 15) dX0_free_15 (by decide) ?_
      refine og_goto (pc := 18) (tgt := 2) dX0_free_18 (by decide) ?_
      refine ih (i + 1) _ (by omega) (hfr.up (by decide)) (fun j hj => ?_)
      by_cases e : j = i
      · rw [e, up2_same]
      · rw [up2_off e]
        exact hI j (by omega)
  refine og_iconst (pc := 0) dX0_free_0 ?_
  refine og_istore_1 (pc := 1) dX0_free_1 (by decide) ?_
  exact Lp 3 0 u (by omega) od_fr.rf (fun j hj => absurd hj (by omega))
def leastQ (u : DS) (h : Nat) (wo : Int) (v : Nat) (gr r : Int) (u' : DS) : Prop := od_fr [4, 5, 6, 7, 8, 9, 10] u u' ∧ (∀ j, j ≠ v → u' 10 j = u 10 j) ∧ u' 10 v = 100 ∧ ((r = 100 ∧ ∀ t, Bx t → ¬ Ex u h wo v t) ∨ (Bx r ∧ Ex u h wo v r ∧ ∀ t, Bx t → Ex u h wo v t → (gr = 0 → r ≤ t) ∧ (gr ≠ 0 → t ≤ r)))
/-- behind collect: what solvable asks -/
theorem coll_solv {u w : DS} {h : Nat} {wo : Int} (hfx : fxB u) (hq : collectQ u h wo w) : ∃ n : Nat, w 4 0 = n ∧ n ≤ 22 ∧ rB w n ∧ (∃ q, q < n ∧ w 5 (3 * q + 2) < 0) ∧ (∀ x y z, rOK w n x y z → Bx x ∧ Bx y ∧ Bx z) ∧ ∀ x y z, rOK w n x y z ↔ sD u h wo x y z ∧ fxs u x y z := by
  obtain ⟨-, n, a1, a2, a3, a4, a5⟩ := hq
  exact ⟨n, a1, a2, a3, a5, fun x y z H => fxs_box hfx ((a4 x y z).mp H).2, a4⟩
/-! OmegaDesk.leastValue -/
theorem met_leastValue (dA dZ : ClassId) (ad : Nat → Nat) (u : DS) (h : Nat) (wo : Int) (v : Nat) (gr : Int) (hok : dOK u h) (h11 : u 11 0 = wo) (hwo : -1 ≤ wo ∧ wo ≤ 8) (hfx : fxB u) (hv : v < 3) (hgr : gr = 0 ∨ gr = 1) :
    od_MI dA dZ (xc dA dZ ad) yX0_leastValue cX0_leastValue 5 (some .int) (rmL 6) [.ref (ad 0), .int (iI v), .int (iI gr)] u (leastQ u h wo v gr) := by
  refine od_MI.ofI (own := RX0) 2 (by decide) rfl (od_cc rfl (od_cc rfl (od_cc rfl od_c1))) (Nat.le_of_ble_eq_true rfl) ?_
  intro Γ hret
  show od_G Γ RX0 cX0_leastValue 5 (rmL 6) dA dZ (xc dA dZ ad (u)) [.ref (ad 0), .int (iI v), .int (iI gr), .null, .null] 0 []
  have Lp : ∀ (m k : Nat) (w : DS), k + m = 13 → od_fr [4, 5, 6, 7, 8, 9, 10] u w → (∀ j, j ≠ v → w 10 j = u 10 j) → (∀ k' : Nat, k' < k → ¬ Ex u h wo v (if gr = 0 then (k' : Int) - 6 else 6 - (k' : Int))) → od_G Γ RX0 cX0_leastValue 5 (rmL 6) dA dZ (xc dA dZ ad (w)) [.ref (ad 0), .int (iI v), .int (iI gr), .int (iI k), .null] 2 [] := by
    intro m
    induction m with
    | zero =>
      intro k w hm hfr hj hI
      refine og_iload_3 (pc := 2) dX0_leastValue_2 ?_
      refine og_bipush (pc := 3) dX0_leastValue_3 (by decide +kernel) ?_
      refine og_icmp_ge (pc := 5) (tgt := 61) dX0_leastValue_5 (by decide) (by omega) (by omega) (fun c => ?_) (fun c => ?_)
      · refine og_aload_0 (pc := 61) dX0_leastValue_61 ?_
        refine og_xr10 (pc := 62) dX0_leastValue_62 ?_
        refine og_iload_1 (pc := 65) dX0_leastValue_65 ?_
        refine og_bipush (pc := 66) dX0_leastValue_66 (by decide +kernel) ?_
        refine og_xs10 (pc := 68) (v) dX0_leastValue_68 (by omega) (by omega) ?_
        refine og_bipush (pc := 69) dX0_leastValue_69 (by decide +kernel) ?_
        refine hret 100 (up2 w 10 v 100) ⟨hfr.up (by decide), fun j hne => by rw [up2_off hne]; exact hj j hne, up2_same, Or.inl ⟨rfl, fun t ht hE => ?_⟩⟩ _ _ dX0_leastValue_71
        by_cases c : gr = 0
        · refine hI (t + 6).toNat (by omega) ?_
          rw [if_pos c]
          have e : (((t + 6).toNat : Nat) : Int) - 6 = t := by omega
          rw [e]
          exact hE
        · refine hI (6 - t).toNat (by omega) ?_
          rw [if_neg c]
          have e : 6 - (((6 - t).toNat : Nat) : Int) = t := by omega
          rw [e]
          exact hE
      · exact absurd c (by omega)
    | succ m ih =>
      intro k w hm hfr hj hI
      have K23 : ∀ t : Int, t = (if gr = 0 then (k : Int) - 6 else 6 - (k : Int)) → od_G Γ RX0 cX0_leastValue 5 (rmL 6) dA dZ (xc dA dZ ad (w)) [.ref (ad 0), .int (iI v), .int (iI gr), .int (iI k), .null] 23 [.int (iI t)] := by
        intro t ht
        have hb : Bx t := by rw [ht]; split <;> omega
        have hfr1 : od_fr [4, 5, 6, 7, 8, 9, 10] u (up2 w 10 v t) := hfr.up (by decide)
        have h10 : up2 w 10 v t 10 = up2 u 10 v t 10 := by
          funext j
          by_cases e : j = v
          · rw [e, up2_same, up2_same]
          · rw [up2_off e, up2_off e]
            exact hj j e
        have hfx1 : fxB (up2 w 10 v t) := by
          have := fxB_up hfx (v := v) hb
          unfold fxB at this ⊢
          rw [h10]
          exact this
        have hex : ∀ x y z, (sD (up2 w 10 v t) h wo x y z ∧ fxs (up2 w 10 v t) x y z) ↔ (sD u h wo x y z ∧ fxs (up2 u 10 v t) x y z) := by
          intro x y z
          rw [sD.cg (hfr1 1 (by decide)) (hfr1 2 (by decide)) (hfr1 3 (by decide))]
          unfold fxs
          rw [h10]
        refine og_istore_4 (pc := 23) dX0_leastValue_23 (by decide) ?_
        refine og_aload_0 (pc := 25) dX0_leastValue_25 ?_
        refine og_xr10 (pc := 26) dX0_leastValue_26 ?_
        refine og_iload_1 (pc := 29) dX0_leastValue_29 ?_
        refine og_iload_4 (pc := 30) dX0_leastValue_30 ?_
        refine og_xs10 (pc := 32) (v) dX0_leastValue_32 (by omega) (by omega) ?_
        refine og_aload_0 (pc := 33) dX0_leastValue_33 ?_
        refine og_callV (pc := 34) (n := 0) (met_collect dA dZ ad (up2 w 10 v t) h wo (hok.fr hfr1 (by decide)) (by rw [hfr1 11 (by decide)]; exact h11) hwo hfx1) rfl rfl (lw_V q86 q88 qs1 q18 q89) (by decide +kernel) ⟨by decide, by decide⟩ ⟨rfl, rfl⟩ rfl rfl (Nat.le_of_ble_eq_true rfl) dX0_leastValue_34 (fun w2 hc => ?_)
        obtain ⟨n, a1, a2, a3, a4, a5, a6⟩ := coll_solv hfx1 hc
        have hfr2 := hfr1.tr (hc.1.wk (by decide))
        have h10b : w2 10 = up2 w 10 v t 10 := hc.1 10 (by decide)
        refine og_aload_0 (pc := 37) dX0_leastValue_37 ?_
        refine og_callI (pc := 38) (n := 0) (met_solvable dA dZ ad w2 n a1 (by omega) a3 a4 a5) rfl rfl (lw_V q94 q96 qs3 q18 q97) (by decide +kernel) ⟨by decide, by decide⟩ ⟨rfl, rfl⟩ rfl rfl (Nat.le_of_ble_eq_true rfl) dX0_leastValue_38 (fun r w3 hp => ?_)
        obtain ⟨h01, hfr3, hr⟩ := hp
        have hfr4 := hfr2.tr (hfr3.wk (by decide))
        have h10c : ∀ j, j ≠ v → w3 10 j = u 10 j := fun j hne => by
          rw [hfr3 10 (by decide), h10b, up2_off hne]
          exact hj j hne
        have hE : r = 1 ↔ Ex u h wo v t := by
          rw [hr]
          unfold Ex
          constructor
          · intro ⟨x, y, z, H⟩
            exact ⟨x, y, z, (hex x y z).mp ((a6 x y z).mp H)⟩
          · intro ⟨x, y, z, H⟩
            exact ⟨x, y, z, (a6 x y z).mpr ((hex x y z).mpr H)⟩
        refine og_if_eq (pc := 41) (tgt := 55) dX0_leastValue_41 (by decide) (by omega) (fun c2 => ?_) (fun c2 => ?_)
        · refine og_forget_4 ?_
          refine og_iinc_3 (pc := 55) dX0_leastValue_55 (by decide) ?_
          refine og_goto (pc := 58) (tgt := 2) dX0_leastValue_58 (by decide) ?_
          refine ih (k + 1) w3 (by omega) hfr4 h10c (fun k' hk' => ?_)
          by_cases e : k' = k
          · rw [e, ← ht]
            intro H
            have := hE.mpr H
            omega
          · exact hI k' (by omega)
        · refine og_aload_0 (pc := 44) dX0_leastValue_44 ?_
          refine og_xr10 (pc := 45) dX0_leastValue_45 ?_
          refine og_iload_1 (pc := 48) dX0_leastValue_48 ?_
          refine og_bipush (pc := 49) dX0_leastValue_49 (by decide +kernel) ?_
          refine og_xs10 (pc := 51) (v) dX0_leastValue_51 (by omega) (by omega) ?_
          refine og_iload_4 (pc := 52) dX0_leastValue_52 ?_
          have hEt := hE.mp (by omega)
          refine hret t (up2 w3 10 v 100) ⟨hfr4.up (by decide), fun j hne => by rw [up2_off hne]; exact h10c j hne, up2_same, Or.inr ⟨hb, hEt, fun t' hb' hE' => ?_⟩⟩ _ _ dX0_leastValue_54
          constructor
          · intro c
            rw [if_pos c] at ht
            apply Decidable.byContradiction
            intro hn
            refine hI (t' + 6).toNat (by omega) ?_
            rw [if_pos c]
            have e : (((t' + 6).toNat : Nat) : Int) - 6 = t' := by omega
            rw [e]
            exact hE'
          · intro c
            rw [if_neg c] at ht
            apply Decidable.byContradiction
            intro hn
            refine hI (6 - t').toNat (by omega) ?_
            rw [if_neg c]
            have e : 6 - (((6 - t').toNat : Nat) : Int) = t' := by omega
            rw [e]
            exact hE'
      refine og_iload_3 (pc := 2) dX0_leastValue_2 ?_
      refine og_bipush (pc := 3) dX0_leastValue_3 (by decide +kernel) ?_
      refine og_icmp_ge (pc := 5) (tgt := 61) dX0_leastValue_5 (by decide) (by omega) (by omega) (fun c => ?_) (fun c => ?_)
      · exact absurd c (by omega)
      refine og_iload_2 (pc := 8) dX0_leastValue_8 ?_
      refine og_if_eq (pc := 9) (tgt := 19) dX0_leastValue_9 (by decide) (by omega) (fun c1 => ?_) (fun c1 => ?_)
      · refine og_iload_3 (pc := 19) dX0_leastValue_19 ?_
        refine og_bipush (pc := 20) dX0_leastValue_20 (by decide +kernel) ?_
        refine og_isub (pc := 22) dX0_leastValue_22 ?_
        exact K23 _ (by rw [if_pos c1])
      · refine og_bipush (pc := 12) dX0_leastValue_12 (by decide +kernel) ?_
        refine og_iload_3 (pc := 14) dX0_leastValue_14 ?_
        refine og_isub (pc := 15) dX0_leastValue_15 ?_
        refine og_goto (pc := 16) (tgt := 23) dX0_leastValue_16 (by decide) ?_
        exact K23 _ (by rw [if_neg c1])
  refine og_iconst (pc := 0) dX0_leastValue_0 ?_
  refine og_istore_3 (pc := 1) dX0_leastValue_1 (by decide) ?_
  exact Lp 13 0 u (by omega) od_fr.rf (fun j _ => rfl) (fun k' hk' => absurd hk' (by omega))
/-! OmegaDesk.possible -/
theorem met_possible (dA dZ : ClassId) (ad : Nat → Nat) (u : DS) (h : Nat) (hok : dOK u h) (h11 : u 11 0 = -1) :
    od_MI dA dZ (xc dA dZ ad) yX0_possible cX0_possible 1 (some .int) (rmL 6) [.ref (ad 0)] u (fun r u' => qOK u u' ∧ posQ (SS u h (-1)) r) := by
  refine od_MI.ofI (own := RX0) 0 (by decide) rfl (od_cc rfl od_c1) (Nat.le_of_ble_eq_true rfl) ?_
  intro Γ hret
  show od_G Γ RX0 cX0_possible 1 (rmL 6) dA dZ (xc dA dZ ad (u)) [.ref (ad 0)] 0 []
  refine og_aload_0 (pc := 0) dX0_possible_0 ?_
  refine og_callV (pc := 1) (n := 0) (met_free dA dZ ad u) rfl rfl (lw_V q82 q84 qs0 q18 q85) (by decide +kernel) ⟨by decide, by decide⟩ ⟨rfl, rfl⟩ rfl rfl (Nat.le_of_ble_eq_true rfl) dX0_possible_1 (fun w1 h1 => ?_)
  obtain ⟨hf1, h100⟩ := h1
  refine og_aload_0 (pc := 4) dX0_possible_4 ?_
  refine og_callV (pc := 5) (n := 0) (met_collect dA dZ ad w1 h (-1) (hok.fr hf1 (by decide)) (by rw [hf1 11 (by decide)]; exact h11) (by omega) (fxB_all h100)) rfl rfl (lw_V q86 q88 qs1 q18 q89) (by decide +kernel) ⟨by decide, by decide⟩ ⟨rfl, rfl⟩ rfl rfl (Nat.le_of_ble_eq_true rfl) dX0_possible_5 (fun w2 hc => ?_)
  obtain ⟨n, a1, a2, a3, a4, a5, a6⟩ := coll_solv (fxB_all h100) hc
  refine og_aload_0 (pc := 8) dX0_possible_8 ?_
  refine og_callI (pc := 9) (n := 0) (met_solvable dA dZ ad w2 n a1 (by omega) a3 a4 a5) rfl rfl (lw_V q94 q96 qs3 q18 q97) (by decide +kernel) ⟨by decide, by decide⟩ ⟨rfl, rfl⟩ rfl rfl (Nat.le_of_ble_eq_true rfl) dX0_possible_9 (fun r w3 hp => ?_)
  obtain ⟨h01, hf3, hr⟩ := hp
  have hq : qOK u w3 := ⟨((hf1.wk (by decide)).tr (hc.1.wk (by decide))).tr (hf3.wk (by decide)), by rw [hf3 11 (by decide), hc.1 11 (by decide), hf1 11 (by decide)]; exact h11⟩
  have hE : r = 1 ↔ ∃ x y z, SS u h (-1) x y z := by
    rw [hr]
    have e : ∀ x y z, rOK w2 n x y z ↔ SS u h (-1) x y z := fun x y z => by
      rw [a6, fxs_all h100, sD.cg (hf1 1 (by decide)) (hf1 2 (by decide)) (hf1 3 (by decide))]
      rfl
    constructor
    · intro ⟨x, y, z, H⟩
      exact ⟨x, y, z, (e x y z).mp H⟩
    · intro ⟨x, y, z, H⟩
      exact ⟨x, y, z, (e x y z).mpr H⟩
  refine og_if_eq (pc := 12) (tgt := 19) dX0_possible_12 (by decide) (by omega) (fun c1 => ?_) (fun c1 => ?_)
  · refine og_iconst (pc := 19) dX0_possible_19 ?_
    exact hret 0 w3 ⟨hq, Or.inl rfl, by rw [← hE]; omega⟩ _ _ dX0_possible_20
  · refine og_iconst (pc := 15) dX0_possible_15 ?_
    refine og_goto (pc := 16) (tgt := 20) dX0_possible_16 (by decide) ?_
    exact hret 1 w3 ⟨hq, Or.inr rfl, by rw [← hE]; omega⟩ _ _ dX0_possible_20
/-! OmegaDesk.with -/
theorem met_with (dA dZ : ClassId) (ad : Nat → Nat) (u : DS) (h : Nat) (va val : Int) (hva : Rg va) (hvl : Rg val) (hok : dOK u h) (h11 : u 11 0 = -1) :
    od_MI dA dZ (xc dA dZ ad) yX0_with cX0_with 3 (some .int) (rmL 6) [.ref (ad 0), .int (iI va), .int (iI val)] u (fun r u' => qOK u u' ∧ withQ (SS u h (-1)) va val r) := by
  refine od_MI.ofI (own := RX0) 0 (by decide) rfl (od_cc rfl (od_cc rfl (od_cc rfl od_c1))) (Nat.le_of_ble_eq_true rfl) ?_
  intro Γ hret
  show od_G Γ RX0 cX0_with 3 (rmL 6) dA dZ (xc dA dZ ad (u)) [.ref (ad 0), .int (iI va), .int (iI val)] 0 []
  have K21 : ¬ ((0 ≤ va ∧ va ≤ 2) ∧ Bx val) → od_G Γ RX0 cX0_with 3 (rmL 6) dA dZ (xc dA dZ ad (u)) [.ref (ad 0), .int (iI va), .int (iI val)] 21 [] := by
    intro hn
    refine og_iconst (pc := 21) dX0_with_21 ?_
    refine hret 0 u ⟨⟨od_fr.rf, h11⟩, Or.inl rfl, iff_of_false (by decide) (fun ⟨h1, x, y, z, h2, h3⟩ => hn ⟨h1, ?_⟩)⟩ _ _ dX0_with_22
    unfold sel at h3
    have h4 := h2.2
    split at h3
    · omega
    · split at h3 <;> omega
  refine og_iload_1 (pc := 0) dX0_with_0 ?_
  refine og_if_lt (pc := 1) (tgt := 21) dX0_with_1 (by decide) (by omega) (fun c1 => ?_) (fun c1 => ?_)
  · exact K21 (by omega)
  refine og_iload_1 (pc := 4) dX0_with_4 ?_
  refine og_iconst (pc := 5) dX0_with_5 ?_
  refine og_icmp_gt (pc := 6) (tgt := 21) dX0_with_6 (by decide) (by omega) (by omega) (fun c2 => ?_) (fun c2 => ?_)
  · exact K21 (by omega)
  refine og_iload_2 (pc := 9) dX0_with_9 ?_
  refine og_bipush (pc := 10) dX0_with_10 (by decide +kernel) ?_
  refine og_icmp_lt (pc := 12) (tgt := 21) dX0_with_12 (by decide) (by omega) (by omega) (fun c3 => ?_) (fun c3 => ?_)
  · exact K21 (by omega)
  refine og_iload_2 (pc := 15) dX0_with_15 ?_
  refine og_bipush (pc := 16) dX0_with_16 (by decide +kernel) ?_
  refine og_icmp_le (pc := 18) (tgt := 23) dX0_with_18 (by decide) (by omega) (by omega) (fun c4 => ?_) (fun c4 => ?_)
  rotate_left
  · exact K21 (by omega)
  obtain ⟨v, rfl⟩ : ∃ v : Nat, va = v := ⟨va.toNat, by omega⟩
  have hb : Bx val := by omega
  refine og_aload_0 (pc := 23) dX0_with_23 ?_
  refine og_callV (pc := 24) (n := 0) (met_free dA dZ ad u) rfl rfl (lw_V q82 q84 qs0 q18 q85) (by decide +kernel) ⟨by decide, by decide⟩ ⟨rfl, rfl⟩ rfl rfl (Nat.le_of_ble_eq_true rfl) dX0_with_24 (fun w1 h1 => ?_)
  obtain ⟨hf1, h100⟩ := h1
  refine og_aload_0 (pc := 27) dX0_with_27 ?_
  refine og_xr10 (pc := 28) dX0_with_28 ?_
  refine og_iload_1 (pc := 31) dX0_with_31 ?_
  refine og_iload_2 (pc := 32) dX0_with_32 ?_
  refine og_xs10 (pc := 33) (v) dX0_with_33 (by omega) (by omega) ?_
  refine og_aload_0 (pc := 34) dX0_with_34 ?_
  have hf2 : od_fr [10] u (up2 w1 10 v val) := hf1.up (by decide)
  have hfx2 : fxB (up2 w1 10 v val) := fxB_up (fxB_all h100) hb
  refine og_callV (pc := 35) (n := 0) (met_collect dA dZ ad (up2 w1 10 v val) h (-1) (hok.fr hf2 (by decide)) (by rw [hf2 11 (by decide)]; exact h11) (by omega) hfx2) rfl rfl (lw_V q86 q88 qs1 q18 q89) (by decide +kernel) ⟨by decide, by decide⟩ ⟨rfl, rfl⟩ rfl rfl (Nat.le_of_ble_eq_true rfl) dX0_with_35 (fun w2 hc => ?_)
  obtain ⟨n, a1, a2, a3, a4, a5, a6⟩ := coll_solv hfx2 hc
  refine og_aload_0 (pc := 38) dX0_with_38 ?_
  refine og_callI (pc := 39) (n := 0) (met_solvable dA dZ ad w2 n a1 (by omega) a3 a4 a5) rfl rfl (lw_V q94 q96 qs3 q18 q97) (by decide +kernel) ⟨by decide, by decide⟩ ⟨rfl, rfl⟩ rfl rfl (Nat.le_of_ble_eq_true rfl) dX0_with_39 (fun r w3 hp => ?_)
  obtain ⟨h01, hf3, hr⟩ := hp
  have hq : qOK u w3 := ⟨((hf2.wk (by decide)).tr (hc.1.wk (by decide))).tr (hf3.wk (by decide)), by rw [hf3 11 (by decide), hc.1 11 (by decide), hf2 11 (by decide)]; exact h11⟩
  have hE : r = 1 ↔ (0 ≤ (v : Int) ∧ (v : Int) ≤ 2) ∧ ∃ x y z, SS u h (-1) x y z ∧ sel v x y z = val := by
    rw [hr]
    have e : ∀ x y z, rOK w2 n x y z ↔ (SS u h (-1) x y z ∧ sel v x y z = val) := fun x y z => by
      rw [a6, fxs_one h100 (by omega) hb, sD.cg (hf2 1 (by decide)) (hf2 2 (by decide)) (hf2 3 (by decide)), ← and_assoc]
      rfl
    constructor
    · intro ⟨x, y, z, H⟩
      exact ⟨by omega, x, y, z, (e x y z).mp H⟩
    · intro ⟨_, x, y, z, H⟩
      exact ⟨x, y, z, (e x y z).mpr H⟩
  refine og_if_eq (pc := 42) (tgt := 49) dX0_with_42 (by decide) (by omega) (fun c5 => ?_) (fun c5 => ?_)
  · refine og_iconst (pc := 49) dX0_with_49 ?_
    exact hret 0 w3 ⟨hq, Or.inl rfl, by rw [← hE]; omega⟩ _ _ dX0_with_50
  · refine og_iconst (pc := 45) dX0_with_45 ?_
    refine og_goto (pc := 46) (tgt := 50) dX0_with_46 (by decide) ?_
    exact hret 1 w3 ⟨hq, Or.inr rfl, by rw [← hE]; omega⟩ _ _ dX0_with_50
/-! OmegaDesk.follows -/
theorem met_follows (dA dZ : ClassId) (ad : Nat → Nat) (u : DS) (h : Nat) (a b c d : Int) (ha : Rg a) (hb : Rg b) (hc : Rg c) (hd : Rg d) (hok : dOK u h) (h11 : u 11 0 = -1) :
    od_MI dA dZ (xc dA dZ ad) yX0_follows cX0_follows 5 (some .int) (rmL 6) [.ref (ad 0), .int (iI a), .int (iI b), .int (iI c), .int (iI d)] u (fun r u' => qOK u u' ∧ folQ (SS u h (-1)) a b c d r) := by
  refine od_MI.ofI (own := RX0) 0 (by decide) rfl (od_cc rfl (od_cc rfl (od_cc rfl (od_cc rfl (od_cc rfl od_c1))))) (Nat.le_of_ble_eq_true rfl) ?_
  intro Γ hret
  show od_G Γ RX0 cX0_follows 5 (rmL 6) dA dZ (xc dA dZ ad (u)) [.ref (ad 0), .int (iI a), .int (iI b), .int (iI c), .int (iI d)] 0 []
  refine og_iload_1 (pc := 0) dX0_follows_0 ?_
  refine og_iload_2 (pc := 1) dX0_follows_1 ?_
  refine og_iload_3 (pc := 2) dX0_follows_2 ?_
  refine og_iload_4 (pc := 3) dX0_follows_3 ?_
  refine og_callS (pc := 5) (n := 4) (met_areRight dA dZ u a b c d ha hb hc hd) (lw_S q71 q72 q18 q73) (by decide +kernel) ⟨by decide, by decide⟩ ⟨rfl, rfl⟩ rfl rfl (Nat.le_of_ble_eq_true rfl) dX0_follows_5 (fun r0 hr0 => ?_)
  refine og_if_ne (pc := 8) (tgt := 13) dX0_follows_8 (by decide) (by omega) (fun c1 => ?_) (fun c1 => ?_)
  rotate_left
  · refine og_iconst (pc := 11) dX0_follows_11 ?_
    have hnr : ¬ od_right a b c d := fun H => by have := hr0.2.mpr H; omega
    exact hret (-1) u ⟨⟨od_fr.rf, h11⟩, fun _ => rfl, fun H => absurd H hnr⟩ _ _ dX0_follows_12
  have hrt : od_right a b c d := hr0.2.mp (by omega)
  have hrt2 := hrt
  unfold od_right at hrt2
  refine og_aload_0 (pc := 13) dX0_follows_13 ?_
  refine og_callV (pc := 14) (n := 0) (met_free dA dZ ad u) rfl rfl (lw_V q82 q84 qs0 q18 q85) (by decide +kernel) ⟨by decide, by decide⟩ ⟨rfl, rfl⟩ rfl rfl (Nat.le_of_ble_eq_true rfl) dX0_follows_14 (fun w1 h1 => ?_)
  obtain ⟨hf1, h100⟩ := h1
  refine og_aload_0 (pc := 17) dX0_follows_17 ?_
  refine og_callV (pc := 18) (n := 0) (met_collect dA dZ ad w1 h (-1) (hok.fr hf1 (by decide)) (by rw [hf1 11 (by decide)]; exact h11) (by omega) (fxB_all h100)) rfl rfl (lw_V q86 q88 qs1 q18 q89) (by decide +kernel) ⟨by decide, by decide⟩ ⟨rfl, rfl⟩ rfl rfl (Nat.le_of_ble_eq_true rfl) dX0_follows_18 (fun w2 hco => ?_)
  obtain ⟨n, a1, a2, a3, a4, a5, a6⟩ := coll_solv (fxB_all h100) hco
  refine og_aload_0 (pc := 21) dX0_follows_21 ?_
  refine og_iload_1 (pc := 22) dX0_follows_22 ?_
  refine og_ineg (pc := 23) dX0_follows_23 ?_
  refine og_iload_2 (pc := 24) dX0_follows_24 ?_
  refine og_ineg (pc := 25) dX0_follows_25 ?_
  refine og_iload_3 (pc := 26) dX0_follows_26 ?_
  refine og_ineg (pc := 27) dX0_follows_27 ?_
  refine og_iload_4 (pc := 28) dX0_follows_28 ?_
  refine og_ineg (pc := 30) dX0_follows_30 ?_
  refine og_iconst (pc := 31) dX0_follows_31 ?_
  refine og_isub (pc := 32) dX0_follows_32 ?_
  refine og_callV (pc := 33) (n := 4) (met_put dA dZ ad w2 _ _ _ _ n a1 (by omega)) rfl rfl (lw_V q90 q92 qs2 q18 q93) (by decide +kernel) ⟨by decide, by decide⟩ ⟨rfl, rfl⟩ rfl rfl (Nat.le_of_ble_eq_true rfl) dX0_follows_33 (fun w3 h3 => ?_)
  subst h3
  have hB3 : rB (putU w2 n (-a) (-b) (-c) (-d - 1)) (n + 1) := putU_B a3 (by omega) (by omega) (by omega) (by omega)
  have hlo : ∃ q, q < n + 1 ∧ putU w2 n (-a) (-b) (-c) (-d - 1) 5 (3 * q + 2) < 0 := by
    obtain ⟨q, q1, q2⟩ := a4
    exact ⟨q, by omega, by rw [putU_5 (by omega)]; exact q2⟩
  have hbx : ∀ x y z, rOK (putU w2 n (-a) (-b) (-c) (-d - 1)) (n + 1) x y z → Bx x ∧ Bx y ∧ Bx z := fun x y z H => a5 x y z ((putU_OK x y z).mp H).1
  refine og_aload_0 (pc := 36) dX0_follows_36 ?_
  refine og_callI (pc := 37) (n := 0) (met_solvable dA dZ ad _ (n + 1) putU_4 (by omega) hB3 hlo hbx) rfl rfl (lw_V q94 q96 qs3 q18 q97) (by decide +kernel) ⟨by decide, by decide⟩ ⟨rfl, rfl⟩ rfl rfl (Nat.le_of_ble_eq_true rfl) dX0_follows_37 (fun r w4 hp => ?_)
  obtain ⟨h01, hf4, hr⟩ := hp
  have hq : qOK u w4 := ⟨(((hf1.wk (by decide)).tr (hco.1.wk (by decide))).tr (putU_fr.wk (by decide))).tr (hf4.wk (by decide)), by rw [hf4 11 (by decide), putU_fr 11 (by decide), hco.1 11 (by decide), hf1 11 (by decide)]; exact h11⟩
  have hE : r = 1 ↔ ∃ x y z, SS u h (-1) x y z ∧ d < a * x + b * y + c * z := by
    rw [hr]
    have e : ∀ x y z, rOK (putU w2 n (-a) (-b) (-c) (-d - 1)) (n + 1) x y z ↔ (SS u h (-1) x y z ∧ d < a * x + b * y + c * z) := fun x y z => by
      rw [putU_OK, a6, fxs_all h100, sD.cg (hf1 1 (by decide)) (hf1 2 (by decide)) (hf1 3 (by decide)), Int.neg_mul, Int.neg_mul, Int.neg_mul]
      refine and_congr_right fun _ => ?_
      omega
    constructor
    · intro ⟨x, y, z, H⟩
      exact ⟨x, y, z, (e x y z).mp H⟩
    · intro ⟨x, y, z, H⟩
      exact ⟨x, y, z, (e x y z).mpr H⟩
  refine og_if_eq (pc := 40) (tgt := 47) dX0_follows_40 (by decide) (by omega) (fun c2 => ?_) (fun c2 => ?_)
  · refine og_iconst (pc := 47) dX0_follows_47 ?_
    exact hret 1 w4 ⟨hq, fun H => absurd hrt H, fun _ => ⟨Or.inr rfl, by rw [← hE]; omega⟩⟩ _ _ dX0_follows_48
  · refine og_iconst (pc := 43) dX0_follows_43 ?_
    refine og_goto (pc := 44) (tgt := 48) dX0_follows_44 (by decide) ?_
    exact hret 0 w4 ⟨hq, fun H => absurd hrt H, fun _ => ⟨Or.inl rfl, by rw [← hE]; omega⟩⟩ _ _ dX0_follows_48
theorem Ex_all {u : DS} {h : Nat} (hu : ∀ j, j < 3 → u 10 j = 100) {v : Nat} (hv : v < 3) {t : Int} (ht : Bx t) : Ex u h (-1) v t ↔ ∃ x y z, SS u h (-1) x y z ∧ sel v x y z = t := by
  unfold Ex
  constructor
  · intro ⟨x, y, z, h1, h2⟩
    have h3 := (fxs_one hu hv ht x y z).mp h2
    exact ⟨x, y, z, ⟨h1, h3.1⟩, h3.2⟩
  · intro ⟨x, y, z, h1, h2⟩
    exact ⟨x, y, z, h1.1, (fxs_one hu hv ht x y z).mpr ⟨h1.2, h2⟩⟩
theorem sel_box {v x y z : Int} (h : Bx x ∧ Bx y ∧ Bx z) : Bx (sel v x y z) := by
  unfold sel
  split
  · exact h.1
  · split
    · exact h.2.1
    · exact h.2.2
/-! OmegaDesk.extreme -/
theorem met_extreme (dA dZ : ClassId) (ad : Nat → Nat) (u : DS) (h : Nat) (va gr : Int) (hva : Rg va) (hgr : gr = 0 ∨ gr = 1) (hok : dOK u h) (h11 : u 11 0 = -1) :
    od_MI dA dZ (xc dA dZ ad) yX0_extreme cX0_extreme 3 (some .int) (rmL 7) [.ref (ad 0), .int (iI va), .int (iI gr)] u (fun r u' => qOK u u' ∧ exQ (SS u h (-1)) va gr r) := by
  refine od_MI.ofI (own := RX0) 0 (by decide) rfl (od_cc rfl (od_cc rfl (od_cc rfl od_c1))) (Nat.le_of_ble_eq_true rfl) ?_
  intro Γ hret
  show od_G Γ RX0 cX0_extreme 3 (rmL 7) dA dZ (xc dA dZ ad (u)) [.ref (ad 0), .int (iI va), .int (iI gr)] 0 []
  have K9 : ¬ (0 ≤ va ∧ va ≤ 2) → od_G Γ RX0 cX0_extreme 3 (rmL 7) dA dZ (xc dA dZ ad (u)) [.ref (ad 0), .int (iI va), .int (iI gr)] 9 [] := by
    intro hn
    refine og_bipush (pc := 9) dX0_extreme_9 (by decide +kernel) ?_
    exact hret 100 u ⟨⟨od_fr.rf, h11⟩, fun _ => rfl, fun H => absurd H hn⟩ _ _ dX0_extreme_11
  refine og_iload_1 (pc := 0) dX0_extreme_0 ?_
  refine og_if_lt (pc := 1) (tgt := 9) dX0_extreme_1 (by decide) (by omega) (fun c1 => ?_) (fun c1 => ?_)
  · exact K9 (by omega)
  refine og_iload_1 (pc := 4) dX0_extreme_4 ?_
  refine og_iconst (pc := 5) dX0_extreme_5 ?_
  refine og_icmp_le (pc := 6) (tgt := 12) dX0_extreme_6 (by decide) (by omega) (by omega) (fun c2 => ?_) (fun c2 => ?_)
  rotate_left
  · exact K9 (by omega)
  obtain ⟨v, rfl⟩ : ∃ v : Nat, va = v := ⟨va.toNat, by omega⟩
  have hv : v < 3 := by omega
  refine og_aload_0 (pc := 12) dX0_extreme_12 ?_
  refine og_callV (pc := 13) (n := 0) (met_free dA dZ ad u) rfl rfl (lw_V q82 q84 qs0 q18 q85) (by decide +kernel) ⟨by decide, by decide⟩ ⟨rfl, rfl⟩ rfl rfl (Nat.le_of_ble_eq_true rfl) dX0_extreme_13 (fun w1 h1 => ?_)
  obtain ⟨hf1, h100⟩ := h1
  refine og_aload_0 (pc := 16) dX0_extreme_16 ?_
  refine og_iload_1 (pc := 17) dX0_extreme_17 ?_
  refine og_iload_2 (pc := 18) dX0_extreme_18 ?_
  refine og_callI (pc := 19) (n := 2) (met_leastValue dA dZ ad w1 h (-1) v gr (hok.fr hf1 (by decide)) (by rw [hf1 11 (by decide)]; exact h11) (by omega) (fxB_all h100) hv hgr) rfl rfl (lw_V q139 q141 qs11 q18 q142) (by decide +kernel) ⟨by decide, by decide⟩ ⟨rfl, rfl⟩ rfl rfl (Nat.le_of_ble_eq_true rfl) dX0_extreme_19 (fun r w2 hp => ?_)
  obtain ⟨hf2, -, -, hL⟩ := hp
  have hq : qOK u w2 := ⟨(hf1.wk (by decide)).tr (hf2.wk (by decide)), by rw [hf2 11 (by decide), hf1 11 (by decide)]; exact h11⟩
  have hS : ∀ x y z, SS w1 h (-1) x y z ↔ SS u h (-1) x y z := fun x y z => by
    unfold SS
    rw [sD.cg (hf1 1 (by decide)) (hf1 2 (by decide)) (hf1 3 (by decide))]
  refine hret r w2 ⟨hq, fun H => absurd (by omega) H, fun _ => ?_⟩ _ _ dX0_extreme_22
  rcases hL with ⟨h1, h2⟩ | ⟨h1, h2, h3⟩
  · refine Or.inl ⟨h1, fun x y z H => ?_⟩
    have hb := sel_box (v := v) H.2
    exact h2 _ hb ((Ex_all h100 hv hb).mpr ⟨x, y, z, (hS x y z).mpr H, rfl⟩)
  · refine Or.inr ⟨h1, ?_, fun x y z H => ?_⟩
    · obtain ⟨x, y, z, H, e⟩ := (Ex_all h100 hv h1).mp h2
      exact ⟨x, y, z, (hS x y z).mp H, e⟩
    · have hb := sel_box (v := v) H.2
      exact h3 _ hb ((Ex_all h100 hv hb).mpr ⟨x, y, z, (hS x y z).mpr H, rfl⟩)
end
section
set_option maxRecDepth 100000
def Lst (Q : Int → Prop) (t : Int) : Prop := Bx t ∧ Q t ∧ ∀ t', Bx t' → Q t' → t ≤ t'
theorem lex_of {P : Int → Int → Int → Prop} (hb : ∀ x y z, P x y z → Bx x ∧ Bx y ∧ Bx z) {x y z : Int} (h1 : Lst (fun t => ∃ y z, P t y z) x) (h2 : Lst (fun t => ∃ z, P x t z) y) (h3 : Lst (fun t => P x y t) z) : LexMin P x y z := by
  refine ⟨h3.2.1, fun x' y' z' H => ?_⟩
  have b := hb x' y' z' H
  have k1 := h1.2.2 x' b.1 ⟨y', z', H⟩
  by_cases e1 : x = x'
  · subst e1
    have k2 := h2.2.2 y' b.2.1 ⟨z', H⟩
    by_cases e2 : y = y'
    · subst e2
      have k3 := h3.2.2 z' b.2.2 H
      exact Or.inr ⟨rfl, Or.inr ⟨rfl, k3⟩⟩
    · exact Or.inr ⟨rfl, Or.inl (by omega)⟩
  · exact Or.inl (by omega)
theorem lex_of1 {P : Int → Int → Int → Prop} (hb : ∀ x y z, P x y z → Bx x ∧ Bx y ∧ Bx z) {x y : Int} (h1 : Lst (fun t => ∃ y z, P t y z) x) (h2 : Lst (fun t => ∃ z, P x t z) y) : ∃ z, LexMin P x y z := by
  obtain ⟨z, hz⟩ := h2.2.1
  obtain ⟨z0, k⟩ := least_ex (Q := fun t => P x y t) ⟨z, (hb x y z hz).2.2, hz⟩
  exact ⟨z0, lex_of hb h1 h2 k⟩
theorem lex_of0 {P : Int → Int → Int → Prop} (hb : ∀ x y z, P x y z → Bx x ∧ Bx y ∧ Bx z) {x : Int} (h1 : Lst (fun t => ∃ y z, P t y z) x) : ∃ y z, LexMin P x y z := by
  obtain ⟨y, z, hz⟩ := h1.2.1
  obtain ⟨y0, k⟩ := least_ex (Q := fun t => ∃ z, P x t z) ⟨y, (hb x y z hz).2.1, z, hz⟩
  exact ⟨y0, lex_of1 hb h1 k⟩
theorem fxs_x {w : DS} {x t : Int} (h0 : w 10 0 = x) (hx : Bx x) (h2 : w 10 2 = 100) (ht : Bx t) (a b c : Int) : fxs (up2 w 10 1 t) a b c ↔ (a = x ∧ b = t ∧ Bx c) := by
  unfold fxs
  rw [up2_same, up2_off (by decide), up2_off (by decide), h0, h2, fx_b hx, fx_b ht, fx_100]
theorem fxs_xy {w : DS} {x y t : Int} (h0 : w 10 0 = x) (hx : Bx x) (h1 : w 10 1 = y) (hy : Bx y) (ht : Bx t) (a b c : Int) : fxs (up2 w 10 2 t) a b c ↔ (a = x ∧ b = y ∧ c = t) := by
  unfold fxs
  rw [up2_same, up2_off (by decide), up2_off (by decide), h0, h1, fx_b hx, fx_b hy, fx_b ht]
/-! OmegaDesk.first -/
set_option maxHeartbeats 4000000 in
theorem met_first (dA dZ : ClassId) (ad : Nat → Nat) (u : DS) (h : Nat) (pl : Int) (hpl : Rg pl) (hok : dOK u h) (h11 : u 11 0 = -1) :
    od_MI dA dZ (xc dA dZ ad) yX0_first cX0_first 4 (some .int) (rmL 7) [.ref (ad 0), .int (iI pl)] u (fun r u' => qOK u u' ∧ firstQ (SS u h (-1)) pl r) := by
  refine od_MI.ofI (own := RX0) 2 (by decide) rfl (od_cc rfl (od_cc rfl od_c1)) (Nat.le_of_ble_eq_true rfl) ?_
  intro Γ hret
  show od_G Γ RX0 cX0_first 4 (rmL 7) dA dZ (xc dA dZ ad (u)) [.ref (ad 0), .int (iI pl), .null, .null] 0 []
  have K9 : ¬ (0 ≤ pl ∧ pl ≤ 2) → od_G Γ RX0 cX0_first 4 (rmL 7) dA dZ (xc dA dZ ad (u)) [.ref (ad 0), .int (iI pl), .null, .null] 9 [] := by
    intro hn
    refine og_bipush (pc := 9) dX0_first_9 (by decide +kernel) ?_
    exact hret 100 u ⟨⟨od_fr.rf, h11⟩, fun _ => rfl, fun H => absurd H hn⟩ _ _ dX0_first_11
  refine og_iload_1 (pc := 0) dX0_first_0 ?_
  refine og_if_lt (pc := 1) (tgt := 9) dX0_first_1 (by decide) (by omega) (fun c1 => ?_) (fun c1 => ?_)
  · exact K9 (by omega)
  refine og_iload_1 (pc := 4) dX0_first_4 ?_
  refine og_iconst (pc := 5) dX0_first_5 ?_
  refine og_icmp_le (pc := 6) (tgt := 12) dX0_first_6 (by decide) (by omega) (by omega) (fun c2 => ?_) (fun c2 => ?_)
  rotate_left
  · exact K9 (by omega)
  obtain ⟨p, rfl⟩ : ∃ p : Nat, pl = p := ⟨pl.toNat, by omega⟩
  have hp : p < 3 := by omega
  have hbP : ∀ x y z, SS u h (-1) x y z → Bx x ∧ Bx y ∧ Bx z := fun x y z H => H.2
  -- the way out
  have Kx : ∀ (w : DS) (r : Int) (v2 v3 : Value), od_fr [4, 5, 6, 7, 8, 9, 10] u w → w 10 p = r → (∃ x y z, LexMin (SS u h (-1)) x y z ∧ sel p x y z = r) → od_G Γ RX0 cX0_first 4 (rmL 7) dA dZ (xc dA dZ ad (w)) [.ref (ad 0), .int (iI p), v2, v3] 52 [] := by
    intro w r v2 v3 hf h10 hL
    refine og_aload_0 (pc := 52) dX0_first_52 ?_
    refine og_xr10 (pc := 53) dX0_first_53 ?_
    refine og_iload_1 (pc := 56) dX0_first_56 ?_
    refine og_xl10 (pc := 57) (z := r) (p) dX0_first_57 (by omega) (by omega) h10 ?_
    exact hret r w ⟨⟨hf.wk (by decide), by rw [hf 11 (by decide)]; exact h11⟩, fun H => absurd (by omega) H, fun _ => Or.inr hL⟩ _ _ dX0_first_58
  have K100 : ∀ (w : DS) (v2 v3 : Value), od_fr [4, 5, 6, 7, 8, 9, 10] u w → (∀ x y z, ¬ SS u h (-1) x y z) → od_G Γ RX0 cX0_first 4 (rmL 7) dA dZ (xc dA dZ ad (w)) [.ref (ad 0), .int (iI p), v2, v3] 36 [] := by
    intro w v2 v3 hf hn
    refine og_bipush (pc := 36) dX0_first_36 (by decide +kernel) ?_
    exact hret 100 w ⟨⟨hf.wk (by decide), by rw [hf 11 (by decide)]; exact h11⟩, fun H => absurd (by omega) H, fun _ => Or.inl ⟨rfl, hn⟩⟩ _ _ dX0_first_38
  have hSD : ∀ w : DS, od_fr [4, 5, 6, 7, 8, 9, 10] u w → ∀ x y z, sD w h (-1) x y z ↔ sD u h (-1) x y z := fun w hf x y z => sD.cg (hf 1 (by decide)) (hf 2 (by decide)) (hf 3 (by decide))
  have K3 : ∀ (w : DS) (x y z : Int), p = 2 → od_fr [4, 5, 6, 7, 8, 9, 10] u w → w 10 2 = z → Lst (fun t => ∃ y z, SS u h (-1) t y z) x → Lst (fun t => ∃ z, SS u h (-1) x t z) y → Lst (fun t => SS u h (-1) x y t) z → od_G Γ RX0 cX0_first 4 (rmL 7) dA dZ (xc dA dZ ad (w)) [.ref (ad 0), .int (iI p), .int (iI 3), .null] 18 [] := by
    intro w x y z hp2 hf h2 l1 l2 l3
    subst hp2
    refine og_iload_2 (pc := 18) dX0_first_18 ?_
    refine og_iload_1 (pc := 19) dX0_first_19 ?_
    refine og_icmp_gt (pc := 20) (tgt := 52) dX0_first_20 (by decide) (by omega) (by omega) (fun c => ?_) (fun c => ?_)
    · exact Kx w z _ _ hf h2 ⟨x, y, z, lex_of hbP l1 l2 l3, rfl⟩
    · exact absurd c (by omega)
  have K2 : ∀ (w : DS) (x y : Int), 1 ≤ p → od_fr [4, 5, 6, 7, 8, 9, 10] u w → w 10 0 = x → w 10 1 = y → w 10 2 = 100 → Lst (fun t => ∃ y z, SS u h (-1) t y z) x → Lst (fun t => ∃ z, SS u h (-1) x t z) y → od_G Γ RX0 cX0_first 4 (rmL 7) dA dZ (xc dA dZ ad (w)) [.ref (ad 0), .int (iI p), .int (iI 2), .null] 18 [] := by
    intro w x y hp1 hf g0 g1 g2 l1 l2
    refine og_iload_2 (pc := 18) dX0_first_18 ?_
    refine og_iload_1 (pc := 19) dX0_first_19 ?_
    refine og_icmp_gt (pc := 20) (tgt := 52) dX0_first_20 (by decide) (by omega) (by omega) (fun c => ?_) (fun c => ?_)
    · have hp2 : p = 1 := by omega
      subst hp2
      obtain ⟨z, hz⟩ := lex_of1 hbP l1 l2
      exact Kx w y _ _ hf g1 ⟨x, y, z, hz, rfl⟩
    have hfx : fxB w := by
      intro j hj
      have hd : j = 0 ∨ j = 1 ∨ j = 2 := by omega
      rcases hd with rfl | rfl | rfl
      · rw [g0]; exact Or.inr l1.1
      · rw [g1]; exact Or.inr l2.1
      · exact Or.inl g2
    refine og_aload_0 (pc := 23) dX0_first_23 ?_
    refine og_iload_2 (pc := 24) dX0_first_24 ?_
    refine og_iconst (pc := 25) dX0_first_25 ?_
    refine og_callI (pc := 26) (n := 2) (met_leastValue dA dZ ad w h (-1) 2 0 (hok.fr hf (by decide)) (by rw [hf 11 (by decide)]; exact h11) (by omega) hfx (by decide) (Or.inl rfl)) rfl rfl (lw_V q139 q141 qs11 q18 q142) (by decide +kernel) ⟨by decide, by decide⟩ ⟨rfl, rfl⟩ rfl rfl (Nat.le_of_ble_eq_true rfl) dX0_first_26 (fun r w2 hq => ?_)
    obtain ⟨hf2, hj2, h100, hL⟩ := hq
    have hE : ∀ t, Bx t → (Ex w h (-1) 2 t ↔ SS u h (-1) x y t) := by
      intro t ht
      unfold Ex
      constructor
      · intro ⟨a, b, c, H1, H2⟩
        obtain ⟨rfl, rfl, rfl⟩ := (fxs_xy g0 l1.1 g1 l2.1 ht a b c).mp H2
        exact ⟨(hSD w hf _ _ _).mp H1, l1.1, l2.1, ht⟩
      · intro H
        exact ⟨x, y, t, (hSD w hf _ _ _).mpr H.1, (fxs_xy g0 l1.1 g1 l2.1 ht x y t).mpr ⟨rfl, rfl, rfl⟩⟩
    have hr : r = 100 ∨ Bx r := by
      rcases hL with H | H
      · exact Or.inl H.1
      · exact Or.inr H.1
    refine og_istore_3 (pc := 29) dX0_first_29 (by decide) ?_
    refine og_iload_3 (pc := 30) dX0_first_30 ?_
    refine og_bipush (pc := 31) dX0_first_31 (by decide +kernel) ?_
    refine og_icmp_ne (pc := 33) (tgt := 39) dX0_first_33 (by decide) (by omega) (by omega) (fun c3 => ?_) (fun c3 => ?_)
    rotate_left
    · refine K100 w2 _ _ (hf.tr hf2) (fun a b c _ => ?_)
      rcases hL with H | H
      · obtain ⟨z, hz⟩ := l2.2.1
        exact H.2 z hz.2.2.2 ((hE z hz.2.2.2).mpr hz)
      · have := H.1
        omega
    refine og_aload_0 (pc := 39) dX0_first_39 ?_
    refine og_xr10 (pc := 40) dX0_first_40 ?_
    refine og_iload_2 (pc := 43) dX0_first_43 ?_
    refine og_iload_3 (pc := 44) dX0_first_44 ?_
    refine og_xs10 (pc := 45) (2) dX0_first_45 (by omega) (by omega) ?_
    refine og_iinc_2 (pc := 46) dX0_first_46 (by decide) ?_
    refine og_forget_3 ?_
    refine og_goto (pc := 49) (tgt := 18) dX0_first_49 (by decide) ?_
    rcases hL with H | H
    · exact absurd H.1 c3
    · refine K3 _ x y r (by omega) ((hf.tr hf2).up (by decide)) up2_same l1 l2 ⟨H.1, (hE r H.1).mp H.2.1, fun t ht hS => ?_⟩
      exact (H.2.2 t ht ((hE t ht).mpr hS)).1 rfl
  have K1 : ∀ (w : DS) (x : Int), od_fr [4, 5, 6, 7, 8, 9, 10] u w → w 10 0 = x → w 10 1 = 100 → w 10 2 = 100 → Lst (fun t => ∃ y z, SS u h (-1) t y z) x → od_G Γ RX0 cX0_first 4 (rmL 7) dA dZ (xc dA dZ ad (w)) [.ref (ad 0), .int (iI p), .int (iI 1), .null] 18 [] := by
    intro w x hf g0 g1 g2 l1
    refine og_iload_2 (pc := 18) dX0_first_18 ?_
    refine og_iload_1 (pc := 19) dX0_first_19 ?_
    refine og_icmp_gt (pc := 20) (tgt := 52) dX0_first_20 (by decide) (by omega) (by omega) (fun c => ?_) (fun c => ?_)
    · have hp2 : p = 0 := by omega
      subst hp2
      obtain ⟨y, z, hz⟩ := lex_of0 hbP l1
      exact Kx w x _ _ hf g0 ⟨x, y, z, hz, rfl⟩
    have hfx : fxB w := by
      intro j hj
      have hd : j = 0 ∨ j = 1 ∨ j = 2 := by omega
      rcases hd with rfl | rfl | rfl
      · rw [g0]; exact Or.inr l1.1
      · exact Or.inl g1
      · exact Or.inl g2
    refine og_aload_0 (pc := 23) dX0_first_23 ?_
    refine og_iload_2 (pc := 24) dX0_first_24 ?_
    refine og_iconst (pc := 25) dX0_first_25 ?_
    refine og_callI (pc := 26) (n := 2) (met_leastValue dA dZ ad w h (-1) 1 0 (hok.fr hf (by decide)) (by rw [hf 11 (by decide)]; exact h11) (by omega) hfx (by decide) (Or.inl rfl)) rfl rfl (lw_V q139 q141 qs11 q18 q142) (by decide +kernel) ⟨by decide, by decide⟩ ⟨rfl, rfl⟩ rfl rfl (Nat.le_of_ble_eq_true rfl) dX0_first_26 (fun r w2 hq => ?_)
    obtain ⟨hf2, hj2, h100, hL⟩ := hq
    have hE : ∀ t, Bx t → (Ex w h (-1) 1 t ↔ ∃ z, SS u h (-1) x t z) := by
      intro t ht
      unfold Ex
      constructor
      · intro ⟨a, b, c, H1, H2⟩
        obtain ⟨rfl, rfl, hc⟩ := (fxs_x g0 l1.1 g2 ht a b c).mp H2
        exact ⟨c, (hSD w hf _ _ _).mp H1, l1.1, ht, hc⟩
      · intro ⟨z, H⟩
        exact ⟨x, t, z, (hSD w hf _ _ _).mpr H.1, (fxs_x g0 l1.1 g2 ht x t z).mpr ⟨rfl, rfl, H.2.2.2⟩⟩
    have hr : r = 100 ∨ Bx r := by
      rcases hL with H | H
      · exact Or.inl H.1
      · exact Or.inr H.1
    refine og_istore_3 (pc := 29) dX0_first_29 (by decide) ?_
    refine og_iload_3 (pc := 30) dX0_first_30 ?_
    refine og_bipush (pc := 31) dX0_first_31 (by decide +kernel) ?_
    refine og_icmp_ne (pc := 33) (tgt := 39) dX0_first_33 (by decide) (by omega) (by omega) (fun c3 => ?_) (fun c3 => ?_)
    rotate_left
    · refine K100 w2 _ _ (hf.tr hf2) (fun a b c _ => ?_)
      rcases hL with H | H
      · obtain ⟨y, z, hz⟩ := l1.2.1
        exact H.2 y hz.2.2.1 ((hE y hz.2.2.1).mpr ⟨z, hz⟩)
      · have := H.1
        omega
    refine og_aload_0 (pc := 39) dX0_first_39 ?_
    refine og_xr10 (pc := 40) dX0_first_40 ?_
    refine og_iload_2 (pc := 43) dX0_first_43 ?_
    refine og_iload_3 (pc := 44) dX0_first_44 ?_
    refine og_xs10 (pc := 45) (1) dX0_first_45 (by omega) (by omega) ?_
    refine og_iinc_2 (pc := 46) dX0_first_46 (by decide) ?_
    refine og_forget_3 ?_
    refine og_goto (pc := 49) (tgt := 18) dX0_first_49 (by decide) ?_
    rcases hL with H | H
    · exact absurd H.1 c3
    · refine K2 _ x r (by omega) ((hf.tr hf2).up (by decide)) (by rw [up2_off (by decide), hj2 0 (by decide)]; exact g0) up2_same (by rw [up2_off (by decide), hj2 2 (by decide)]; exact g2) l1 ⟨H.1, (hE r H.1).mp H.2.1, fun t ht hS => ?_⟩
      exact (H.2.2 t ht ((hE t ht).mpr hS)).1 rfl
  refine og_aload_0 (pc := 12) dX0_first_12 ?_
  refine og_callV (pc := 13) (n := 0) (met_free dA dZ ad u) rfl rfl (lw_V q82 q84 qs0 q18 q85) (by decide +kernel) ⟨by decide, by decide⟩ ⟨rfl, rfl⟩ rfl rfl (Nat.le_of_ble_eq_true rfl) dX0_first_13 (fun w h1 => ?_)
  obtain ⟨hf0, h100⟩ := h1
  have hf : od_fr [4, 5, 6, 7, 8, 9, 10] u w := hf0.wk (by decide)
  refine og_iconst (pc := 16) dX0_first_16 ?_
  refine og_istore_2 (pc := 17) dX0_first_17 (by decide) ?_
  refine og_iload_2 (pc := 18) dX0_first_18 ?_
  refine og_iload_1 (pc := 19) dX0_first_19 ?_
  refine og_icmp_gt (pc := 20) (tgt := 52) dX0_first_20 (by decide) (by omega) (by omega) (fun c => ?_) (fun c => ?_)
  · exact absurd c (by omega)
  refine og_aload_0 (pc := 23) dX0_first_23 ?_
  refine og_iload_2 (pc := 24) dX0_first_24 ?_
  refine og_iconst (pc := 25) dX0_first_25 ?_
  refine og_callI (pc := 26) (n := 2) (met_leastValue dA dZ ad w h (-1) 0 0 (hok.fr hf (by decide)) (by rw [hf 11 (by decide)]; exact h11) (by omega) (fxB_all h100) (by decide) (Or.inl rfl)) rfl rfl (lw_V q139 q141 qs11 q18 q142) (by decide +kernel) ⟨by decide, by decide⟩ ⟨rfl, rfl⟩ rfl rfl (Nat.le_of_ble_eq_true rfl) dX0_first_26 (fun r w2 hq => ?_)
  obtain ⟨hf2, hj2, h100b, hL⟩ := hq
  have hE : ∀ t, Bx t → (Ex w h (-1) 0 t ↔ ∃ y z, SS u h (-1) t y z) := by
    intro t ht
    rw [Ex_all h100 (by decide) ht]
    constructor
    · intro ⟨a, b, c, H1, H2⟩
      have e : a = t := H2
      subst e
      exact ⟨b, c, (hSD w hf _ _ _).mp H1.1, H1.2⟩
    · intro ⟨y, z, H⟩
      exact ⟨t, y, z, ⟨(hSD w hf _ _ _).mpr H.1, H.2⟩, rfl⟩
  have hr : r = 100 ∨ Bx r := by
    rcases hL with H | H
    · exact Or.inl H.1
    · exact Or.inr H.1
  refine og_istore_3 (pc := 29) dX0_first_29 (by decide) ?_
  refine og_iload_3 (pc := 30) dX0_first_30 ?_
  refine og_bipush (pc := 31) dX0_first_31 (by decide +kernel) ?_
  refine og_icmp_ne (pc := 33) (tgt := 39) dX0_first_33 (by decide) (by omega) (by omega) (fun c3 => ?_) (fun c3 => ?_)
  rotate_left
  · refine K100 w2 _ _ (hf.tr hf2) (fun a b c H2 => ?_)
    rcases hL with H | H
    · exact H.2 a H2.2.1 ((hE a H2.2.1).mpr ⟨b, c, H2⟩)
    · have := H.1
      omega
  refine og_aload_0 (pc := 39) dX0_first_39 ?_
  refine og_xr10 (pc := 40) dX0_first_40 ?_
  refine og_iload_2 (pc := 43) dX0_first_43 ?_
  refine og_iload_3 (pc := 44) dX0_first_44 ?_
  refine og_xs10 (pc := 45) (0) dX0_first_45 (by omega) (by omega) ?_
  refine og_iinc_2 (pc := 46) dX0_first_46 (by decide) ?_
  refine og_forget_3 ?_
  refine og_goto (pc := 49) (tgt := 18) dX0_first_49 (by decide) ?_
  rcases hL with H | H
  · exact absurd H.1 c3
  · refine K1 _ r ((hf.tr hf2).up (by decide)) up2_same (by rw [up2_off (by decide), hj2 1 (by decide)]; exact h100 1 (by decide)) (by rw [up2_off (by decide), hj2 2 (by decide)]; exact h100 2 (by decide)) ⟨H.1, (hE r H.1).mp H.2.1, fun t ht hS => ?_⟩
    exact (H.2.2 t ht ((hE t ht).mpr hS)).1 rfl
/-! spare -/
def Vk (u : DS) (k : Nat) (x y z : Int) : Int := u 1 (3 * k) * x + u 1 (3 * k + 1) * y + u 1 (3 * k + 2) * z
def brk (u : DS) (k : Nat) (sg x y z : Int) : Prop := (sg = 1 → u 2 k < Vk u k x y z) ∧ (sg = -1 → Vk u k x y z < u 2 k)
/-! OmegaDesk.broken -/
theorem met_broken (dA dZ : ClassId) (ad : Nat → Nat) (u : DS) (h k : Nat) (sg : Int) (hsg : sg = 1 ∨ sg = -1) (hk : k < h) (hok : dOK u h) (h11 : u 11 0 = k) (h100 : ∀ j, j < 3 → u 10 j = 100) :
    od_MI dA dZ (xc dA dZ ad) yX0_broken cX0_broken 4 (some .boolean) (rmL 6) [.ref (ad 0), .int (iI k), .int (iI sg)] u (fun r u' => (r = 0 ∨ r = 1) ∧ od_fr [4, 5, 6, 7, 8, 9] u u' ∧ (r = 1 ↔ ∃ x y z, SS u h k x y z ∧ brk u k sg x y z)) := by
  refine od_MI.ofZ (own := RX0) 1 (by decide) rfl (od_cc rfl (od_cc rfl (od_cc rfl od_c1))) (Nat.le_of_ble_eq_true rfl) (fun r u' h => h.1) ?_
  intro Γ hret
  show od_G Γ RX0 cX0_broken 4 (rmL 6) dA dZ (xc dA dZ ad (u)) [.ref (ad 0), .int (iI k), .int (iI sg), .null] 0 []
  have h8 := hok.2.1
  have hb := (hok.2.2 k hk).1
  unfold od_right at hb
  refine og_aload_0 (pc := 0) dX0_broken_0 ?_
  refine og_callV (pc := 1) (n := 0) (met_collect dA dZ ad u h k hok h11 (by omega) (fxB_all h100)) rfl rfl (lw_V q86 q88 qs1 q18 q89) (by decide +kernel) ⟨by decide, by decide⟩ ⟨rfl, rfl⟩ rfl rfl (Nat.le_of_ble_eq_true rfl) dX0_broken_1 (fun w hc => ?_)
  obtain ⟨n, a1, a2, a3, a4, a5, a6⟩ := coll_solv (fxB_all h100) hc
  have g1 : w 1 = u 1 := hc.1 1 (by decide)
  have g2 : w 2 = u 2 := hc.1 2 (by decide)
  refine og_iload_2 (pc := 4) dX0_broken_4 ?_
  refine og_ineg (pc := 5) dX0_broken_5 ?_
  refine og_istore_3 (pc := 6) dX0_broken_6 (by decide) ?_
  refine og_aload_0 (pc := 7) dX0_broken_7 ?_
  refine og_iload_3 (pc := 8) dX0_broken_8 ?_
  refine og_aload_0 (pc := 9) dX0_broken_9 ?_
  refine og_xr1 (pc := 10) dX0_broken_10 ?_
  refine og_iconst (pc := 13) dX0_broken_13 ?_
  refine og_iload_1 (pc := 14) dX0_broken_14 ?_
  refine og_imul (pc := 15) dX0_broken_15 ?_
  refine og_xl1 (pc := 16) (z := u 1 (3 * k)) (3 * k) dX0_broken_16 (by omega) (by omega) (by rw [g1]) ?_
  refine og_imul (pc := 17) dX0_broken_17 ?_
  refine og_iload_3 (pc := 18) dX0_broken_18 ?_
  refine og_aload_0 (pc := 19) dX0_broken_19 ?_
  refine og_xr1 (pc := 20) dX0_broken_20 ?_
  refine og_iconst (pc := 23) dX0_broken_23 ?_
  refine og_iload_1 (pc := 24) dX0_broken_24 ?_
  refine og_imul (pc := 25) dX0_broken_25 ?_
  refine og_iconst (pc := 26) dX0_broken_26 ?_
  refine og_iadd (pc := 27) dX0_broken_27 ?_
  refine og_xl1 (pc := 28) (z := u 1 (3 * k + 1)) (3 * k + 1) dX0_broken_28 (by omega) (by omega) (by rw [g1]) ?_
  refine og_imul (pc := 29) dX0_broken_29 ?_
  refine og_iload_3 (pc := 30) dX0_broken_30 ?_
  refine og_aload_0 (pc := 31) dX0_broken_31 ?_
  refine og_xr1 (pc := 32) dX0_broken_32 ?_
  refine og_iconst (pc := 35) dX0_broken_35 ?_
  refine og_iload_1 (pc := 36) dX0_broken_36 ?_
  refine og_imul (pc := 37) dX0_broken_37 ?_
  refine og_iconst (pc := 38) dX0_broken_38 ?_
  refine og_iadd (pc := 39) dX0_broken_39 ?_
  refine og_xl1 (pc := 40) (z := u 1 (3 * k + 2)) (3 * k + 2) dX0_broken_40 (by omega) (by omega) (by rw [g1]) ?_
  refine og_imul (pc := 41) dX0_broken_41 ?_
  refine og_iload_3 (pc := 42) dX0_broken_42 ?_
  refine og_aload_0 (pc := 43) dX0_broken_43 ?_
  refine og_xr2 (pc := 44) dX0_broken_44 ?_
  refine og_iload_1 (pc := 47) dX0_broken_47 ?_
  refine og_xl2 (pc := 48) (z := u 2 k) (k) dX0_broken_48 (by omega) (by omega) (by rw [g2]) ?_
  refine og_imul (pc := 49) dX0_broken_49 ?_
  refine og_iconst (pc := 50) dX0_broken_50 ?_
  refine og_isub (pc := 51) dX0_broken_51 ?_
  refine og_callV (pc := 52) (n := 4) (met_put dA dZ ad w _ _ _ _ n a1 (by omega)) rfl rfl (lw_V q90 q92 qs2 q18 q93) (by decide +kernel) ⟨by decide, by decide⟩ ⟨rfl, rfl⟩ rfl rfl (Nat.le_of_ble_eq_true rfl) dX0_broken_52 (fun w3 h3 => ?_)
  subst h3
  have hB3 : rB (putU w n (-sg * u 1 (3 * k)) (-sg * u 1 (3 * k + 1)) (-sg * u 1 (3 * k + 2)) (-sg * u 2 k - 1)) (n + 1) := by
    rcases hsg with rfl | rfl
    · exact putU_B a3 (by omega) (by omega) (by omega) (by omega)
    · exact putU_B a3 (by omega) (by omega) (by omega) (by omega)
  have hlo : ∃ q, q < n + 1 ∧ putU w n (-sg * u 1 (3 * k)) (-sg * u 1 (3 * k + 1)) (-sg * u 1 (3 * k + 2)) (-sg * u 2 k - 1) 5 (3 * q + 2) < 0 := by
    obtain ⟨q, q1, q2⟩ := a4
    exact ⟨q, by omega, by rw [putU_5 (by omega)]; exact q2⟩
  have hbx : ∀ x y z, rOK (putU w n (-sg * u 1 (3 * k)) (-sg * u 1 (3 * k + 1)) (-sg * u 1 (3 * k + 2)) (-sg * u 2 k - 1)) (n + 1) x y z → Bx x ∧ Bx y ∧ Bx z := fun x y z H => a5 x y z ((putU_OK x y z).mp H).1
  refine og_aload_0 (pc := 55) dX0_broken_55 ?_
  refine og_callI (pc := 56) (n := 0) (met_solvable dA dZ ad _ (n + 1) putU_4 (by omega) hB3 hlo hbx) rfl rfl (lw_V q94 q96 qs3 q18 q97) (by decide +kernel) ⟨by decide, by decide⟩ ⟨rfl, rfl⟩ rfl rfl (Nat.le_of_ble_eq_true rfl) dX0_broken_56 (fun r w4 hp => ?_)
  obtain ⟨h01, hf4, hr⟩ := hp
  refine hret r w4 ⟨h01, (((hc.1.wk (by decide)).tr (putU_fr.wk (by decide))).tr (hf4.wk (by decide))), ?_⟩ _ _ dX0_broken_59
  rw [hr]
  have e : ∀ x y z, rOK (putU w n (-sg * u 1 (3 * k)) (-sg * u 1 (3 * k + 1)) (-sg * u 1 (3 * k + 2)) (-sg * u 2 k - 1)) (n + 1) x y z ↔ (SS u h k x y z ∧ brk u k sg x y z) := fun x y z => by
    rw [putU_OK, a6, fxs_all h100]
    unfold SS brk Vk
    refine and_congr_right fun _ => ?_
    rw [Int.mul_assoc, Int.mul_assoc, Int.mul_assoc]
    rcases hsg with rfl | rfl
    · constructor
      · intro H
        exact ⟨fun _ => by omega, fun c => absurd c (by decide)⟩
      · intro H
        have := H.1 rfl
        omega
    · constructor
      · intro H
        exact ⟨fun c => absurd c (by decide), fun _ => by omega⟩
      · intro H
        have := H.2 rfl
        omega
  constructor
  · intro ⟨x, y, z, H⟩
    exact ⟨x, y, z, (e x y z).mp H⟩
  · intro ⟨x, y, z, H⟩
    exact ⟨x, y, z, (e x y z).mpr H⟩
/-- nothing breaks condition i alone -/
def Sp (u : DS) (h i : Nat) : Prop := ¬ ∃ x y z, SS u h i x y z ∧ ¬ mD u i x y z
theorem cntP_s {P : Nat → Prop} {n : Nat} {e : Int} (h1 : e = 0 ∨ e = 1) (h : e = 1 ↔ P n) : cntP P n + e = cntP P (n + 1) := by
  show cntP P n + e = cntP P n + @ite Int (P n) (Classical.propDecidable _) 1 0
  by_cases c : P n
  · rw [if_pos c, h.mpr c]
  · rw [if_neg c]
    have : e ≠ 1 := fun q => c (h.mp q)
    have : e = 0 := by omega
    rw [this]
theorem cntP_b {P : Nat → Prop} : ∀ n : Nat, 0 ≤ cntP P n ∧ cntP P n ≤ n
  | 0 => by unfold cntP; omega
  | n + 1 => by
    have ih := cntP_b (P := P) n
    unfold cntP
    split <;> omega
/-! OmegaDesk.spare -/
set_option maxHeartbeats 4000000 in
theorem met_spare (dA dZ : ClassId) (ad : Nat → Nat) (u : DS) (h : Nat) (hok : dOK u h) (h11 : u 11 0 = -1) :
    od_MI dA dZ (xc dA dZ ad) yX0_spare cX0_spare 5 (some .int) (rmL 7) [.ref (ad 0)] u (fun r u' => qOK u u' ∧ r = cntP (Sp u h) h) := by
  refine od_MI.ofI (own := RX0) 4 (by decide) rfl (od_cc rfl od_c1) (Nat.le_of_ble_eq_true rfl) ?_
  intro Γ hret
  show od_G Γ RX0 cX0_spare 5 (rmL 7) dA dZ (xc dA dZ ad (u)) [.ref (ad 0), .null, .null, .null, .null] 0 []
  have h8 := hok.2.1
  have Lp : ∀ (m k : Nat) (w : DS), k + m = h → od_fr [4, 5, 6, 7, 8, 9, 10, 11] u w → w 11 0 = -1 → (∀ j, j < 3 → w 10 j = 100) → od_G Γ RX0 cX0_spare 5 (rmL 7) dA dZ (xc dA dZ ad (w)) [.ref (ad 0), .int (iI (cntP (Sp u h) k)), .int (iI k), .null, .null] 8 [] := by
    intro m
    induction m with
    | zero =>
      intro k w hm hf g11 h100
      have hkh : k = h := by omega
      subst hkh
      have h0w : w 0 0 = k := by rw [hf 0 (by decide)]; exact hok.1
      refine og_iload_2 (pc := 8) dX0_spare_8 ?_
      refine og_aload_0 (pc := 9) dX0_spare_9 ?_
      refine og_xg0 (pc := 10) (z := (k : Int)) dX0_spare_10 h0w ?_
      refine og_icmp_ge (pc := 13) (tgt := 81) dX0_spare_13 (by decide) (by omega) (by omega) (fun c => ?_) (fun c => ?_)
      · refine og_iload_1 (pc := 81) dX0_spare_81 ?_
        exact hret _ w ⟨⟨hf, g11⟩, rfl⟩ _ _ dX0_spare_82
      · exact absurd c (by omega)
    | succ m ih =>
      intro k w hm hf g11 h100
      have hkh : k < h := by omega
      have hbk := hok.2.2 k hkh
      have h0w : w 0 0 = h := by rw [hf 0 (by decide)]; exact hok.1
      have hcb := cntP_b (P := Sp u h) k
      have hf1 : od_fr [4, 5, 6, 7, 8, 9, 10, 11] u (up2 w 11 0 k) := hf.up (by decide)
      have h100a : ∀ j, j < 3 → up2 w 11 0 k 10 j = 100 := fun j hj => by rw [up2_ne (by decide)]; exact h100 j hj
      have hSS : ∀ w' : DS, od_fr [4, 5, 6, 7, 8, 9, 10, 11] u w' → ∀ sg x y z, (SS w' h k x y z ∧ brk w' k sg x y z) ↔ (SS u h k x y z ∧ brk u k sg x y z) := fun w' hf' sg x y z => by
        unfold SS brk Vk
        rw [sD.cg (hf' 1 (by decide)) (hf' 2 (by decide)) (hf' 3 (by decide)), hf' 1 (by decide), hf' 2 (by decide)]
      -- the last: the count goes on
      have K73 : ∀ (w' : DS) (e : Int) (v3 v4 : Value), od_fr [4, 5, 6, 7, 8, 9, 10, 11] u w' → w' 11 0 = -1 → (∀ j, j < 3 → w' 10 j = 100) → (e = 0 ∨ e = 1) → (e = 1 ↔ Sp u h k) → od_G Γ RX0 cX0_spare 5 (rmL 7) dA dZ (xc dA dZ ad (w')) [.ref (ad 0), .int (iI (cntP (Sp u h) k)), .int (iI k), v3, v4] 73 [.int (iI e), .int (iI (cntP (Sp u h) k))] := by
        intro w' e v3 v4 a1 a2 a3 a4 a5
        refine og_forget_3 ?_
        refine og_forget_4 ?_
        refine og_iadd (pc := 73) dX0_spare_73 ?_
        refine og_top (cntP_s a4 a5) ?_
        refine og_istore_1 (pc := 74) dX0_spare_74 (by decide) ?_
        refine og_iinc_2 (pc := 75) dX0_spare_75 (by decide) ?_
        refine og_goto (pc := 78) (tgt := 8) dX0_spare_78 (by decide) ?_
        exact ih (k + 1) w' (by omega) a1 a2 a3
      have K51 : ∀ (w' : DS) (ov un : Int), od_fr [4, 5, 6, 7, 8, 9, 10, 11] u w' → (∀ j, j < 3 → w' 10 j = 100) → (ov = 0 ∨ ov = 1) → (un = 0 ∨ un = 1) → (ov = 1 ↔ ∃ x y z, SS u h k x y z ∧ brk u k 1 x y z) → (un = 1 ↔ u 3 k ≠ 0 ∧ ∃ x y z, SS u h k x y z ∧ brk u k (-1) x y z) → od_G Γ RX0 cX0_spare 5 (rmL 7) dA dZ (xc dA dZ ad (w')) [.ref (ad 0), .int (iI (cntP (Sp u h) k)), .int (iI k), .int (iI ov), .null] 51 [.int (iI un)] := by
        intro w' ov un a1 a2 a3 a4 a5 a6
        have hsp : (ov = 1 ∨ un = 1) ↔ ¬ Sp u h k := by
          rw [a5, a6]
          unfold Sp
          rw [Classical.not_not]
          constructor
          · intro H
            rcases H with ⟨x, y, z, H1, H2⟩ | ⟨H0, x, y, z, H1, H2⟩
            · refine ⟨x, y, z, H1, fun H3 => ?_⟩
              have h4 := H2.1 rfl
              unfold mD cnd at H3
              unfold Vk at h4
              by_cases c : u 3 k = 0
              · have := H3.1 c
                omega
              · have := H3.2 c
                omega
            · refine ⟨x, y, z, H1, fun H3 => ?_⟩
              have h4 := H2.2 rfl
              unfold mD cnd at H3
              unfold Vk at h4
              have := H3.2 H0
              omega
          · intro ⟨x, y, z, H1, H2⟩
            by_cases c : u 3 k = 0
            · refine Or.inl ⟨x, y, z, H1, fun _ => ?_, fun c => absurd c (by decide)⟩
              apply Decidable.byContradiction
              intro hn
              unfold Vk at hn
              exact H2 ⟨fun _ => by omega, fun c2 => absurd c c2⟩
            · by_cases c2 : u 2 k < Vk u k x y z
              · exact Or.inl ⟨x, y, z, H1, fun _ => c2, fun c => absurd c (by decide)⟩
              · refine Or.inr ⟨c, x, y, z, H1, fun c => absurd c (by decide), fun _ => ?_⟩
                apply Decidable.byContradiction
                intro hn
                unfold Vk at hn c2
                exact H2 ⟨fun c3 => absurd c3 c, fun _ => by omega⟩
        have hf2 : od_fr [4, 5, 6, 7, 8, 9, 10, 11] u (up2 w' 11 0 (-1)) := a1.up (by decide)
        have h100b : ∀ j, j < 3 → up2 w' 11 0 (-1) 10 j = 100 := fun j hj => by rw [up2_ne (by decide)]; exact a2 j hj
        refine og_istore_4 (pc := 51) dX0_spare_51 (by decide) ?_
        refine og_aload_0 (pc := 53) dX0_spare_53 ?_
        refine og_iconst (pc := 54) dX0_spare_54 ?_
        refine og_xp11 (pc := 55) dX0_spare_55 ?_
        refine og_iload_1 (pc := 58) dX0_spare_58 ?_
        refine og_iload_3 (pc := 59) dX0_spare_59 ?_
        refine og_if_ne (pc := 60) (tgt := 68) dX0_spare_60 (by decide) (by omega) (fun c3 => ?_) (fun c3 => ?_)
        · refine og_iconst (pc := 68) dX0_spare_68 ?_
          refine og_goto (pc := 69) (tgt := 73) dX0_spare_69 (by decide) ?_
          refine K73 _ 0 _ _ hf2 up2_same h100b (Or.inl rfl) (iff_of_false (by decide) (hsp.mp ?_))
          omega
        refine og_iload_4 (pc := 63) dX0_spare_63 ?_
        refine og_if_eq (pc := 65) (tgt := 72) dX0_spare_65 (by decide) (by omega) (fun c4 => ?_) (fun c4 => ?_)
        · refine og_iconst (pc := 72) dX0_spare_72 ?_
          refine K73 _ 1 _ _ hf2 up2_same h100b (Or.inr rfl) (iff_of_true rfl ?_)
          apply Classical.byContradiction
          intro hn
          have := hsp.mpr hn
          omega
        · refine og_iconst (pc := 68) dX0_spare_68 ?_
          refine og_goto (pc := 69) (tgt := 73) dX0_spare_69 (by decide) ?_
          refine K73 _ 0 _ _ hf2 up2_same h100b (Or.inl rfl) (iff_of_false (by decide) (hsp.mp ?_))
          omega
      refine og_iload_2 (pc := 8) dX0_spare_8 ?_
      refine og_aload_0 (pc := 9) dX0_spare_9 ?_
      refine og_xg0 (pc := 10) (z := (h : Int)) dX0_spare_10 h0w ?_
      refine og_icmp_ge (pc := 13) (tgt := 81) dX0_spare_13 (by decide) (by omega) (by omega) (fun c => ?_) (fun c => ?_)
      · exact absurd c (by omega)
      refine og_aload_0 (pc := 16) dX0_spare_16 ?_
      refine og_iload_2 (pc := 17) dX0_spare_17 ?_
      refine og_xp11 (pc := 18) dX0_spare_18 ?_
      refine og_aload_0 (pc := 21) dX0_spare_21 ?_
      refine og_iload_2 (pc := 22) dX0_spare_22 ?_
      refine og_iconst (pc := 23) dX0_spare_23 ?_
      refine og_callI (pc := 24) (n := 2) (met_broken dA dZ ad (up2 w 11 0 k) h k 1 (Or.inl rfl) hkh (hok.fr hf1 (by decide)) up2_same h100a) rfl rfl (lw_V q159 q161 qs12 q18 q162) (by decide +kernel) ⟨by decide, by decide⟩ ⟨rfl, rfl⟩ rfl rfl (Nat.le_of_ble_eq_true rfl) dX0_spare_24 (fun ov w2 hp => ?_)
      obtain ⟨o1, o2, o3⟩ := hp
      have hf2 := hf1.tr (o2.wk (by decide))
      have h100b : ∀ j, j < 3 → w2 10 j = 100 := fun j hj => by rw [o2 10 (by decide)]; exact h100a j hj
      have o3' : ov = 1 ↔ ∃ x y z, SS u h k x y z ∧ brk u k 1 x y z := by
        rw [o3]
        constructor
        · intro ⟨x, y, z, H⟩
          exact ⟨x, y, z, (hSS _ hf1 _ x y z).mp H⟩
        · intro ⟨x, y, z, H⟩
          exact ⟨x, y, z, (hSS _ hf1 _ x y z).mpr H⟩
      refine og_istore_3 (pc := 27) dX0_spare_27 (by decide) ?_
      refine og_aload_0 (pc := 28) dX0_spare_28 ?_
      refine og_xr3 (pc := 29) dX0_spare_29 ?_
      refine og_iload_2 (pc := 32) dX0_spare_32 ?_
      refine og_xl3 (pc := 33) (z := u 3 k) (k) dX0_spare_33 (by omega) (by omega) (by rw [hf2 3 (by decide)]) ?_
      refine og_if_eq (pc := 34) (tgt := 50) dX0_spare_34 (by decide) (by omega) (fun c1 => ?_) (fun c1 => ?_)
      · refine og_iconst (pc := 50) dX0_spare_50 ?_
        exact K51 w2 ov 0 hf2 h100b o1 (Or.inl rfl) o3' (iff_of_false (by decide) (fun H => H.1 c1))
      refine og_aload_0 (pc := 37) dX0_spare_37 ?_
      refine og_iload_2 (pc := 38) dX0_spare_38 ?_
      refine og_iconst (pc := 39) dX0_spare_39 ?_
      refine og_callI (pc := 40) (n := 2) (met_broken dA dZ ad w2 h k (-1) (Or.inr rfl) hkh (hok.fr hf2 (by decide)) (by rw [o2 11 (by decide), up2_same]) h100b) rfl rfl (lw_V q159 q161 qs12 q18 q162) (by decide +kernel) ⟨by decide, by decide⟩ ⟨rfl, rfl⟩ rfl rfl (Nat.le_of_ble_eq_true rfl) dX0_spare_40 (fun un w3 hp => ?_)
      obtain ⟨p1, p2, p3⟩ := hp
      have hf3 := hf2.tr (p2.wk (by decide))
      have h100c : ∀ j, j < 3 → w3 10 j = 100 := fun j hj => by rw [p2 10 (by decide)]; exact h100b j hj
      have p3' : un = 1 ↔ u 3 k ≠ 0 ∧ ∃ x y z, SS u h k x y z ∧ brk u k (-1) x y z := by
        rw [p3]
        constructor
        · intro ⟨x, y, z, H⟩
          exact ⟨c1, x, y, z, (hSS _ hf2 _ x y z).mp H⟩
        · intro ⟨_, x, y, z, H⟩
          exact ⟨x, y, z, (hSS _ hf2 _ x y z).mpr H⟩
      refine og_if_eq (pc := 43) (tgt := 50) dX0_spare_43 (by decide) (by omega) (fun c2 => ?_) (fun c2 => ?_)
      · refine og_iconst (pc := 50) dX0_spare_50 ?_
        subst c2
        exact K51 w3 ov 0 hf3 h100c o1 (Or.inl rfl) o3' p3'
      · refine og_iconst (pc := 46) dX0_spare_46 ?_
        refine og_goto (pc := 47) (tgt := 51) dX0_spare_47 (by decide) ?_
        have e1 : un = 1 := by omega
        subst e1
        exact K51 w3 ov 1 hf3 h100c o1 (Or.inr rfl) o3' p3'
  refine og_iconst (pc := 0) dX0_spare_0 ?_
  refine og_istore_1 (pc := 1) dX0_spare_1 (by decide) ?_
  refine og_aload_0 (pc := 2) dX0_spare_2 ?_
  refine og_callV (pc := 3) (n := 0) (met_free dA dZ ad u) rfl rfl (lw_V q82 q84 qs0 q18 q85) (by decide +kernel) ⟨by decide, by decide⟩ ⟨rfl, rfl⟩ rfl rfl (Nat.le_of_ble_eq_true rfl) dX0_spare_3 (fun w h1 => ?_)
  obtain ⟨hf0, h100⟩ := h1
  refine og_iconst (pc := 6) dX0_spare_6 ?_
  refine og_istore_2 (pc := 7) dX0_spare_7 (by decide) ?_
  exact Lp h 0 w (by omega) (hf0.wk (by decide)) (by rw [hf0 11 (by decide)]; exact h11) h100
/-! add, drop -/
def addU (u : DS) (h : Nat) (a b c d q : Int) : DS := up2 (up2 (up2 (up2 (up2 (up2 u 1 (3 * h) a) 1 (3 * h + 1) b) 1 (3 * h + 2) c) 2 h d) 3 h q) 0 0 ((h : Int) + 1)
def addQ (u : DS) (h : Nat) (a b c d q r : Int) (u' : DS) : Prop := (¬ (od_right a b c d ∧ h < 8) → r = -1 ∧ u' = u) ∧ (od_right a b c d ∧ h < 8 → r = (h : Int) + 1 ∧ u' = addU u h a b c d q)
/-! OmegaDesk.add -/
theorem met_add (dA dZ : ClassId) (ad : Nat → Nat) (u : DS) (h : Nat) (a b c d q : Int) (ha : Rg a) (hb : Rg b) (hc : Rg c) (hd : Rg d) (hq : q = 0 ∨ q = 1) (h0 : u 0 0 = h) (h8 : h ≤ 8) :
    od_MI dA dZ (xc dA dZ ad) yX0_add cX0_add 6 (some .int) (rmL 1) [.ref (ad 0), .int (iI a), .int (iI b), .int (iI c), .int (iI d), .int (iI q)] u (addQ u h a b c d q) := by
  refine od_MI.ofI (own := RX0) 0 (by decide) rfl (od_cc rfl (od_cc rfl (od_cc rfl (od_cc rfl (od_cc rfl (od_cc rfl od_c1)))))) (Nat.le_of_ble_eq_true rfl) ?_
  intro Γ hret
  show od_G Γ RX0 cX0_add 6 (rmL 1) dA dZ (xc dA dZ ad (u)) [.ref (ad 0), .int (iI a), .int (iI b), .int (iI c), .int (iI d), .int (iI q)] 0 []
  have K20 : ¬ (od_right a b c d ∧ h < 8) → od_G Γ RX0 cX0_add 6 (rmL 1) dA dZ (xc dA dZ ad (u)) [.ref (ad 0), .int (iI a), .int (iI b), .int (iI c), .int (iI d), .int (iI q)] 20 [] := by
    intro hn
    refine og_iconst (pc := 20) dX0_add_20 ?_
    exact hret (-1) u ⟨fun _ => ⟨rfl, rfl⟩, fun H => absurd H hn⟩ _ _ dX0_add_21
  refine og_iload_1 (pc := 0) dX0_add_0 ?_
  refine og_iload_2 (pc := 1) dX0_add_1 ?_
  refine og_iload_3 (pc := 2) dX0_add_2 ?_
  refine og_iload_4 (pc := 3) dX0_add_3 ?_
  refine og_callS (pc := 5) (n := 4) (met_areRight dA dZ u a b c d ha hb hc hd) (lw_S q71 q72 q18 q73) (by decide +kernel) ⟨by decide, by decide⟩ ⟨rfl, rfl⟩ rfl rfl (Nat.le_of_ble_eq_true rfl) dX0_add_5 (fun r0 hr0 => ?_)
  refine og_if_eq (pc := 8) (tgt := 20) dX0_add_8 (by decide) (by omega) (fun c1 => ?_) (fun c1 => ?_)
  · exact K20 (fun H => by have := hr0.2.mpr H.1; omega)
  refine og_aload_0 (pc := 11) dX0_add_11 ?_
  refine og_xg0 (pc := 12) (z := (h : Int)) dX0_add_12 h0 ?_
  refine og_bipush (pc := 15) dX0_add_15 (by decide +kernel) ?_
  refine og_icmp_lt (pc := 17) (tgt := 22) dX0_add_17 (by decide) (by omega) (by omega) (fun c2 => ?_) (fun c2 => ?_)
  rotate_left
  · exact K20 (fun H => by omega)
  have hrt : od_right a b c d := hr0.2.mp (by omega)
  have hlt : h < 8 := by omega
  refine og_aload_0 (pc := 22) dX0_add_22 ?_
  refine og_xr1 (pc := 23) dX0_add_23 ?_
  refine og_iconst (pc := 26) dX0_add_26 ?_
  refine og_aload_0 (pc := 27) dX0_add_27 ?_
  refine og_xg0 (pc := 28) (z := (h : Int)) dX0_add_28 h0 ?_
  refine og_imul (pc := 31) dX0_add_31 ?_
  refine og_iload_1 (pc := 32) dX0_add_32 ?_
  refine og_xs1 (pc := 33) (3 * h) dX0_add_33 (by omega) (by omega) ?_
  refine og_aload_0 (pc := 34) dX0_add_34 ?_
  refine og_xr1 (pc := 35) dX0_add_35 ?_
  refine og_iconst (pc := 38) dX0_add_38 ?_
  refine og_aload_0 (pc := 39) dX0_add_39 ?_
  refine og_xg0 (pc := 40) (z := (h : Int)) dX0_add_40 (by simp [up2, h0]) ?_
  refine og_imul (pc := 43) dX0_add_43 ?_
  refine og_iconst (pc := 44) dX0_add_44 ?_
  refine og_iadd (pc := 45) dX0_add_45 ?_
  refine og_iload_2 (pc := 46) dX0_add_46 ?_
  refine og_xs1 (pc := 47) (3 * h + 1) dX0_add_47 (by omega) (by omega) ?_
  refine og_aload_0 (pc := 48) dX0_add_48 ?_
  refine og_xr1 (pc := 49) dX0_add_49 ?_
  refine og_iconst (pc := 52) dX0_add_52 ?_
  refine og_aload_0 (pc := 53) dX0_add_53 ?_
  refine og_xg0 (pc := 54) (z := (h : Int)) dX0_add_54 (by simp [up2, h0]) ?_
  refine og_imul (pc := 57) dX0_add_57 ?_
  refine og_iconst (pc := 58) dX0_add_58 ?_
  refine og_iadd (pc := 59) dX0_add_59 ?_
  refine og_iload_3 (pc := 60) dX0_add_60 ?_
  refine og_xs1 (pc := 61) (3 * h + 2) dX0_add_61 (by omega) (by omega) ?_
  refine og_aload_0 (pc := 62) dX0_add_62 ?_
  refine og_xr2 (pc := 63) dX0_add_63 ?_
  refine og_aload_0 (pc := 66) dX0_add_66 ?_
  refine og_xg0 (pc := 67) (z := (h : Int)) dX0_add_67 (by simp [up2, h0]) ?_
  refine og_iload_4 (pc := 70) dX0_add_70 ?_
  refine og_xs2 (pc := 72) (h) dX0_add_72 (by omega) (by omega) ?_
  refine og_aload_0 (pc := 73) dX0_add_73 ?_
  refine og_xr3 (pc := 74) dX0_add_74 ?_
  refine og_aload_0 (pc := 77) dX0_add_77 ?_
  refine og_xg0 (pc := 78) (z := (h : Int)) dX0_add_78 (by simp [up2, h0]) ?_
  refine og_iload_5 (pc := 81) dX0_add_81 ?_
  refine og_xs3 (pc := 83) (h) dX0_add_83 (by omega) (by omega) (by omega) ?_
  refine og_aload_0 (pc := 84) dX0_add_84 ?_
  refine og_dupr (pc := 85) dX0_add_85 ?_
  refine og_xg0 (pc := 86) (z := (h : Int)) dX0_add_86 (by simp [up2, h0]) ?_
  refine og_iconst (pc := 89) dX0_add_89 ?_
  refine og_iadd (pc := 90) dX0_add_90 ?_
  refine og_xp0 (pc := 91) dX0_add_91 ?_
  refine og_aload_0 (pc := 94) dX0_add_94 ?_
  refine og_xg0 (pc := 95) (z := (h : Int) + 1) dX0_add_95 (by simp [up2]) ?_
  exact hret _ (addU u h a b c d q) ⟨fun H => absurd ⟨hrt, hlt⟩ H, fun _ => ⟨rfl, rfl⟩⟩ _ _ dX0_add_98
def rowEq (w : DS) (i : Nat) (u : DS) (j : Nat) : Prop := w 1 (3 * i) = u 1 (3 * j) ∧ w 1 (3 * i + 1) = u 1 (3 * j + 1) ∧ w 1 (3 * i + 2) = u 1 (3 * j + 2) ∧ w 2 i = u 2 j ∧ w 3 i = u 3 j
def dropQ (u : DS) (h : Nat) (nu r : Int) (u' : DS) : Prop := (¬ (0 ≤ nu ∧ nu < h) → r = -1 ∧ u' = u) ∧ ((0 ≤ nu ∧ nu < h) → r = (h : Int) - 1 ∧ od_fr [0, 1, 2, 3] u u' ∧ u' 0 0 = (h : Int) - 1 ∧ ∀ i : Nat, i + 1 < h → rowEq u' i u (if (i : Int) < nu then i else i + 1))
/-! OmegaDesk.drop -/
set_option maxHeartbeats 4000000 in
theorem met_drop (dA dZ : ClassId) (ad : Nat → Nat) (u : DS) (h : Nat) (nu : Int) (hnu : Rg nu) (hok : dOK u h) :
    od_MI dA dZ (xc dA dZ ad) yX0_drop cX0_drop 4 (some .int) (rmL 0) [.ref (ad 0), .int (iI nu)] u (dropQ u h nu) := by
  refine od_MI.ofI (own := RX0) 2 (by decide) rfl (od_cc rfl (od_cc rfl od_c1)) (Nat.le_of_ble_eq_true rfl) ?_
  intro Γ hret
  show od_G Γ RX0 cX0_drop 4 (rmL 0) dA dZ (xc dA dZ ad (u)) [.ref (ad 0), .int (iI nu), .null, .null] 0 []
  obtain ⟨h0, h8, hdB⟩ := hok
  have K12 : ¬ (0 ≤ nu ∧ nu < h) → od_G Γ RX0 cX0_drop 4 (rmL 0) dA dZ (xc dA dZ ad (u)) [.ref (ad 0), .int (iI nu), .null, .null] 12 [] := by
    intro hn
    refine og_iconst (pc := 12) dX0_drop_12 ?_
    exact hret (-1) u ⟨fun _ => ⟨rfl, rfl⟩, fun H => absurd H hn⟩ _ _ dX0_drop_13
  refine og_iload_1 (pc := 0) dX0_drop_0 ?_
  refine og_if_lt (pc := 1) (tgt := 12) dX0_drop_1 (by decide) (by omega) (fun c1 => ?_) (fun c1 => ?_)
  · exact K12 (by omega)
  refine og_iload_1 (pc := 4) dX0_drop_4 ?_
  refine og_aload_0 (pc := 5) dX0_drop_5 ?_
  refine og_xg0 (pc := 6) (z := (h : Int)) dX0_drop_6 h0 ?_
  refine og_icmp_lt (pc := 9) (tgt := 14) dX0_drop_9 (by decide) (by omega) (by omega) (fun c2 => ?_) (fun c2 => ?_)
  rotate_left
  · exact K12 (by omega)
  obtain ⟨p, rfl⟩ : ∃ p : Nat, nu = p := ⟨nu.toNat, by omega⟩
  obtain ⟨g, rfl⟩ : ∃ g : Nat, h = g + 1 := ⟨h - 1, by omega⟩
  have Lp : ∀ (m k : Nat) (w : DS), k + m = g → p ≤ k → od_fr [0, 1, 2, 3] u w → w 0 0 = g → (∀ i : Nat, rowEq w i u (if p ≤ i ∧ i < k then i + 1 else i)) → od_G Γ RX0 cX0_drop 4 (rmL 0) dA dZ (xc dA dZ ad (w)) [.ref (ad 0), .int (iI p), .int (iI k), .null] 26 [] := by
    intro m
    induction m with
    | zero =>
      intro k w hm hpk hf g0 hI
      have hk : k = g := by omega
      subst hk
      refine og_iload_2 (pc := 26) dX0_drop_26 ?_
      refine og_aload_0 (pc := 27) dX0_drop_27 ?_
      refine og_xg0 (pc := 28) (z := (k : Int)) dX0_drop_28 g0 ?_
      refine og_icmp_ge (pc := 31) (tgt := 103) dX0_drop_31 (by decide) (by omega) (by omega) (fun c => ?_) (fun c => ?_)
      · refine og_aload_0 (pc := 103) dX0_drop_103 ?_
        refine og_xg0 (pc := 104) (z := (k : Int)) dX0_drop_104 g0 ?_
        refine hret k w ⟨fun H => absurd (by omega) H, fun _ => ⟨by omega, hf, by omega, fun i hi => ?_⟩⟩ _ _ dX0_drop_107
        have := hI i
        by_cases c : (i : Int) < p
        · rw [if_pos c]
          rw [if_neg (by omega)] at this
          exact this
        · rw [if_neg c]
          rw [if_pos (by omega)] at this
          exact this
      · exact absurd c (by omega)
    | succ m ih =>
      intro k w hm hpk hf g0 hI
      have hk := hI k
      rw [if_neg (by omega)] at hk
      have hk1 := hI (k + 1)
      rw [if_neg (by omega)] at hk1
      have hb1 := (hdB (k + 1) (by omega)).2
      refine og_iload_2 (pc := 26) dX0_drop_26 ?_
      refine og_aload_0 (pc := 27) dX0_drop_27 ?_
      refine og_xg0 (pc := 28) (z := (g : Int)) dX0_drop_28 g0 ?_
      refine og_icmp_ge (pc := 31) (tgt := 103) dX0_drop_31 (by decide) (by omega) (by omega) (fun c => ?_) (fun c => ?_)
      · exact absurd c (by omega)
      refine og_iconst (pc := 34) dX0_drop_34 ?_
      refine og_istore_3 (pc := 35) dX0_drop_35 (by decide) ?_
      refine og_iload_3 (pc := 36) dX0_drop_36 ?_
      refine og_iconst (pc := 37) dX0_drop_37 ?_
      refine og_icmp_ge (pc := 38) (tgt := 69) dX0_drop_38 (by decide) (by omega) (by omega) (fun d0 => ?_) (fun d0 => ?_)
      · exact absurd d0 (by omega)
      refine og_aload_0 (pc := 41) dX0_drop_41 ?_
      refine og_xr1 (pc := 42) dX0_drop_42 ?_
      refine og_iconst (pc := 45) dX0_drop_45 ?_
      refine og_iload_2 (pc := 46) dX0_drop_46 ?_
      refine og_imul (pc := 47) dX0_drop_47 ?_
      refine og_iload_3 (pc := 48) dX0_drop_48 ?_
      refine og_iadd (pc := 49) dX0_drop_49 ?_
      refine og_aload_0 (pc := 50) dX0_drop_50 ?_
      refine og_xr1 (pc := 51) dX0_drop_51 ?_
      refine og_iconst (pc := 54) dX0_drop_54 ?_
      refine og_iload_2 (pc := 55) dX0_drop_55 ?_
      refine og_imul (pc := 56) dX0_drop_56 ?_
      refine og_iconst (pc := 57) dX0_drop_57 ?_
      refine og_iadd (pc := 58) dX0_drop_58 ?_
      refine og_iload_3 (pc := 59) dX0_drop_59 ?_
      refine og_iadd (pc := 60) dX0_drop_60 ?_
      refine og_xl1 (pc := 61) (z := u 1 (3 * (k + 1))) (3 * k + 3) dX0_drop_61 (by omega) (by omega) hk1.1 ?_
      refine og_xs1 (pc := 62) (3 * k) dX0_drop_62 (by omega) (by omega) ?_
      refine og_iinc_3 (pc := 63) dX0_drop_63 (by decide) ?_
      refine og_goto (pc := 66) (tgt := 36) dX0_drop_66 (by decide) ?_
      refine og_iload_3 (pc := 36) dX0_drop_36 ?_
      refine og_iconst (pc := 37) dX0_drop_37 ?_
      refine og_icmp_ge (pc := 38) (tgt := 69) dX0_drop_38 (by decide) (by omega) (by omega) (fun d1 => ?_) (fun d1 => ?_)
      · exact absurd d1 (by omega)
      refine og_aload_0 (pc := 41) dX0_drop_41 ?_
      refine og_xr1 (pc := 42) dX0_drop_42 ?_
      refine og_iconst (pc := 45) dX0_drop_45 ?_
      refine og_iload_2 (pc := 46) dX0_drop_46 ?_
      refine og_imul (pc := 47) dX0_drop_47 ?_
      refine og_iload_3 (pc := 48) dX0_drop_48 ?_
      refine og_iadd (pc := 49) dX0_drop_49 ?_
      refine og_aload_0 (pc := 50) dX0_drop_50 ?_
      refine og_xr1 (pc := 51) dX0_drop_51 ?_
      refine og_iconst (pc := 54) dX0_drop_54 ?_
      refine og_iload_2 (pc := 55) dX0_drop_55 ?_
      refine og_imul (pc := 56) dX0_drop_56 ?_
      refine og_iconst (pc := 57) dX0_drop_57 ?_
      refine og_iadd (pc := 58) dX0_drop_58 ?_
      refine og_iload_3 (pc := 59) dX0_drop_59 ?_
      refine og_iadd (pc := 60) dX0_drop_60 ?_
      refine og_xl1 (pc := 61) (z := u 1 (3 * (k + 1) + 1)) (3 * k + 4) dX0_drop_61 (by omega) (by omega) (by rw [up2_off (by omega)]; exact hk1.2.1) ?_
      refine og_xs1 (pc := 62) (3 * k + 1) dX0_drop_62 (by omega) (by omega) ?_
      refine og_iinc_3 (pc := 63) dX0_drop_63 (by decide) ?_
      refine og_goto (pc := 66) (tgt := 36) dX0_drop_66 (by decide) ?_
      refine og_iload_3 (pc := 36) dX0_drop_36 ?_
      refine og_iconst (pc := 37) dX0_drop_37 ?_
      refine og_icmp_ge (pc := 38) (tgt := 69) dX0_drop_38 (by decide) (by omega) (by omega) (fun d2 => ?_) (fun d2 => ?_)
      · exact absurd d2 (by omega)
      refine og_aload_0 (pc := 41) dX0_drop_41 ?_
      refine og_xr1 (pc := 42) dX0_drop_42 ?_
      refine og_iconst (pc := 45) dX0_drop_45 ?_
      refine og_iload_2 (pc := 46) dX0_drop_46 ?_
      refine og_imul (pc := 47) dX0_drop_47 ?_
      refine og_iload_3 (pc := 48) dX0_drop_48 ?_
      refine og_iadd (pc := 49) dX0_drop_49 ?_
      refine og_aload_0 (pc := 50) dX0_drop_50 ?_
      refine og_xr1 (pc := 51) dX0_drop_51 ?_
      refine og_iconst (pc := 54) dX0_drop_54 ?_
      refine og_iload_2 (pc := 55) dX0_drop_55 ?_
      refine og_imul (pc := 56) dX0_drop_56 ?_
      refine og_iconst (pc := 57) dX0_drop_57 ?_
      refine og_iadd (pc := 58) dX0_drop_58 ?_
      refine og_iload_3 (pc := 59) dX0_drop_59 ?_
      refine og_iadd (pc := 60) dX0_drop_60 ?_
      refine og_xl1 (pc := 61) (z := u 1 (3 * (k + 1) + 2)) (3 * k + 5) dX0_drop_61 (by omega) (by omega) (by rw [up2_off (by omega), up2_off (by omega)]; exact hk1.2.2.1) ?_
      refine og_xs1 (pc := 62) (3 * k + 2) dX0_drop_62 (by omega) (by omega) ?_
      refine og_iinc_3 (pc := 63) dX0_drop_63 (by decide) ?_
      refine og_goto (pc := 66) (tgt := 36) dX0_drop_66 (by decide) ?_
      refine og_iload_3 (pc := 36) dX0_drop_36 ?_
      refine og_iconst (pc := 37) dX0_drop_37 ?_
      refine og_icmp_ge (pc := 38) (tgt := 69) dX0_drop_38 (by decide) (by omega) (by omega) (fun d3 => ?_) (fun d3 => ?_)
      rotate_left
      · exact absurd d3 (by omega)
      refine og_aload_0 (pc := 69) dX0_drop_69 ?_
      refine og_xr2 (pc := 70) dX0_drop_70 ?_
      refine og_iload_2 (pc := 73) dX0_drop_73 ?_
      refine og_aload_0 (pc := 74) dX0_drop_74 ?_
      refine og_xr2 (pc := 75) dX0_drop_75 ?_
      refine og_iload_2 (pc := 78) dX0_drop_78 ?_
      refine og_iconst (pc := 79) dX0_drop_79 ?_
      refine og_iadd (pc := 80) dX0_drop_80 ?_
      refine og_xl2 (pc := 81) (z := u 2 (k + 1)) (k + 1) dX0_drop_81 (by omega) (by omega) (by rw [up2_ne (by decide), up2_ne (by decide), up2_ne (by decide)]; exact hk1.2.2.2.1) ?_
      refine og_xs2 (pc := 82) (k) dX0_drop_82 (by omega) (by omega) ?_
      refine og_aload_0 (pc := 83) dX0_drop_83 ?_
      refine og_xr3 (pc := 84) dX0_drop_84 ?_
      refine og_iload_2 (pc := 87) dX0_drop_87 ?_
      refine og_aload_0 (pc := 88) dX0_drop_88 ?_
      refine og_xr3 (pc := 89) dX0_drop_89 ?_
      refine og_iload_2 (pc := 92) dX0_drop_92 ?_
      refine og_iconst (pc := 93) dX0_drop_93 ?_
      refine og_iadd (pc := 94) dX0_drop_94 ?_
      refine og_xl3 (pc := 95) (z := u 3 (k + 1)) (k + 1) dX0_drop_95 (by omega) (by omega) (by rw [up2_ne (by decide), up2_ne (by decide), up2_ne (by decide), up2_ne (by decide)]; exact hk1.2.2.2.2) ?_
      refine og_xs3 (pc := 96) (k) dX0_drop_96 (by omega) (by omega) hb1 ?_
      refine og_iinc_2 (pc := 97) dX0_drop_97 (by decide) ?_
      refine og_forget_3 ?_
      refine og_goto (pc := 100) (tgt := 26) dX0_drop_100 (by decide) ?_
      refine ih (k + 1) _ (by omega) (by omega) (((((hf.up (by decide)).up (by decide)).up (by decide)).up (by decide)).up (by decide)) (by rw [up2_ne (by decide), up2_ne (by decide), up2_ne (by decide), up2_ne (by decide), up2_ne (by decide)]; exact g0) (fun i => ?_)
      by_cases e : i = k
      · subst e
        rw [if_pos (by omega)]
        unfold rowEq
        refine ⟨?_, ?_, ?_, ?_, ?_⟩
        · rw [up2_ne (by decide), up2_ne (by decide), up2_off (by omega), up2_off (by omega), up2_same]
        · rw [up2_ne (by decide), up2_ne (by decide), up2_off (by omega), up2_same]
        · rw [up2_ne (by decide), up2_ne (by decide), up2_same]
        · rw [up2_ne (by decide), up2_same]
        · rw [up2_same]
      · have hi := hI i
        have ei : (if p ≤ i ∧ i < k + 1 then i + 1 else i) = (if p ≤ i ∧ i < k then i + 1 else i) := by
          by_cases c : p ≤ i ∧ i < k
          · rw [if_pos c, if_pos (by omega)]
          · rw [if_neg c, if_neg (by omega)]
        rw [ei]
        unfold rowEq at hi ⊢
        refine ⟨?_, ?_, ?_, ?_, ?_⟩
        · rw [up2_ne (by decide), up2_ne (by decide), up2_off (by omega), up2_off (by omega), up2_off (by omega)]
          exact hi.1
        · rw [up2_ne (by decide), up2_ne (by decide), up2_off (by omega), up2_off (by omega), up2_off (by omega)]
          exact hi.2.1
        · rw [up2_ne (by decide), up2_ne (by decide), up2_off (by omega), up2_off (by omega), up2_off (by omega)]
          exact hi.2.2.1
        · rw [up2_ne (by decide), up2_off e, up2_ne (by decide), up2_ne (by decide), up2_ne (by decide)]
          exact hi.2.2.2.1
        · rw [up2_off e, up2_ne (by decide), up2_ne (by decide), up2_ne (by decide), up2_ne (by decide)]
          exact hi.2.2.2.2
  refine og_aload_0 (pc := 14) dX0_drop_14 ?_
  refine og_dupr (pc := 15) dX0_drop_15 ?_
  refine og_xg0 (pc := 16) (z := ((g + 1 : Nat) : Int)) dX0_drop_16 h0 ?_
  refine og_iconst (pc := 19) dX0_drop_19 ?_
  refine og_isub (pc := 20) dX0_drop_20 ?_
  refine og_xp0 (pc := 21) dX0_drop_21 ?_
  refine og_iload_1 (pc := 24) dX0_drop_24 ?_
  refine og_istore_2 (pc := 25) dX0_drop_25 (by decide) ?_
  refine Lp (g - p) p _ (by omega) (by omega) (od_fr.rf.up (by decide)) (by rw [up2_same]; omega) (fun i => ?_)
  rw [if_neg (by omega)]
  unfold rowEq
  rw [up2_ne (by decide), up2_ne (by decide), up2_ne (by decide)]
  exact ⟨rfl, rfl, rfl, rfl, rfl⟩
end
section
set_option maxRecDepth 100000
/-! the reference: rows by their number -/
def mM (w : DS) (i : Nat) (x y z : Int) : Prop := cnd (w 1 i) (w 2 i) (w 3 i) (w 4 i) (w 5 i) x y z
def sM (w : DS) (h : Nat) (wo x y z : Int) : Prop := ∀ i, i < h → (i : Int) ≠ wo → mM w i x y z
def mB (w : DS) (h : Nat) : Prop := ∀ i, i < h → od_right (w 1 i) (w 2 i) (w 3 i) (w 4 i) ∧ (w 5 i = 0 ∨ w 5 i = 1)
def mOK (w : DS) (h : Nat) : Prop := w 0 0 = h ∧ h ≤ 8 ∧ mB w h
def SM (w : DS) (h : Nat) (wo x y z : Int) : Prop := sM w h wo x y z ∧ Bx x ∧ Bx y ∧ Bx z
/-- row q meets all, but one left out -/
def RS (w : DS) (h : Nat) (wo : Int) (q : Nat) : Prop := sM w h wo (vv q 0) (vv q 1) (vv q 2)
theorem vv_0 (q : Nat) : vv q 0 = ((q / 169 : Nat) : Int) - 6 := rfl
theorem vv_1 (q : Nat) : vv q 1 = ((q / 13 % 13 : Nat) : Int) - 6 := rfl
theorem vv_2 (q : Nat) : vv q 2 = ((q % 13 : Nat) : Int) - 6 := rfl
theorem vv_b {q : Nat} (hq : q < 2197) (v : Int) : Bx (vv q v) := by
  unfold vv
  split
  · omega
  · split <;> omega
theorem vv_sel (q : Nat) {v : Int} (hv : 0 ≤ v ∧ v ≤ 2) : sel v (vv q 0) (vv q 1) (vv q 2) = vv q v := by
  have hd : v = 0 ∨ v = 1 ∨ v = 2 := by omega
  rcases hd with rfl | rfl | rfl <;> rfl
theorem vv_row {q : Nat} (hq : q < 2197) : (q : Int) = 169 * (vv q 0 + 6) + 13 * (vv q 1 + 6) + (vv q 2 + 6) := by
  rw [vv_0, vv_1, vv_2]
  omega
theorem row_ex {x y z : Int} (hx : Bx x) (hy : Bx y) (hz : Bx z) : ∃ q : Nat, q < 2197 ∧ vv q 0 = x ∧ vv q 1 = y ∧ vv q 2 = z := by
  refine ⟨(169 * (x + 6) + 13 * (y + 6) + (z + 6)).toNat, by omega, ?_, ?_, ?_⟩
  · rw [vv_0]
    omega
  · rw [vv_1]
    omega
  · rw [vv_2]
    omega
theorem SM_row {w : DS} {h : Nat} {wo : Int} {q : Nat} (hq : q < 2197) (hR : RS w h wo q) : SM w h wo (vv q 0) (vv q 1) (vv q 2) := ⟨hR, vv_b hq _, vv_b hq _, vv_b hq _⟩
theorem SM_ex {w : DS} {h : Nat} {wo x y z : Int} (H : SM w h wo x y z) : ∃ q : Nat, q < 2197 ∧ vv q 0 = x ∧ vv q 1 = y ∧ vv q 2 = z ∧ RS w h wo q := by
  obtain ⟨q, q1, q2, q3, q4⟩ := row_ex H.2.1 H.2.2.1 H.2.2.2
  exact ⟨q, q1, q2, q3, q4, by unfold RS; rw [q2, q3, q4]; exact H.1⟩
theorem lex_row {w : DS} {h : Nat} {q : Nat} (hq : q < 2197) (hR : RS w h (-1) q) (hm : ∀ j, j < q → ¬ RS w h (-1) j) : LexMin (SM w h (-1)) (vv q 0) (vv q 1) (vv q 2) := by
  refine ⟨SM_row hq hR, fun x y z H => ?_⟩
  obtain ⟨j, j1, rfl, rfl, rfl, j5⟩ := SM_ex H
  have hj : ¬ j < q := fun c => hm j c j5
  have e1 := vv_row hq
  have e2 := vv_row j1
  have b1 := vv_b hq 1
  have b2 := vv_b hq 2
  have b3 := vv_b j1 1
  have b4 := vv_b j1 2
  omega
/-! OmegaDeskModel.meets -/
theorem met_meets (dA dZ : ClassId) (bd : Nat → Nat) (w : DS) (h q i : Nat) (hok : mOK w h) (hq : q < 2197) (hi : i < h) :
    od_MI dA dZ (mc dA dZ bd) yX1_meets cX1_meets 4 (some .boolean) (rmL 1) [.ref (bd 0), .int (iI q), .int (iI i)] w (fun r w' => (r = 0 ∨ r = 1) ∧ w' = w ∧ (r = 1 ↔ mM w i (vv q 0) (vv q 1) (vv q 2))) := by
  refine od_MI.ofZ (own := RX1) 1 (by decide) rfl (od_cc rfl (od_cc rfl (od_cc rfl od_c1))) (Nat.le_of_ble_eq_true rfl) (fun r u' h => h.1) ?_
  intro Γ hret
  show od_G Γ RX1 cX1_meets 4 (rmL 1) dA dZ (mc dA dZ bd (w)) [.ref (bd 0), .int (iI q), .int (iI i), .null] 0 []
  have h8 := hok.2.1
  have hb := hok.2.2 i hi
  unfold od_right at hb
  have b0 := vv_b hq 0
  have b1 := vv_b hq 1
  have b2 := vv_b hq 2
  have m0 := mulR (a := w 1 i) (b := vv q 0) 9 6 54 rfl (by omega) b0
  have m1 := mulR (a := w 2 i) (b := vv q 1) 9 6 54 rfl (by omega) b1
  have m2 := mulR (a := w 3 i) (b := vv q 2) 9 6 54 rfl (by omega) b2
  refine og_aload_0 (pc := 0) dX1_meets_0 ?_
  refine og_mr1 (pc := 1) dX1_meets_1 ?_
  refine og_iload_2 (pc := 4) dX1_meets_4 ?_
  refine og_ml1 (pc := 5) (i) dX1_meets_5 (by omega) (by omega) rfl ?_
  refine og_iload_1 (pc := 6) dX1_meets_6 ?_
  refine og_iconst (pc := 7) dX1_meets_7 ?_
  refine og_callS (pc := 8) (n := 2) (met_valueOf dA dZ w q 0 hq (by omega)) (lw_S q215 q216 q19 q217) (by decide +kernel) ⟨by decide, by decide⟩ ⟨rfl, rfl⟩ rfl rfl (Nat.le_of_ble_eq_true rfl) dX1_meets_8 (fun r0 h0 => ?_)
  subst h0
  refine og_imul (pc := 11) dX1_meets_11 ?_
  refine og_aload_0 (pc := 12) dX1_meets_12 ?_
  refine og_mr2 (pc := 13) dX1_meets_13 ?_
  refine og_iload_2 (pc := 16) dX1_meets_16 ?_
  refine og_ml2 (pc := 17) (i) dX1_meets_17 (by omega) (by omega) rfl ?_
  refine og_iload_1 (pc := 18) dX1_meets_18 ?_
  refine og_iconst (pc := 19) dX1_meets_19 ?_
  refine og_callS (pc := 20) (n := 2) (met_valueOf dA dZ w q 1 hq (by omega)) (lw_S q215 q216 q19 q217) (by decide +kernel) ⟨by decide, by decide⟩ ⟨rfl, rfl⟩ rfl rfl (Nat.le_of_ble_eq_true rfl) dX1_meets_20 (fun r1 h1 => ?_)
  subst h1
  refine og_imul (pc := 23) dX1_meets_23 ?_
  refine og_iadd (pc := 24) dX1_meets_24 ?_
  refine og_aload_0 (pc := 25) dX1_meets_25 ?_
  refine og_mr3 (pc := 26) dX1_meets_26 ?_
  refine og_iload_2 (pc := 29) dX1_meets_29 ?_
  refine og_ml3 (pc := 30) (i) dX1_meets_30 (by omega) (by omega) rfl ?_
  refine og_iload_1 (pc := 31) dX1_meets_31 ?_
  refine og_iconst (pc := 32) dX1_meets_32 ?_
  refine og_callS (pc := 33) (n := 2) (met_valueOf dA dZ w q 2 hq (by omega)) (lw_S q215 q216 q19 q217) (by decide +kernel) ⟨by decide, by decide⟩ ⟨rfl, rfl⟩ rfl rfl (Nat.le_of_ble_eq_true rfl) dX1_meets_33 (fun r2 h2 => ?_)
  subst h2
  refine og_imul (pc := 36) dX1_meets_36 ?_
  refine og_iadd (pc := 37) dX1_meets_37 ?_
  refine og_istore_3 (pc := 38) dX1_meets_38 (by decide) ?_
  refine og_aload_0 (pc := 39) dX1_meets_39 ?_
  refine og_mr5 (pc := 40) dX1_meets_40 ?_
  refine og_iload_2 (pc := 43) dX1_meets_43 ?_
  refine og_ml5 (pc := 44) (i) dX1_meets_44 (by omega) (by omega) rfl ?_
  refine og_if_eq (pc := 45) (tgt := 66) dX1_meets_45 (by decide) (by omega) (fun c1 => ?_) (fun c1 => ?_)
  · refine og_iload_3 (pc := 66) dX1_meets_66 ?_
    refine og_aload_0 (pc := 67) dX1_meets_67 ?_
    refine og_mr4 (pc := 68) dX1_meets_68 ?_
    refine og_iload_2 (pc := 71) dX1_meets_71 ?_
    refine og_ml4 (pc := 72) (i) dX1_meets_72 (by omega) (by omega) rfl ?_
    refine og_icmp_gt (pc := 73) (tgt := 80) dX1_meets_73 (by decide) (by omega) (by omega) (fun c2 => ?_) (fun c2 => ?_)
    · refine og_iconst (pc := 80) dX1_meets_80 ?_
      exact hret 0 w ⟨Or.inl rfl, rfl, iff_of_false (by decide) (fun H => by have := H.1 c1; omega)⟩ _ _ dX1_meets_81
    · refine og_iconst (pc := 76) dX1_meets_76 ?_
      refine og_goto (pc := 77) (tgt := 81) dX1_meets_77 (by decide) ?_
      exact hret 1 w ⟨Or.inr rfl, rfl, iff_of_true rfl ⟨fun _ => c2, fun c => absurd c1 c⟩⟩ _ _ dX1_meets_81
  · refine og_iload_3 (pc := 48) dX1_meets_48 ?_
    refine og_aload_0 (pc := 49) dX1_meets_49 ?_
    refine og_mr4 (pc := 50) dX1_meets_50 ?_
    refine og_iload_2 (pc := 53) dX1_meets_53 ?_
    refine og_ml4 (pc := 54) (i) dX1_meets_54 (by omega) (by omega) rfl ?_
    refine og_icmp_ne (pc := 55) (tgt := 62) dX1_meets_55 (by decide) (by omega) (by omega) (fun c2 => ?_) (fun c2 => ?_)
    · refine og_iconst (pc := 62) dX1_meets_62 ?_
      refine og_goto (pc := 63) (tgt := 81) dX1_meets_63 (by decide) ?_
      exact hret 0 w ⟨Or.inl rfl, rfl, iff_of_false (by decide) (fun H => c2 (H.2 c1))⟩ _ _ dX1_meets_81
    · refine og_iconst (pc := 58) dX1_meets_58 ?_
      refine og_goto (pc := 59) (tgt := 81) dX1_meets_59 (by decide) ?_
      exact hret 1 w ⟨Or.inr rfl, rfl, iff_of_true rfl ⟨fun c => absurd c c1, fun _ => c2⟩⟩ _ _ dX1_meets_81
/-! OmegaDeskModel.solves -/
theorem met_solves (dA dZ : ClassId) (bd : Nat → Nat) (w : DS) (h q : Nat) (wo : Int) (hok : mOK w h) (hq : q < 2197) (hwo : -1 ≤ wo ∧ wo ≤ 8) :
    od_MI dA dZ (mc dA dZ bd) yX1_solves cX1_solves 4 (some .boolean) (rmL 2) [.ref (bd 0), .int (iI q), .int (iI wo)] w (fun r w' => (r = 0 ∨ r = 1) ∧ w' = w ∧ (r = 1 ↔ RS w h wo q)) := by
  refine od_MI.ofZ (own := RX1) 1 (by decide) rfl (od_cc rfl (od_cc rfl (od_cc rfl od_c1))) (Nat.le_of_ble_eq_true rfl) (fun r u' h => h.1) ?_
  intro Γ hret
  show od_G Γ RX1 cX1_solves 4 (rmL 2) dA dZ (mc dA dZ bd (w)) [.ref (bd 0), .int (iI q), .int (iI wo), .null] 0 []
  have h8 := hok.2.1
  have Lp : ∀ m i : Nat, i + m = h → (∀ j, j < i → (j : Int) ≠ wo → mM w j (vv q 0) (vv q 1) (vv q 2)) → od_G Γ RX1 cX1_solves 4 (rmL 2) dA dZ (mc dA dZ bd (w)) [.ref (bd 0), .int (iI q), .int (iI wo), .int (iI i)] 2 [] := by
    intro m
    induction m with
    | zero =>
      intro i hm hI
      refine og_iload_3 (pc := 2) dX1_solves_2 ?_
      refine og_aload_0 (pc := 3) dX1_solves_3 ?_
      refine og_mg0 (pc := 4) (z := (h : Int)) dX1_solves_4 hok.1 ?_
      refine og_icmp_ge (pc := 7) (tgt := 32) dX1_solves_7 (by decide) (by omega) (by omega) (fun c => ?_) (fun c => ?_)
      · refine og_iconst (pc := 32) dX1_solves_32 ?_
        exact hret 1 w ⟨Or.inr rfl, rfl, iff_of_true rfl (fun j hj => hI j (by omega))⟩ _ _ dX1_solves_33
      · exact absurd c (by omega)
    | succ m ih =>
      intro i hm hI
      have K26 : ((i : Int) ≠ wo → mM w i (vv q 0) (vv q 1) (vv q 2)) → od_G Γ RX1 cX1_solves 4 (rmL 2) dA dZ (mc dA dZ bd (w)) [.ref (bd 0), .int (iI q), .int (iI wo), .int (iI i)] 26 [] := by
        intro hi
        refine og_iinc_3 (pc := 26) dX1_solves_26 (by decide) ?_
        refine og_goto (pc := 29) (tgt := 2) dX1_solves_29 (by decide) ?_
        refine ih (i + 1) (by omega) (fun j hj hne => ?_)
        by_cases e : j = i
        · subst e
          exact hi hne
        · exact hI j (by omega) hne
      refine og_iload_3 (pc := 2) dX1_solves_2 ?_
      refine og_aload_0 (pc := 3) dX1_solves_3 ?_
      refine og_mg0 (pc := 4) (z := (h : Int)) dX1_solves_4 hok.1 ?_
      refine og_icmp_ge (pc := 7) (tgt := 32) dX1_solves_7 (by decide) (by omega) (by omega) (fun c => ?_) (fun c => ?_)
      · exact absurd c (by omega)
      refine og_iload_3 (pc := 10) dX1_solves_10 ?_
      refine og_iload_2 (pc := 11) dX1_solves_11 ?_
      refine og_icmp_eq (pc := 12) (tgt := 26) dX1_solves_12 (by decide) (by omega) (by omega) (fun c1 => ?_) (fun c1 => ?_)
      · exact K26 (fun H => absurd c1 H)
      refine og_aload_0 (pc := 15) dX1_solves_15 ?_
      refine og_iload_1 (pc := 16) dX1_solves_16 ?_
      refine og_iload_3 (pc := 17) dX1_solves_17 ?_
      refine og_callI (pc := 18) (n := 2) (met_meets dA dZ bd w h q i hok hq (by omega)) rfl rfl (lw_V q211 q213 qs15 q19 q214) (by decide +kernel) ⟨by decide, by decide⟩ ⟨rfl, rfl⟩ rfl rfl (Nat.le_of_ble_eq_true rfl) dX1_solves_18 (fun r w1 hp => ?_)
      obtain ⟨r1, rfl, r2⟩ := hp
      refine og_if_ne (pc := 21) (tgt := 26) dX1_solves_21 (by decide) (by omega) (fun c2 => ?_) (fun c2 => ?_)
      · exact K26 (fun _ => r2.mp (by omega))
      · refine og_iconst (pc := 24) dX1_solves_24 ?_
        subst c2
        exact hret 0 w1 ⟨Or.inl rfl, rfl, iff_of_false (by decide) (fun H => by have := r2.mpr (H i (by omega) c1); omega)⟩ _ _ dX1_solves_25
  refine og_iconst (pc := 0) dX1_solves_0 ?_
  refine og_istore_3 (pc := 1) dX1_solves_1 (by decide) ?_
  exact Lp h 0 (by omega) (fun j hj => absurd hj (by omega))
def firstRowQ (w : DS) (h : Nat) (r : Int) : Prop := (r = -1 ∧ ∀ j, j < 2197 → ¬ RS w h (-1) j) ∨ ∃ q : Nat, q < 2197 ∧ r = q ∧ RS w h (-1) q ∧ ∀ j, j < q → ¬ RS w h (-1) j
/-! OmegaDeskModel.firstRow -/
theorem met_firstRow (dA dZ : ClassId) (bd : Nat → Nat) (w : DS) (h : Nat) (hok : mOK w h) :
    od_MI dA dZ (mc dA dZ bd) yX1_firstRow cX1_firstRow 2 (some .int) (rmL 3) [.ref (bd 0)] w (fun r w' => w' = w ∧ firstRowQ w h r) := by
  refine od_MI.ofI (own := RX1) 1 (by decide) rfl (od_cc rfl od_c1) (Nat.le_of_ble_eq_true rfl) ?_
  intro Γ hret
  show od_G Γ RX1 cX1_firstRow 2 (rmL 3) dA dZ (mc dA dZ bd (w)) [.ref (bd 0), .null] 0 []
  have Lp : ∀ m i : Nat, i + m = 2197 → (∀ j, j < i → ¬ RS w h (-1) j) → od_G Γ RX1 cX1_firstRow 2 (rmL 3) dA dZ (mc dA dZ bd (w)) [.ref (bd 0), .int (iI i)] 2 [] := by
    intro m
    induction m with
    | zero =>
      intro i hm hI
      refine og_iload_1 (pc := 2) dX1_firstRow_2 ?_
      refine og_sipush (pc := 3) dX1_firstRow_3 (by decide +kernel) ?_
      refine og_icmp_ge (pc := 6) (tgt := 26) dX1_firstRow_6 (by decide) (by omega) (by omega) (fun c => ?_) (fun c => ?_)
      · refine og_iconst (pc := 26) dX1_firstRow_26 ?_
        exact hret (-1) w ⟨rfl, Or.inl ⟨rfl, fun j hj => hI j (by omega)⟩⟩ _ _ dX1_firstRow_27
      · exact absurd c (by omega)
    | succ m ih =>
      intro i hm hI
      refine og_iload_1 (pc := 2) dX1_firstRow_2 ?_
      refine og_sipush (pc := 3) dX1_firstRow_3 (by decide +kernel) ?_
      refine og_icmp_ge (pc := 6) (tgt := 26) dX1_firstRow_6 (by decide) (by omega) (by omega) (fun c => ?_) (fun c => ?_)
      · exact absurd c (by omega)
      refine og_aload_0 (pc := 9) dX1_firstRow_9 ?_
      refine og_iload_1 (pc := 10) dX1_firstRow_10 ?_
      refine og_iconst (pc := 11) dX1_firstRow_11 ?_
      refine og_callI (pc := 12) (n := 2) (met_solves dA dZ bd w h i (-1) hok (by omega) (by omega)) rfl rfl (lw_V q207 q209 qs14 q19 q210) (by decide +kernel) ⟨by decide, by decide⟩ ⟨rfl, rfl⟩ rfl rfl (Nat.le_of_ble_eq_true rfl) dX1_firstRow_12 (fun r w1 hp => ?_)
      obtain ⟨r1, rfl, r2⟩ := hp
      refine og_if_eq (pc := 15) (tgt := 20) dX1_firstRow_15 (by decide) (by omega) (fun c2 => ?_) (fun c2 => ?_)
      · refine og_iinc_1 (pc := 20) dX1_firstRow_20 (by decide) ?_
        refine og_goto (pc := 23) (tgt := 2) dX1_firstRow_23 (by decide) ?_
        refine ih (i + 1) (by omega) (fun j hj => ?_)
        by_cases e : j = i
        · subst e
          intro H
          have := r2.mpr H
          omega
        · exact hI j (by omega)
      · refine og_iload_1 (pc := 18) dX1_firstRow_18 ?_
        exact hret i w1 ⟨rfl, Or.inr ⟨i, by omega, rfl, r2.mp (by omega), hI⟩⟩ _ _ dX1_firstRow_19
  refine og_iconst (pc := 0) dX1_firstRow_0 ?_
  refine og_istore_1 (pc := 1) dX1_firstRow_1 (by decide) ?_
  exact Lp 2197 0 (by omega) (fun j hj => absurd hj (by omega))
/-! OmegaDeskModel.possible -/
theorem mem_possible (dA dZ : ClassId) (bd : Nat → Nat) (w : DS) (h : Nat) (hok : mOK w h) :
    od_MI dA dZ (mc dA dZ bd) yX1_possible cX1_possible 1 (some .int) (rmL 4) [.ref (bd 0)] w (fun r w' => w' = w ∧ posQ (SM w h (-1)) r) := by
  refine od_MI.ofI (own := RX1) 0 (by decide) rfl (od_cc rfl od_c1) (Nat.le_of_ble_eq_true rfl) ?_
  intro Γ hret
  show od_G Γ RX1 cX1_possible 1 (rmL 4) dA dZ (mc dA dZ bd (w)) [.ref (bd 0)] 0 []
  refine og_aload_0 (pc := 0) dX1_possible_0 ?_
  refine og_callI (pc := 1) (n := 0) (met_firstRow dA dZ bd w h hok) rfl rfl (lw_V q203 q205 qs13 q19 q206) (by decide +kernel) ⟨by decide, by decide⟩ ⟨rfl, rfl⟩ rfl rfl (Nat.le_of_ble_eq_true rfl) dX1_possible_1 (fun r w1 hp => ?_)
  obtain ⟨rfl, hr⟩ := hp
  have hb : -1 ≤ r ∧ r < 2197 := by
    rcases hr with H | ⟨q, H⟩ <;> omega
  refine og_if_lt (pc := 4) (tgt := 11) dX1_possible_4 (by decide) (by omega) (fun c1 => ?_) (fun c1 => ?_)
  · refine og_iconst (pc := 11) dX1_possible_11 ?_
    refine hret 0 w1 ⟨rfl, Or.inl rfl, iff_of_false (by decide) (fun ⟨x, y, z, H⟩ => ?_)⟩ _ _ dX1_possible_12
    obtain ⟨j, j1, -, -, -, j5⟩ := SM_ex H
    rcases hr with H2 | ⟨q, H2⟩
    · exact H2.2 j j1 j5
    · omega
  · refine og_iconst (pc := 7) dX1_possible_7 ?_
    refine og_goto (pc := 8) (tgt := 12) dX1_possible_8 (by decide) ?_
    refine hret 1 w1 ⟨rfl, Or.inr rfl, iff_of_true rfl ?_⟩ _ _ dX1_possible_12
    rcases hr with H2 | ⟨q, q1, q2, q3, q4⟩
    · omega
    · exact ⟨_, _, _, SM_row q1 q3⟩
/-! OmegaDeskModel.first -/
theorem mem_first (dA dZ : ClassId) (bd : Nat → Nat) (w : DS) (h : Nat) (pl : Int) (hpl : Rg pl) (hok : mOK w h) :
    od_MI dA dZ (mc dA dZ bd) yX1_first cX1_first 3 (some .int) (rmL 4) [.ref (bd 0), .int (iI pl)] w (fun r w' => w' = w ∧ firstQ (SM w h (-1)) pl r) := by
  refine od_MI.ofI (own := RX1) 1 (by decide) rfl (od_cc rfl (od_cc rfl od_c1)) (Nat.le_of_ble_eq_true rfl) ?_
  intro Γ hret
  show od_G Γ RX1 cX1_first 3 (rmL 4) dA dZ (mc dA dZ bd (w)) [.ref (bd 0), .int (iI pl), .null] 0 []
  refine og_aload_0 (pc := 0) dX1_first_0 ?_
  refine og_callI (pc := 1) (n := 0) (met_firstRow dA dZ bd w h hok) rfl rfl (lw_V q203 q205 qs13 q19 q206) (by decide +kernel) ⟨by decide, by decide⟩ ⟨rfl, rfl⟩ rfl rfl (Nat.le_of_ble_eq_true rfl) dX1_first_1 (fun r w1 hp => ?_)
  obtain ⟨rfl, hr⟩ := hp
  have hb : -1 ≤ r ∧ r < 2197 := by
    rcases hr with H | ⟨q, H⟩ <;> omega
  refine og_istore_2 (pc := 4) dX1_first_4 (by decide) ?_
  refine og_iload_2 (pc := 5) dX1_first_5 ?_
  refine og_if_lt (pc := 6) (tgt := 16) dX1_first_6 (by decide) (by omega) (fun c1 => ?_) (fun c1 => ?_)
  · refine og_bipush (pc := 16) dX1_first_16 (by decide +kernel) ?_
    refine og_goto (pc := 18) (tgt := 26) dX1_first_18 (by decide) ?_
    refine hret 100 w1 ⟨rfl, fun _ => rfl, fun _ => Or.inl ⟨rfl, fun x y z H => ?_⟩⟩ _ _ dX1_first_26
    obtain ⟨j, j1, -, -, -, j5⟩ := SM_ex H
    rcases hr with H2 | ⟨q, H2⟩
    · exact H2.2 j j1 j5
    · omega
  refine og_iload_1 (pc := 9) dX1_first_9 ?_
  refine og_callS (pc := 10) (n := 1) (met_noPlace dA dZ w1 pl hpl) (lw_S q222 q223 q19 q224) (by decide +kernel) ⟨by decide, by decide⟩ ⟨rfl, rfl⟩ rfl rfl (Nat.le_of_ble_eq_true rfl) dX1_first_10 (fun r0 h0 => ?_)
  refine og_if_eq (pc := 13) (tgt := 21) dX1_first_13 (by decide) (by omega) (fun c2 => ?_) (fun c2 => ?_)
  · rcases hr with H2 | ⟨q, q1, q2, q3, q4⟩
    · omega
    · subst q2
      have hp2 := h0.2.mp c2
      refine og_iload_2 (pc := 21) dX1_first_21 ?_
      refine og_iload_1 (pc := 22) dX1_first_22 ?_
      refine og_callS (pc := 23) (n := 2) (met_valueOf dA dZ w1 q pl q1 hpl) (lw_S q215 q216 q19 q217) (by decide +kernel) ⟨by decide, by decide⟩ ⟨rfl, rfl⟩ rfl rfl (Nat.le_of_ble_eq_true rfl) dX1_first_23 (fun r3 h3 => ?_)
      subst h3
      exact hret _ w1 ⟨rfl, fun H => absurd hp2 H, fun _ => Or.inr ⟨_, _, _, lex_row q1 q3 q4, vv_sel q hp2⟩⟩ _ _ dX1_first_26
  · refine og_bipush (pc := 16) dX1_first_16 (by decide +kernel) ?_
    refine og_goto (pc := 18) (tgt := 26) dX1_first_18 (by decide) ?_
    exact hret 100 w1 ⟨rfl, fun _ => rfl, fun H => absurd (h0.2.mpr H) c2⟩ _ _ dX1_first_26
/-! OmegaDeskModel.with -/
theorem mem_with (dA dZ : ClassId) (bd : Nat → Nat) (w : DS) (h : Nat) (va val : Int) (hva : Rg va) (hvl : Rg val) (hok : mOK w h) :
    od_MI dA dZ (mc dA dZ bd) yX1_with cX1_with 4 (some .int) (rmL 3) [.ref (bd 0), .int (iI va), .int (iI val)] w (fun r w' => w' = w ∧ withQ (SM w h (-1)) va val r) := by
  refine od_MI.ofI (own := RX1) 1 (by decide) rfl (od_cc rfl (od_cc rfl (od_cc rfl od_c1))) (Nat.le_of_ble_eq_true rfl) ?_
  intro Γ hret
  show od_G Γ RX1 cX1_with 4 (rmL 3) dA dZ (mc dA dZ bd (w)) [.ref (bd 0), .int (iI va), .int (iI val), .null] 0 []
  refine og_iload_1 (pc := 0) dX1_with_0 ?_
  refine og_callS (pc := 1) (n := 1) (met_noPlace dA dZ w va hva) (lw_S q222 q223 q19 q224) (by decide +kernel) ⟨by decide, by decide⟩ ⟨rfl, rfl⟩ rfl rfl (Nat.le_of_ble_eq_true rfl) dX1_with_1 (fun r0 h0 => ?_)
  refine og_if_eq (pc := 4) (tgt := 9) dX1_with_4 (by decide) (by omega) (fun c0 => ?_) (fun c0 => ?_)
  rotate_left
  · refine og_iconst (pc := 7) dX1_with_7 ?_
    exact hret 0 w ⟨rfl, Or.inl rfl, iff_of_false (by decide) (fun H => c0 (h0.2.mpr H.1))⟩ _ _ dX1_with_8
  have hv := h0.2.mp c0
  have Lp : ∀ m i : Nat, i + m = 2197 → (∀ j, j < i → ¬ (vv j va = val ∧ RS w h (-1) j)) → od_G Γ RX1 cX1_with 4 (rmL 3) dA dZ (mc dA dZ bd (w)) [.ref (bd 0), .int (iI va), .int (iI val), .int (iI i)] 11 [] := by
    intro m
    induction m with
    | zero =>
      intro i hm hI
      refine og_iload_3 (pc := 11) dX1_with_11 ?_
      refine og_sipush (pc := 12) dX1_with_12 (by decide +kernel) ?_
      refine og_icmp_ge (pc := 15) (tgt := 44) dX1_with_15 (by decide) (by omega) (by omega) (fun c => ?_) (fun c => ?_)
      · refine og_iconst (pc := 44) dX1_with_44 ?_
        refine hret 0 w ⟨rfl, Or.inl rfl, iff_of_false (by decide) (fun ⟨_, x, y, z, H, e⟩ => ?_)⟩ _ _ dX1_with_45
        obtain ⟨j, j1, rfl, rfl, rfl, j5⟩ := SM_ex H
        rw [vv_sel j hv] at e
        exact hI j (by omega) ⟨e, j5⟩
      · exact absurd c (by omega)
    | succ m ih =>
      intro i hm hI
      have hbv := vv_b (q := i) (by omega) va
      have K38 : ¬ (vv i va = val ∧ RS w h (-1) i) → od_G Γ RX1 cX1_with 4 (rmL 3) dA dZ (mc dA dZ bd (w)) [.ref (bd 0), .int (iI va), .int (iI val), .int (iI i)] 38 [] := by
        intro hn
        refine og_iinc_3 (pc := 38) dX1_with_38 (by decide) ?_
        refine og_goto (pc := 41) (tgt := 11) dX1_with_41 (by decide) ?_
        refine ih (i + 1) (by omega) (fun j hj => ?_)
        by_cases e : j = i
        · subst e
          exact hn
        · exact hI j (by omega)
      refine og_iload_3 (pc := 11) dX1_with_11 ?_
      refine og_sipush (pc := 12) dX1_with_12 (by decide +kernel) ?_
      refine og_icmp_ge (pc := 15) (tgt := 44) dX1_with_15 (by decide) (by omega) (by omega) (fun c => ?_) (fun c => ?_)
      · exact absurd c (by omega)
      refine og_iload_3 (pc := 18) dX1_with_18 ?_
      refine og_iload_1 (pc := 19) dX1_with_19 ?_
      refine og_callS (pc := 20) (n := 2) (met_valueOf dA dZ w i va (by omega) hva) (lw_S q215 q216 q19 q217) (by decide +kernel) ⟨by decide, by decide⟩ ⟨rfl, rfl⟩ rfl rfl (Nat.le_of_ble_eq_true rfl) dX1_with_20 (fun r1 h1 => ?_)
      subst h1
      refine og_iload_2 (pc := 23) dX1_with_23 ?_
      refine og_icmp_ne (pc := 24) (tgt := 38) dX1_with_24 (by decide) (by omega) (by omega) (fun c1 => ?_) (fun c1 => ?_)
      · exact K38 (fun H => c1 H.1)
      refine og_aload_0 (pc := 27) dX1_with_27 ?_
      refine og_iload_3 (pc := 28) dX1_with_28 ?_
      refine og_iconst (pc := 29) dX1_with_29 ?_
      refine og_callI (pc := 30) (n := 2) (met_solves dA dZ bd w h i (-1) hok (by omega) (by omega)) rfl rfl (lw_V q207 q209 qs14 q19 q210) (by decide +kernel) ⟨by decide, by decide⟩ ⟨rfl, rfl⟩ rfl rfl (Nat.le_of_ble_eq_true rfl) dX1_with_30 (fun r w1 hp => ?_)
      obtain ⟨r1, rfl, r2⟩ := hp
      refine og_if_eq (pc := 33) (tgt := 38) dX1_with_33 (by decide) (by omega) (fun c2 => ?_) (fun c2 => ?_)
      · exact K38 (fun H => by have := r2.mpr H.2; omega)
      · refine og_iconst (pc := 36) dX1_with_36 ?_
        have hR := r2.mp (by omega)
        exact hret 1 w1 ⟨rfl, Or.inr rfl, iff_of_true rfl ⟨hv, _, _, _, SM_row (by omega) hR, (vv_sel i hv).trans c1⟩⟩ _ _ dX1_with_37
  refine og_iconst (pc := 9) dX1_with_9 ?_
  refine og_istore_3 (pc := 10) dX1_with_10 (by decide) ?_
  exact Lp 2197 0 (by omega) (fun j hj => absurd hj (by omega))
/-! OmegaDeskModel.follows -/
theorem mem_follows (dA dZ : ClassId) (bd : Nat → Nat) (w : DS) (h : Nat) (a b c d : Int) (ha : Rg a) (hb : Rg b) (hc : Rg c) (hd : Rg d) (hok : mOK w h) :
    od_MI dA dZ (mc dA dZ bd) yX1_follows cX1_follows 7 (some .int) (rmL 3) [.ref (bd 0), .int (iI a), .int (iI b), .int (iI c), .int (iI d)] w (fun r w' => w' = w ∧ folQ (SM w h (-1)) a b c d r) := by
  refine od_MI.ofI (own := RX1) 2 (by decide) rfl (od_cc rfl (od_cc rfl (od_cc rfl (od_cc rfl (od_cc rfl od_c1))))) (Nat.le_of_ble_eq_true rfl) ?_
  intro Γ hret
  show od_G Γ RX1 cX1_follows 7 (rmL 3) dA dZ (mc dA dZ bd (w)) [.ref (bd 0), .int (iI a), .int (iI b), .int (iI c), .int (iI d), .null, .null] 0 []
  refine og_iload_1 (pc := 0) dX1_follows_0 ?_
  refine og_iload_2 (pc := 1) dX1_follows_1 ?_
  refine og_iload_3 (pc := 2) dX1_follows_2 ?_
  refine og_iload_4 (pc := 3) dX1_follows_3 ?_
  refine og_callS (pc := 5) (n := 4) (met_bad dA dZ w a b c d ha hb hc hd) (lw_S q192 q193 q19 q194) (by decide +kernel) ⟨by decide, by decide⟩ ⟨rfl, rfl⟩ rfl rfl (Nat.le_of_ble_eq_true rfl) dX1_follows_5 (fun r0 h0 => ?_)
  refine og_if_eq (pc := 8) (tgt := 13) dX1_follows_8 (by decide) (by omega) (fun c0 => ?_) (fun c0 => ?_)
  rotate_left
  · refine og_iconst (pc := 11) dX1_follows_11 ?_
    have hnr : ¬ od_right a b c d := fun H => c0 (h0.2.mpr H)
    exact hret (-1) w ⟨rfl, fun _ => rfl, fun H => absurd H hnr⟩ _ _ dX1_follows_12
  have hrt := h0.2.mp c0
  have hrt2 := hrt
  unfold od_right at hrt2
  have Lp : ∀ m i : Nat, i + m = 2197 → (∀ j, j < i → ¬ (d < a * vv j 0 + b * vv j 1 + c * vv j 2 ∧ RS w h (-1) j)) → od_G Γ RX1 cX1_follows 7 (rmL 3) dA dZ (mc dA dZ bd (w)) [.ref (bd 0), .int (iI a), .int (iI b), .int (iI c), .int (iI d), .int (iI i), .null] 16 [] := by
    intro m
    induction m with
    | zero =>
      intro i hm hI
      refine og_iload_5 (pc := 16) dX1_follows_16 ?_
      refine og_sipush (pc := 18) dX1_follows_18 (by decide +kernel) ?_
      refine og_icmp_ge (pc := 21) (tgt := 77) dX1_follows_21 (by decide) (by omega) (by omega) (fun c1 => ?_) (fun c1 => ?_)
      · refine og_iconst (pc := 77) dX1_follows_77 ?_
        refine hret 1 w ⟨rfl, fun H => absurd hrt H, fun _ => ⟨Or.inr rfl, iff_of_false (by decide) (fun ⟨x, y, z, H, e⟩ => ?_)⟩⟩ _ _ dX1_follows_78
        obtain ⟨j, j1, rfl, rfl, rfl, j5⟩ := SM_ex H
        exact hI j (by omega) ⟨e, j5⟩
      · exact absurd c1 (by omega)
    | succ m ih =>
      intro i hm hI
      have m0 := mulR (a := a) (b := vv i 0) 9 6 54 rfl (by omega) (vv_b (by omega) 0)
      have m1 := mulR (a := b) (b := vv i 1) 9 6 54 rfl (by omega) (vv_b (by omega) 1)
      have m2 := mulR (a := c) (b := vv i 2) 9 6 54 rfl (by omega) (vv_b (by omega) 2)
      have K71 : ∀ v6 : Value, ¬ (d < a * vv i 0 + b * vv i 1 + c * vv i 2 ∧ RS w h (-1) i) → od_G Γ RX1 cX1_follows 7 (rmL 3) dA dZ (mc dA dZ bd (w)) [.ref (bd 0), .int (iI a), .int (iI b), .int (iI c), .int (iI d), .int (iI i), v6] 71 [] := by
        intro v6 hn
        refine og_forget_6 ?_
        refine og_iinc_5 (pc := 71) dX1_follows_71 (by decide) ?_
        refine og_goto (pc := 74) (tgt := 16) dX1_follows_74 (by decide) ?_
        refine ih (i + 1) (by omega) (fun j hj => ?_)
        by_cases e : j = i
        · subst e
          exact hn
        · exact hI j (by omega)
      refine og_iload_5 (pc := 16) dX1_follows_16 ?_
      refine og_sipush (pc := 18) dX1_follows_18 (by decide +kernel) ?_
      refine og_icmp_ge (pc := 21) (tgt := 77) dX1_follows_21 (by decide) (by omega) (by omega) (fun c1 => ?_) (fun c1 => ?_)
      · exact absurd c1 (by omega)
      refine og_iload_1 (pc := 24) dX1_follows_24 ?_
      refine og_iload_5 (pc := 25) dX1_follows_25 ?_
      refine og_iconst (pc := 27) dX1_follows_27 ?_
      refine og_callS (pc := 28) (n := 2) (met_valueOf dA dZ w i 0 (by omega) (by omega)) (lw_S q215 q216 q19 q217) (by decide +kernel) ⟨by decide, by decide⟩ ⟨rfl, rfl⟩ rfl rfl (Nat.le_of_ble_eq_true rfl) dX1_follows_28 (fun r1 h1 => ?_)
      subst h1
      refine og_imul (pc := 31) dX1_follows_31 ?_
      refine og_iload_2 (pc := 32) dX1_follows_32 ?_
      refine og_iload_5 (pc := 33) dX1_follows_33 ?_
      refine og_iconst (pc := 35) dX1_follows_35 ?_
      refine og_callS (pc := 36) (n := 2) (met_valueOf dA dZ w i 1 (by omega) (by omega)) (lw_S q215 q216 q19 q217) (by decide +kernel) ⟨by decide, by decide⟩ ⟨rfl, rfl⟩ rfl rfl (Nat.le_of_ble_eq_true rfl) dX1_follows_36 (fun r2 h2 => ?_)
      subst h2
      refine og_imul (pc := 39) dX1_follows_39 ?_
      refine og_iadd (pc := 40) dX1_follows_40 ?_
      refine og_iload_3 (pc := 41) dX1_follows_41 ?_
      refine og_iload_5 (pc := 42) dX1_follows_42 ?_
      refine og_iconst (pc := 44) dX1_follows_44 ?_
      refine og_callS (pc := 45) (n := 2) (met_valueOf dA dZ w i 2 (by omega) (by omega)) (lw_S q215 q216 q19 q217) (by decide +kernel) ⟨by decide, by decide⟩ ⟨rfl, rfl⟩ rfl rfl (Nat.le_of_ble_eq_true rfl) dX1_follows_45 (fun r3 h3 => ?_)
      subst h3
      refine og_imul (pc := 48) dX1_follows_48 ?_
      refine og_iadd (pc := 49) dX1_follows_49 ?_
      refine og_istore_6 (pc := 50) dX1_follows_50 (by decide) ?_
      refine og_iload_6 (pc := 52) dX1_follows_52 ?_
      refine og_iload_4 (pc := 54) dX1_follows_54 ?_
      refine og_icmp_le (pc := 56) (tgt := 71) dX1_follows_56 (by decide) (by omega) (by omega) (fun c2 => ?_) (fun c2 => ?_)
      · exact K71 _ (fun H => by omega)
      refine og_aload_0 (pc := 59) dX1_follows_59 ?_
      refine og_iload_5 (pc := 60) dX1_follows_60 ?_
      refine og_iconst (pc := 62) dX1_follows_62 ?_
      refine og_callI (pc := 63) (n := 2) (met_solves dA dZ bd w h i (-1) hok (by omega) (by omega)) rfl rfl (lw_V q207 q209 qs14 q19 q210) (by decide +kernel) ⟨by decide, by decide⟩ ⟨rfl, rfl⟩ rfl rfl (Nat.le_of_ble_eq_true rfl) dX1_follows_63 (fun r w1 hp => ?_)
      obtain ⟨q1, rfl, q2⟩ := hp
      refine og_if_eq (pc := 66) (tgt := 71) dX1_follows_66 (by decide) (by omega) (fun c3 => ?_) (fun c3 => ?_)
      · exact K71 _ (fun H => by have := q2.mpr H.2; omega)
      · refine og_iconst (pc := 69) dX1_follows_69 ?_
        have hR := q2.mp (by omega)
        exact hret 0 w1 ⟨rfl, fun H => absurd hrt H, fun _ => ⟨Or.inl rfl, iff_of_true rfl ⟨_, _, _, SM_row (by omega) hR, c2⟩⟩⟩ _ _ dX1_follows_70
  refine og_iconst (pc := 13) dX1_follows_13 ?_
  refine og_istore_5 (pc := 14) dX1_follows_14 (by decide) ?_
  exact Lp 2197 0 (by omega) (fun j hj => absurd hj (by omega))
def exI (w : DS) (h : Nat) (va gr : Int) (i : Nat) (be : Int) : Prop := (be = 100 ∧ ∀ j, j < i → ¬ RS w h (-1) j) ∨ (Bx be ∧ (∃ j, j < i ∧ RS w h (-1) j ∧ vv j va = be) ∧ ∀ j, j < i → RS w h (-1) j → (gr = 0 → be ≤ vv j va) ∧ (gr ≠ 0 → vv j va ≤ be))
/-! OmegaDeskModel.extreme -/
theorem mem_extreme (dA dZ : ClassId) (bd : Nat → Nat) (w : DS) (h : Nat) (va gr : Int) (hva : Rg va) (hgr : gr = 0 ∨ gr = 1) (hok : mOK w h) :
    od_MI dA dZ (mc dA dZ bd) yX1_extreme cX1_extreme 6 (some .int) (rmL 3) [.ref (bd 0), .int (iI va), .int (iI gr)] w (fun r w' => w' = w ∧ exQ (SM w h (-1)) va gr r) := by
  refine od_MI.ofI (own := RX1) 3 (by decide) rfl (od_cc rfl (od_cc rfl (od_cc rfl od_c1))) (Nat.le_of_ble_eq_true rfl) ?_
  intro Γ hret
  show od_G Γ RX1 cX1_extreme 6 (rmL 3) dA dZ (mc dA dZ bd (w)) [.ref (bd 0), .int (iI va), .int (iI gr), .null, .null, .null] 0 []
  refine og_iload_1 (pc := 0) dX1_extreme_0 ?_
  refine og_callS (pc := 1) (n := 1) (met_noPlace dA dZ w va hva) (lw_S q222 q223 q19 q224) (by decide +kernel) ⟨by decide, by decide⟩ ⟨rfl, rfl⟩ rfl rfl (Nat.le_of_ble_eq_true rfl) dX1_extreme_1 (fun r0 h0 => ?_)
  refine og_if_eq (pc := 4) (tgt := 10) dX1_extreme_4 (by decide) (by omega) (fun c0 => ?_) (fun c0 => ?_)
  rotate_left
  · refine og_bipush (pc := 7) dX1_extreme_7 (by decide +kernel) ?_
    exact hret 100 w ⟨rfl, fun _ => rfl, fun H => absurd (h0.2.mpr H) c0⟩ _ _ dX1_extreme_9
  have hv := h0.2.mp c0
  have Lp : ∀ (m i : Nat) (be : Int), i + m = 2197 → exI w h va gr i be → od_G Γ RX1 cX1_extreme 6 (rmL 3) dA dZ (mc dA dZ bd (w)) [.ref (bd 0), .int (iI va), .int (iI gr), .int (iI be), .int (iI i), .null] 16 [] := by
    intro m
    induction m with
    | zero =>
      intro i be hm hI
      have hi : i = 2197 := by omega
      subst hi
      refine og_iload_4 (pc := 16) dX1_extreme_16 ?_
      refine og_sipush (pc := 18) dX1_extreme_18 (by decide +kernel) ?_
      refine og_icmp_ge (pc := 21) (tgt := 76) dX1_extreme_21 (by decide) (by omega) (by omega) (fun c => ?_) (fun c => ?_)
      · refine og_iload_3 (pc := 76) dX1_extreme_76 ?_
        refine hret be w ⟨rfl, fun H => absurd hv H, fun _ => ?_⟩ _ _ dX1_extreme_77
        rcases hI with ⟨h1, h2⟩ | ⟨h1, ⟨j, j1, j2, j3⟩, h3⟩
        · refine Or.inl ⟨h1, fun x y z H => ?_⟩
          obtain ⟨j, j1, -, -, -, j5⟩ := SM_ex H
          exact h2 j j1 j5
        · refine Or.inr ⟨h1, ⟨_, _, _, SM_row j1 j2, (vv_sel j hv).trans j3⟩, fun x y z H => ?_⟩
          obtain ⟨j, j1, rfl, rfl, rfl, j5⟩ := SM_ex H
          rw [vv_sel j hv]
          exact h3 j j1 j5
      · exact absurd c (by omega)
    | succ m ih =>
      intro i be hm hI
      have hbv := vv_b (q := i) (by omega) va
      have hbe : be = 100 ∨ Bx be := by
        rcases hI with H | H
        · exact Or.inl H.1
        · exact Or.inr H.1
      have K70 : ∀ (be' : Int) (v5 : Value), exI w h va gr (i + 1) be' → od_G Γ RX1 cX1_extreme 6 (rmL 3) dA dZ (mc dA dZ bd (w)) [.ref (bd 0), .int (iI va), .int (iI gr), .int (iI be'), .int (iI i), v5] 70 [] := by
        intro be' v5 hI'
        refine og_forget_5 ?_
        refine og_iinc_4 (pc := 70) dX1_extreme_70 (by decide) ?_
        refine og_goto (pc := 73) (tgt := 16) dX1_extreme_73 (by decide) ?_
        exact ih (i + 1) be' (by omega) hI'
      -- kept
      have Kk : (RS w h (-1) i → be ≠ 100 ∧ (gr = 0 → be ≤ vv i va) ∧ (gr ≠ 0 → vv i va ≤ be)) → exI w h va gr (i + 1) be := by
        intro hk
        rcases hI with ⟨h1, h2⟩ | ⟨h1, ⟨j, j1, j2, j3⟩, h3⟩
        · refine Or.inl ⟨h1, fun j hj => ?_⟩
          by_cases e : j = i
          · subst e
            intro H
            exact (hk H).1 h1
          · exact h2 j (by omega)
        · refine Or.inr ⟨h1, ⟨j, by omega, j2, j3⟩, fun k hk' hR => ?_⟩
          by_cases e : k = i
          · subst e
            exact (hk hR).2
          · exact h3 k (by omega) hR
      refine og_iload_4 (pc := 16) dX1_extreme_16 ?_
      refine og_sipush (pc := 18) dX1_extreme_18 (by decide +kernel) ?_
      refine og_icmp_ge (pc := 21) (tgt := 76) dX1_extreme_21 (by decide) (by omega) (by omega) (fun c => ?_) (fun c => ?_)
      · exact absurd c (by omega)
      refine og_iload_4 (pc := 24) dX1_extreme_24 ?_
      refine og_iload_1 (pc := 26) dX1_extreme_26 ?_
      refine og_callS (pc := 27) (n := 2) (met_valueOf dA dZ w i va (by omega) hva) (lw_S q215 q216 q19 q217) (by decide +kernel) ⟨by decide, by decide⟩ ⟨rfl, rfl⟩ rfl rfl (Nat.le_of_ble_eq_true rfl) dX1_extreme_27 (fun r1 h1 => ?_)
      subst h1
      refine og_istore_5 (pc := 30) dX1_extreme_30 (by decide) ?_
      refine og_aload_0 (pc := 32) dX1_extreme_32 ?_
      refine og_iload_4 (pc := 33) dX1_extreme_33 ?_
      refine og_iconst (pc := 35) dX1_extreme_35 ?_
      refine og_callI (pc := 36) (n := 2) (met_solves dA dZ bd w h i (-1) hok (by omega) (by omega)) rfl rfl (lw_V q207 q209 qs14 q19 q210) (by decide +kernel) ⟨by decide, by decide⟩ ⟨rfl, rfl⟩ rfl rfl (Nat.le_of_ble_eq_true rfl) dX1_extreme_36 (fun r w1 hp => ?_)
      obtain ⟨q1, rfl, q2⟩ := hp
      refine og_if_eq (pc := 39) (tgt := 70) dX1_extreme_39 (by decide) (by omega) (fun c1 => ?_) (fun c1 => ?_)
      · exact K70 be _ (Kk (fun H => by have := q2.mpr H; omega))
      have hR := q2.mp (by omega)
      have K67 : (be = 100 ∨ (gr = 0 ∧ vv i va < be) ∨ (gr ≠ 0 ∧ be < vv i va)) → od_G Γ RX1 cX1_extreme 6 (rmL 3) dA dZ (mc dA dZ bd (w1)) [.ref (bd 0), .int (iI va), .int (iI gr), .int (iI be), .int (iI i), .int (iI (vv i va))] 67 [] := by
        intro hb
        refine og_iload_5 (pc := 67) dX1_extreme_67 ?_
        refine og_istore_3 (pc := 69) dX1_extreme_69 (by decide) ?_
        refine K70 (vv i va) _ (Or.inr ⟨hbv, ⟨i, by omega, hR, rfl⟩, fun k hk hRk => ?_⟩)
        by_cases e : k = i
        · subst e
          exact ⟨fun _ => Int.le_refl _, fun _ => Int.le_refl _⟩
        · rcases hI with ⟨h1, h2⟩ | ⟨h1, -, h3⟩
          · exact absurd hRk (h2 k (by omega))
          · have := h3 k (by omega) hRk
            constructor
            · intro g0
              have := this.1 g0
              omega
            · intro g0
              have := this.2 g0
              omega
      refine og_iload_3 (pc := 42) dX1_extreme_42 ?_
      refine og_bipush (pc := 43) dX1_extreme_43 (by decide +kernel) ?_
      refine og_icmp_eq (pc := 45) (tgt := 67) dX1_extreme_45 (by decide) (by omega) (by omega) (fun c2 => ?_) (fun c2 => ?_)
      · exact K67 (Or.inl c2)
      refine og_iload_2 (pc := 48) dX1_extreme_48 ?_
      refine og_if_eq (pc := 49) (tgt := 61) dX1_extreme_49 (by decide) (by omega) (fun c3 => ?_) (fun c3 => ?_)
      · refine og_iload_5 (pc := 61) dX1_extreme_61 ?_
        refine og_iload_3 (pc := 63) dX1_extreme_63 ?_
        refine og_icmp_ge (pc := 64) (tgt := 70) dX1_extreme_64 (by decide) (by omega) (by omega) (fun c4 => ?_) (fun c4 => ?_)
        · exact K70 be _ (Kk (fun _ => ⟨c2, fun _ => by omega, fun g => absurd c3 g⟩))
        · exact K67 (Or.inr (Or.inl ⟨c3, by omega⟩))
      · refine og_iload_5 (pc := 52) dX1_extreme_52 ?_
        refine og_iload_3 (pc := 54) dX1_extreme_54 ?_
        refine og_icmp_le (pc := 55) (tgt := 70) dX1_extreme_55 (by decide) (by omega) (by omega) (fun c4 => ?_) (fun c4 => ?_)
        · exact K70 be _ (Kk (fun _ => ⟨c2, fun g => absurd g c3, fun _ => by omega⟩))
        · refine og_goto (pc := 58) (tgt := 67) dX1_extreme_58 (by decide) ?_
          exact K67 (Or.inr (Or.inr ⟨c3, by omega⟩))
  refine og_bipush (pc := 10) dX1_extreme_10 (by decide +kernel) ?_
  refine og_istore_3 (pc := 12) dX1_extreme_12 (by decide) ?_
  refine og_iconst (pc := 13) dX1_extreme_13 ?_
  refine og_istore_4 (pc := 14) dX1_extreme_14 (by decide) ?_
  exact Lp 2197 0 100 (by omega) (Or.inl ⟨rfl, fun j hj => absurd hj (by omega)⟩)
/-! spare -/
def SpM (w : DS) (h i : Nat) : Prop := ¬ ∃ x y z, SM w h i x y z ∧ ¬ mM w i x y z
/-! OmegaDeskModel.spared -/
theorem met_spared (dA dZ : ClassId) (bd : Nat → Nat) (w : DS) (h k : Nat) (hok : mOK w h) (hk : k < h) :
    od_MI dA dZ (mc dA dZ bd) yX1_spared cX1_spared 3 (some .boolean) (rmL 3) [.ref (bd 0), .int (iI k)] w (fun r w' => (r = 0 ∨ r = 1) ∧ w' = w ∧ (r = 1 ↔ SpM w h k)) := by
  refine od_MI.ofZ (own := RX1) 1 (by decide) rfl (od_cc rfl (od_cc rfl od_c1)) (Nat.le_of_ble_eq_true rfl) (fun r u' h => h.1) ?_
  intro Γ hret
  show od_G Γ RX1 cX1_spared 3 (rmL 3) dA dZ (mc dA dZ bd (w)) [.ref (bd 0), .int (iI k), .null] 0 []
  have h8 := hok.2.1
  have Lp : ∀ m i : Nat, i + m = 2197 → (∀ j, j < i → ¬ (RS w h k j ∧ ¬ mM w k (vv j 0) (vv j 1) (vv j 2))) → od_G Γ RX1 cX1_spared 3 (rmL 3) dA dZ (mc dA dZ bd (w)) [.ref (bd 0), .int (iI k), .int (iI i)] 2 [] := by
    intro m
    induction m with
    | zero =>
      intro i hm hI
      refine og_iload_2 (pc := 2) dX1_spared_2 ?_
      refine og_sipush (pc := 3) dX1_spared_3 (by decide +kernel) ?_
      refine og_icmp_ge (pc := 6) (tgt := 35) dX1_spared_6 (by decide) (by omega) (by omega) (fun c => ?_) (fun c => ?_)
      · refine og_iconst (pc := 35) dX1_spared_35 ?_
        refine hret 1 w ⟨Or.inr rfl, rfl, iff_of_true rfl (fun ⟨x, y, z, H, H2⟩ => ?_)⟩ _ _ dX1_spared_36
        obtain ⟨j, j1, rfl, rfl, rfl, j5⟩ := SM_ex H
        exact hI j (by omega) ⟨j5, H2⟩
      · exact absurd c (by omega)
    | succ m ih =>
      intro i hm hI
      have K29 : ¬ (RS w h k i ∧ ¬ mM w k (vv i 0) (vv i 1) (vv i 2)) → od_G Γ RX1 cX1_spared 3 (rmL 3) dA dZ (mc dA dZ bd (w)) [.ref (bd 0), .int (iI k), .int (iI i)] 29 [] := by
        intro hn
        refine og_iinc_2 (pc := 29) dX1_spared_29 (by decide) ?_
        refine og_goto (pc := 32) (tgt := 2) dX1_spared_32 (by decide) ?_
        refine ih (i + 1) (by omega) (fun j hj => ?_)
        by_cases e : j = i
        · subst e
          exact hn
        · exact hI j (by omega)
      refine og_iload_2 (pc := 2) dX1_spared_2 ?_
      refine og_sipush (pc := 3) dX1_spared_3 (by decide +kernel) ?_
      refine og_icmp_ge (pc := 6) (tgt := 35) dX1_spared_6 (by decide) (by omega) (by omega) (fun c => ?_) (fun c => ?_)
      · exact absurd c (by omega)
      refine og_aload_0 (pc := 9) dX1_spared_9 ?_
      refine og_iload_2 (pc := 10) dX1_spared_10 ?_
      refine og_iload_1 (pc := 11) dX1_spared_11 ?_
      refine og_callI (pc := 12) (n := 2) (met_solves dA dZ bd w h i k hok (by omega) (by omega)) rfl rfl (lw_V q207 q209 qs14 q19 q210) (by decide +kernel) ⟨by decide, by decide⟩ ⟨rfl, rfl⟩ rfl rfl (Nat.le_of_ble_eq_true rfl) dX1_spared_12 (fun r w1 hp => ?_)
      obtain ⟨q1, rfl, q2⟩ := hp
      refine og_if_eq (pc := 15) (tgt := 29) dX1_spared_15 (by decide) (by omega) (fun c1 => ?_) (fun c1 => ?_)
      · exact K29 (fun H => by have := q2.mpr H.1; omega)
      refine og_aload_0 (pc := 18) dX1_spared_18 ?_
      refine og_iload_2 (pc := 19) dX1_spared_19 ?_
      refine og_iload_1 (pc := 20) dX1_spared_20 ?_
      refine og_callI (pc := 21) (n := 2) (met_meets dA dZ bd w1 h i k hok (by omega) hk) rfl rfl (lw_V q211 q213 qs15 q19 q214) (by decide +kernel) ⟨by decide, by decide⟩ ⟨rfl, rfl⟩ rfl rfl (Nat.le_of_ble_eq_true rfl) dX1_spared_21 (fun r2 w2 hp => ?_)
      obtain ⟨p1, rfl, p2⟩ := hp
      refine og_if_ne (pc := 24) (tgt := 29) dX1_spared_24 (by decide) (by omega) (fun c2 => ?_) (fun c2 => ?_)
      · exact K29 (fun H => H.2 (p2.mp (by omega)))
      · refine og_iconst (pc := 27) dX1_spared_27 ?_
        have hR := q2.mp (by omega)
        refine hret 0 w2 ⟨Or.inl rfl, rfl, iff_of_false (by decide) (fun H => H ⟨_, _, _, SM_row (by omega) hR, fun H2 => ?_⟩)⟩ _ _ dX1_spared_28
        have := p2.mpr H2
        omega
  refine og_iconst (pc := 0) dX1_spared_0 ?_
  refine og_istore_2 (pc := 1) dX1_spared_1 (by decide) ?_
  exact Lp 2197 0 (by omega) (fun j hj => absurd hj (by omega))
/-! OmegaDeskModel.spare -/
theorem mem_spare (dA dZ : ClassId) (bd : Nat → Nat) (w : DS) (h : Nat) (hok : mOK w h) :
    od_MI dA dZ (mc dA dZ bd) yX1_spare cX1_spare 3 (some .int) (rmL 4) [.ref (bd 0)] w (fun r w' => w' = w ∧ r = cntP (SpM w h) h) := by
  refine od_MI.ofI (own := RX1) 2 (by decide) rfl (od_cc rfl od_c1) (Nat.le_of_ble_eq_true rfl) ?_
  intro Γ hret
  show od_G Γ RX1 cX1_spare 3 (rmL 4) dA dZ (mc dA dZ bd (w)) [.ref (bd 0), .null, .null] 0 []
  have h8 := hok.2.1
  have Lp : ∀ m k : Nat, k + m = h → od_G Γ RX1 cX1_spare 3 (rmL 4) dA dZ (mc dA dZ bd (w)) [.ref (bd 0), .int (iI (cntP (SpM w h) k)), .int (iI k)] 4 [] := by
    intro m
    induction m with
    | zero =>
      intro k hm
      have hk : k = h := by omega
      refine og_iload_2 (pc := 4) dX1_spare_4 ?_
      refine og_aload_0 (pc := 5) dX1_spare_5 ?_
      refine og_mg0 (pc := 6) (z := (h : Int)) dX1_spare_6 hok.1 ?_
      refine og_icmp_ge (pc := 9) (tgt := 29) dX1_spare_9 (by decide) (by omega) (by omega) (fun c => ?_) (fun c => ?_)
      · refine og_iload_1 (pc := 29) dX1_spare_29 ?_
        exact hret _ w ⟨rfl, by rw [hk]⟩ _ _ dX1_spare_30
      · exact absurd c (by omega)
    | succ m ih =>
      intro k hm
      have hcb := cntP_b (P := SpM w h) k
      refine og_iload_2 (pc := 4) dX1_spare_4 ?_
      refine og_aload_0 (pc := 5) dX1_spare_5 ?_
      refine og_mg0 (pc := 6) (z := (h : Int)) dX1_spare_6 hok.1 ?_
      refine og_icmp_ge (pc := 9) (tgt := 29) dX1_spare_9 (by decide) (by omega) (by omega) (fun c => ?_) (fun c => ?_)
      · exact absurd c (by omega)
      refine og_aload_0 (pc := 12) dX1_spare_12 ?_
      refine og_iload_2 (pc := 13) dX1_spare_13 ?_
      refine og_callI (pc := 14) (n := 1) (met_spared dA dZ bd w h k hok (by omega)) rfl rfl (lw_V q241 q243 qs16 q19 q244) (by decide +kernel) ⟨by decide, by decide⟩ ⟨rfl, rfl⟩ rfl rfl (Nat.le_of_ble_eq_true rfl) dX1_spare_14 (fun r w1 hp => ?_)
      obtain ⟨q1, rfl, q2⟩ := hp
      refine og_if_eq (pc := 17) (tgt := 23) dX1_spare_17 (by decide) (by omega) (fun c1 => ?_) (fun c1 => ?_)
      · refine og_iinc_2 (pc := 23) dX1_spare_23 (by decide) ?_
        refine og_goto (pc := 26) (tgt := 4) dX1_spare_26 (by decide) ?_
        have e := cntP_s (P := SpM w1 h) (n := k) (e := 0) (Or.inl rfl) (iff_of_false (by decide) (fun H => by have := q2.mpr H; omega))
        have e2 : cntP (SpM w1 h) k = cntP (SpM w1 h) (k + 1) := by omega
        rw [e2]
        exact ih (k + 1) (by omega)
      · refine og_iinc_1 (pc := 20) dX1_spare_20 (by decide) ?_
        refine og_iinc_2 (pc := 23) dX1_spare_23 (by decide) ?_
        refine og_goto (pc := 26) (tgt := 4) dX1_spare_26 (by decide) ?_
        have e := cntP_s (P := SpM w1 h) (n := k) (e := 1) (Or.inr rfl) (iff_of_true rfl (q2.mp (by omega)))
        rw [e]
        exact ih (k + 1) (by omega)
  refine og_iconst (pc := 0) dX1_spare_0 ?_
  refine og_istore_1 (pc := 1) dX1_spare_1 (by decide) ?_
  refine og_iconst (pc := 2) dX1_spare_2 ?_
  refine og_istore_2 (pc := 3) dX1_spare_3 (by decide) ?_
  exact Lp h 0 (by omega)
/-! add, drop -/
def addM (w : DS) (h : Nat) (a b c d q : Int) : DS := up2 (up2 (up2 (up2 (up2 (up2 w 1 h a) 2 h b) 3 h c) 4 h d) 5 h q) 0 0 ((h : Int) + 1)
def addMQ (w : DS) (h : Nat) (a b c d q r : Int) (w' : DS) : Prop := (¬ (od_right a b c d ∧ h < 8) → r = -1 ∧ w' = w) ∧ (od_right a b c d ∧ h < 8 → r = (h : Int) + 1 ∧ w' = addM w h a b c d q)
/-! OmegaDeskModel.add -/
theorem mem_add (dA dZ : ClassId) (bd : Nat → Nat) (w : DS) (h : Nat) (a b c d q : Int) (ha : Rg a) (hb : Rg b) (hc : Rg c) (hd : Rg d) (hq : q = 0 ∨ q = 1) (h0 : w 0 0 = h) (h8 : h ≤ 8) :
    od_MI dA dZ (mc dA dZ bd) yX1_add cX1_add 6 (some .int) (rmL 1) [.ref (bd 0), .int (iI a), .int (iI b), .int (iI c), .int (iI d), .int (iI q)] w (addMQ w h a b c d q) := by
  refine od_MI.ofI (own := RX1) 0 (by decide) rfl (od_cc rfl (od_cc rfl (od_cc rfl (od_cc rfl (od_cc rfl (od_cc rfl od_c1)))))) (Nat.le_of_ble_eq_true rfl) ?_
  intro Γ hret
  show od_G Γ RX1 cX1_add 6 (rmL 1) dA dZ (mc dA dZ bd (w)) [.ref (bd 0), .int (iI a), .int (iI b), .int (iI c), .int (iI d), .int (iI q)] 0 []
  have K20 : ¬ (od_right a b c d ∧ h < 8) → od_G Γ RX1 cX1_add 6 (rmL 1) dA dZ (mc dA dZ bd (w)) [.ref (bd 0), .int (iI a), .int (iI b), .int (iI c), .int (iI d), .int (iI q)] 20 [] := by
    intro hn
    refine og_iconst (pc := 20) dX1_add_20 ?_
    exact hret (-1) w ⟨fun _ => ⟨rfl, rfl⟩, fun H => absurd H hn⟩ _ _ dX1_add_21
  refine og_iload_1 (pc := 0) dX1_add_0 ?_
  refine og_iload_2 (pc := 1) dX1_add_1 ?_
  refine og_iload_3 (pc := 2) dX1_add_2 ?_
  refine og_iload_4 (pc := 3) dX1_add_3 ?_
  refine og_callS (pc := 5) (n := 4) (met_bad dA dZ w a b c d ha hb hc hd) (lw_S q192 q193 q19 q194) (by decide +kernel) ⟨by decide, by decide⟩ ⟨rfl, rfl⟩ rfl rfl (Nat.le_of_ble_eq_true rfl) dX1_add_5 (fun r0 hr0 => ?_)
  refine og_if_ne (pc := 8) (tgt := 20) dX1_add_8 (by decide) (by omega) (fun c1 => ?_) (fun c1 => ?_)
  · exact K20 (fun H => c1 (hr0.2.mpr H.1))
  refine og_aload_0 (pc := 11) dX1_add_11 ?_
  refine og_mg0 (pc := 12) (z := (h : Int)) dX1_add_12 h0 ?_
  refine og_bipush (pc := 15) dX1_add_15 (by decide +kernel) ?_
  refine og_icmp_ne (pc := 17) (tgt := 22) dX1_add_17 (by decide) (by omega) (by omega) (fun c2 => ?_) (fun c2 => ?_)
  rotate_left
  · exact K20 (fun H => by omega)
  have hrt : od_right a b c d := hr0.2.mp c1
  have hlt : h < 8 := by omega
  refine og_aload_0 (pc := 22) dX1_add_22 ?_
  refine og_mr1 (pc := 23) dX1_add_23 ?_
  refine og_aload_0 (pc := 26) dX1_add_26 ?_
  refine og_mg0 (pc := 27) (z := (h : Int)) dX1_add_27 h0 ?_
  refine og_iload_1 (pc := 30) dX1_add_30 ?_
  refine og_ms1 (pc := 31) (h) dX1_add_31 (by omega) (by omega) ?_
  refine og_aload_0 (pc := 32) dX1_add_32 ?_
  refine og_mr2 (pc := 33) dX1_add_33 ?_
  refine og_aload_0 (pc := 36) dX1_add_36 ?_
  refine og_mg0 (pc := 37) (z := (h : Int)) dX1_add_37 (by simp [up2, h0]) ?_
  refine og_iload_2 (pc := 40) dX1_add_40 ?_
  refine og_ms2 (pc := 41) (h) dX1_add_41 (by omega) (by omega) ?_
  refine og_aload_0 (pc := 42) dX1_add_42 ?_
  refine og_mr3 (pc := 43) dX1_add_43 ?_
  refine og_aload_0 (pc := 46) dX1_add_46 ?_
  refine og_mg0 (pc := 47) (z := (h : Int)) dX1_add_47 (by simp [up2, h0]) ?_
  refine og_iload_3 (pc := 50) dX1_add_50 ?_
  refine og_ms3 (pc := 51) (h) dX1_add_51 (by omega) (by omega) ?_
  refine og_aload_0 (pc := 52) dX1_add_52 ?_
  refine og_mr4 (pc := 53) dX1_add_53 ?_
  refine og_aload_0 (pc := 56) dX1_add_56 ?_
  refine og_mg0 (pc := 57) (z := (h : Int)) dX1_add_57 (by simp [up2, h0]) ?_
  refine og_iload_4 (pc := 60) dX1_add_60 ?_
  refine og_ms4 (pc := 62) (h) dX1_add_62 (by omega) (by omega) ?_
  refine og_aload_0 (pc := 63) dX1_add_63 ?_
  refine og_mr5 (pc := 64) dX1_add_64 ?_
  refine og_aload_0 (pc := 67) dX1_add_67 ?_
  refine og_mg0 (pc := 68) (z := (h : Int)) dX1_add_68 (by simp [up2, h0]) ?_
  refine og_iload_5 (pc := 71) dX1_add_71 ?_
  refine og_ms5 (pc := 73) (h) dX1_add_73 (by omega) (by omega) (by omega) ?_
  refine og_aload_0 (pc := 74) dX1_add_74 ?_
  refine og_dupr (pc := 75) dX1_add_75 ?_
  refine og_mg0 (pc := 76) (z := (h : Int)) dX1_add_76 (by simp [up2, h0]) ?_
  refine og_iconst (pc := 79) dX1_add_79 ?_
  refine og_iadd (pc := 80) dX1_add_80 ?_
  refine og_mp0 (pc := 81) dX1_add_81 ?_
  refine og_aload_0 (pc := 84) dX1_add_84 ?_
  refine og_mg0 (pc := 85) (z := (h : Int) + 1) dX1_add_85 (by simp [up2]) ?_
  exact hret _ (addM w h a b c d q) ⟨fun H => absurd ⟨hrt, hlt⟩ H, fun _ => ⟨rfl, rfl⟩⟩ _ _ dX1_add_88
def rowEqM (w : DS) (i : Nat) (u : DS) (j : Nat) : Prop := w 1 i = u 1 j ∧ w 2 i = u 2 j ∧ w 3 i = u 3 j ∧ w 4 i = u 4 j ∧ w 5 i = u 5 j
def dropMQ (u : DS) (h : Nat) (nu r : Int) (u' : DS) : Prop := (¬ (0 ≤ nu ∧ nu < h) → r = -1 ∧ u' = u) ∧ ((0 ≤ nu ∧ nu < h) → r = (h : Int) - 1 ∧ u' 0 0 = (h : Int) - 1 ∧ ∀ i : Nat, i + 1 < h → rowEqM u' i u (if (i : Int) < nu then i else i + 1))
/-! OmegaDeskModel.drop -/
set_option maxHeartbeats 4000000 in
theorem mem_drop (dA dZ : ClassId) (bd : Nat → Nat) (u : DS) (h : Nat) (nu : Int) (hnu : Rg nu) (hok : mOK u h) :
    od_MI dA dZ (mc dA dZ bd) yX1_drop cX1_drop 3 (some .int) (rmL 0) [.ref (bd 0), .int (iI nu)] u (dropMQ u h nu) := by
  refine od_MI.ofI (own := RX1) 1 (by decide) rfl (od_cc rfl (od_cc rfl od_c1)) (Nat.le_of_ble_eq_true rfl) ?_
  intro Γ hret
  show od_G Γ RX1 cX1_drop 3 (rmL 0) dA dZ (mc dA dZ bd (u)) [.ref (bd 0), .int (iI nu), .null] 0 []
  obtain ⟨h0, h8, hdB⟩ := hok
  have K12 : ¬ (0 ≤ nu ∧ nu < h) → od_G Γ RX1 cX1_drop 3 (rmL 0) dA dZ (mc dA dZ bd (u)) [.ref (bd 0), .int (iI nu), .null] 12 [] := by
    intro hn
    refine og_iconst (pc := 12) dX1_drop_12 ?_
    exact hret (-1) u ⟨fun _ => ⟨rfl, rfl⟩, fun H => absurd H hn⟩ _ _ dX1_drop_13
  refine og_iload_1 (pc := 0) dX1_drop_0 ?_
  refine og_if_lt (pc := 1) (tgt := 12) dX1_drop_1 (by decide) (by omega) (fun c1 => ?_) (fun c1 => ?_)
  · exact K12 (by omega)
  refine og_iload_1 (pc := 4) dX1_drop_4 ?_
  refine og_aload_0 (pc := 5) dX1_drop_5 ?_
  refine og_mg0 (pc := 6) (z := (h : Int)) dX1_drop_6 h0 ?_
  refine og_icmp_lt (pc := 9) (tgt := 14) dX1_drop_9 (by decide) (by omega) (by omega) (fun c2 => ?_) (fun c2 => ?_)
  rotate_left
  · exact K12 (by omega)
  obtain ⟨p, rfl⟩ : ∃ p : Nat, nu = p := ⟨nu.toNat, by omega⟩
  obtain ⟨g, rfl⟩ : ∃ g : Nat, h = g + 1 := ⟨h - 1, by omega⟩
  have Lp : ∀ (m k : Nat) (w : DS), k + m = g → p ≤ k → w 0 0 = g → (∀ i : Nat, rowEqM w i u (if p ≤ i ∧ i < k then i + 1 else i)) → od_G Γ RX1 cX1_drop 3 (rmL 0) dA dZ (mc dA dZ bd (w)) [.ref (bd 0), .int (iI p), .int (iI k)] 26 [] := by
    intro m
    induction m with
    | zero =>
      intro k w hm hpk g0 hI
      have hk : k = g := by omega
      subst hk
      refine og_iload_2 (pc := 26) dX1_drop_26 ?_
      refine og_aload_0 (pc := 27) dX1_drop_27 ?_
      refine og_mg0 (pc := 28) (z := (k : Int)) dX1_drop_28 g0 ?_
      refine og_icmp_ge (pc := 31) (tgt := 110) dX1_drop_31 (by decide) (by omega) (by omega) (fun c => ?_) (fun c => ?_)
      · refine og_aload_0 (pc := 110) dX1_drop_110 ?_
        refine og_mg0 (pc := 111) (z := (k : Int)) dX1_drop_111 g0 ?_
        refine hret k w ⟨fun H => absurd (by omega) H, fun _ => ⟨by omega, by omega, fun i hi => ?_⟩⟩ _ _ dX1_drop_114
        have := hI i
        by_cases c : (i : Int) < p
        · rw [if_pos c]
          rw [if_neg (by omega)] at this
          exact this
        · rw [if_neg c]
          rw [if_pos (by omega)] at this
          exact this
      · exact absurd c (by omega)
    | succ m ih =>
      intro k w hm hpk g0 hI
      have hk1 := hI (k + 1)
      rw [if_neg (by omega)] at hk1
      have hb1 := (hdB (k + 1) (by omega)).2
      refine og_iload_2 (pc := 26) dX1_drop_26 ?_
      refine og_aload_0 (pc := 27) dX1_drop_27 ?_
      refine og_mg0 (pc := 28) (z := (g : Int)) dX1_drop_28 g0 ?_
      refine og_icmp_ge (pc := 31) (tgt := 110) dX1_drop_31 (by decide) (by omega) (by omega) (fun c => ?_) (fun c => ?_)
      · exact absurd c (by omega)
      refine og_aload_0 (pc := 34) dX1_drop_34 ?_
      refine og_mr1 (pc := 35) dX1_drop_35 ?_
      refine og_iload_2 (pc := 38) dX1_drop_38 ?_
      refine og_aload_0 (pc := 39) dX1_drop_39 ?_
      refine og_mr1 (pc := 40) dX1_drop_40 ?_
      refine og_iload_2 (pc := 43) dX1_drop_43 ?_
      refine og_iconst (pc := 44) dX1_drop_44 ?_
      refine og_iadd (pc := 45) dX1_drop_45 ?_
      refine og_ml1 (pc := 46) (z := u 1 (k + 1)) (k + 1) dX1_drop_46 (by omega) (by omega) hk1.1 ?_
      refine og_ms1 (pc := 47) (k) dX1_drop_47 (by omega) (by omega) ?_
      refine og_aload_0 (pc := 48) dX1_drop_48 ?_
      refine og_mr2 (pc := 49) dX1_drop_49 ?_
      refine og_iload_2 (pc := 52) dX1_drop_52 ?_
      refine og_aload_0 (pc := 53) dX1_drop_53 ?_
      refine og_mr2 (pc := 54) dX1_drop_54 ?_
      refine og_iload_2 (pc := 57) dX1_drop_57 ?_
      refine og_iconst (pc := 58) dX1_drop_58 ?_
      refine og_iadd (pc := 59) dX1_drop_59 ?_
      refine og_ml2 (pc := 60) (z := u 2 (k + 1)) (k + 1) dX1_drop_60 (by omega) (by omega) (by rw [up2_ne (by decide)]; exact hk1.2.1) ?_
      refine og_ms2 (pc := 61) (k) dX1_drop_61 (by omega) (by omega) ?_
      refine og_aload_0 (pc := 62) dX1_drop_62 ?_
      refine og_mr3 (pc := 63) dX1_drop_63 ?_
      refine og_iload_2 (pc := 66) dX1_drop_66 ?_
      refine og_aload_0 (pc := 67) dX1_drop_67 ?_
      refine og_mr3 (pc := 68) dX1_drop_68 ?_
      refine og_iload_2 (pc := 71) dX1_drop_71 ?_
      refine og_iconst (pc := 72) dX1_drop_72 ?_
      refine og_iadd (pc := 73) dX1_drop_73 ?_
      refine og_ml3 (pc := 74) (z := u 3 (k + 1)) (k + 1) dX1_drop_74 (by omega) (by omega) (by rw [up2_ne (by decide), up2_ne (by decide)]; exact hk1.2.2.1) ?_
      refine og_ms3 (pc := 75) (k) dX1_drop_75 (by omega) (by omega) ?_
      refine og_aload_0 (pc := 76) dX1_drop_76 ?_
      refine og_mr4 (pc := 77) dX1_drop_77 ?_
      refine og_iload_2 (pc := 80) dX1_drop_80 ?_
      refine og_aload_0 (pc := 81) dX1_drop_81 ?_
      refine og_mr4 (pc := 82) dX1_drop_82 ?_
      refine og_iload_2 (pc := 85) dX1_drop_85 ?_
      refine og_iconst (pc := 86) dX1_drop_86 ?_
      refine og_iadd (pc := 87) dX1_drop_87 ?_
      refine og_ml4 (pc := 88) (z := u 4 (k + 1)) (k + 1) dX1_drop_88 (by omega) (by omega) (by rw [up2_ne (by decide), up2_ne (by decide), up2_ne (by decide)]; exact hk1.2.2.2.1) ?_
      refine og_ms4 (pc := 89) (k) dX1_drop_89 (by omega) (by omega) ?_
      refine og_aload_0 (pc := 90) dX1_drop_90 ?_
      refine og_mr5 (pc := 91) dX1_drop_91 ?_
      refine og_iload_2 (pc := 94) dX1_drop_94 ?_
      refine og_aload_0 (pc := 95) dX1_drop_95 ?_
      refine og_mr5 (pc := 96) dX1_drop_96 ?_
      refine og_iload_2 (pc := 99) dX1_drop_99 ?_
      refine og_iconst (pc := 100) dX1_drop_100 ?_
      refine og_iadd (pc := 101) dX1_drop_101 ?_
      refine og_ml5 (pc := 102) (z := u 5 (k + 1)) (k + 1) dX1_drop_102 (by omega) (by omega) (by rw [up2_ne (by decide), up2_ne (by decide), up2_ne (by decide), up2_ne (by decide)]; exact hk1.2.2.2.2) ?_
      refine og_ms5 (pc := 103) (k) dX1_drop_103 (by omega) (by omega) hb1 ?_
      refine og_iinc_2 (pc := 104) dX1_drop_104 (by decide) ?_
      refine og_goto (pc := 107) (tgt := 26) dX1_drop_107 (by decide) ?_
      refine ih (k + 1) _ (by omega) (by omega) (by rw [up2_ne (by decide), up2_ne (by decide), up2_ne (by decide), up2_ne (by decide), up2_ne (by decide)]; exact g0) (fun i => ?_)
      by_cases e : i = k
      · subst e
        rw [if_pos (by omega)]
        unfold rowEqM
        simp [up2]
      · have hi := hI i
        have ei : (if p ≤ i ∧ i < k + 1 then i + 1 else i) = (if p ≤ i ∧ i < k then i + 1 else i) := by
          by_cases c : p ≤ i ∧ i < k
          · rw [if_pos c, if_pos (by omega)]
          · rw [if_neg c, if_neg (by omega)]
        rw [ei]
        unfold rowEqM at hi ⊢
        simpa [up2, e] using hi
  refine og_aload_0 (pc := 14) dX1_drop_14 ?_
  refine og_dupr (pc := 15) dX1_drop_15 ?_
  refine og_mg0 (pc := 16) (z := ((g + 1 : Nat) : Int)) dX1_drop_16 h0 ?_
  refine og_iconst (pc := 19) dX1_drop_19 ?_
  refine og_isub (pc := 20) dX1_drop_20 ?_
  refine og_mp0 (pc := 21) dX1_drop_21 ?_
  refine og_iload_1 (pc := 24) dX1_drop_24 ?_
  refine og_istore_2 (pc := 25) dX1_drop_25 (by decide) ?_
  refine Lp (g - p) p _ (by omega) (by omega) (by rw [up2_same]; omega) (fun i => ?_)
  rw [if_neg (by omega)]
  unfold rowEqM
  rw [up2_ne (by decide), up2_ne (by decide), up2_ne (by decide), up2_ne (by decide), up2_ne (by decide)]
  exact ⟨rfl, rfl, rfl, rfl, rfl⟩
end
section
set_option maxRecDepth 100000
/-! both sides hold the same conditions -/
def RelA (u w : DS) (h : Nat) : Prop := ∀ i, i < h → w 1 i = u 1 (3 * i) ∧ w 2 i = u 1 (3 * i + 1) ∧ w 3 i = u 1 (3 * i + 2) ∧ w 4 i = u 2 i ∧ w 5 i = u 3 i
def Rel (u w : DS) (h : Nat) : Prop := dOK u h ∧ u 11 0 = -1 ∧ mOK w h ∧ RelA u w h
theorem rel_m {u w : DS} {h i : Nat} (H : RelA u w h) (hi : i < h) (x y z : Int) : mM w i x y z ↔ mD u i x y z := by
  obtain ⟨a1, a2, a3, a4, a5⟩ := H i hi
  unfold mM mD
  rw [a1, a2, a3, a4, a5]
theorem rel_S {u w : DS} {h : Nat} (H : RelA u w h) (wo : Int) : SM w h wo = SS u h wo := by
  funext x y z
  apply propext
  unfold SM SS sM sD
  constructor
  · intro K
    exact ⟨fun i hi hn => (rel_m H hi x y z).mp (K.1 i hi hn), K.2⟩
  · intro K
    exact ⟨fun i hi hn => (rel_m H hi x y z).mpr (K.1 i hi hn), K.2⟩
theorem rel_Sp {u w : DS} {h : Nat} (H : RelA u w h) : ∀ n, n ≤ h → cntP (SpM w h) n = cntP (Sp u h) n
  | 0, _ => rfl
  | n + 1, hn => by
    have ih := rel_Sp H n (by omega)
    have e : SpM w h n ↔ Sp u h n := by
      unfold SpM Sp
      rw [rel_S H]
      constructor
      · intro K ⟨x, y, z, a, b⟩
        exact K ⟨x, y, z, a, fun c => b ((rel_m H (by omega) x y z).mp c)⟩
      · intro K ⟨x, y, z, a, b⟩
        exact K ⟨x, y, z, a, fun c => b ((rel_m H (by omega) x y z).mpr c)⟩
    show cntP (SpM w h) n + @ite Int (SpM w h n) (Classical.propDecidable _) 1 0 = cntP (Sp u h) n + @ite Int (Sp u h n) (Classical.propDecidable _) 1 0
    rw [ih]
    by_cases c : Sp u h n
    · rw [if_pos c, if_pos (e.mpr c)]
    · rw [if_neg c, if_neg (fun q => c (e.mp q))]
theorem rel_q {u u' w : DS} {h : Nat} (H : Rel u w h) (hq : qOK u u') : Rel u' w h := by
  obtain ⟨a1, a2, a3, a4⟩ := H
  refine ⟨a1.fr hq.1 (by decide), hq.2, a3, ?_⟩
  unfold RelA
  rw [hq.1 1 (by decide), hq.1 2 (by decide), hq.1 3 (by decide)]
  exact a4
/-! an answer is one alone -/
theorem posQ.one {P : Int → Int → Int → Prop} {r r' : Int} (h : posQ P r) (h' : posQ P r') : r = r' := by
  obtain ⟨a, b⟩ := h
  obtain ⟨a', b'⟩ := h'
  have e : r = 1 ↔ r' = 1 := b.trans b'.symm
  omega
theorem withQ.one {P : Int → Int → Int → Prop} {va val r r' : Int} (h : withQ P va val r) (h' : withQ P va val r') : r = r' := by
  obtain ⟨a, b⟩ := h
  obtain ⟨a', b'⟩ := h'
  have e : r = 1 ↔ r' = 1 := b.trans b'.symm
  omega
theorem folQ.one {P : Int → Int → Int → Prop} {a b c d r r' : Int} (h : folQ P a b c d r) (h' : folQ P a b c d r') : r = r' := by
  by_cases k : od_right a b c d
  · obtain ⟨q1, q2⟩ := h.2 k
    obtain ⟨q3, q4⟩ := h'.2 k
    have e : r = 0 ↔ r' = 0 := q2.trans q4.symm
    omega
  · rw [h.1 k, h'.1 k]
theorem exQ.one {P : Int → Int → Int → Prop} {va gr r r' : Int} (h : exQ P va gr r) (h' : exQ P va gr r') : r = r' := by
  by_cases k : 0 ≤ va ∧ va ≤ 2
  · rcases h.2 k with ⟨a1, a2⟩ | ⟨a1, ⟨x, y, z, a2, a3⟩, a4⟩
    · rcases h'.2 k with ⟨b1, b2⟩ | ⟨b1, ⟨x', y', z', b2, b3⟩, b4⟩
      · rw [a1, b1]
      · exact absurd b2 (a2 x' y' z')
    · rcases h'.2 k with ⟨b1, b2⟩ | ⟨b1, ⟨x', y', z', b2, b3⟩, b4⟩
      · exact absurd a2 (b2 x y z)
      · have k1 := a4 x' y' z' b2
        have k2 := b4 x y z a2
        rw [b3] at k1
        rw [a3] at k2
        by_cases g : gr = 0
        · have := k1.1 g
          have := k2.1 g
          omega
        · have := k1.2 g
          have := k2.2 g
          omega
  · rw [h.1 k, h'.1 k]
theorem LexMin.one {P : Int → Int → Int → Prop} {x y z x' y' z' : Int} (h : LexMin P x y z) (h' : LexMin P x' y' z') : x = x' ∧ y = y' ∧ z = z' := by
  have k1 := h.2 x' y' z' h'.1
  have k2 := h'.2 x y z h.1
  omega
theorem firstQ.one {P : Int → Int → Int → Prop} {pl r r' : Int} (h : firstQ P pl r) (h' : firstQ P pl r') : r = r' := by
  by_cases k : 0 ≤ pl ∧ pl ≤ 2
  · rcases h.2 k with ⟨a1, a2⟩ | ⟨x, y, z, a2, a3⟩
    · rcases h'.2 k with ⟨b1, b2⟩ | ⟨x', y', z', b2, b3⟩
      · rw [a1, b1]
      · exact absurd b2.1 (a2 x' y' z')
    · rcases h'.2 k with ⟨b1, b2⟩ | ⟨x', y', z', b2, b3⟩
      · exact absurd a2.1 (b2 x y z)
      · obtain ⟨rfl, rfl, rfl⟩ := a2.one b2
        rw [← a3, ← b3]
  · rw [h.1 k, h'.1 k]
/-! add and drop on both sides -/
theorem rel_add {u w u' w' : DS} {h : Nat} {a b c d q r r' : Int} (H : Rel u w h) (hq : q = 0 ∨ q = 1) (h1 : addQ u h a b c d q r u') (h2 : addMQ w h a b c d q r' w') : r = r' ∧ ∃ h', Rel u' w' h' := by
  by_cases k : od_right a b c d ∧ h < 8
  · obtain ⟨e1, rfl⟩ := h1.2 k
    obtain ⟨e2, rfl⟩ := h2.2 k
    obtain ⟨hd, h11, hm, hA⟩ := H
    refine ⟨by omega, h + 1, ⟨?_, by omega, fun i hi => ?_⟩, ?_, ⟨?_, by omega, fun i hi => ?_⟩, fun i hi => ?_⟩
    · simp [addU, up2]
    · by_cases e : i = h
      · subst e
        simp [addU, up2]
        exact ⟨k.1, hq⟩
      · have h5 := hd.2.2 i (by omega)
        have n1 : ¬ 3 * i = 3 * h := by omega
        have n2 : ¬ 3 * i = 3 * h + 1 := by omega
        have n3 : ¬ 3 * i = 3 * h + 2 := by omega
        have n4 : ¬ 3 * i + 1 = 3 * h := by omega
        have n6 : ¬ 3 * i + 1 = 3 * h + 2 := by omega
        have n7 : ¬ 3 * i + 2 = 3 * h := by omega
        have n8 : ¬ 3 * i + 2 = 3 * h + 1 := by omega
        simpa [addU, up2, e, n1, n2, n3, n4, n6, n7, n8] using h5
    · rw [show addU u h a b c d q 11 0 = u 11 0 by simp [addU, up2]]
      exact h11
    · simp [addM, up2]
    · by_cases e : i = h
      · subst e
        simp [addM, up2]
        exact ⟨k.1, hq⟩
      · have h5 := hm.2.2 i (by omega)
        simpa [addM, up2, e] using h5
    · by_cases e : i = h
      · subst e
        simp [addU, addM, up2]
      · have h5 := hA i (by omega)
        have n1 : ¬ 3 * i = 3 * h := by omega
        have n2 : ¬ 3 * i = 3 * h + 1 := by omega
        have n3 : ¬ 3 * i = 3 * h + 2 := by omega
        have n4 : ¬ 3 * i + 1 = 3 * h := by omega
        have n6 : ¬ 3 * i + 1 = 3 * h + 2 := by omega
        have n7 : ¬ 3 * i + 2 = 3 * h := by omega
        have n8 : ¬ 3 * i + 2 = 3 * h + 1 := by omega
        simpa [addU, addM, up2, e, n1, n2, n3, n4, n6, n7, n8] using h5
  · obtain ⟨e1, rfl⟩ := h1.1 k
    obtain ⟨e2, rfl⟩ := h2.1 k
    exact ⟨by omega, h, H⟩
theorem rel_drop {u w u' w' : DS} {h : Nat} {nu r r' : Int} (H : Rel u w h) (h1 : dropQ u h nu r u') (h2 : dropMQ w h nu r' w') : r = r' ∧ ∃ h', Rel u' w' h' := by
  by_cases k : 0 ≤ nu ∧ nu < h
  · obtain ⟨e1, hf, e3, e4⟩ := h1.2 k
    obtain ⟨f1, f3, f4⟩ := h2.2 k
    obtain ⟨hd, h11, hm, hA⟩ := H
    have hd1 := hd.2.1
    refine ⟨by omega, h - 1, ⟨by omega, by omega, fun i hi => ?_⟩, ?_, ⟨by omega, by omega, fun i hi => ?_⟩, fun i hi => ?_⟩
    · obtain ⟨a1, a2, a3, a4, a5⟩ := e4 i (by omega)
      rw [a1, a2, a3, a4, a5]
      exact hd.2.2 _ (by split <;> omega)
    · rw [hf 11 (by decide)]
      exact h11
    · obtain ⟨a1, a2, a3, a4, a5⟩ := f4 i (by omega)
      rw [a1, a2, a3, a4, a5]
      exact hm.2.2 _ (by split <;> omega)
    · obtain ⟨a1, a2, a3, a4, a5⟩ := e4 i (by omega)
      obtain ⟨b1, b2, b3, b4, b5⟩ := f4 i (by omega)
      rw [a1, a2, a3, a4, a5, b1, b2, b3, b4, b5]
      exact hA _ (by split <;> omega)
  · obtain ⟨e1, rfl⟩ := h1.1 k
    obtain ⟨e2, rfl⟩ := h2.1 k
    exact ⟨by omega, h, H⟩
end
section
set_option maxRecDepth 100000
/-! the two constructors -/
theorem od_newI (N : Nat) : ∀ cA : ClassId, vp_cell cA (N, .inl (fun _ => iI 0)) = arrV cA N (fun _ => defaultValue .int) := by
  intro cA
  rw [iI_0]
  rfl
theorem od_newZ (N : Nat) : ∀ cA : ClassId, vp_cell cA (N, .inl (fun _ => iI 0)) = arrV cA N (fun _ => defaultValue .boolean) := by
  intro cA
  rw [iI_0]
  rfl
def x0 : DS := up2 (fun _ _ => 0) 11 0 (-1)
def m0 : DS := fun _ _ => 0
set_option maxHeartbeats 4000000 in
theorem met_initX (l : Launch) (dC : Nat → ClassId) (dI : Nat → Nat → Nat) (dA dZ : ClassId) (h0 sz : Nat) : Met l yX0_init (ws_ yX0_init cX0_init 1 none) ({ frames := 1, cells := 8, slots := 783, locals := 12 }) (od_Pc dC dI dA dZ [(h0, .inr (0, [.int (iI 0), .null, .null, .null, .int (iI 0), .null, .null, .int (iI 0), .null, .null, .null, .int (iI 0)]))] sz [.ref h0])
    (va_Qv (fun ad : Nat → Nat => ad 0 = h0) (fun ad t => va_P (dC, dI) vwCl (xc dA dZ ad x0) t.heap ∧ va_K (dC, dI) vwCl [(dA, .int), (dZ, .boolean)] t ∧ va_D (va_A [(h0, .inr (0, [.int (iI 0), .null, .null, .null, .int (iI 0), .null, .null, .int (iI 0), .null, .null, .null, .int (iI 0)]))] sz) (xc dA dZ ad x0)) (va_A [(h0, .inr (0, [.int (iI 0), .null, .null, .null, .int (iI 0), .null, .null, .int (iI 0), .null, .null, .null, .int (iI 0)]))] sz)) 8 783 (va_A [(h0, .inr (0, [.int (iI 0), .null, .null, .null, .int (iI 0), .null, .null, .int (iI 0), .null, .null, .null, .int (iI 0)]))] sz) := by
  refine Met.ofW (cc := cX0_init) (maxL := 1) (ret := none) (by decide) rfl ?_
  intro p e s m args below meth c s₁ B hml hv
  obtain ⟨rfl, hsz, hP, hK, hD0⟩ := hv
  have hx := B.exec
  have hb := B.bytes
  have hr := B.returns
  have hts := atoms_spec (ws := ws_ yX0_init cX0_init 1 none) B.pre
  have hts : ∀ w ∈ lw_all, w.before _ s = true := fun w h => hts w (List.mem_cons_of_mem _ h)
  have hown : s.vm.findClass RX0 = some m.cls := findClass_of_methodNamed B.named
  have hlocks := B.notSynchronized
  have hin : meth.name = "<init>" := (name_of_methodNamed B.named B.method).1
  subst hsz
  have hD := hD0.self (sz := s.heap.size)
  generalize hAe : va_A [(h0, .inr (0, [.int (iI 0), .null, .null, .null, .int (iI 0), .null, .null, .int (iI 0), .null, .null, .null, .int (iI 0)]))] s.heap.size = A at hD ⊢
  have hA : ∀ q : Nat, s.heap.size ≤ q → A q := fun q h => by rw [← hAe]; exact Or.inr h
  have hS : va_S A s.heap s.heap [] := va_S.rf
  have hP : va_P (dC, dI) vwCl [(h0, .inr (0, [.int (iI 0), .null, .null, .null, .int (iI 0), .null, .null, .int (iI 0), .null, .null, .null, .int (iI 0)]))] s.heap := hP
  have hl := lv_entry ([.ref h0]) (n := 1) (Nat.le_of_ble_eq_true rfl)
  rw [lg_entry_eq]
  generalize (lg_sl ([.ref h0]) ++ List.replicate (1 - (lg_sl ([.ref h0])).length) Slot.unset).toArray = ls at hl ⊢
  have hl : lv_has ls 1 [(0, .ref h0)] := hl
  refine lv_aload_n hx hb dX0_init_0 rfl (lv_at hl 0 rfl) ?_
  refine W.objInit hx hb hown (hts _ q25) (hts _ q26) (hts _ q27) rfl (by rw [hml]; exact hl.1) rfl dX0_init_1 (Nat.le_of_ble_eq_true rfl) (Nat.le_of_ble_eq_true rfl) ?_
  refine W.eq (g2 := F0 m 4 ls []) rfl ?_
  refine lv_aload_n (pc := 4) hx hb dX0_init_4 rfl (lv_at hl 0 rfl) ?_
  refine lv_bipush (pc := 5) (v := 24) hx hb dX0_init_5 (by decide) ?_
  refine va_newa (pc := 7) (atype := .int) (a0 := (24, .inl (fun _ => iI 0))) hx hb (hts _ q65) (ty := .int) rfl hK hP hD hS hA (od_newI 24) (by decide) (by decide) (by decide) (by decide) (by decide) dX0_init_7 (fun q1 cA H hK1 hP hD hS => ?_)
  have ec : dA = cA := (Option.some.inj ((va_nm_int (hK1.2 2 _ rfl).2).symm.trans (va_nm_int (hK.2 0 _ rfl).2))).symm
  subst ec
  refine va_putF (pc := 9) (D := (dC, dI)) (ci := 0) (v := .ref q1) (ty := (.array .int)) (C := RX0) (T := TX0) (N := 12) hx hb hts in_X0 tyX0 tyX0_ok nmX0 hown hK hP hD hS 0 rfl rfl 1 (by decide) (hts _ q29) (fun _ h9 => h9) rfl hin rfl (by decide +kernel) rfl rfl (Nat.le_of_ble_eq_true rfl) dX0_init_9 (fun H locs hP hD hS => ?_)
  have hP : va_P (dC, dI) vwCl [(h0, .inr (0, [.int (iI 0), .ref q1, .null, .null, .int (iI 0), .null, .null, .int (iI 0), .null, .null, .null, .int (iI 0)])), (q1, .inl (dA, 24, .inl (fun _ => iI 0)))] H := hP
  have hD : va_D A [(h0, .inr (0, [.int (iI 0), .ref q1, .null, .null, .int (iI 0), .null, .null, .int (iI 0), .null, .null, .null, .int (iI 0)])), (q1, .inl (dA, 24, .inl (fun _ => iI 0)))] := hD
  refine lv_aload_n (pc := 12) hx hb dX0_init_12 rfl (lv_at hl 0 rfl) ?_
  refine lv_bipush (pc := 13) (v := 8) hx hb dX0_init_13 (by decide) ?_
  refine va_newa (pc := 15) (atype := .int) (a0 := (8, .inl (fun _ => iI 0))) hx hb (hts _ q65) (ty := .int) rfl hK hP hD hS hA (od_newI 8) (by decide) (by decide) (by decide) (by decide) (by decide) dX0_init_15 (fun q2 cA H hK1 hP hD hS => ?_)
  have ec : dA = cA := (Option.some.inj ((va_nm_int (hK1.2 2 _ rfl).2).symm.trans (va_nm_int (hK.2 0 _ rfl).2))).symm
  subst ec
  refine va_putF (pc := 17) (D := (dC, dI)) (ci := 0) (v := .ref q2) (ty := (.array .int)) (C := RX0) (T := TX0) (N := 12) hx hb hts in_X0 tyX0 tyX0_ok nmX0 hown hK hP hD hS 0 rfl rfl 2 (by decide) (hts _ q30) (fun _ h9 => h9) rfl hin rfl (by decide +kernel) rfl rfl (Nat.le_of_ble_eq_true rfl) dX0_init_17 (fun H locs hP hD hS => ?_)
  have hP : va_P (dC, dI) vwCl [(h0, .inr (0, [.int (iI 0), .ref q1, .ref q2, .null, .int (iI 0), .null, .null, .int (iI 0), .null, .null, .null, .int (iI 0)])), (q1, .inl (dA, 24, .inl (fun _ => iI 0))), (q2, .inl (dA, 8, .inl (fun _ => iI 0)))] H := hP
  have hD : va_D A [(h0, .inr (0, [.int (iI 0), .ref q1, .ref q2, .null, .int (iI 0), .null, .null, .int (iI 0), .null, .null, .null, .int (iI 0)])), (q1, .inl (dA, 24, .inl (fun _ => iI 0))), (q2, .inl (dA, 8, .inl (fun _ => iI 0)))] := hD
  refine lv_aload_n (pc := 20) hx hb dX0_init_20 rfl (lv_at hl 0 rfl) ?_
  refine lv_bipush (pc := 21) (v := 8) hx hb dX0_init_21 (by decide) ?_
  refine va_newa (pc := 23) (atype := .boolean) (a0 := (8, .inl (fun _ => iI 0))) hx hb (hts _ q66) (ty := .boolean) rfl hK hP hD hS hA (od_newZ 8) (by decide) (by decide) (by decide) (by decide) (by decide) dX0_init_23 (fun q3 cA H hK1 hP hD hS => ?_)
  have ec : dZ = cA := (Option.some.inj ((va_nm_boolean (hK1.2 2 _ rfl).2).symm.trans (va_nm_boolean (hK.2 1 _ rfl).2))).symm
  subst ec
  refine va_putF (pc := 25) (D := (dC, dI)) (ci := 0) (v := .ref q3) (ty := (.array .boolean)) (C := RX0) (T := TX0) (N := 12) hx hb hts in_X0 tyX0 tyX0_ok nmX0 hown hK hP hD hS 0 rfl rfl 3 (by decide) (hts _ q31) (fun _ h9 => h9) rfl hin rfl (by decide +kernel) rfl rfl (Nat.le_of_ble_eq_true rfl) dX0_init_25 (fun H locs hP hD hS => ?_)
  have hP : va_P (dC, dI) vwCl [(h0, .inr (0, [.int (iI 0), .ref q1, .ref q2, .ref q3, .int (iI 0), .null, .null, .int (iI 0), .null, .null, .null, .int (iI 0)])), (q1, .inl (dA, 24, .inl (fun _ => iI 0))), (q2, .inl (dA, 8, .inl (fun _ => iI 0))), (q3, .inl (dZ, 8, .inl (fun _ => iI 0)))] H := hP
  have hD : va_D A [(h0, .inr (0, [.int (iI 0), .ref q1, .ref q2, .ref q3, .int (iI 0), .null, .null, .int (iI 0), .null, .null, .null, .int (iI 0)])), (q1, .inl (dA, 24, .inl (fun _ => iI 0))), (q2, .inl (dA, 8, .inl (fun _ => iI 0))), (q3, .inl (dZ, 8, .inl (fun _ => iI 0)))] := hD
  refine lv_aload_n (pc := 28) hx hb dX0_init_28 rfl (lv_at hl 0 rfl) ?_
  refine lv_bipush (pc := 29) (v := 75) hx hb dX0_init_29 (by decide) ?_
  refine va_newa (pc := 31) (atype := .int) (a0 := (75, .inl (fun _ => iI 0))) hx hb (hts _ q65) (ty := .int) rfl hK hP hD hS hA (od_newI 75) (by decide) (by decide) (by decide) (by decide) (by decide) dX0_init_31 (fun q5 cA H hK1 hP hD hS => ?_)
  have ec : dA = cA := (Option.some.inj ((va_nm_int (hK1.2 2 _ rfl).2).symm.trans (va_nm_int (hK.2 0 _ rfl).2))).symm
  subst ec
  refine va_putF (pc := 33) (D := (dC, dI)) (ci := 0) (v := .ref q5) (ty := (.array .int)) (C := RX0) (T := TX0) (N := 12) hx hb hts in_X0 tyX0 tyX0_ok nmX0 hown hK hP hD hS 0 rfl rfl 5 (by decide) (hts _ q33) (fun _ h9 => h9) rfl hin rfl (by decide +kernel) rfl rfl (Nat.le_of_ble_eq_true rfl) dX0_init_33 (fun H locs hP hD hS => ?_)
  have hP : va_P (dC, dI) vwCl [(h0, .inr (0, [.int (iI 0), .ref q1, .ref q2, .ref q3, .int (iI 0), .ref q5, .null, .int (iI 0), .null, .null, .null, .int (iI 0)])), (q1, .inl (dA, 24, .inl (fun _ => iI 0))), (q2, .inl (dA, 8, .inl (fun _ => iI 0))), (q3, .inl (dZ, 8, .inl (fun _ => iI 0))), (q5, .inl (dA, 75, .inl (fun _ => iI 0)))] H := hP
  have hD : va_D A [(h0, .inr (0, [.int (iI 0), .ref q1, .ref q2, .ref q3, .int (iI 0), .ref q5, .null, .int (iI 0), .null, .null, .null, .int (iI 0)])), (q1, .inl (dA, 24, .inl (fun _ => iI 0))), (q2, .inl (dA, 8, .inl (fun _ => iI 0))), (q3, .inl (dZ, 8, .inl (fun _ => iI 0))), (q5, .inl (dA, 75, .inl (fun _ => iI 0)))] := hD
  refine lv_aload_n (pc := 36) hx hb dX0_init_36 rfl (lv_at hl 0 rfl) ?_
  refine lv_bipush (pc := 37) (v := 25) hx hb dX0_init_37 (by decide) ?_
  refine va_newa (pc := 39) (atype := .int) (a0 := (25, .inl (fun _ => iI 0))) hx hb (hts _ q65) (ty := .int) rfl hK hP hD hS hA (od_newI 25) (by decide) (by decide) (by decide) (by decide) (by decide) dX0_init_39 (fun q6 cA H hK1 hP hD hS => ?_)
  have ec : dA = cA := (Option.some.inj ((va_nm_int (hK1.2 2 _ rfl).2).symm.trans (va_nm_int (hK.2 0 _ rfl).2))).symm
  subst ec
  refine va_putF (pc := 41) (D := (dC, dI)) (ci := 0) (v := .ref q6) (ty := (.array .int)) (C := RX0) (T := TX0) (N := 12) hx hb hts in_X0 tyX0 tyX0_ok nmX0 hown hK hP hD hS 0 rfl rfl 6 (by decide) (hts _ q34) (fun _ h9 => h9) rfl hin rfl (by decide +kernel) rfl rfl (Nat.le_of_ble_eq_true rfl) dX0_init_41 (fun H locs hP hD hS => ?_)
  have hP : va_P (dC, dI) vwCl [(h0, .inr (0, [.int (iI 0), .ref q1, .ref q2, .ref q3, .int (iI 0), .ref q5, .ref q6, .int (iI 0), .null, .null, .null, .int (iI 0)])), (q1, .inl (dA, 24, .inl (fun _ => iI 0))), (q2, .inl (dA, 8, .inl (fun _ => iI 0))), (q3, .inl (dZ, 8, .inl (fun _ => iI 0))), (q5, .inl (dA, 75, .inl (fun _ => iI 0))), (q6, .inl (dA, 25, .inl (fun _ => iI 0)))] H := hP
  have hD : va_D A [(h0, .inr (0, [.int (iI 0), .ref q1, .ref q2, .ref q3, .int (iI 0), .ref q5, .ref q6, .int (iI 0), .null, .null, .null, .int (iI 0)])), (q1, .inl (dA, 24, .inl (fun _ => iI 0))), (q2, .inl (dA, 8, .inl (fun _ => iI 0))), (q3, .inl (dZ, 8, .inl (fun _ => iI 0))), (q5, .inl (dA, 75, .inl (fun _ => iI 0))), (q6, .inl (dA, 25, .inl (fun _ => iI 0)))] := hD
  refine lv_aload_n (pc := 44) hx hb dX0_init_44 rfl (lv_at hl 0 rfl) ?_
  refine lv_sipush (pc := 45) (v := 480) hx hb dX0_init_45 (by decide) ?_
  refine va_newa (pc := 48) (atype := .int) (a0 := (480, .inl (fun _ => iI 0))) hx hb (hts _ q65) (ty := .int) rfl hK hP hD hS hA (od_newI 480) (by decide) (by decide) (by decide) (by decide) (by decide) dX0_init_48 (fun q8 cA H hK1 hP hD hS => ?_)
  have ec : dA = cA := (Option.some.inj ((va_nm_int (hK1.2 2 _ rfl).2).symm.trans (va_nm_int (hK.2 0 _ rfl).2))).symm
  subst ec
  refine va_putF (pc := 50) (D := (dC, dI)) (ci := 0) (v := .ref q8) (ty := (.array .int)) (C := RX0) (T := TX0) (N := 12) hx hb hts in_X0 tyX0 tyX0_ok nmX0 hown hK hP hD hS 0 rfl rfl 8 (by decide) (hts _ q36) (fun _ h9 => h9) rfl hin rfl (by decide +kernel) rfl rfl (Nat.le_of_ble_eq_true rfl) dX0_init_50 (fun H locs hP hD hS => ?_)
  have hP : va_P (dC, dI) vwCl [(h0, .inr (0, [.int (iI 0), .ref q1, .ref q2, .ref q3, .int (iI 0), .ref q5, .ref q6, .int (iI 0), .ref q8, .null, .null, .int (iI 0)])), (q1, .inl (dA, 24, .inl (fun _ => iI 0))), (q2, .inl (dA, 8, .inl (fun _ => iI 0))), (q3, .inl (dZ, 8, .inl (fun _ => iI 0))), (q5, .inl (dA, 75, .inl (fun _ => iI 0))), (q6, .inl (dA, 25, .inl (fun _ => iI 0))), (q8, .inl (dA, 480, .inl (fun _ => iI 0)))] H := hP
  have hD : va_D A [(h0, .inr (0, [.int (iI 0), .ref q1, .ref q2, .ref q3, .int (iI 0), .ref q5, .ref q6, .int (iI 0), .ref q8, .null, .null, .int (iI 0)])), (q1, .inl (dA, 24, .inl (fun _ => iI 0))), (q2, .inl (dA, 8, .inl (fun _ => iI 0))), (q3, .inl (dZ, 8, .inl (fun _ => iI 0))), (q5, .inl (dA, 75, .inl (fun _ => iI 0))), (q6, .inl (dA, 25, .inl (fun _ => iI 0))), (q8, .inl (dA, 480, .inl (fun _ => iI 0)))] := hD
  refine lv_aload_n (pc := 53) hx hb dX0_init_53 rfl (lv_at hl 0 rfl) ?_
  refine lv_sipush (pc := 54) (v := 160) hx hb dX0_init_54 (by decide) ?_
  refine va_newa (pc := 57) (atype := .int) (a0 := (160, .inl (fun _ => iI 0))) hx hb (hts _ q65) (ty := .int) rfl hK hP hD hS hA (od_newI 160) (by decide) (by decide) (by decide) (by decide) (by decide) dX0_init_57 (fun q9 cA H hK1 hP hD hS => ?_)
  have ec : dA = cA := (Option.some.inj ((va_nm_int (hK1.2 2 _ rfl).2).symm.trans (va_nm_int (hK.2 0 _ rfl).2))).symm
  subst ec
  refine va_putF (pc := 59) (D := (dC, dI)) (ci := 0) (v := .ref q9) (ty := (.array .int)) (C := RX0) (T := TX0) (N := 12) hx hb hts in_X0 tyX0 tyX0_ok nmX0 hown hK hP hD hS 0 rfl rfl 9 (by decide) (hts _ q37) (fun _ h9 => h9) rfl hin rfl (by decide +kernel) rfl rfl (Nat.le_of_ble_eq_true rfl) dX0_init_59 (fun H locs hP hD hS => ?_)
  have hP : va_P (dC, dI) vwCl [(h0, .inr (0, [.int (iI 0), .ref q1, .ref q2, .ref q3, .int (iI 0), .ref q5, .ref q6, .int (iI 0), .ref q8, .ref q9, .null, .int (iI 0)])), (q1, .inl (dA, 24, .inl (fun _ => iI 0))), (q2, .inl (dA, 8, .inl (fun _ => iI 0))), (q3, .inl (dZ, 8, .inl (fun _ => iI 0))), (q5, .inl (dA, 75, .inl (fun _ => iI 0))), (q6, .inl (dA, 25, .inl (fun _ => iI 0))), (q8, .inl (dA, 480, .inl (fun _ => iI 0))), (q9, .inl (dA, 160, .inl (fun _ => iI 0)))] H := hP
  have hD : va_D A [(h0, .inr (0, [.int (iI 0), .ref q1, .ref q2, .ref q3, .int (iI 0), .ref q5, .ref q6, .int (iI 0), .ref q8, .ref q9, .null, .int (iI 0)])), (q1, .inl (dA, 24, .inl (fun _ => iI 0))), (q2, .inl (dA, 8, .inl (fun _ => iI 0))), (q3, .inl (dZ, 8, .inl (fun _ => iI 0))), (q5, .inl (dA, 75, .inl (fun _ => iI 0))), (q6, .inl (dA, 25, .inl (fun _ => iI 0))), (q8, .inl (dA, 480, .inl (fun _ => iI 0))), (q9, .inl (dA, 160, .inl (fun _ => iI 0)))] := hD
  refine lv_aload_n (pc := 62) hx hb dX0_init_62 rfl (lv_at hl 0 rfl) ?_
  refine lv_iconst (pc := 63) (v := 3) hx hb dX0_init_63 (by decide) ?_
  refine va_newa (pc := 64) (atype := .int) (a0 := (3, .inl (fun _ => iI 0))) hx hb (hts _ q65) (ty := .int) rfl hK hP hD hS hA (od_newI 3) (by decide) (by decide) (by decide) (by decide) (by decide) dX0_init_64 (fun q10 cA H hK1 hP hD hS => ?_)
  have ec : dA = cA := (Option.some.inj ((va_nm_int (hK1.2 2 _ rfl).2).symm.trans (va_nm_int (hK.2 0 _ rfl).2))).symm
  subst ec
  refine va_putF (pc := 66) (D := (dC, dI)) (ci := 0) (v := .ref q10) (ty := (.array .int)) (C := RX0) (T := TX0) (N := 12) hx hb hts in_X0 tyX0 tyX0_ok nmX0 hown hK hP hD hS 0 rfl rfl 10 (by decide) (hts _ q38) (fun _ h9 => h9) rfl hin rfl (by decide +kernel) rfl rfl (Nat.le_of_ble_eq_true rfl) dX0_init_66 (fun H locs hP hD hS => ?_)
  have hP : va_P (dC, dI) vwCl [(h0, .inr (0, [.int (iI 0), .ref q1, .ref q2, .ref q3, .int (iI 0), .ref q5, .ref q6, .int (iI 0), .ref q8, .ref q9, .ref q10, .int (iI 0)])), (q1, .inl (dA, 24, .inl (fun _ => iI 0))), (q2, .inl (dA, 8, .inl (fun _ => iI 0))), (q3, .inl (dZ, 8, .inl (fun _ => iI 0))), (q5, .inl (dA, 75, .inl (fun _ => iI 0))), (q6, .inl (dA, 25, .inl (fun _ => iI 0))), (q8, .inl (dA, 480, .inl (fun _ => iI 0))), (q9, .inl (dA, 160, .inl (fun _ => iI 0))), (q10, .inl (dA, 3, .inl (fun _ => iI 0)))] H := hP
  have hD : va_D A [(h0, .inr (0, [.int (iI 0), .ref q1, .ref q2, .ref q3, .int (iI 0), .ref q5, .ref q6, .int (iI 0), .ref q8, .ref q9, .ref q10, .int (iI 0)])), (q1, .inl (dA, 24, .inl (fun _ => iI 0))), (q2, .inl (dA, 8, .inl (fun _ => iI 0))), (q3, .inl (dZ, 8, .inl (fun _ => iI 0))), (q5, .inl (dA, 75, .inl (fun _ => iI 0))), (q6, .inl (dA, 25, .inl (fun _ => iI 0))), (q8, .inl (dA, 480, .inl (fun _ => iI 0))), (q9, .inl (dA, 160, .inl (fun _ => iI 0))), (q10, .inl (dA, 3, .inl (fun _ => iI 0)))] := hD
  refine lv_aload_n (pc := 69) hx hb dX0_init_69 rfl (lv_at hl 0 rfl) ?_
  refine lv_iconst (pc := 70) (v := iI (-1)) hx hb dX0_init_70 rfl ?_
  refine va_put (pc := 71) (D := (dC, dI)) (ci := 0) (v := .int (iI (-1))) (ty := .int) (C := RX0) (T := TX0) (N := 12) hx hb hts in_X0 tyX0 tyX0_ok nmX0 hown hK hP hD hS 0 rfl rfl 11 (by decide) (hts _ q39) (fun _ h9 => h9) rfl (by decide +kernel) rfl rfl (Nat.le_of_ble_eq_true rfl) dX0_init_71 (fun H locs hP hD hS => ?_)
  refine W.widen (k := 8) (n := 783) (by decide) (by decide) ?_
  exact W.vret (pc := 74) hx hb hr (fun t ht hW => ⟨⟨(fun k => if k = 0 then h0 else if k = 1 then q1 else if k = 2 then q2 else if k = 3 then q3 else if k = 5 then q5 else if k = 6 then q6 else if k = 8 then q8 else if k = 9 then q9 else if k = 10 then q10 else 0), rfl, rfl, by rw [ht]; exact hP, va_K.moved hW.alike hK, hD⟩, hS.F ht⟩) hS.2.2 dX0_init_74
set_option maxHeartbeats 4000000 in
theorem met_initM (l : Launch) (dC : Nat → ClassId) (dI : Nat → Nat → Nat) (dA dZ : ClassId) (h0 sz : Nat) : Met l yX1_init (ws_ yX1_init cX1_init 1 none) ({ frames := 1, cells := 5, slots := 40, locals := 12 }) (od_Pc dC dI dA dZ [(h0, .inr (1, [.int (iI 0), .null, .null, .null, .null, .null]))] sz [.ref h0])
    (va_Qv (fun ad : Nat → Nat => ad 0 = h0) (fun ad t => va_P (dC, dI) vwCl (mc dA dZ ad m0) t.heap ∧ va_K (dC, dI) vwCl [(dA, .int), (dZ, .boolean)] t ∧ va_D (va_A [(h0, .inr (1, [.int (iI 0), .null, .null, .null, .null, .null]))] sz) (mc dA dZ ad m0)) (va_A [(h0, .inr (1, [.int (iI 0), .null, .null, .null, .null, .null]))] sz)) 5 40 (va_A [(h0, .inr (1, [.int (iI 0), .null, .null, .null, .null, .null]))] sz) := by
  refine Met.ofW (cc := cX1_init) (maxL := 1) (ret := none) (by decide) rfl ?_
  intro p e s m args below meth c s₁ B hml hv
  obtain ⟨rfl, hsz, hP, hK, hD0⟩ := hv
  have hx := B.exec
  have hb := B.bytes
  have hr := B.returns
  have hts := atoms_spec (ws := ws_ yX1_init cX1_init 1 none) B.pre
  have hts : ∀ w ∈ lw_all, w.before _ s = true := fun w h => hts w (List.mem_cons_of_mem _ h)
  have hown : s.vm.findClass RX1 = some m.cls := findClass_of_methodNamed B.named
  have hlocks := B.notSynchronized
  have hin : meth.name = "<init>" := (name_of_methodNamed B.named B.method).1
  subst hsz
  have hD := hD0.self (sz := s.heap.size)
  generalize hAe : va_A [(h0, .inr (1, [.int (iI 0), .null, .null, .null, .null, .null]))] s.heap.size = A at hD ⊢
  have hA : ∀ q : Nat, s.heap.size ≤ q → A q := fun q h => by rw [← hAe]; exact Or.inr h
  have hS : va_S A s.heap s.heap [] := va_S.rf
  have hP : va_P (dC, dI) vwCl [(h0, .inr (1, [.int (iI 0), .null, .null, .null, .null, .null]))] s.heap := hP
  have hl := lv_entry ([.ref h0]) (n := 1) (Nat.le_of_ble_eq_true rfl)
  rw [lg_entry_eq]
  generalize (lg_sl ([.ref h0]) ++ List.replicate (1 - (lg_sl ([.ref h0])).length) Slot.unset).toArray = ls at hl ⊢
  have hl : lv_has ls 1 [(0, .ref h0)] := hl
  refine lv_aload_n hx hb dX1_init_0 rfl (lv_at hl 0 rfl) ?_
  refine W.objInit hx hb hown (hts _ q168) (hts _ q26) (hts _ q27) rfl (by rw [hml]; exact hl.1) rfl dX1_init_1 (Nat.le_of_ble_eq_true rfl) (Nat.le_of_ble_eq_true rfl) ?_
  refine W.eq (g2 := F0 m 4 ls []) rfl ?_
  refine lv_aload_n (pc := 4) hx hb dX1_init_4 rfl (lv_at hl 0 rfl) ?_
  refine lv_bipush (pc := 5) (v := 8) hx hb dX1_init_5 (by decide) ?_
  refine va_newa (pc := 7) (atype := .int) (a0 := (8, .inl (fun _ => iI 0))) hx hb (hts _ q65) (ty := .int) rfl hK hP hD hS hA (od_newI 8) (by decide) (by decide) (by decide) (by decide) (by decide) dX1_init_7 (fun q1 cA H hK1 hP hD hS => ?_)
  have ec : dA = cA := (Option.some.inj ((va_nm_int (hK1.2 2 _ rfl).2).symm.trans (va_nm_int (hK.2 0 _ rfl).2))).symm
  subst ec
  refine va_putF (pc := 9) (D := (dC, dI)) (ci := 1) (v := .ref q1) (ty := (.array .int)) (C := RX1) (T := TX1) (N := 6) hx hb hts in_X1 tyX1 tyX1_ok nmX1 hown hK hP hD hS 0 rfl rfl 1 (by decide) (hts _ q170) (fun _ h9 => h9) rfl hin rfl (by decide +kernel) rfl rfl (Nat.le_of_ble_eq_true rfl) dX1_init_9 (fun H locs hP hD hS => ?_)
  have hP : va_P (dC, dI) vwCl [(h0, .inr (1, [.int (iI 0), .ref q1, .null, .null, .null, .null])), (q1, .inl (dA, 8, .inl (fun _ => iI 0)))] H := hP
  have hD : va_D A [(h0, .inr (1, [.int (iI 0), .ref q1, .null, .null, .null, .null])), (q1, .inl (dA, 8, .inl (fun _ => iI 0)))] := hD
  refine lv_aload_n (pc := 12) hx hb dX1_init_12 rfl (lv_at hl 0 rfl) ?_
  refine lv_bipush (pc := 13) (v := 8) hx hb dX1_init_13 (by decide) ?_
  refine va_newa (pc := 15) (atype := .int) (a0 := (8, .inl (fun _ => iI 0))) hx hb (hts _ q65) (ty := .int) rfl hK hP hD hS hA (od_newI 8) (by decide) (by decide) (by decide) (by decide) (by decide) dX1_init_15 (fun q2 cA H hK1 hP hD hS => ?_)
  have ec : dA = cA := (Option.some.inj ((va_nm_int (hK1.2 2 _ rfl).2).symm.trans (va_nm_int (hK.2 0 _ rfl).2))).symm
  subst ec
  refine va_putF (pc := 17) (D := (dC, dI)) (ci := 1) (v := .ref q2) (ty := (.array .int)) (C := RX1) (T := TX1) (N := 6) hx hb hts in_X1 tyX1 tyX1_ok nmX1 hown hK hP hD hS 0 rfl rfl 2 (by decide) (hts _ q171) (fun _ h9 => h9) rfl hin rfl (by decide +kernel) rfl rfl (Nat.le_of_ble_eq_true rfl) dX1_init_17 (fun H locs hP hD hS => ?_)
  have hP : va_P (dC, dI) vwCl [(h0, .inr (1, [.int (iI 0), .ref q1, .ref q2, .null, .null, .null])), (q1, .inl (dA, 8, .inl (fun _ => iI 0))), (q2, .inl (dA, 8, .inl (fun _ => iI 0)))] H := hP
  have hD : va_D A [(h0, .inr (1, [.int (iI 0), .ref q1, .ref q2, .null, .null, .null])), (q1, .inl (dA, 8, .inl (fun _ => iI 0))), (q2, .inl (dA, 8, .inl (fun _ => iI 0)))] := hD
  refine lv_aload_n (pc := 20) hx hb dX1_init_20 rfl (lv_at hl 0 rfl) ?_
  refine lv_bipush (pc := 21) (v := 8) hx hb dX1_init_21 (by decide) ?_
  refine va_newa (pc := 23) (atype := .int) (a0 := (8, .inl (fun _ => iI 0))) hx hb (hts _ q65) (ty := .int) rfl hK hP hD hS hA (od_newI 8) (by decide) (by decide) (by decide) (by decide) (by decide) dX1_init_23 (fun q3 cA H hK1 hP hD hS => ?_)
  have ec : dA = cA := (Option.some.inj ((va_nm_int (hK1.2 2 _ rfl).2).symm.trans (va_nm_int (hK.2 0 _ rfl).2))).symm
  subst ec
  refine va_putF (pc := 25) (D := (dC, dI)) (ci := 1) (v := .ref q3) (ty := (.array .int)) (C := RX1) (T := TX1) (N := 6) hx hb hts in_X1 tyX1 tyX1_ok nmX1 hown hK hP hD hS 0 rfl rfl 3 (by decide) (hts _ q172) (fun _ h9 => h9) rfl hin rfl (by decide +kernel) rfl rfl (Nat.le_of_ble_eq_true rfl) dX1_init_25 (fun H locs hP hD hS => ?_)
  have hP : va_P (dC, dI) vwCl [(h0, .inr (1, [.int (iI 0), .ref q1, .ref q2, .ref q3, .null, .null])), (q1, .inl (dA, 8, .inl (fun _ => iI 0))), (q2, .inl (dA, 8, .inl (fun _ => iI 0))), (q3, .inl (dA, 8, .inl (fun _ => iI 0)))] H := hP
  have hD : va_D A [(h0, .inr (1, [.int (iI 0), .ref q1, .ref q2, .ref q3, .null, .null])), (q1, .inl (dA, 8, .inl (fun _ => iI 0))), (q2, .inl (dA, 8, .inl (fun _ => iI 0))), (q3, .inl (dA, 8, .inl (fun _ => iI 0)))] := hD
  refine lv_aload_n (pc := 28) hx hb dX1_init_28 rfl (lv_at hl 0 rfl) ?_
  refine lv_bipush (pc := 29) (v := 8) hx hb dX1_init_29 (by decide) ?_
  refine va_newa (pc := 31) (atype := .int) (a0 := (8, .inl (fun _ => iI 0))) hx hb (hts _ q65) (ty := .int) rfl hK hP hD hS hA (od_newI 8) (by decide) (by decide) (by decide) (by decide) (by decide) dX1_init_31 (fun q4 cA H hK1 hP hD hS => ?_)
  have ec : dA = cA := (Option.some.inj ((va_nm_int (hK1.2 2 _ rfl).2).symm.trans (va_nm_int (hK.2 0 _ rfl).2))).symm
  subst ec
  refine va_putF (pc := 33) (D := (dC, dI)) (ci := 1) (v := .ref q4) (ty := (.array .int)) (C := RX1) (T := TX1) (N := 6) hx hb hts in_X1 tyX1 tyX1_ok nmX1 hown hK hP hD hS 0 rfl rfl 4 (by decide) (hts _ q173) (fun _ h9 => h9) rfl hin rfl (by decide +kernel) rfl rfl (Nat.le_of_ble_eq_true rfl) dX1_init_33 (fun H locs hP hD hS => ?_)
  have hP : va_P (dC, dI) vwCl [(h0, .inr (1, [.int (iI 0), .ref q1, .ref q2, .ref q3, .ref q4, .null])), (q1, .inl (dA, 8, .inl (fun _ => iI 0))), (q2, .inl (dA, 8, .inl (fun _ => iI 0))), (q3, .inl (dA, 8, .inl (fun _ => iI 0))), (q4, .inl (dA, 8, .inl (fun _ => iI 0)))] H := hP
  have hD : va_D A [(h0, .inr (1, [.int (iI 0), .ref q1, .ref q2, .ref q3, .ref q4, .null])), (q1, .inl (dA, 8, .inl (fun _ => iI 0))), (q2, .inl (dA, 8, .inl (fun _ => iI 0))), (q3, .inl (dA, 8, .inl (fun _ => iI 0))), (q4, .inl (dA, 8, .inl (fun _ => iI 0)))] := hD
  refine lv_aload_n (pc := 36) hx hb dX1_init_36 rfl (lv_at hl 0 rfl) ?_
  refine lv_bipush (pc := 37) (v := 8) hx hb dX1_init_37 (by decide) ?_
  refine va_newa (pc := 39) (atype := .boolean) (a0 := (8, .inl (fun _ => iI 0))) hx hb (hts _ q66) (ty := .boolean) rfl hK hP hD hS hA (od_newZ 8) (by decide) (by decide) (by decide) (by decide) (by decide) dX1_init_39 (fun q5 cA H hK1 hP hD hS => ?_)
  have ec : dZ = cA := (Option.some.inj ((va_nm_boolean (hK1.2 2 _ rfl).2).symm.trans (va_nm_boolean (hK.2 1 _ rfl).2))).symm
  subst ec
  refine va_putF (pc := 41) (D := (dC, dI)) (ci := 1) (v := .ref q5) (ty := (.array .boolean)) (C := RX1) (T := TX1) (N := 6) hx hb hts in_X1 tyX1 tyX1_ok nmX1 hown hK hP hD hS 0 rfl rfl 5 (by decide) (hts _ q174) (fun _ h9 => h9) rfl hin rfl (by decide +kernel) rfl rfl (Nat.le_of_ble_eq_true rfl) dX1_init_41 (fun H locs hP hD hS => ?_)
  have hP : va_P (dC, dI) vwCl [(h0, .inr (1, [.int (iI 0), .ref q1, .ref q2, .ref q3, .ref q4, .ref q5])), (q1, .inl (dA, 8, .inl (fun _ => iI 0))), (q2, .inl (dA, 8, .inl (fun _ => iI 0))), (q3, .inl (dA, 8, .inl (fun _ => iI 0))), (q4, .inl (dA, 8, .inl (fun _ => iI 0))), (q5, .inl (dZ, 8, .inl (fun _ => iI 0)))] H := hP
  have hD : va_D A [(h0, .inr (1, [.int (iI 0), .ref q1, .ref q2, .ref q3, .ref q4, .ref q5])), (q1, .inl (dA, 8, .inl (fun _ => iI 0))), (q2, .inl (dA, 8, .inl (fun _ => iI 0))), (q3, .inl (dA, 8, .inl (fun _ => iI 0))), (q4, .inl (dA, 8, .inl (fun _ => iI 0))), (q5, .inl (dZ, 8, .inl (fun _ => iI 0)))] := hD
  refine W.widen (k := 5) (n := 40) (by decide) (by decide) ?_
  exact W.vret (pc := 44) hx hb hr (fun t ht hW => ⟨⟨(fun k => if k = 0 then h0 else if k = 1 then q1 else if k = 2 then q2 else if k = 3 then q3 else if k = 4 then q4 else if k = 5 then q5 else 0), rfl, rfl, by rw [ht]; exact hP, va_K.moved hW.alike hK, hD⟩, hS.F ht⟩) hS.2.2 dX1_init_44
end
section
/-! THE CLAIM OUT OF ONE WALK OF THE LAW'S BODY. Your part is whole_start (and what it stands on); all else here is the same for every law, but numbers. -/
def R_law : String := "OmegaDeskLaw"
def lw_P (b : Addr) (xs : List Int32) (args : Array Value) (s : State) : Prop := args = #[.ref b] ∧ s.IntsAt b xs ∧ xs.length ≤ 384 ∧ (Jvm.Cond.and given_1 narrow_1).before args s = true
def lw_Q (_ : Array Value) (s : State) (o : Outcome) (t : State) : Prop := o = .returned (some (.int 1)) ∧ Framed s o t [] 600000 7290000
def lw_Z (below : List Frame) (a : Array Value) (s : State) : State → Prop := fun t => ∃ o, t.status = .running ∧ Ended t below o ∧ lw_Q a s o t
/-- the law's own end, with 1 on the stack, nothing written that was there before, its room as the claim has it -/
theorem lw_ret {p : Program} {l : Launch} {e : Env} {s : State} {m : MethodId} {below : List Frame} {meth : Method} {c : Code} {b : Nat} (hx : p.tables.exec = Jvm.exec) (hb : c.code = code) (hr : meth.sig.returnType = ret) (hlocks : meth.locks = false) {pc : Nat} {H : Heap} {ls : Array Slot} (hdg : decode code pc = .ok (.ireturn, 1)) : W p l e room_1 s m #[Value.ref b] below meth c H [] 600000 7290000 (lw_Z below #[Value.ref b] s) (F0 m pc ls [.int 1]) := by
  intro T hT X
  obtain ⟨fs, hret, hrun, hended, hW, hframe⟩ := X.leave (v := some (.int 1)) (hlocks := hlocks) (fun h => by rw [hr] at h; cases h)
  have hmeth' : T.vm.method? m = some meth := X.method'
  refine ⟨T.setFrames fs, ?_, .returned (some (.int 1)), hrun, hended, rfl, ⟨_, rfl⟩, hW, hframe⟩
  jvm_step X.here [X.here.top, hx, hb, hdg, hmeth', hr, ret, narrow_b1]
  (try refine ⟨rfl, ?_⟩); (try refine ⟨rfl, ?_⟩)
  first | (intro acts; rw [hret _ acts rfl rfl rfl]) | rw [hret _ _ rfl rfl rfl]
  exact Steps.refl _
/-- what holds at the law's entry: the machine, the code, the tables' words (any of lw_tbl by 'hts w (by decide +kernel)'), the script of L ints xs at the cell b, what the Statement gives of the start (any of its parts by flat_of_before) -/
def lw_At (p : Program) (s : State) (m : MethodId) (meth : Method) (c : Code) (b L : Nat) (xs : Nat → Int32) : Prop :=
  p.tables.exec = Jvm.exec ∧ c.code = code ∧ meth.sig.returnType = ret ∧ c.maxLocals = 4 ∧ s.vm.findClass R_law = some m.cls ∧ (∀ w ∈ lw_tbl, w.before #[Value.ref b] s = true) ∧ va_X b L xs s s.heap ∧ b < s.heap.size ∧ meth.locks = false ∧ (Jvm.Cond.and given_1 narrow_1).before #[Value.ref b] s = true
end
section
set_option maxRecDepth 100000
/-! two worlds side by side -/
theorem od_L {w1 w2 : va_W} {k : Nat} {q : Nat × va_E} (h : w1[k]? = some q) : (w1 ++ w2)[k]? = some q := by
  rw [List.getElem?_append_left (List.getElem?_eq_some_iff.mp h).1]
  exact h
theorem od_R {w1 w2 : va_W} {k : Nat} {q : Nat × va_E} (h : w2[k]? = some q) : (w1 ++ w2)[w1.length + k]? = some q := by
  rw [List.getElem?_append_right (by omega)]
  have e : w1.length + k - w1.length = k := by omega
  rw [e]
  exact h
theorem od_DL {A : Nat → Prop} {w1 w2 : va_W} (h : va_D A (w1 ++ w2)) : va_D A w1 := ⟨fun i j p q hi hj e => h.1 i j p q (od_L hi) (od_L hj) e, fun k q hk => h.2 k q (od_L hk)⟩
theorem od_DR {A : Nat → Prop} {w1 w2 : va_W} (h : va_D A (w1 ++ w2)) : va_D A w2 := ⟨fun i j p q hi hj e => by have := h.1 _ _ p q (od_R hi) (od_R hj) e; omega, fun k q hk => h.2 _ q (od_R hk)⟩
theorem od_DX {A : Nat → Prop} {w1 w2 : va_W} (h : va_D A (w1 ++ w2)) {i j : Nat} {p q : Nat × va_E} (hi : w1[i]? = some p) (hj : w2[j]? = some q) : p.1 ≠ q.1 := by
  intro e
  have h1 := h.1 _ _ p q (od_L hi) (od_R hj) e
  have h2 := (List.getElem?_eq_some_iff.mp hi).1
  omega
section LC
variable {Γ : Cxt} {own : String} {cc : ByteArray} {nL : Nat} {R : Room} {dA dZ : ClassId} {ws : va_W} {lv : List Value} {pc : Nat} {st rest st0 : List Value}
variable {cs : DS → va_W} {u : DS} {y : MethodName} {b : ByteArray} {L : Nat} {rt : Option FieldType} {rm : Room} {As : List Value} {a ci : Nat} {fs : List Value} {C : String} {T : u_T} {N idx n : Nat}
theorem og_callL {post : Int → DS → Prop} (hM : od_MI dA dZ cs y b L rt rm (.ref a :: As) u post) (hc0 : (cs u)[0]? = some (a, .inr (ci, fs))) (hci : vwCl[ci]? = some (C, T, N)) (hw : GoodIn lw_all (wsV own idx C y (ws_ y b L rt)))
    (hd : y.cls = C ∧ y.cls ≠ "java/lang/invoke/MethodHandle" ∧ y.cls ≠ "java/lang/invoke/VarHandle" ∧ (parseMethodDescriptor y.desc).map (fun d => d.parameters.length) = some n) (hR : rm.frames + 1 ≤ R.frames ∧ 8 + (L + 11) + rm.locals ≤ R.locals) (hm : rm.cells = 0 ∧ rm.slots = 0) (hn : As.length = n) (hst : st0 = As.reverse ++ .ref a :: rest) (hroom : (rest.map fun v => v.category).sum ≤ 8)
    (hdec : decode cc pc = .ok (.invokevirtual idx, 3)) (k : ∀ (r : Int) (u' : DS), post r u' → od_G Γ own cc nL R dA dZ (cs u' ++ ws) lv (pc + 3) (.int (iI r) :: rest)) : od_G Γ own cc nL R dA dZ (cs u ++ ws) lv pc st0 := by
  obtain ⟨p, l, e, s, m, args, below, meth, c, dC, dI, A, cells, slots, Q, ret⟩ := Γ
  intro F H locs ls hW hL
  obtain ⟨hx, hb, hml, hlk, hrt, hown, hts, hK, hA, hcl, hsl⟩ := id F
  obtain ⟨hP, hD, hS⟩ := hW
  have hPc : va_P (dC, dI) vwCl (cs u) H := fun k q hk => hP k q (od_L hk)
  have hPr : va_P (dC, dI) vwCl ws H := fun k q hk => hP _ q (od_R hk)
  have hDc := od_DL hD
  have hF := od_free hDc hS hA
  refine va_calli (va_runV (As := As) (rest := rest) ⟨hx, hb, hml, hown, hts⟩ (hM l dC dI H.size) (cwV n hts hw rfl hm.1 hm.2 hd hR) ⟨od_blind, va_recv hK hPc hci hc0, fun U hU hWm => ⟨rfl, by rw [hU], by rw [hU]; exact hPc, va_K.moved hWm.alike hK, hDc.weaken (fun _ _ _ _ => trivial)⟩⟩ rfl hn hL.size hst (lv_room hroom) hdec ⟨hcl, hsl⟩) hS (fun q _ h => hF q h) hF (fun r u' t H1 locs1 ht hvm hpost hB hz hk hS1 => ?_)
  obtain ⟨z, rfl, hp⟩ := hpost
  obtain ⟨hP1, hK1, hD1⟩ := hB
  rw [ht] at hP1
  have hout : ∀ (j : Nat) (q : Nat × va_E), ws[j]? = some q → ¬ va_A (cs u) H.size q.1 := by
    intro j q hj h
    rcases h with ⟨i, e', h⟩ | h
    · exact od_DX hD h hj rfl
    · have := (hPr j q hj).lt
      omega
  exact k z u' hp F H1 locs1 ls ⟨hP1.app (hPr.kept (fun j q hj => hk q.1 ((hPr j q hj).lt) (hout j q hj))), va_D.app (hD1.weaken (fun _ q _ h => hF q.1 h)) (od_DR hD) (fun i j x y hx' hy e' => hout j y hy (by rw [← e']; exact hD1.2 i x hx')), hS1⟩ hL
theorem og_callR {post : Int → DS → Prop} (hM : od_MI dA dZ cs y b L rt rm (.ref a :: As) u post) (hc0 : (cs u)[0]? = some (a, .inr (ci, fs))) (hci : vwCl[ci]? = some (C, T, N)) (hw : GoodIn lw_all (wsV own idx C y (ws_ y b L rt)))
    (hd : y.cls = C ∧ y.cls ≠ "java/lang/invoke/MethodHandle" ∧ y.cls ≠ "java/lang/invoke/VarHandle" ∧ (parseMethodDescriptor y.desc).map (fun d => d.parameters.length) = some n) (hR : rm.frames + 1 ≤ R.frames ∧ 8 + (L + 11) + rm.locals ≤ R.locals) (hm : rm.cells = 0 ∧ rm.slots = 0) (hn : As.length = n) (hst : st0 = As.reverse ++ .ref a :: rest) (hroom : (rest.map fun v => v.category).sum ≤ 8)
    (hdec : decode cc pc = .ok (.invokevirtual idx, 3)) (k : ∀ (r : Int) (u' : DS), post r u' → od_G Γ own cc nL R dA dZ (ws ++ cs u') lv (pc + 3) (.int (iI r) :: rest)) : od_G Γ own cc nL R dA dZ (ws ++ cs u) lv pc st0 := by
  obtain ⟨p, l, e, s, m, args, below, meth, c, dC, dI, A, cells, slots, Q, ret⟩ := Γ
  intro F H locs ls hW hL
  obtain ⟨hx, hb, hml, hlk, hrt, hown, hts, hK, hA, hcl, hsl⟩ := id F
  obtain ⟨hP, hD, hS⟩ := hW
  have hPr : va_P (dC, dI) vwCl ws H := fun k q hk => hP k q (od_L hk)
  have hPc : va_P (dC, dI) vwCl (cs u) H := fun k q hk => hP _ q (od_R hk)
  have hDc := od_DR hD
  have hF := od_free hDc hS hA
  refine va_calli (va_runV (As := As) (rest := rest) ⟨hx, hb, hml, hown, hts⟩ (hM l dC dI H.size) (cwV n hts hw rfl hm.1 hm.2 hd hR) ⟨od_blind, va_recv hK hPc hci hc0, fun U hU hWm => ⟨rfl, by rw [hU], by rw [hU]; exact hPc, va_K.moved hWm.alike hK, hDc.weaken (fun _ _ _ _ => trivial)⟩⟩ rfl hn hL.size hst (lv_room hroom) hdec ⟨hcl, hsl⟩) hS (fun q _ h => hF q h) hF (fun r u' t H1 locs1 ht hvm hpost hB hz hk hS1 => ?_)
  obtain ⟨z, rfl, hp⟩ := hpost
  obtain ⟨hP1, hK1, hD1⟩ := hB
  rw [ht] at hP1
  have hout : ∀ (j : Nat) (q : Nat × va_E), ws[j]? = some q → ¬ va_A (cs u) H.size q.1 := by
    intro j q hj h
    rcases h with ⟨i, e', h⟩ | h
    · exact od_DX hD hj h rfl
    · have := (hPr j q hj).lt
      omega
  exact k z u' hp F H1 locs1 ls ⟨(hPr.kept (fun j q hj => hk q.1 ((hPr j q hj).lt) (hout j q hj))).app hP1, va_D.app (od_DL hD) (hD1.weaken (fun _ q _ h => hF q.1 h)) (fun i j x y hx' hy e' => hout i x hx' (by rw [e']; exact hD1.2 j y hy)), hS1⟩ hL
theorem og_same {x y off : Int} {tgt : Nat} (hd : decode cc pc = .ok (.if_icmp .eq off, 3)) (ht : (pc : Int) + off = (tgt : Int)) (h : x = y) (k : od_G Γ own cc nL R dA dZ ws lv tgt st) : od_G Γ own cc nL R dA dZ ws lv pc (.int (iI y) :: .int (iI x) :: st) := by
  obtain ⟨p, l, e, s, m, args, below, meth, c, dC, dI, A, cells, slots, Q, ret⟩ := Γ
  intro F H locs ls hW hL
  exact lv_icmp_eq F.1 F.2.1 hd ht (fun _ => k F H locs ls hW hL) (fun hn => absurd (by rw [h]) hn)
theorem og_iand7 {x : Int} (hd : decode cc pc = .ok (.iand, 1)) (k : ∀ j : Nat, j < 8 → od_G Γ own cc nL R dA dZ ws lv (pc + 1) (.int (iI j) :: st)) : od_G Γ own cc nL R dA dZ ws lv pc (.int (iI 7) :: .int (iI x) :: st) := by
  obtain ⟨p, l, e, s, m, args, below, meth, c, dC, dI, A, cells, slots, Q, ret⟩ := Γ
  intro F H locs ls hW hL
  obtain ⟨j, hj, ej⟩ := pk_andE (iI x) (m := iI 7) 3 (by decide +kernel)
  have k1 := k j (by omega) F H locs ls hW hL
  rw [iI_nat, ← ej] at k1
  exact lv_iand F.1 F.2.1 hd k1
theorem og_table {j : Nat} {dflt lo hi off : Int} {offs : Array Int} {len tgt : Nat} (hd : decode cc pc = .ok (.tableswitch dflt lo hi offs, len)) (hj : j < 1000) (h1 : lo ≤ j) (h2 : (j : Int) ≤ hi) (ho : offs[((j : Int) - lo).toNat]? = some off) (ht : (pc : Int) + off = (tgt : Int)) (k : od_G Γ own cc nL R dA dZ ws lv tgt st) : od_G Γ own cc nL R dA dZ ws lv pc (.int (iI j) :: st) := by
  obtain ⟨p, l, e, s, m, args, below, meth, c, dC, dI, A, cells, slots, Q, ret⟩ := Γ
  intro F H locs ls hW hL
  have ej : (iI (j : Int)).toInt = j := iI_toInt ⟨by omega, by omega⟩
  exact lv_tableIn F.1 F.2.1 hd (by rw [ej]; omega) (by rw [ej]; omega) (by rw [ej]; exact ho) ht (k F H locs ls hW hL)
end LC
/-! OmegaDeskLaw.law -/
/-- the law's loop at its head -/
theorem law_loop {Γ : Cxt} {dA dZ : ClassId} {ad bd : Nat → Nat} {b L : Nat} {xs : Nat → Int32} (hL : L ≤ 384)
    (hsld : ∀ {ws : va_W} {lv : List Value} {pc : Nat} {st : List Value} {t : Int} (j : Nat), decode cL_law pc = .ok (.iaload, 1) → t = (j : Int) → j < L → od_G Γ R_law cL_law 4 room_1 dA dZ (ws) lv (pc + 1) (.int (iI (xs j).toInt) :: st) → od_G Γ R_law cL_law 4 room_1 dA dZ (ws) lv pc (.int (iI t) :: .ref b :: st))
    (hlen : ∀ {ws : va_W} {lv : List Value} {pc : Nat} {st : List Value}, decode cL_law pc = .ok (.arraylength, 1) → od_G Γ R_law cL_law 4 room_1 dA dZ (ws) lv (pc + 1) (.int (iI L) :: st) → od_G Γ R_law cL_law 4 room_1 dA dZ (ws) lv pc (.ref b :: st))
    (hend : ∀ {ws : va_W} {lv : List Value} {pc : Nat}, decode cL_law pc = .ok (.ireturn, 1) → od_G Γ R_law cL_law 4 room_1 dA dZ (ws) lv pc [.int (iI 1)]) :
    ∀ (n i : Nat) (u w : DS) (h : Nat), L < i + n → i ≤ L → Rel u w h → od_G Γ R_law cL_law 4 room_1 dA dZ (xc dA dZ ad u ++ mc dA dZ bd w) [.ref b, .ref (ad 0), .ref (bd 0), .int (iI i)] 18 [] := by
  intro n
  induction n with
  | zero =>
    intro i u w h hn hi hR
    exact absurd hn (by omega)
  | succ n ih =>
    intro i u w h hn hi hR
    have K366 : ∀ (u' w' : DS) (h' : Nat), i + 6 ≤ L → Rel u' w' h' → od_G Γ R_law cL_law 4 room_1 dA dZ (xc dA dZ ad u' ++ mc dA dZ bd w') [.ref b, .ref (ad 0), .ref (bd 0), .int (iI i)] 366 [] := by
      intro u' w' h' hi6 hR'
      refine og_iinc_3 (pc := 366) dL_law_366 (by decide) ?_
      refine og_goto (pc := 369) (tgt := 18) dL_law_369 (by decide) ?_
      exact ih (i + 6) u' w' h' (by omega) hi6 hR'
    refine og_iload_3 (pc := 18) dL_law_18 ?_
    refine og_aload_0 (pc := 19) dL_law_19 ?_
    refine hlen dL_law_20 ?_
    refine og_bipush (pc := 21) dL_law_21 (by decide +kernel) ?_
    refine og_isub (pc := 23) dL_law_23 ?_
    refine og_icmp_gt (pc := 24) (tgt := 372) dL_law_24 (by decide) (by omega) (by omega) (fun c => ?_) (fun c => ?_)
    · refine og_iconst (pc := 372) dL_law_372 ?_
      exact hend dL_law_373
    have hi6 : i + 6 ≤ L := by omega
    have hSd := rel_S hR.2.2.2 (-1)
    refine og_aload_0 (pc := 27) dL_law_27 ?_
    refine og_iload_3 (pc := 28) dL_law_28 ?_
    refine hsld (i) dL_law_29 (by omega) (by omega) ?_
    refine og_bipush (pc := 30) dL_law_30 (by decide +kernel) ?_
    refine og_iand7 (pc := 32) dL_law_32 (fun j hj => ?_)
    have hd : j = 0 ∨ j = 1 ∨ j = 2 ∨ j = 3 ∨ j = 4 ∨ j = 5 ∨ j = 6 ∨ j = 7 := by omega
    rcases hd with rfl | rfl | rfl | rfl | rfl | rfl | rfl | rfl
    · -- add
      refine og_table (pc := 33) (tgt := 80) dL_law_33 (by decide) (by decide) (by decide) rfl (by decide) ?_
      have K114 : ∀ q : Int, q = (if (xs (i + 5)).toInt = 0 then 0 else 1) → od_G Γ R_law cL_law 4 room_1 dA dZ (xc dA dZ ad u ++ mc dA dZ bd w) [.ref b, .ref (ad 0), .ref (bd 0), .int (iI i)] 114 [.int (iI q), .int (iI (xs (i + 4)).toInt), .int (iI (xs (i + 3)).toInt), .int (iI (xs (i + 2)).toInt), .int (iI (xs (i + 1)).toInt), .ref (ad 0)] := by
        intro q hq
        have hq01 : q = 0 ∨ q = 1 := by rw [hq]; split <;> simp
        refine og_callL (pc := 114) (n := 5) (met_add dA dZ ad u h _ _ _ _ q (iI_rg _) (iI_rg _) (iI_rg _) (iI_rg _) hq01 hR.1.1 hR.1.2.1) rfl rfl (lw_V q67 q68 q69 q18 q70) (by decide +kernel) ⟨by decide, by decide⟩ ⟨rfl, rfl⟩ rfl rfl (Nat.le_of_ble_eq_true rfl) dL_law_114 (fun r u' hp => ?_)
        have K151 : ∀ q' : Int, q' = (if (xs (i + 5)).toInt = 0 then 0 else 1) → od_G Γ R_law cL_law 4 room_1 dA dZ (xc dA dZ ad u' ++ mc dA dZ bd w) [.ref b, .ref (ad 0), .ref (bd 0), .int (iI i)] 151 [.int (iI q'), .int (iI (xs (i + 4)).toInt), .int (iI (xs (i + 3)).toInt), .int (iI (xs (i + 2)).toInt), .int (iI (xs (i + 1)).toInt), .ref (bd 0), .int (iI r)] := by
          intro q' hq'
          have e : q' = q := by rw [hq, hq']
          subst e
          refine og_callR (pc := 151) (n := 5) (mem_add dA dZ bd w h _ _ _ _ q' (iI_rg _) (iI_rg _) (iI_rg _) (iI_rg _) hq01 hR.2.2.1.1 hR.1.2.1) rfl rfl (lw_V q188 q189 q190 q19 q191) (by decide +kernel) ⟨by decide, by decide⟩ ⟨rfl, rfl⟩ rfl rfl (Nat.le_of_ble_eq_true rfl) dL_law_151 (fun r' w' hp' => ?_)
          obtain ⟨e, h', hR'⟩ := rel_add hR hq01 hp hp'
          refine og_same (pc := 154) (tgt := 366) dL_law_154 (by decide) e ?_
          exact K366 u' w' h' hi6 hR'
        refine og_aload_2 (pc := 117) dL_law_117 ?_
        refine og_aload_0 (pc := 118) dL_law_118 ?_
        refine og_iload_3 (pc := 119) dL_law_119 ?_
        refine og_iconst (pc := 120) dL_law_120 ?_
        refine og_iadd (pc := 121) dL_law_121 ?_
        refine hsld (i + 1) dL_law_122 (by omega) (by omega) ?_
        refine og_aload_0 (pc := 123) dL_law_123 ?_
        refine og_iload_3 (pc := 124) dL_law_124 ?_
        refine og_iconst (pc := 125) dL_law_125 ?_
        refine og_iadd (pc := 126) dL_law_126 ?_
        refine hsld (i + 2) dL_law_127 (by omega) (by omega) ?_
        refine og_aload_0 (pc := 128) dL_law_128 ?_
        refine og_iload_3 (pc := 129) dL_law_129 ?_
        refine og_iconst (pc := 130) dL_law_130 ?_
        refine og_iadd (pc := 131) dL_law_131 ?_
        refine hsld (i + 3) dL_law_132 (by omega) (by omega) ?_
        refine og_aload_0 (pc := 133) dL_law_133 ?_
        refine og_iload_3 (pc := 134) dL_law_134 ?_
        refine og_iconst (pc := 135) dL_law_135 ?_
        refine og_iadd (pc := 136) dL_law_136 ?_
        refine hsld (i + 4) dL_law_137 (by omega) (by omega) ?_
        refine og_aload_0 (pc := 138) dL_law_138 ?_
        refine og_iload_3 (pc := 139) dL_law_139 ?_
        refine og_iconst (pc := 140) dL_law_140 ?_
        refine og_iadd (pc := 141) dL_law_141 ?_
        refine hsld (i + 5) dL_law_142 (by omega) (by omega) ?_
        refine og_if_eq (pc := 143) (tgt := 150) dL_law_143 (by decide) (iI_rg _) (fun c5 => ?_) (fun c5 => ?_)
        · refine og_iconst (pc := 150) dL_law_150 ?_
          exact K151 0 (by rw [if_pos c5])
        · refine og_iconst (pc := 146) dL_law_146 ?_
          refine og_goto (pc := 147) (tgt := 151) dL_law_147 (by decide) ?_
          exact K151 1 (by rw [if_neg c5])
      refine og_aload_1 (pc := 80) dL_law_80 ?_
      refine og_aload_0 (pc := 81) dL_law_81 ?_
      refine og_iload_3 (pc := 82) dL_law_82 ?_
      refine og_iconst (pc := 83) dL_law_83 ?_
      refine og_iadd (pc := 84) dL_law_84 ?_
      refine hsld (i + 1) dL_law_85 (by omega) (by omega) ?_
      refine og_aload_0 (pc := 86) dL_law_86 ?_
      refine og_iload_3 (pc := 87) dL_law_87 ?_
      refine og_iconst (pc := 88) dL_law_88 ?_
      refine og_iadd (pc := 89) dL_law_89 ?_
      refine hsld (i + 2) dL_law_90 (by omega) (by omega) ?_
      refine og_aload_0 (pc := 91) dL_law_91 ?_
      refine og_iload_3 (pc := 92) dL_law_92 ?_
      refine og_iconst (pc := 93) dL_law_93 ?_
      refine og_iadd (pc := 94) dL_law_94 ?_
      refine hsld (i + 3) dL_law_95 (by omega) (by omega) ?_
      refine og_aload_0 (pc := 96) dL_law_96 ?_
      refine og_iload_3 (pc := 97) dL_law_97 ?_
      refine og_iconst (pc := 98) dL_law_98 ?_
      refine og_iadd (pc := 99) dL_law_99 ?_
      refine hsld (i + 4) dL_law_100 (by omega) (by omega) ?_
      refine og_aload_0 (pc := 101) dL_law_101 ?_
      refine og_iload_3 (pc := 102) dL_law_102 ?_
      refine og_iconst (pc := 103) dL_law_103 ?_
      refine og_iadd (pc := 104) dL_law_104 ?_
      refine hsld (i + 5) dL_law_105 (by omega) (by omega) ?_
      refine og_if_eq (pc := 106) (tgt := 113) dL_law_106 (by decide) (iI_rg _) (fun c5 => ?_) (fun c5 => ?_)
      · refine og_iconst (pc := 113) dL_law_113 ?_
        exact K114 0 (by rw [if_pos c5])
      · refine og_iconst (pc := 109) dL_law_109 ?_
        refine og_goto (pc := 110) (tgt := 114) dL_law_110 (by decide) ?_
        exact K114 1 (by rw [if_neg c5])
    · -- drop
      refine og_table (pc := 33) (tgt := 159) dL_law_33 (by decide) (by decide) (by decide) rfl (by decide) ?_
      refine og_aload_1 (pc := 159) dL_law_159 ?_
      refine og_aload_0 (pc := 160) dL_law_160 ?_
      refine og_iload_3 (pc := 161) dL_law_161 ?_
      refine og_iconst (pc := 162) dL_law_162 ?_
      refine og_iadd (pc := 163) dL_law_163 ?_
      refine hsld (i + 1) dL_law_164 (by omega) (by omega) ?_
      refine og_callL (pc := 165) (n := 1) (met_drop dA dZ ad u h _ (iI_rg _) hR.1) rfl rfl (lw_V q74 q75 q76 q18 q77) (by decide +kernel) ⟨by decide, by decide⟩ ⟨rfl, rfl⟩ rfl rfl (Nat.le_of_ble_eq_true rfl) dL_law_165 (fun r u' hp => ?_)
      refine og_aload_2 (pc := 168) dL_law_168 ?_
      refine og_aload_0 (pc := 169) dL_law_169 ?_
      refine og_iload_3 (pc := 170) dL_law_170 ?_
      refine og_iconst (pc := 171) dL_law_171 ?_
      refine og_iadd (pc := 172) dL_law_172 ?_
      refine hsld (i + 1) dL_law_173 (by omega) (by omega) ?_
      refine og_callR (pc := 174) (n := 1) (mem_drop dA dZ bd w h _ (iI_rg _) hR.2.2.1) rfl rfl (lw_V q195 q196 q197 q19 q198) (by decide +kernel) ⟨by decide, by decide⟩ ⟨rfl, rfl⟩ rfl rfl (Nat.le_of_ble_eq_true rfl) dL_law_174 (fun r' w' hp' => ?_)
      obtain ⟨e, h', hR'⟩ := rel_drop hR hp hp'
      refine og_same (pc := 177) (tgt := 366) dL_law_177 (by decide) e ?_
      exact K366 u' w' h' hi6 hR'
    · -- possible
      refine og_table (pc := 33) (tgt := 182) dL_law_33 (by decide) (by decide) (by decide) rfl (by decide) ?_
      refine og_aload_1 (pc := 182) dL_law_182 ?_
      refine og_callL (pc := 183) (n := 0) (met_possible dA dZ ad u h hR.1 hR.2.1) rfl rfl (lw_V q78 q79 q80 q18 q81) (by decide +kernel) ⟨by decide, by decide⟩ ⟨rfl, rfl⟩ rfl rfl (Nat.le_of_ble_eq_true rfl) dL_law_183 (fun r u' hp => ?_)
      refine og_aload_2 (pc := 186) dL_law_186 ?_
      refine og_callR (pc := 187) (n := 0) (mem_possible dA dZ bd w h hR.2.2.1) rfl rfl (lw_V q199 q200 q201 q19 q202) (by decide +kernel) ⟨by decide, by decide⟩ ⟨rfl, rfl⟩ rfl rfl (Nat.le_of_ble_eq_true rfl) dL_law_187 (fun r' w' hp' => ?_)
      obtain ⟨rfl, hp2⟩ := hp'
      rw [hSd] at hp2
      refine og_same (pc := 190) (tgt := 366) dL_law_190 (by decide) (hp.2.one hp2) ?_
      exact K366 u' w' h hi6 (rel_q hR hp.1)
    · -- first
      refine og_table (pc := 33) (tgt := 195) dL_law_33 (by decide) (by decide) (by decide) rfl (by decide) ?_
      refine og_aload_1 (pc := 195) dL_law_195 ?_
      refine og_aload_0 (pc := 196) dL_law_196 ?_
      refine og_iload_3 (pc := 197) dL_law_197 ?_
      refine og_iconst (pc := 198) dL_law_198 ?_
      refine og_iadd (pc := 199) dL_law_199 ?_
      refine hsld (i + 1) dL_law_200 (by omega) (by omega) ?_
      refine og_callL (pc := 201) (n := 1) (met_first dA dZ ad u h _ (iI_rg _) hR.1 hR.2.1) rfl rfl (lw_V q135 q136 q137 q18 q138) (by decide +kernel) ⟨by decide, by decide⟩ ⟨rfl, rfl⟩ rfl rfl (Nat.le_of_ble_eq_true rfl) dL_law_201 (fun r u' hp => ?_)
      refine og_aload_2 (pc := 204) dL_law_204 ?_
      refine og_aload_0 (pc := 205) dL_law_205 ?_
      refine og_iload_3 (pc := 206) dL_law_206 ?_
      refine og_iconst (pc := 207) dL_law_207 ?_
      refine og_iadd (pc := 208) dL_law_208 ?_
      refine hsld (i + 1) dL_law_209 (by omega) (by omega) ?_
      refine og_callR (pc := 210) (n := 1) (mem_first dA dZ bd w h _ (iI_rg _) hR.2.2.1) rfl rfl (lw_V q218 q219 q220 q19 q221) (by decide +kernel) ⟨by decide, by decide⟩ ⟨rfl, rfl⟩ rfl rfl (Nat.le_of_ble_eq_true rfl) dL_law_210 (fun r' w' hp' => ?_)
      obtain ⟨rfl, hp2⟩ := hp'
      rw [hSd] at hp2
      refine og_same (pc := 213) (tgt := 366) dL_law_213 (by decide) (hp.2.one hp2) ?_
      exact K366 u' w' h hi6 (rel_q hR hp.1)
    · -- extreme
      refine og_table (pc := 33) (tgt := 218) dL_law_33 (by decide) (by decide) (by decide) rfl (by decide) ?_
      have K237 : ∀ q : Int, q = (if (xs (i + 2)).toInt = 0 then 0 else 1) → od_G Γ R_law cL_law 4 room_1 dA dZ (xc dA dZ ad u ++ mc dA dZ bd w) [.ref b, .ref (ad 0), .ref (bd 0), .int (iI i)] 237 [.int (iI q), .int (iI (xs (i + 1)).toInt), .ref (ad 0)] := by
        intro q hq
        have hq01 : q = 0 ∨ q = 1 := by rw [hq]; split <;> simp
        refine og_callL (pc := 237) (n := 2) (met_extreme dA dZ ad u h _ q (iI_rg _) hq01 hR.1 hR.2.1) rfl rfl (lw_V q143 q144 q145 q18 q146) (by decide +kernel) ⟨by decide, by decide⟩ ⟨rfl, rfl⟩ rfl rfl (Nat.le_of_ble_eq_true rfl) dL_law_237 (fun r u' hp => ?_)
        have K259 : ∀ q' : Int, q' = (if (xs (i + 2)).toInt = 0 then 0 else 1) → od_G Γ R_law cL_law 4 room_1 dA dZ (xc dA dZ ad u' ++ mc dA dZ bd w) [.ref b, .ref (ad 0), .ref (bd 0), .int (iI i)] 259 [.int (iI q'), .int (iI (xs (i + 1)).toInt), .ref (bd 0), .int (iI r)] := by
          intro q' hq'
          have e : q' = q := by rw [hq, hq']
          subst e
          refine og_callR (pc := 259) (n := 2) (mem_extreme dA dZ bd w h _ q' (iI_rg _) hq01 hR.2.2.1) rfl rfl (lw_V q225 q226 q227 q19 q228) (by decide +kernel) ⟨by decide, by decide⟩ ⟨rfl, rfl⟩ rfl rfl (Nat.le_of_ble_eq_true rfl) dL_law_259 (fun r' w' hp' => ?_)
          obtain ⟨rfl, hp2⟩ := hp'
          rw [hSd] at hp2
          refine og_same (pc := 262) (tgt := 366) dL_law_262 (by decide) (hp.2.one hp2) ?_
          exact K366 u' w' h hi6 (rel_q hR hp.1)
        refine og_aload_2 (pc := 240) dL_law_240 ?_
        refine og_aload_0 (pc := 241) dL_law_241 ?_
        refine og_iload_3 (pc := 242) dL_law_242 ?_
        refine og_iconst (pc := 243) dL_law_243 ?_
        refine og_iadd (pc := 244) dL_law_244 ?_
        refine hsld (i + 1) dL_law_245 (by omega) (by omega) ?_
        refine og_aload_0 (pc := 246) dL_law_246 ?_
        refine og_iload_3 (pc := 247) dL_law_247 ?_
        refine og_iconst (pc := 248) dL_law_248 ?_
        refine og_iadd (pc := 249) dL_law_249 ?_
        refine hsld (i + 2) dL_law_250 (by omega) (by omega) ?_
        refine og_if_eq (pc := 251) (tgt := 258) dL_law_251 (by decide) (iI_rg _) (fun c5 => ?_) (fun c5 => ?_)
        · refine og_iconst (pc := 258) dL_law_258 ?_
          exact K259 0 (by rw [if_pos c5])
        · refine og_iconst (pc := 254) dL_law_254 ?_
          refine og_goto (pc := 255) (tgt := 259) dL_law_255 (by decide) ?_
          exact K259 1 (by rw [if_neg c5])
      refine og_aload_1 (pc := 218) dL_law_218 ?_
      refine og_aload_0 (pc := 219) dL_law_219 ?_
      refine og_iload_3 (pc := 220) dL_law_220 ?_
      refine og_iconst (pc := 221) dL_law_221 ?_
      refine og_iadd (pc := 222) dL_law_222 ?_
      refine hsld (i + 1) dL_law_223 (by omega) (by omega) ?_
      refine og_aload_0 (pc := 224) dL_law_224 ?_
      refine og_iload_3 (pc := 225) dL_law_225 ?_
      refine og_iconst (pc := 226) dL_law_226 ?_
      refine og_iadd (pc := 227) dL_law_227 ?_
      refine hsld (i + 2) dL_law_228 (by omega) (by omega) ?_
      refine og_if_eq (pc := 229) (tgt := 236) dL_law_229 (by decide) (iI_rg _) (fun c5 => ?_) (fun c5 => ?_)
      · refine og_iconst (pc := 236) dL_law_236 ?_
        exact K237 0 (by rw [if_pos c5])
      · refine og_iconst (pc := 232) dL_law_232 ?_
        refine og_goto (pc := 233) (tgt := 237) dL_law_233 (by decide) ?_
        exact K237 1 (by rw [if_neg c5])
    · -- with
      refine og_table (pc := 33) (tgt := 267) dL_law_33 (by decide) (by decide) (by decide) rfl (by decide) ?_
      refine og_aload_1 (pc := 267) dL_law_267 ?_
      refine og_aload_0 (pc := 268) dL_law_268 ?_
      refine og_iload_3 (pc := 269) dL_law_269 ?_
      refine og_iconst (pc := 270) dL_law_270 ?_
      refine og_iadd (pc := 271) dL_law_271 ?_
      refine hsld (i + 1) dL_law_272 (by omega) (by omega) ?_
      refine og_aload_0 (pc := 273) dL_law_273 ?_
      refine og_iload_3 (pc := 274) dL_law_274 ?_
      refine og_iconst (pc := 275) dL_law_275 ?_
      refine og_iadd (pc := 276) dL_law_276 ?_
      refine hsld (i + 2) dL_law_277 (by omega) (by omega) ?_
      refine og_callL (pc := 278) (n := 2) (met_with dA dZ ad u h _ _ (iI_rg _) (iI_rg _) hR.1 hR.2.1) rfl rfl (lw_V q147 q148 q149 q18 q150) (by decide +kernel) ⟨by decide, by decide⟩ ⟨rfl, rfl⟩ rfl rfl (Nat.le_of_ble_eq_true rfl) dL_law_278 (fun r u' hp => ?_)
      refine og_aload_2 (pc := 281) dL_law_281 ?_
      refine og_aload_0 (pc := 282) dL_law_282 ?_
      refine og_iload_3 (pc := 283) dL_law_283 ?_
      refine og_iconst (pc := 284) dL_law_284 ?_
      refine og_iadd (pc := 285) dL_law_285 ?_
      refine hsld (i + 1) dL_law_286 (by omega) (by omega) ?_
      refine og_aload_0 (pc := 287) dL_law_287 ?_
      refine og_iload_3 (pc := 288) dL_law_288 ?_
      refine og_iconst (pc := 289) dL_law_289 ?_
      refine og_iadd (pc := 290) dL_law_290 ?_
      refine hsld (i + 2) dL_law_291 (by omega) (by omega) ?_
      refine og_callR (pc := 292) (n := 2) (mem_with dA dZ bd w h _ _ (iI_rg _) (iI_rg _) hR.2.2.1) rfl rfl (lw_V q229 q230 q231 q19 q232) (by decide +kernel) ⟨by decide, by decide⟩ ⟨rfl, rfl⟩ rfl rfl (Nat.le_of_ble_eq_true rfl) dL_law_292 (fun r' w' hp' => ?_)
      obtain ⟨rfl, hp2⟩ := hp'
      rw [hSd] at hp2
      refine og_same (pc := 295) (tgt := 366) dL_law_295 (by decide) (hp.2.one hp2) ?_
      exact K366 u' w' h hi6 (rel_q hR hp.1)
    · -- follows
      refine og_table (pc := 33) (tgt := 300) dL_law_33 (by decide) (by decide) (by decide) rfl (by decide) ?_
      refine og_aload_1 (pc := 300) dL_law_300 ?_
      refine og_aload_0 (pc := 301) dL_law_301 ?_
      refine og_iload_3 (pc := 302) dL_law_302 ?_
      refine og_iconst (pc := 303) dL_law_303 ?_
      refine og_iadd (pc := 304) dL_law_304 ?_
      refine hsld (i + 1) dL_law_305 (by omega) (by omega) ?_
      refine og_aload_0 (pc := 306) dL_law_306 ?_
      refine og_iload_3 (pc := 307) dL_law_307 ?_
      refine og_iconst (pc := 308) dL_law_308 ?_
      refine og_iadd (pc := 309) dL_law_309 ?_
      refine hsld (i + 2) dL_law_310 (by omega) (by omega) ?_
      refine og_aload_0 (pc := 311) dL_law_311 ?_
      refine og_iload_3 (pc := 312) dL_law_312 ?_
      refine og_iconst (pc := 313) dL_law_313 ?_
      refine og_iadd (pc := 314) dL_law_314 ?_
      refine hsld (i + 3) dL_law_315 (by omega) (by omega) ?_
      refine og_aload_0 (pc := 316) dL_law_316 ?_
      refine og_iload_3 (pc := 317) dL_law_317 ?_
      refine og_iconst (pc := 318) dL_law_318 ?_
      refine og_iadd (pc := 319) dL_law_319 ?_
      refine hsld (i + 4) dL_law_320 (by omega) (by omega) ?_
      refine og_callL (pc := 321) (n := 4) (met_follows dA dZ ad u h _ _ _ _ (iI_rg _) (iI_rg _) (iI_rg _) (iI_rg _) hR.1 hR.2.1) rfl rfl (lw_V q151 q152 q153 q18 q154) (by decide +kernel) ⟨by decide, by decide⟩ ⟨rfl, rfl⟩ rfl rfl (Nat.le_of_ble_eq_true rfl) dL_law_321 (fun r u' hp => ?_)
      refine og_aload_2 (pc := 324) dL_law_324 ?_
      refine og_aload_0 (pc := 325) dL_law_325 ?_
      refine og_iload_3 (pc := 326) dL_law_326 ?_
      refine og_iconst (pc := 327) dL_law_327 ?_
      refine og_iadd (pc := 328) dL_law_328 ?_
      refine hsld (i + 1) dL_law_329 (by omega) (by omega) ?_
      refine og_aload_0 (pc := 330) dL_law_330 ?_
      refine og_iload_3 (pc := 331) dL_law_331 ?_
      refine og_iconst (pc := 332) dL_law_332 ?_
      refine og_iadd (pc := 333) dL_law_333 ?_
      refine hsld (i + 2) dL_law_334 (by omega) (by omega) ?_
      refine og_aload_0 (pc := 335) dL_law_335 ?_
      refine og_iload_3 (pc := 336) dL_law_336 ?_
      refine og_iconst (pc := 337) dL_law_337 ?_
      refine og_iadd (pc := 338) dL_law_338 ?_
      refine hsld (i + 3) dL_law_339 (by omega) (by omega) ?_
      refine og_aload_0 (pc := 340) dL_law_340 ?_
      refine og_iload_3 (pc := 341) dL_law_341 ?_
      refine og_iconst (pc := 342) dL_law_342 ?_
      refine og_iadd (pc := 343) dL_law_343 ?_
      refine hsld (i + 4) dL_law_344 (by omega) (by omega) ?_
      refine og_callR (pc := 345) (n := 4) (mem_follows dA dZ bd w h _ _ _ _ (iI_rg _) (iI_rg _) (iI_rg _) (iI_rg _) hR.2.2.1) rfl rfl (lw_V q233 q234 q235 q19 q236) (by decide +kernel) ⟨by decide, by decide⟩ ⟨rfl, rfl⟩ rfl rfl (Nat.le_of_ble_eq_true rfl) dL_law_345 (fun r' w' hp' => ?_)
      obtain ⟨rfl, hp2⟩ := hp'
      rw [hSd] at hp2
      refine og_same (pc := 348) (tgt := 366) dL_law_348 (by decide) (hp.2.one hp2) ?_
      exact K366 u' w' h hi6 (rel_q hR hp.1)
    · -- spare
      refine og_table (pc := 33) (tgt := 353) dL_law_33 (by decide) (by decide) (by decide) rfl (by decide) ?_
      refine og_aload_1 (pc := 353) dL_law_353 ?_
      refine og_callL (pc := 354) (n := 0) (met_spare dA dZ ad u h hR.1 hR.2.1) rfl rfl (lw_V q155 q156 q157 q18 q158) (by decide +kernel) ⟨by decide, by decide⟩ ⟨rfl, rfl⟩ rfl rfl (Nat.le_of_ble_eq_true rfl) dL_law_354 (fun r u' hp => ?_)
      refine og_aload_2 (pc := 357) dL_law_357 ?_
      refine og_callR (pc := 358) (n := 0) (mem_spare dA dZ bd w h hR.2.2.1) rfl rfl (lw_V q237 q238 q239 q19 q240) (by decide +kernel) ⟨by decide, by decide⟩ ⟨rfl, rfl⟩ rfl rfl (Nat.le_of_ble_eq_true rfl) dL_law_358 (fun r' w' hp' => ?_)
      obtain ⟨rfl, hp2⟩ := hp'
      rw [rel_Sp hR.2.2.2 h (Nat.le_refl _)] at hp2
      refine og_same (pc := 361) (tgt := 366) dL_law_361 (by decide) (hp.2.trans hp2.symm) ?_
      exact K366 u' w' h hi6 (rel_q hR hp.1)
end
section
set_option maxRecDepth 100000
theorem rel_0 : Rel x0 m0 0 := ⟨⟨by simp [x0, up2], by omega, fun i hi => absurd hi (by omega)⟩, by simp [x0, up2], ⟨rfl, by omega, fun i hi => absurd hi (by omega)⟩, fun i hi => absurd hi (by omega)⟩
theorem od_K {s : State} {b : Nat} (ht0 : ∀ w ∈ lw_tbl, w.before #[Value.ref b] s = true) : ∃ (dC : Nat → ClassId) (dI : Nat → Nat → Nat) (dA dZ : ClassId), va_K (dC, dI) vwCl [(dA, .int), (dZ, .boolean)] s := by
  obtain ⟨c0_, iS0, hKn0⟩ := u_known (C := RX0) (T := TX0) (N := 12) (n := 12) ht0 (fun w h => lw_all_tbl (in_X0 w h)) (ht0 _ (lw_all_tbl q21))
  obtain ⟨c1_, iS1, hKn1⟩ := u_known (C := RX1) (T := TX1) (N := 6) (n := 6) ht0 (fun w h => lw_all_tbl (in_X1 w h)) (ht0 _ (lw_all_tbl q164))
  obtain ⟨dA, kA, compA, f1, f2, f3⟩ := Cond.arrayClass_spec (ht0 _ (lw_all_tbl q65))
  obtain ⟨dZ, kZ, compZ, g1, g2, g3⟩ := Cond.arrayClass_spec (ht0 _ (lw_all_tbl q66))
  refine ⟨fun k => if k = 0 then c0_ else c1_, fun k => if k = 0 then iS0 else iS1, dA, dZ, ?_, ?_⟩
  · intro k q hq
    match k, hq with
    | 0, hq => cases hq; exact hKn0
    | 1, hq => cases hq; exact hKn1
    | k + 2, hq => simp [vwCl] at hq
  · intro k q hq
    match k, hq with
    | 0, hq => cases hq; exact ⟨fun n z => ⟨fun k h => (by cases h), kA, f2, compA, f3⟩, f1⟩
    | 1, hq => cases hq; exact ⟨fun n z => ⟨fun k h => (by cases h), kZ, g2, compZ, g3⟩, g1⟩
    | k + 2, hq => simp at hq
set_option maxHeartbeats 4000000 in
/-- from the entry, for every script of at most 384 ints, the law comes to its end with true -/
theorem whole_start {p : Program} {e : Env} {s : State} {m : MethodId} {below : List Frame} {meth : Method} {c : Code} (l : Launch) {b L : Nat} {xs : Nat → Int32} (hL : L ≤ 384) (C0 : lw_At p s m meth c b L xs) : W p l e room_1 s m #[Value.ref b] below meth c s.heap [] 0 0 (lw_Z below #[Value.ref b] s) (entryFrame m ([Value.ref b] : List Value).toArray 4) := by
  obtain ⟨hx, hb, hr, hml, hown, hts0, hX, hbl, hlk, hgv⟩ := C0
  have hts : ∀ w ∈ lw_all, w.before #[Value.ref b] s = true := fun w h => hts0 w (lw_all_tbl h)
  obtain ⟨dC, dI, dA, dZ, hK⟩ := od_K hts0
  obtain ⟨A, hAe⟩ : ∃ A : Nat → Prop, A = fun q => s.heap.size ≤ q := ⟨_, rfl⟩
  have hA : ∀ q : Nat, s.heap.size ≤ q → A q := fun q h => by rw [hAe]; exact h
  have hbA : ¬ A b := by rw [hAe]; omega
  have hS : va_S A s.heap s.heap [] := va_S.rf
  have hP : va_P (dC, dI) vwCl [] s.heap := od_nil_P
  have hD : va_D A [] := od_nil_D
  have hl := lv_entry ([.ref b]) (n := 4) (Nat.le_of_ble_eq_true rfl)
  rw [lg_entry_eq]
  generalize (lg_sl ([.ref b]) ++ List.replicate (4 - (lg_sl ([.ref b])).length) Slot.unset).toArray = ls at hl ⊢
  have hl : lv_has ls 4 [(0, .ref b)] := hl
  -- the desk
  refine va_new (pc := 0) (cc := cL_law) (own := R_law) (ci := 0) (fs := [.int (iI 0), .null, .null, .null, .int (iI 0), .null, .null, .int (iI 0), .null, .null, .null, .int (iI 0)]) (C := RX0) (T := TX0) (N := 12) hx hb hts in_X0 tyX0 tyX0_ok hown (hts _ q20) (hts _ q21) (hts _ q18) hK hP hD hS hA rfl (fun j hj => by
    have hd : j = 0 ∨ j = 1 ∨ j = 2 ∨ j = 3 ∨ j = 4 ∨ j = 5 ∨ j = 6 ∨ j = 7 ∨ j = 8 ∨ j = 9 ∨ j = 10 ∨ j = 11 := by omega
    rw [iI_0]
    rcases hd with rfl | rfl | rfl | rfl | rfl | rfl | rfl | rfl | rfl | rfl | rfl | rfl <;> rfl) (by decide) (by decide) dL_law_0 (fun a0 H hP hD hS => ?_)
  have hP : va_P (dC, dI) vwCl [(a0, .inr (0, [.int (iI 0), .null, .null, .null, .int (iI 0), .null, .null, .int (iI 0), .null, .null, .null, .int (iI 0)]))] H := hP
  have hD : va_D A [(a0, .inr (0, [.int (iI 0), .null, .null, .null, .int (iI 0), .null, .null, .int (iI 0), .null, .null, .null, .int (iI 0)]))] := hD
  refine lv_dup (pc := 3) hx hb dL_law_3 rfl ?_
  have hF := od_free hD hS hA
  refine va_callv (pc := 4) (va_runI (As := []) (rest := [.ref a0]) ⟨hx, hb, hml, hown, hts⟩ (met_initX l dC dI dA dZ a0 H.size) (cwI 0 hts (lw_meth q24) rfl rfl rfl (hts _ q18) (hts _ q22) (hts _ q23) rfl (by decide +kernel) ⟨by decide, by decide⟩) ⟨od_blind, fun U hU hWm => ⟨rfl, by rw [hU], by rw [hU]; exact hP, va_K.moved hWm.alike hK, hD.weaken (fun _ _ _ _ => trivial)⟩⟩ rfl rfl hl.1 rfl (lv_room (Nat.le_of_ble_eq_true rfl)) dL_law_4 ⟨by decide, by decide⟩) hS (fun q _ h => hF q h) hF (fun ad t H1 locs ht hvm had hB hz1 hk1 hS => ?_)
  obtain ⟨hP1, hK1, hD1⟩ := hB
  rw [ht] at hP1
  subst had
  have hD := hD1.weaken (fun _ q _ h => hF q.1 h)
  clear hD1 hF hk1 hz1
  have hP := hP1
  refine lv_astore_n (pc := 7) (lv' := [(1, .ref (ad 0)), (0, .ref b)]) hx hb dL_law_7 rfl hl (by decide) rfl (fun ls hl => ?_)
  -- the reference
  refine va_new (pc := 8) (cc := cL_law) (own := R_law) (ci := 1) (fs := [.int (iI 0), .null, .null, .null, .null, .null]) (C := RX1) (T := TX1) (N := 6) hx hb hts in_X1 tyX1 tyX1_ok hown (hts _ q163) (hts _ q164) (hts _ q19) hK hP hD hS hA rfl (fun j hj => by
    have hd : j = 0 ∨ j = 1 ∨ j = 2 ∨ j = 3 ∨ j = 4 ∨ j = 5 := by omega
    rw [iI_0]
    rcases hd with rfl | rfl | rfl | rfl | rfl | rfl <;> rfl) (by decide) (by decide) dL_law_8 (fun a1 H2 hP hD hS => ?_)
  refine lv_dup (pc := 11) hx hb dL_law_11 rfl ?_
  have hPr : va_P (dC, dI) vwCl (xc dA dZ ad x0) H2 := fun k q hk => hP k q (od_L hk)
  have hPc : va_P (dC, dI) vwCl [(a1, .inr (1, [.int (iI 0), .null, .null, .null, .null, .null]))] H2 := fun k q hk => hP _ q (od_R hk)
  have hDc := od_DR hD
  have hF := od_free hDc hS hA
  refine va_callv (pc := 12) (va_runI (As := []) (rest := [.ref a1]) ⟨hx, hb, hml, hown, hts⟩ (met_initM l dC dI dA dZ a1 H2.size) (cwI 0 hts (lw_meth q167) rfl rfl rfl (hts _ q19) (hts _ q165) (hts _ q166) rfl (by decide +kernel) ⟨by decide, by decide⟩) ⟨od_blind, fun U hU hWm => ⟨rfl, by rw [hU], by rw [hU]; exact hPc, va_K.moved hWm.alike hK, hDc.weaken (fun _ _ _ _ => trivial)⟩⟩ rfl rfl hl.1 rfl (lv_room (Nat.le_of_ble_eq_true rfl)) dL_law_12 ⟨by decide, by decide⟩) hS (fun q _ h => hF q h) hF (fun bd t2 H3 locs ht2 hvm2 hbd hB hz1 hk1 hS => ?_)
  obtain ⟨hP1, hK1, hD1⟩ := hB
  rw [ht2] at hP1
  have hout : ∀ (j : Nat) (q : Nat × va_E), (xc dA dZ ad x0)[j]? = some q → ¬ va_A [(a1, .inr (1, [.int (iI 0), .null, .null, .null, .null, .null]))] H2.size q.1 := by
    intro j q hj h
    rcases h with ⟨i, e', h⟩ | h
    · exact od_DX hD hj h rfl
    · have := (hPr j q hj).lt
      omega
  have hP9 : va_P (dC, dI) vwCl (xc dA dZ ad x0 ++ mc dA dZ bd m0) H3 := (hPr.kept (fun j q hj => hk1 q.1 ((hPr j q hj).lt) (hout j q hj))).app hP1
  have hD9 : va_D A (xc dA dZ ad x0 ++ mc dA dZ bd m0) := va_D.app (od_DL hD) (hD1.weaken (fun _ q _ h => hF q.1 h)) (fun i j x y hx' hy e' => hout i x hx' (by rw [e']; exact hD1.2 j y hy))
  clear hout hD1 hP1 hF
  subst hbd
  refine lv_astore_n (pc := 15) (lv' := [(2, .ref (bd 0)), (1, .ref (ad 0)), (0, .ref b)]) hx hb dL_law_15 rfl hl (by decide) rfl (fun ls hl => ?_)
  refine lv_iconst (pc := 16) (v := iI 0) hx hb dL_law_16 rfl ?_
  refine lv_istore_n (pc := 17) (lv' := [(3, .int (iI 0)), (2, .ref (bd 0)), (1, .ref (ad 0)), (0, .ref b)]) hx hb dL_law_17 rfl hl (by decide) rfl (fun ls hl => ?_)
  refine W.widen (k := 600000) (n := 7290000) (by decide) (by decide) ?_
  have hLV : LV ls 4 [.ref b, .ref (ad 0), .ref (bd 0), .int (iI 0)] := by
    refine ⟨_, hl, fun q hq => ?_, fun i v hi hv => ?_⟩
    · simp only [List.mem_cons, List.not_mem_nil, or_false] at hq
      rcases hq with rfl | rfl | rfl | rfl <;> rfl
    · match i, hi with
      | 0, hi => cases hi; simp
      | 1, hi => cases hi; simp
      | 2, hi => cases hi; simp
      | 3, hi => cases hi; simp
      | k + 4, hi => simp at hi
  refine law_loop (Γ := (p, l, e, s, m, #[Value.ref b], below, meth, c, dC, dI, A, 600000, 7290000, lw_Z below #[Value.ref b] s, ret)) (xs := xs) hL ?_ ?_ ?_ (L + 1) 0 x0 m0 0 (by omega) (by omega) rel_0 ⟨hx, hb, hml, hlk, hr, hown, hts, hK, hA, by decide, by decide⟩ H3 locs ls ⟨hP9, hD9, hS⟩ hLV
  · intro ws lv pc st t j hd hj hlt k F H' locs' ls' hW hL'
    subst hj
    refine va_sld F.1 F.2.1 hX hbl hbA hW.2.2 (by rw [iI_nat]; exact vp_in_nI hlt (by omega)) hd ?_
    have ej : (iI (j : Int)).toNatClampNeg = j := by rw [iI_nat]; exact nI_clamp (by omega)
    have k1 := k F H' locs' ls' hW hL'
    rw [iI_of] at k1
    rw [ej]
    exact k1
  · intro ws lv pc st hd k F H' locs' ls' hW hL'
    have k1 := k F H' locs' ls' hW hL'
    rw [iI_nat] at k1
    exact va_slen F.1 F.2.1 hX hbl hbA hW.2.2 hd k1
  · intro ws lv pc hd F H' locs' ls' hW hL'
    refine va_forget (fun q hq => by have := hW.2.2.2.2 q hq; rw [hAe] at this; exact this) ?_
    have e1 : iI 1 = 1 := by decide +kernel
    rw [e1]
    exact lw_ret F.1 F.2.1 F.2.2.2.2.1 F.2.2.2.1 hd
end
section
set_option maxHeartbeats 4000000 in
theorem lw_walk (l : Launch) (b : Addr) (xs : List Int32) : MetFree l x (headSpec (Jvm.Cond.code x code maxLocals ret :: tables_1) room_1) (lw_P b xs) (fun _ _ _ _ _ => True) lw_Q := by
  refine MetFree.of_bodyS (code := code) (maxLocals := maxLocals) (ret := ret) (by decide) ?_ ?_
  · intro args s m h hn
    obtain ⟨meth, c, h1, h2, h3, h4, h5, h6, -, -⟩ := Cond.code_spec hn (atoms_spec (ws := Jvm.Cond.code x code maxLocals ret :: tables_1) h _ List.mem_cons_self)
    exact ⟨meth, c, h1, h2, h3, h4, h5, h6⟩
  · intro p e s m args below meth c s₁ B hml0 hP _
    obtain ⟨rfl, hx, hbd, hgv⟩ := hP
    obtain ⟨scr, harrAt, hlist, hof, hsmall⟩ := hx
    obtain ⟨hcb, hkn, -, -⟩ := State.arrayAt?_spec harrAt
    have hown : s.vm.findClass R_law = some m.cls := findClass_of_methodNamed B.named
    have hts0 : ∀ c ∈ (Jvm.Cond.code x code maxLocals ret :: tables_1), c.before #[Value.ref b] s = true := atoms_spec (ws := Jvm.Cond.code x code maxLocals ret :: tables_1) B.pre
    have hts : ∀ w ∈ lw_tbl, w.before #[Value.ref b] s = true := k2_hts_sels lw_privs (fun w hw => hts0 w (List.mem_cons_of_mem _ hw)) lw_privs_ok
    have hml : c.maxLocals = 4 := B.maxLocals_eq (hts0 _ List.mem_cons_self)
    have X₀ : Stand p l e room_1 s m #[Value.ref b] below meth c s₁ [] 0 0 := Stand.of_body B
    have hh0 : s₁.heap = s.heap := by rw [B.state]; rfl
    have hsz : scr.slots.size = xs.length := by rw [← Array.length_toList, hlist, List.length_map]
    have hval : ∀ j : Nat, j < xs.length → scr.slots[j]? = some (.int (xs.getD j 0)) := fun j hj => by
      rw [← Array.getElem?_toList, hlist]
      simp [hj]
    have hbl : b < s.heap.size := (Array.getElem?_eq_some_iff.mp hcb).1
    have hX : va_X b xs.length (fun j => xs.getD j 0) s s.heap := ⟨scr, hcb, hof, hkn, hsz, hval⟩
    have K : W p l e room_1 s m #[Value.ref b] below meth c s₁.heap [] 0 0 (lw_Z below #[Value.ref b] s) (entryFrame m ([Value.ref b] : List Value).toArray 4) := by
      rw [hh0]
      exact whole_start l hbd ⟨B.exec, B.bytes, B.returns, hml, hown, hts, hX, hbl, B.notSynchronized, hgv⟩
    obtain ⟨t, a1, o, b1, b2, b3⟩ := K s₁ rfl X₀
    exact ⟨t, o, a1, b1, b2, b3⟩
theorem lw_pre_spec {args : Array Value} {s : State} (h : (Jvm.Cond.and given_1 narrow_1).before args s = true) (hr : rest_1_c.before args s = true) : ∃ (b : Addr) (xs : List Int32), lw_P b xs args s := by
  have hs := flat_of_before _ h
  have hq := flat_of_before _ hr
  have hc : (Cond.count 1).before args s = true := hs _ (by decide +kernel)
  have harr : (Cond.arrayOf (.arg 0) .int).before args s = true := hs _ (by decide +kernel)
  have hle : (Cond.le (.length (.arg 0)) (.int 384)).before args s = true := hs _ (by decide +kernel)
  have hlen : (Cond.isInt (.length (.arg 0))).before args s = true := hq _ (by decide +kernel)
  have hall : (Cond.all (.arg 0) (.isInt (.elem (.arg 0) (.index 0)))).before args s = true := hq _ (by decide +kernel)
  obtain ⟨b, xs, hb, hx⟩ := State.ints_of_pre rfl harr hlen hall
  have hsm : xs.length < 2 ^ 31 := hx.choose_spec.2.2.2
  have hev : (Term.length (.arg 0)).eval args s none [] s = some (.int xs.length.toInt32) := hx.length_eval hb
  have hv := Cond.le_ints hev (show (Term.int 384).eval args s none [] s = some (.int 384) from rfl)
  have hd : xs.length.toInt32 ≤ 384 := by
    simpa [Cond.before, Cond.holds, hv] using hle
  have hN : xs.length ≤ 384 := (Int32.ofNat_le_ofNat hsm (by decide)).mp (show Int32.ofNat xs.length ≤ Int32.ofNat 384 from hd)
  exact ⟨b, xs, Cond.one_arg hc (show args[0]? = some (.ref b) from hb), hx, hN, h⟩
theorem lw_comes (l : Launch) : Comes l x (Jvm.Cond.code x code maxLocals ret :: tables_1) room_1 (fun tb e args s => Calls_1 tb e args s ∧ rest_1 tb e args s ∧ Pre_1 tb e args s)
    (fun _ _ args s o t => lw_Q args s o t) := by
  intro p e ha hc hk s m args below hf hfit hheap happ hpre
  obtain ⟨b, xs, hP⟩ := lw_pre_spec hpre.2.2 hpre.2.1
  obtain ⟨k, o, h1, h2, h3, hQ⟩ := lw_walk l b xs p e ha hc hk s m args below hf ((Spec.applies_iff_loose hf).mp happ).1 hP trivial
  exact ⟨k, o, h1, h2, h3, hQ⟩
theorem lw_frame {s t : State} {o : Outcome} {args : Array Value} (h : Framed s o t [] 600000 7290000) :
    Framed s o t (fieldLocs frame_1_writes args s ++ arrayLocs frame_1_arrays args s ++ staticLocs frame_1_statics s) 600000 7290000 := h
theorem lw_limb (L : Cond) (hL : ∀ (args : Array Value) (s t : State), L.after args s (.returned (some (.int 1))) t = true) :
    ArmFor flags0 classFile x code maxLocals ret World_1 tables_1 room_1 Calls_1 rest_1 Pre_1
      (fun tb e a s o t => postC L tb e a s o t ∧ Framed s o t (fieldLocs frame_1_writes a s ++ arrayLocs frame_1_arrays a s ++ staticLocs frame_1_statics s) 600000 7290000) := by
  intro l _ _ _ p e ha hc hk s m args below hf hfit hheap happ hpre
  obtain ⟨k, o, h1, h2, h3, rfl, hF⟩ := lw_comes l p e ha hc hk s m args below hf hfit hheap happ hpre
  exact ⟨k, _, h1, h2, h3, hL args s _, lw_frame hF⟩
theorem i_vc : Claimed_1_1 ∧ Claimed_1_2 := ⟨lw_limb limb_1_1 (fun args s t => by simp [limb_1_1, Cond.after, Cond.holds, Cond.value]), lw_limb limb_1_2 (fun args s t => Cond.after_iff.mpr (by
  first | (rw [show limb_1_2 = Cond.eq .result (.int 1) from rfl, Cond.eq_ints (x := 1) (y := 1) rfl rfl]; simp; done) | (simp [limb_1_2, Cond.value, Term.eval]; done)))⟩
end
